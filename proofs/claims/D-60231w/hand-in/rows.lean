section
-- ===== PART A: goes FIRST, ahead of the names: the tables' words, and 'selects' of the private methods out of them =====
/-- a private method of a class that the tables say can be made, by its rows of tables_1 -/
def lw_okq (q : MethodName × Nat) : Prop := (q.1.cls ≠ "java/lang/invoke/MethodHandle" ∧ q.1.cls ≠ "java/lang/invoke/VarHandle") ∧ Cond.instantiable q.1.cls q.2 ∈ tables_1 ∧ Cond.privateMethod q.1 ∈ tables_1 ∧ Cond.instanceMethod q.1 ∈ tables_1
set_option maxRecDepth 100000
theorem lw_t1 {w : Cond} (h : w ∈ tables_1_1) : w ∈ tables_1 := List.mem_append_left _ h
theorem lw_t2 {w : Cond} (h : w ∈ tables_1_2) : w ∈ tables_1 := List.mem_append_right _ h
theorem lw_p0 : lw_okq (⟨"CompactFit", "leastFree", "()I"⟩, 13) := ⟨⟨by decide +kernel, by decide +kernel⟩, lw_t1 (List.mem_of_getElem? (i := 4) rfl), lw_t1 (List.mem_of_getElem? (i := 67) rfl), lw_t1 (List.mem_of_getElem? (i := 68) rfl)⟩
theorem lw_p1 : lw_okq (⟨"CompactFit", "placeObject", "(II)V"⟩, 13) := ⟨⟨by decide +kernel, by decide +kernel⟩, lw_t1 (List.mem_of_getElem? (i := 4) rfl), lw_t1 (List.mem_of_getElem? (i := 71) rfl), lw_t1 (List.mem_of_getElem? (i := 72) rfl)⟩
theorem lw_p2 : lw_okq (⟨"CompactFit", "wipe", "(III)V"⟩, 13) := ⟨⟨by decide +kernel, by decide +kernel⟩, lw_t1 (List.mem_of_getElem? (i := 4) rfl), lw_t1 (List.mem_of_getElem? (i := 78) rfl), lw_t1 (List.mem_of_getElem? (i := 79) rfl)⟩
theorem lw_p3 : lw_okq (⟨"CompactFit", "baseOf", "(I)I"⟩, 13) := ⟨⟨by decide +kernel, by decide +kernel⟩, lw_t1 (List.mem_of_getElem? (i := 4) rfl), lw_t1 (List.mem_of_getElem? (i := 82) rfl), lw_t1 (List.mem_of_getElem? (i := 83) rfl)⟩
theorem lw_p4 : lw_okq (⟨"CompactFit", "isGood", "(I)Z"⟩, 13) := ⟨⟨by decide +kernel, by decide +kernel⟩, lw_t1 (List.mem_of_getElem? (i := 4) rfl), lw_t1 (List.mem_of_getElem? (i := 90) rfl), lw_t1 (List.mem_of_getElem? (i := 91) rfl)⟩
theorem lw_p5 : lw_okq (⟨"CompactFit", "removeObject", "(I)V"⟩, 13) := ⟨⟨by decide +kernel, by decide +kernel⟩, lw_t1 (List.mem_of_getElem? (i := 4) rfl), lw_t1 (List.mem_of_getElem? (i := 94) rfl), lw_t1 (List.mem_of_getElem? (i := 95) rfl)⟩
theorem lw_p6 : lw_okq (⟨"CompactFit", "moveOne", "(III)V"⟩, 13) := ⟨⟨by decide +kernel, by decide +kernel⟩, lw_t1 (List.mem_of_getElem? (i := 4) rfl), lw_t1 (List.mem_of_getElem? (i := 98) rfl), lw_t1 (List.mem_of_getElem? (i := 99) rfl)⟩
theorem lw_p7 : lw_okq (⟨"CompactFit", "neededAfter", "(II)I"⟩, 13) := ⟨⟨by decide +kernel, by decide +kernel⟩, lw_t1 (List.mem_of_getElem? (i := 4) rfl), lw_t1 (List.mem_of_getElem? (i := 106) rfl), lw_t1 (List.mem_of_getElem? (i := 107) rfl)⟩
theorem lw_p8 : lw_okq (⟨"CompactFit", "word", "(II)I"⟩, 13) := ⟨⟨by decide +kernel, by decide +kernel⟩, lw_t1 (List.mem_of_getElem? (i := 4) rfl), lw_t1 (List.mem_of_getElem? (i := 110) rfl), lw_t1 (List.mem_of_getElem? (i := 111) rfl)⟩
theorem lw_p9 : lw_okq (⟨"CompactFit", "strangers", "(I)I"⟩, 13) := ⟨⟨by decide +kernel, by decide +kernel⟩, lw_t1 (List.mem_of_getElem? (i := 4) rfl), lw_t1 (List.mem_of_getElem? (i := 178) rfl), lw_t1 (List.mem_of_getElem? (i := 179) rfl)⟩
theorem lw_p10 : lw_okq (⟨"CompactFitModel", "leastFree", "()I"⟩, 3) := ⟨⟨by decide +kernel, by decide +kernel⟩, lw_t1 (List.mem_of_getElem? (i := 185) rfl), lw_t1 (List.mem_of_getElem? (i := 209) rfl), lw_t1 (List.mem_of_getElem? (i := 210) rfl)⟩
theorem lw_p11 : lw_okq (⟨"CompactFitModel", "kindOf", "(I)I"⟩, 3) := ⟨⟨by decide +kernel, by decide +kernel⟩, lw_t1 (List.mem_of_getElem? (i := 185) rfl), lw_t1 (List.mem_of_getElem? (i := 213) rfl), lw_t1 (List.mem_of_getElem? (i := 214) rfl)⟩
theorem lw_p12 : lw_okq (⟨"CompactFitModel", "needs", "(IIII)I"⟩, 3) := ⟨⟨by decide +kernel, by decide +kernel⟩, lw_t1 (List.mem_of_getElem? (i := 185) rfl), lw_t1 (List.mem_of_getElem? (i := 217) rfl), lw_t1 (List.mem_of_getElem? (i := 218) rfl)⟩
theorem lw_p13 : lw_okq (⟨"CompactFitModel", "alive", "(I)I"⟩, 3) := ⟨⟨by decide +kernel, by decide +kernel⟩, lw_t1 (List.mem_of_getElem? (i := 185) rfl), lw_t1 (List.mem_of_getElem? (i := 221) rfl), lw_t1 (List.mem_of_getElem? (i := 222) rfl)⟩
theorem lw_p14 : lw_okq (⟨"CompactFitModel", "wipe", "(I)V"⟩, 3) := ⟨⟨by decide +kernel, by decide +kernel⟩, lw_t1 (List.mem_of_getElem? (i := 185) rfl), lw_t1 (List.mem_of_getElem? (i := 225) rfl), lw_t1 (List.mem_of_getElem? (i := 226) rfl)⟩
theorem lw_p15 : lw_okq (⟨"CompactFitModel", "bad", "(I)Z"⟩, 3) := ⟨⟨by decide +kernel, by decide +kernel⟩, lw_t1 (List.mem_of_getElem? (i := 185) rfl), lw_t1 (List.mem_of_getElem? (i := 233) rfl), lw_t1 (List.mem_of_getElem? (i := 234) rfl)⟩
def lw_privs_1 : List (MethodName × Nat) := [(⟨"CompactFit", "leastFree", "()I"⟩, 13), (⟨"CompactFit", "placeObject", "(II)V"⟩, 13), (⟨"CompactFit", "wipe", "(III)V"⟩, 13), (⟨"CompactFit", "baseOf", "(I)I"⟩, 13), (⟨"CompactFit", "isGood", "(I)Z"⟩, 13), (⟨"CompactFit", "removeObject", "(I)V"⟩, 13), (⟨"CompactFit", "moveOne", "(III)V"⟩, 13), (⟨"CompactFit", "neededAfter", "(II)I"⟩, 13), (⟨"CompactFit", "word", "(II)I"⟩, 13), (⟨"CompactFit", "strangers", "(I)I"⟩, 13), (⟨"CompactFitModel", "leastFree", "()I"⟩, 3), (⟨"CompactFitModel", "kindOf", "(I)I"⟩, 3), (⟨"CompactFitModel", "needs", "(IIII)I"⟩, 3), (⟨"CompactFitModel", "alive", "(I)I"⟩, 3), (⟨"CompactFitModel", "wipe", "(I)V"⟩, 3), (⟨"CompactFitModel", "bad", "(I)Z"⟩, 3)]
theorem lw_r1 : ∀ q ∈ lw_privs_1, lw_okq q := List.forall_mem_cons.mpr ⟨lw_p0, List.forall_mem_cons.mpr ⟨lw_p1, List.forall_mem_cons.mpr ⟨lw_p2, List.forall_mem_cons.mpr ⟨lw_p3, List.forall_mem_cons.mpr ⟨lw_p4, List.forall_mem_cons.mpr ⟨lw_p5, List.forall_mem_cons.mpr ⟨lw_p6, List.forall_mem_cons.mpr ⟨lw_p7, List.forall_mem_cons.mpr ⟨lw_p8, List.forall_mem_cons.mpr ⟨lw_p9, List.forall_mem_cons.mpr ⟨lw_p10, List.forall_mem_cons.mpr ⟨lw_p11, List.forall_mem_cons.mpr ⟨lw_p12, List.forall_mem_cons.mpr ⟨lw_p13, List.forall_mem_cons.mpr ⟨lw_p14, List.forall_mem_cons.mpr ⟨lw_p15, fun _ h => absurd h List.not_mem_nil⟩⟩⟩⟩⟩⟩⟩⟩⟩⟩⟩⟩⟩⟩⟩⟩
def lw_privs : List (MethodName × Nat) := lw_privs_1
def lw_tbl : List Cond := k2_sels lw_privs ++ tables_1
theorem lw_privs_ok : ∀ q ∈ lw_privs, lw_okq q := lw_r1
-- ===== ONE list of words for every method: the tables' words that hold all through a run =====
def lw_all : List Cond := lw_tbl.filter goodWord
/-- a word of the tables by its place: claim/WORDS.tsv -/
theorem lw_w {w : Cond} (i : Nat) (h : lw_tbl[i]? = some w) (g : goodWord w = true) : w ∈ lw_all := List.mem_filter.mpr ⟨List.mem_of_getElem? h, g⟩
theorem lw_all_tbl {w : Cond} (h : w ∈ lw_all) : w ∈ lw_tbl := (List.mem_filter.mp h).1
theorem lw_self : GoodIn lw_all lw_all := fun w h => ⟨h, good_of_word (List.mem_filter.mp h).2⟩
/-- a class's field words, by their places -/
theorem lw_in (ws : List Cond) (ps : List Nat) (hp : ws = ps.filterMap (fun i => lw_tbl[i]?)) (hg : ws.all goodWord = true) : ∀ w ∈ ws, w ∈ lw_all := by
  intro w h
  have h1 := List.all_eq_true.mp hg w h
  rw [hp] at h
  obtain ⟨i, -, hi⟩ := List.mem_filterMap.mp h
  exact lw_w i hi h1
/-- the words of a contract for the method y with code b, L locals, answer r -/
abbrev ws_ (y : MethodName) (b : ByteArray) (L : Nat) (r : Option FieldType) : List Cond := Cond.code y b L r :: lw_all
theorem lw_meth {y : MethodName} {b : ByteArray} {L : Nat} {r : Option FieldType} (h : Cond.code y b L r ∈ lw_all) : GoodIn lw_all (ws_ y b L r) := by
  intro w hw
  rcases List.mem_cons.mp hw with e | e
  · rw [e]
    exact lw_self _ h
  · exact lw_self _ e
theorem lw_app {a c : List Cond} (ha : ∀ w ∈ a, w ∈ lw_all) (hc : GoodIn lw_all c) : GoodIn lw_all (a ++ c) := by
  intro w hw
  rcases List.mem_append.mp hw with e | e
  · exact lw_self w (ha w e)
  · exact hc w e
/-- what a call through an object asks: cwV n hts (lw_V ..) -/
theorem lw_V {own : String} {idx : Nat} {C : String} {y : MethodName} {b : ByteArray} {L : Nat} {r : Option FieldType} (h1 : Cond.methodLink own idx y ∈ lw_all) (h2 : Cond.instanceMethod y ∈ lw_all) (h3 : Cond.selects C y y ∈ lw_all) (h4 : Cond.initialized C ∈ lw_all) (h5 : Cond.code y b L r ∈ lw_all) : GoodIn lw_all (wsV own idx C y (ws_ y b L r)) := by
  refine lw_app ?_ (lw_meth h5)
  intro w hw
  simp only [List.mem_cons, List.not_mem_nil, or_false] at hw
  rcases hw with e | e | e | e
  · rw [e]; exact h1
  · rw [e]; exact h2
  · rw [e]; exact h3
  · rw [e]; exact h4
/-- what a static call asks: va_cwS n hts (lw_S ..) -/
theorem lw_S {own : String} {idx : Nat} {y : MethodName} {b : ByteArray} {L : Nat} {r : Option FieldType} (h1 : Cond.methodLink own idx y ∈ lw_all) (h2 : Cond.static y ∈ lw_all) (h3 : Cond.initialized y.cls ∈ lw_all) (h4 : Cond.code y b L r ∈ lw_all) : GoodIn lw_all (va_wsS own idx y (ws_ y b L r)) := by
  refine lw_app ?_ (lw_meth h4)
  intro w hw
  simp only [List.mem_cons, List.not_mem_nil, or_false] at hw
  rcases hw with e | e | e
  · rw [e]; exact h1
  · rw [e]; exact h2
  · rw [e]; exact h3
/-- the words of a contract for a method WITH HANDLERS (hh: its table) -/
abbrev wsW_ (y : MethodName) (b : ByteArray) (L : Nat) (r : Option FieldType) (hh : List (Nat × Nat × Nat × Nat)) : List Cond := Cond.codeWith y b L r hh :: lw_all
theorem lw_methW {y : MethodName} {b : ByteArray} {L : Nat} {r : Option FieldType} {hh : List (Nat × Nat × Nat × Nat)} (h : Cond.codeWith y b L r hh ∈ lw_all) : GoodIn lw_all (wsW_ y b L r hh) := by
  intro w hw
  rcases List.mem_cons.mp hw with e | e
  · rw [e]
    exact lw_self _ h
  · exact lw_self _ e
/-- any list of words by their places (lw_in), good -/
theorem lw_good {ws : List Cond} (h : ∀ w ∈ ws, w ∈ lw_all) : GoodIn lw_all ws := fun w hw => lw_self w (h w hw)
/-- what a call of a method with handlers asks: vx_cwVW n hts (lw_VW ..), vx_cwSW n hts (lw_SW ..) -/
theorem lw_VW {own : String} {idx : Nat} {C : String} {y : MethodName} {b : ByteArray} {L : Nat} {r : Option FieldType} {hh : List (Nat × Nat × Nat × Nat)} (h1 : Cond.methodLink own idx y ∈ lw_all) (h2 : Cond.instanceMethod y ∈ lw_all) (h3 : Cond.selects C y y ∈ lw_all) (h4 : Cond.initialized C ∈ lw_all) (h5 : Cond.codeWith y b L r hh ∈ lw_all) : GoodIn lw_all (wsV own idx C y (wsW_ y b L r hh)) := by
  refine lw_app ?_ (lw_methW h5)
  intro w hw
  simp only [List.mem_cons, List.not_mem_nil, or_false] at hw
  rcases hw with e | e | e | e
  · rw [e]; exact h1
  · rw [e]; exact h2
  · rw [e]; exact h3
  · rw [e]; exact h4
theorem lw_SW {own : String} {idx : Nat} {y : MethodName} {b : ByteArray} {L : Nat} {r : Option FieldType} {hh : List (Nat × Nat × Nat × Nat)} (h1 : Cond.methodLink own idx y ∈ lw_all) (h2 : Cond.static y ∈ lw_all) (h3 : Cond.initialized y.cls ∈ lw_all) (h4 : Cond.codeWith y b L r hh ∈ lw_all) : GoodIn lw_all (va_wsS own idx y (wsW_ y b L r hh)) := by
  refine lw_app ?_ (lw_methW h4)
  intro w hw
  simp only [List.mem_cons, List.not_mem_nil, or_false] at hw
  rcases hw with e | e | e
  · rw [e]; exact h1
  · rw [e]; exact h2
  · rw [e]; exact h3
/-- a word by its place in its run of the tables -/
theorem lw_at {r : List Cond} (hr : ∀ w ∈ r, w ∈ lw_tbl) {w : Cond} (i : Nat) (h : r[i]? = some w) : w ∈ lw_tbl := hr w (List.mem_of_getElem? h)
theorem lw_g {w : Cond} (h : w ∈ lw_tbl) (g : goodWord w = true) : w ∈ lw_all := List.mem_filter.mpr ⟨h, g⟩
theorem lw_ms : ∀ w ∈ k2_sels lw_privs, w ∈ lw_tbl := fun w h => show w ∈ k2_sels lw_privs ++ tables_1 from List.mem_append_left _ h
theorem lw_m1 : ∀ w ∈ tables_1_1, w ∈ lw_tbl := fun w h => show w ∈ k2_sels lw_privs ++ tables_1 from List.mem_append_right (k2_sels lw_privs) (show w ∈ tables_1 from List.mem_append_left _ h)
theorem lw_m2 : ∀ w ∈ tables_1_2, w ∈ lw_tbl := fun w h => show w ∈ k2_sels lw_privs ++ tables_1 from List.mem_append_right (k2_sels lw_privs) (show w ∈ tables_1 from List.mem_append_right _ h)
theorem qs0 : (Cond.selects "CompactFit" ⟨"CompactFit", "leastFree", "()I"⟩ ⟨"CompactFit", "leastFree", "()I"⟩) ∈ lw_all := lw_g (lw_at lw_ms 0 rfl) rfl
theorem qs1 : (Cond.selects "CompactFit" ⟨"CompactFit", "placeObject", "(II)V"⟩ ⟨"CompactFit", "placeObject", "(II)V"⟩) ∈ lw_all := lw_g (lw_at lw_ms 1 rfl) rfl
theorem qs2 : (Cond.selects "CompactFit" ⟨"CompactFit", "wipe", "(III)V"⟩ ⟨"CompactFit", "wipe", "(III)V"⟩) ∈ lw_all := lw_g (lw_at lw_ms 2 rfl) rfl
theorem qs3 : (Cond.selects "CompactFit" ⟨"CompactFit", "baseOf", "(I)I"⟩ ⟨"CompactFit", "baseOf", "(I)I"⟩) ∈ lw_all := lw_g (lw_at lw_ms 3 rfl) rfl
theorem qs4 : (Cond.selects "CompactFit" ⟨"CompactFit", "isGood", "(I)Z"⟩ ⟨"CompactFit", "isGood", "(I)Z"⟩) ∈ lw_all := lw_g (lw_at lw_ms 4 rfl) rfl
theorem qs5 : (Cond.selects "CompactFit" ⟨"CompactFit", "removeObject", "(I)V"⟩ ⟨"CompactFit", "removeObject", "(I)V"⟩) ∈ lw_all := lw_g (lw_at lw_ms 5 rfl) rfl
theorem qs6 : (Cond.selects "CompactFit" ⟨"CompactFit", "moveOne", "(III)V"⟩ ⟨"CompactFit", "moveOne", "(III)V"⟩) ∈ lw_all := lw_g (lw_at lw_ms 6 rfl) rfl
theorem qs7 : (Cond.selects "CompactFit" ⟨"CompactFit", "neededAfter", "(II)I"⟩ ⟨"CompactFit", "neededAfter", "(II)I"⟩) ∈ lw_all := lw_g (lw_at lw_ms 7 rfl) rfl
theorem qs8 : (Cond.selects "CompactFit" ⟨"CompactFit", "word", "(II)I"⟩ ⟨"CompactFit", "word", "(II)I"⟩) ∈ lw_all := lw_g (lw_at lw_ms 8 rfl) rfl
theorem qs9 : (Cond.selects "CompactFit" ⟨"CompactFit", "strangers", "(I)I"⟩ ⟨"CompactFit", "strangers", "(I)I"⟩) ∈ lw_all := lw_g (lw_at lw_ms 9 rfl) rfl
theorem qs10 : (Cond.selects "CompactFitModel" ⟨"CompactFitModel", "leastFree", "()I"⟩ ⟨"CompactFitModel", "leastFree", "()I"⟩) ∈ lw_all := lw_g (lw_at lw_ms 10 rfl) rfl
theorem qs11 : (Cond.selects "CompactFitModel" ⟨"CompactFitModel", "kindOf", "(I)I"⟩ ⟨"CompactFitModel", "kindOf", "(I)I"⟩) ∈ lw_all := lw_g (lw_at lw_ms 11 rfl) rfl
theorem qs12 : (Cond.selects "CompactFitModel" ⟨"CompactFitModel", "needs", "(IIII)I"⟩ ⟨"CompactFitModel", "needs", "(IIII)I"⟩) ∈ lw_all := lw_g (lw_at lw_ms 12 rfl) rfl
theorem qs13 : (Cond.selects "CompactFitModel" ⟨"CompactFitModel", "alive", "(I)I"⟩ ⟨"CompactFitModel", "alive", "(I)I"⟩) ∈ lw_all := lw_g (lw_at lw_ms 13 rfl) rfl
theorem qs14 : (Cond.selects "CompactFitModel" ⟨"CompactFitModel", "wipe", "(I)V"⟩ ⟨"CompactFitModel", "wipe", "(I)V"⟩) ∈ lw_all := lw_g (lw_at lw_ms 14 rfl) rfl
theorem qs15 : (Cond.selects "CompactFitModel" ⟨"CompactFitModel", "bad", "(I)Z"⟩ ⟨"CompactFitModel", "bad", "(I)Z"⟩) ∈ lw_all := lw_g (lw_at lw_ms 15 rfl) rfl
end
section
set_option maxRecDepth 100000
/-! java/lang/Object -/
def RJ0 : String := "java/lang/Object"
abbrev cJ0_init : ByteArray := object_method_1_code
def yJ0_init : MethodName := ⟨RJ0, "<init>", "()V"⟩
theorem q25 : (Jvm.Cond.instanceMethod ({ cls := "java/lang/Object", name := "<init>", desc := "()V" } : Jvm.MethodName)) ∈ lw_all := lw_g (lw_at lw_m1 9 rfl) rfl
theorem q26 : (Jvm.Cond.code ({ cls := "java/lang/Object", name := "<init>", desc := "()V" } : Jvm.MethodName) object_method_1_code (1 : Nat) (Option.none : Option Jvm.ClassFile.FieldType)) ∈ lw_all := lw_g (lw_at lw_m1 10 rfl) rfl

/-! CompactFitLaw -/
def RX0 : String := "CompactFitLaw"
abbrev cX0_cell : ByteArray := method_2_code
def yX0_cell : MethodName := ⟨RX0, "cell", "([II)I"⟩
theorem q16 : (Jvm.Cond.initialized "CompactFitLaw") ∈ lw_all := lw_g (lw_at lw_m1 0 rfl) rfl
theorem q19 : (Jvm.Cond.classLink "CompactFitLaw" (7 : Nat) "CompactFit") ∈ lw_all := lw_g (lw_at lw_m1 3 rfl) rfl
theorem q21 : (Jvm.Cond.methodLink "CompactFitLaw" (15 : Nat) ({ cls := "CompactFit", name := "<init>", desc := "(I)V" } : Jvm.MethodName)) ∈ lw_all := lw_g (lw_at lw_m1 5 rfl) rfl
theorem q68 : (Jvm.Cond.methodLink "CompactFitLaw" (21 : Nat) ({ cls := "CompactFit", name := "pages", desc := "()I" } : Jvm.MethodName)) ∈ lw_all := lw_g (lw_at lw_m1 52 rfl) rfl
theorem q72 : (Jvm.Cond.methodLink "CompactFitLaw" (26 : Nat) ({ cls := "CompactFit", name := "allocate", desc := "(I)I" } : Jvm.MethodName)) ∈ lw_all := lw_g (lw_at lw_m1 56 rfl) rfl
theorem q101 : (Jvm.Cond.methodLink "CompactFitLaw" (31 : Nat) ({ cls := "CompactFit", name := "free", desc := "(I)I" } : Jvm.MethodName)) ∈ lw_all := lw_g (lw_at lw_m1 85 rfl) rfl
theorem q117 : (Jvm.Cond.methodLink "CompactFitLaw" (35 : Nat) ({ cls := "CompactFit", name := "resize", desc := "(II)I" } : Jvm.MethodName)) ∈ lw_all := lw_g (lw_at lw_m1 101 rfl) rfl
theorem q129 : (Jvm.Cond.methodLink "CompactFitLaw" (40 : Nat) ({ cls := "CompactFit", name := "copy", desc := "(I)I" } : Jvm.MethodName)) ∈ lw_all := lw_g (lw_at lw_m1 113 rfl) rfl
theorem q134 : (Jvm.Cond.methodLink "CompactFitLaw" (44 : Nat) ({ cls := "CompactFit", name := "freeClass", desc := "(I)I" } : Jvm.MethodName)) ∈ lw_all := lw_g (lw_at lw_m1 118 rfl) rfl
theorem q141 : (Jvm.Cond.methodLink "CompactFitLaw" (48 : Nat) ({ cls := "CompactFit", name := "read", desc := "(II)I" } : Jvm.MethodName)) ∈ lw_all := lw_g (lw_at lw_m1 125 rfl) rfl
theorem q145 : (Jvm.Cond.methodLink "CompactFitLaw" (52 : Nat) ({ cls := "CompactFit", name := "write", desc := "(III)I" } : Jvm.MethodName)) ∈ lw_all := lw_g (lw_at lw_m1 129 rfl) rfl
theorem q149 : (Jvm.Cond.methodLink "CompactFitLaw" (57 : Nat) ({ cls := "CompactFit", name := "fill", desc := "(III)I" } : Jvm.MethodName)) ∈ lw_all := lw_g (lw_at lw_m1 133 rfl) rfl
theorem q153 : (Jvm.Cond.methodLink "CompactFitLaw" (61 : Nat) ({ cls := "CompactFit", name := "exchange", desc := "(II)I" } : Jvm.MethodName)) ∈ lw_all := lw_g (lw_at lw_m1 137 rfl) rfl
theorem q157 : (Jvm.Cond.methodLink "CompactFitLaw" (65 : Nat) ({ cls := "CompactFit", name := "size", desc := "(I)I" } : Jvm.MethodName)) ∈ lw_all := lw_g (lw_at lw_m1 141 rfl) rfl
theorem q161 : (Jvm.Cond.methodLink "CompactFitLaw" (69 : Nat) ({ cls := "CompactFit", name := "live", desc := "()I" } : Jvm.MethodName)) ∈ lw_all := lw_g (lw_at lw_m1 145 rfl) rfl
theorem q165 : (Jvm.Cond.methodLink "CompactFitLaw" (73 : Nat) ({ cls := "CompactFit", name := "liveIn", desc := "(I)I" } : Jvm.MethodName)) ∈ lw_all := lw_g (lw_at lw_m1 149 rfl) rfl
theorem q169 : (Jvm.Cond.methodLink "CompactFitLaw" (77 : Nat) ({ cls := "CompactFit", name := "needed", desc := "()I" } : Jvm.MethodName)) ∈ lw_all := lw_g (lw_at lw_m1 153 rfl) rfl
theorem q173 : (Jvm.Cond.methodLink "CompactFitLaw" (81 : Nat) ({ cls := "CompactFit", name := "roomFor", desc := "(I)I" } : Jvm.MethodName)) ∈ lw_all := lw_g (lw_at lw_m1 157 rfl) rfl
theorem q177 : (Jvm.Cond.methodLink "CompactFitLaw" (85 : Nat) ({ cls := "CompactFit", name := "sum", desc := "(I)I" } : Jvm.MethodName)) ∈ lw_all := lw_g (lw_at lw_m1 161 rfl) rfl
theorem q181 : (Jvm.Cond.methodLink "CompactFitLaw" (89 : Nat) ({ cls := "CompactFit", name := "next", desc := "(I)I" } : Jvm.MethodName)) ∈ lw_all := lw_g (lw_at lw_m1 165 rfl) rfl
theorem q185 : (Jvm.Cond.methodLink "CompactFitLaw" (93 : Nat) ({ cls := "CompactFit", name := "count", desc := "(I)I" } : Jvm.MethodName)) ∈ lw_all := lw_g (lw_at lw_m1 169 rfl) rfl
theorem q189 : (Jvm.Cond.methodLink "CompactFitLaw" (97 : Nat) ({ cls := "CompactFit", name := "faults", desc := "()I" } : Jvm.MethodName)) ∈ lw_all := lw_g (lw_at lw_m1 173 rfl) rfl
theorem q197 : (Jvm.Cond.methodLink "CompactFitLaw" (9 : Nat) ({ cls := "CompactFitLaw", name := "cell", desc := "([II)I" } : Jvm.MethodName)) ∈ lw_all := lw_g (lw_at lw_m1 181 rfl) rfl
theorem q198 : (Jvm.Cond.static ({ cls := "CompactFitLaw", name := "cell", desc := "([II)I" } : Jvm.MethodName)) ∈ lw_all := lw_g (lw_at lw_m1 182 rfl) rfl
theorem q199 : (Jvm.Cond.code ({ cls := "CompactFitLaw", name := "cell", desc := "([II)I" } : Jvm.MethodName) method_2_code (2 : Nat) (Option.some Jvm.ClassFile.FieldType.int)) ∈ lw_all := lw_g (lw_at lw_m1 183 rfl) rfl
theorem q200 : (Jvm.Cond.classLink "CompactFitLaw" (18 : Nat) "CompactFitModel") ∈ lw_all := lw_g (lw_at lw_m1 184 rfl) rfl
theorem q202 : (Jvm.Cond.methodLink "CompactFitLaw" (20 : Nat) ({ cls := "CompactFitModel", name := "<init>", desc := "(I)V" } : Jvm.MethodName)) ∈ lw_all := lw_g (lw_at lw_m1 186 rfl) rfl
theorem q216 : (Jvm.Cond.methodLink "CompactFitLaw" (25 : Nat) ({ cls := "CompactFitModel", name := "pages", desc := "()I" } : Jvm.MethodName)) ∈ lw_all := lw_g (lw_at lw_m1 200 rfl) rfl
theorem q220 : (Jvm.Cond.methodLink "CompactFitLaw" (30 : Nat) ({ cls := "CompactFitModel", name := "allocate", desc := "(I)I" } : Jvm.MethodName)) ∈ lw_all := lw_g (lw_at lw_m1 204 rfl) rfl
theorem q244 : (Jvm.Cond.methodLink "CompactFitLaw" (34 : Nat) ({ cls := "CompactFitModel", name := "free", desc := "(I)I" } : Jvm.MethodName)) ∈ lw_all := lw_g (lw_at lw_m1 228 rfl) rfl
theorem q252 : (Jvm.Cond.methodLink "CompactFitLaw" (39 : Nat) ({ cls := "CompactFitModel", name := "resize", desc := "(II)I" } : Jvm.MethodName)) ∈ lw_all := lw_g (lw_at lw_m1 236 rfl) rfl
theorem q256 : (Jvm.Cond.methodLink "CompactFitLaw" (43 : Nat) ({ cls := "CompactFitModel", name := "copy", desc := "(I)I" } : Jvm.MethodName)) ∈ lw_all := lw_g (lw_at lw_m2 0 rfl) rfl
theorem q261 : (Jvm.Cond.methodLink "CompactFitLaw" (47 : Nat) ({ cls := "CompactFitModel", name := "freeClass", desc := "(I)I" } : Jvm.MethodName)) ∈ lw_all := lw_g (lw_at lw_m2 5 rfl) rfl
theorem q265 : (Jvm.Cond.methodLink "CompactFitLaw" (51 : Nat) ({ cls := "CompactFitModel", name := "read", desc := "(II)I" } : Jvm.MethodName)) ∈ lw_all := lw_g (lw_at lw_m2 9 rfl) rfl
theorem q269 : (Jvm.Cond.methodLink "CompactFitLaw" (56 : Nat) ({ cls := "CompactFitModel", name := "write", desc := "(III)I" } : Jvm.MethodName)) ∈ lw_all := lw_g (lw_at lw_m2 13 rfl) rfl
theorem q273 : (Jvm.Cond.methodLink "CompactFitLaw" (60 : Nat) ({ cls := "CompactFitModel", name := "fill", desc := "(III)I" } : Jvm.MethodName)) ∈ lw_all := lw_g (lw_at lw_m2 17 rfl) rfl
theorem q277 : (Jvm.Cond.methodLink "CompactFitLaw" (64 : Nat) ({ cls := "CompactFitModel", name := "exchange", desc := "(II)I" } : Jvm.MethodName)) ∈ lw_all := lw_g (lw_at lw_m2 21 rfl) rfl
theorem q281 : (Jvm.Cond.methodLink "CompactFitLaw" (68 : Nat) ({ cls := "CompactFitModel", name := "size", desc := "(I)I" } : Jvm.MethodName)) ∈ lw_all := lw_g (lw_at lw_m2 25 rfl) rfl
theorem q285 : (Jvm.Cond.methodLink "CompactFitLaw" (72 : Nat) ({ cls := "CompactFitModel", name := "live", desc := "()I" } : Jvm.MethodName)) ∈ lw_all := lw_g (lw_at lw_m2 29 rfl) rfl
theorem q289 : (Jvm.Cond.methodLink "CompactFitLaw" (76 : Nat) ({ cls := "CompactFitModel", name := "liveIn", desc := "(I)I" } : Jvm.MethodName)) ∈ lw_all := lw_g (lw_at lw_m2 33 rfl) rfl
theorem q293 : (Jvm.Cond.methodLink "CompactFitLaw" (80 : Nat) ({ cls := "CompactFitModel", name := "needed", desc := "()I" } : Jvm.MethodName)) ∈ lw_all := lw_g (lw_at lw_m2 37 rfl) rfl
theorem q297 : (Jvm.Cond.methodLink "CompactFitLaw" (84 : Nat) ({ cls := "CompactFitModel", name := "roomFor", desc := "(I)I" } : Jvm.MethodName)) ∈ lw_all := lw_g (lw_at lw_m2 41 rfl) rfl
theorem q301 : (Jvm.Cond.methodLink "CompactFitLaw" (88 : Nat) ({ cls := "CompactFitModel", name := "sum", desc := "(I)I" } : Jvm.MethodName)) ∈ lw_all := lw_g (lw_at lw_m2 45 rfl) rfl
theorem q305 : (Jvm.Cond.methodLink "CompactFitLaw" (92 : Nat) ({ cls := "CompactFitModel", name := "next", desc := "(I)I" } : Jvm.MethodName)) ∈ lw_all := lw_g (lw_at lw_m2 49 rfl) rfl
theorem q309 : (Jvm.Cond.methodLink "CompactFitLaw" (96 : Nat) ({ cls := "CompactFitModel", name := "count", desc := "(I)I" } : Jvm.MethodName)) ∈ lw_all := lw_g (lw_at lw_m2 53 rfl) rfl
theorem q313 : (Jvm.Cond.methodLink "CompactFitLaw" (100 : Nat) ({ cls := "CompactFitModel", name := "faults", desc := "()I" } : Jvm.MethodName)) ∈ lw_all := lw_g (lw_at lw_m2 57 rfl) rfl

/-! CompactFit -/
def RX1 : String := "CompactFit"
def TX1 : u_T := fun k => match k with
  | 0 => ("CompactFit", "memory", "[I", true)
  | 1 => ("CompactFit", "pageKind", "[I", true)
  | 2 => ("CompactFit", "pageCount", "[I", true)
  | 3 => ("CompactFit", "owner", "[I", true)
  | 4 => ("CompactFit", "pageOf", "[I", true)
  | 5 => ("CompactFit", "placeOf", "[I", true)
  | 6 => ("CompactFit", "sizeOf", "[I", true)
  | 7 => ("CompactFit", "open", "[I", true)
  | 8 => ("CompactFit", "counts", "[I", true)
  | 9 => ("CompactFit", "scratch", "[I", true)
  | 10 => ("CompactFit", "pageTotal", "I", false)
  | 11 => ("CompactFit", "freePages", "I", false)
  | _ => ("CompactFit", "liveCount", "I", false)
def tyX1 : Nat → FieldType := fun k => match k with
  | 0 => .array .int
  | 1 => .array .int
  | 2 => .array .int
  | 3 => .array .int
  | 4 => .array .int
  | 5 => .array .int
  | 6 => .array .int
  | 7 => .array .int
  | 8 => .array .int
  | 9 => .array .int
  | 10 => .int
  | 11 => .int
  | _ => .int
abbrev wsX10 : List Cond := u_ws RX1 TX1 13
set_option maxRecDepth 100000 in
theorem nmX1 : ∀ a, a < 13 → ∀ b, b < 13 → a ≠ b → (TX1 a).2.1 ≠ (TX1 b).2.1 := by decide +kernel
set_option maxRecDepth 100000 in
theorem tyX1_ok : ∀ k, k < 13 → parseFieldDescriptor (TX1 k).2.2.1 = some (tyX1 k) := by decide +kernel
abbrev cX1_init : ByteArray := prog_1_method_1_code
def yX1_init : MethodName := ⟨RX1, "<init>", "(I)V"⟩
abbrev cX1_pages : ByteArray := prog_1_method_2_code
def yX1_pages : MethodName := ⟨RX1, "pages", "()I"⟩
abbrev cX1_allocate : ByteArray := prog_1_method_3_code
def yX1_allocate : MethodName := ⟨RX1, "allocate", "(I)I"⟩
abbrev cX1_isSize : ByteArray := prog_1_method_21_code
def yX1_isSize : MethodName := ⟨RX1, "isSize", "(I)Z"⟩
abbrev cX1_kindOf : ByteArray := prog_1_method_24_code
def yX1_kindOf : MethodName := ⟨RX1, "kindOf", "(I)I"⟩
abbrev cX1_leastFree : ByteArray := prog_1_method_29_code
def yX1_leastFree : MethodName := ⟨RX1, "leastFree", "()I"⟩
abbrev cX1_placeObject : ByteArray := prog_1_method_31_code
def yX1_placeObject : MethodName := ⟨RX1, "placeObject", "(II)V"⟩
abbrev cX1_capacity : ByteArray := prog_1_method_25_code
def yX1_capacity : MethodName := ⟨RX1, "capacity", "(I)I"⟩
abbrev cX1_wipe : ByteArray := prog_1_method_28_code
def yX1_wipe : MethodName := ⟨RX1, "wipe", "(III)V"⟩
abbrev cX1_baseOf : ByteArray := prog_1_method_26_code
def yX1_baseOf : MethodName := ⟨RX1, "baseOf", "(I)I"⟩
abbrev cX1_free : ByteArray := prog_1_method_4_code
def yX1_free : MethodName := ⟨RX1, "free", "(I)I"⟩
abbrev cX1_isGood : ByteArray := prog_1_method_23_code
def yX1_isGood : MethodName := ⟨RX1, "isGood", "(I)Z"⟩
abbrev cX1_removeObject : ByteArray := prog_1_method_32_code
def yX1_removeObject : MethodName := ⟨RX1, "removeObject", "(I)V"⟩
abbrev cX1_moveOne : ByteArray := prog_1_method_33_code
def yX1_moveOne : MethodName := ⟨RX1, "moveOne", "(III)V"⟩
abbrev cX1_resize : ByteArray := prog_1_method_5_code
def yX1_resize : MethodName := ⟨RX1, "resize", "(II)I"⟩
abbrev cX1_neededAfter : ByteArray := prog_1_method_30_code
def yX1_neededAfter : MethodName := ⟨RX1, "neededAfter", "(II)I"⟩
abbrev cX1_word : ByteArray := prog_1_method_27_code
def yX1_word : MethodName := ⟨RX1, "word", "(II)I"⟩
abbrev cX1_copy : ByteArray := prog_1_method_6_code
def yX1_copy : MethodName := ⟨RX1, "copy", "(I)I"⟩
abbrev cX1_freeClass : ByteArray := prog_1_method_7_code
def yX1_freeClass : MethodName := ⟨RX1, "freeClass", "(I)I"⟩
abbrev cX1_isKind : ByteArray := prog_1_method_22_code
def yX1_isKind : MethodName := ⟨RX1, "isKind", "(I)Z"⟩
abbrev cX1_read : ByteArray := prog_1_method_8_code
def yX1_read : MethodName := ⟨RX1, "read", "(II)I"⟩
abbrev cX1_write : ByteArray := prog_1_method_9_code
def yX1_write : MethodName := ⟨RX1, "write", "(III)I"⟩
abbrev cX1_fill : ByteArray := prog_1_method_10_code
def yX1_fill : MethodName := ⟨RX1, "fill", "(III)I"⟩
abbrev cX1_exchange : ByteArray := prog_1_method_11_code
def yX1_exchange : MethodName := ⟨RX1, "exchange", "(II)I"⟩
abbrev cX1_size : ByteArray := prog_1_method_12_code
def yX1_size : MethodName := ⟨RX1, "size", "(I)I"⟩
abbrev cX1_live : ByteArray := prog_1_method_13_code
def yX1_live : MethodName := ⟨RX1, "live", "()I"⟩
abbrev cX1_liveIn : ByteArray := prog_1_method_14_code
def yX1_liveIn : MethodName := ⟨RX1, "liveIn", "(I)I"⟩
abbrev cX1_needed : ByteArray := prog_1_method_15_code
def yX1_needed : MethodName := ⟨RX1, "needed", "()I"⟩
abbrev cX1_roomFor : ByteArray := prog_1_method_16_code
def yX1_roomFor : MethodName := ⟨RX1, "roomFor", "(I)I"⟩
abbrev cX1_sum : ByteArray := prog_1_method_17_code
def yX1_sum : MethodName := ⟨RX1, "sum", "(I)I"⟩
abbrev cX1_next : ByteArray := prog_1_method_18_code
def yX1_next : MethodName := ⟨RX1, "next", "(I)I"⟩
abbrev cX1_count : ByteArray := prog_1_method_19_code
def yX1_count : MethodName := ⟨RX1, "count", "(I)I"⟩
abbrev cX1_faults : ByteArray := prog_1_method_20_code
def yX1_faults : MethodName := ⟨RX1, "faults", "()I"⟩
abbrev cX1_strangers : ByteArray := prog_1_method_34_code
def yX1_strangers : MethodName := ⟨RX1, "strangers", "(I)I"⟩
theorem q17 : (Jvm.Cond.initialized "CompactFit") ∈ lw_all := lw_g (lw_at lw_m1 1 rfl) rfl
theorem q20 : (Jvm.Cond.instantiable "CompactFit" (13 : Nat)) ∈ lw_all := lw_g (lw_at lw_m1 4 rfl) rfl
theorem q22 : (Jvm.Cond.instanceMethod ({ cls := "CompactFit", name := "<init>", desc := "(I)V" } : Jvm.MethodName)) ∈ lw_all := lw_g (lw_at lw_m1 6 rfl) rfl
theorem q23 : (Jvm.Cond.code ({ cls := "CompactFit", name := "<init>", desc := "(I)V" } : Jvm.MethodName) prog_1_method_1_code (3 : Nat) (Option.none : Option Jvm.ClassFile.FieldType)) ∈ lw_all := lw_g (lw_at lw_m1 7 rfl) rfl
theorem q24 : (Jvm.Cond.methodLink "CompactFit" (1 : Nat) ({ cls := "java/lang/Object", name := "<init>", desc := "()V" } : Jvm.MethodName)) ∈ lw_all := lw_g (lw_at lw_m1 8 rfl) rfl
theorem q27 : (Jvm.Cond.fieldLink "CompactFit" (7 : Nat) "CompactFit" "memory" "[I") ∈ lw_all := lw_g (lw_at lw_m1 11 rfl) rfl
theorem q28 : (Jvm.Cond.fieldLink "CompactFit" (13 : Nat) "CompactFit" "pageKind" "[I") ∈ lw_all := lw_g (lw_at lw_m1 12 rfl) rfl
theorem q29 : (Jvm.Cond.fieldLink "CompactFit" (16 : Nat) "CompactFit" "pageCount" "[I") ∈ lw_all := lw_g (lw_at lw_m1 13 rfl) rfl
theorem q30 : (Jvm.Cond.fieldLink "CompactFit" (19 : Nat) "CompactFit" "owner" "[I") ∈ lw_all := lw_g (lw_at lw_m1 14 rfl) rfl
theorem q31 : (Jvm.Cond.fieldLink "CompactFit" (22 : Nat) "CompactFit" "pageOf" "[I") ∈ lw_all := lw_g (lw_at lw_m1 15 rfl) rfl
theorem q32 : (Jvm.Cond.fieldLink "CompactFit" (25 : Nat) "CompactFit" "placeOf" "[I") ∈ lw_all := lw_g (lw_at lw_m1 16 rfl) rfl
theorem q33 : (Jvm.Cond.fieldLink "CompactFit" (28 : Nat) "CompactFit" "sizeOf" "[I") ∈ lw_all := lw_g (lw_at lw_m1 17 rfl) rfl
theorem q34 : (Jvm.Cond.fieldLink "CompactFit" (31 : Nat) "CompactFit" "open" "[I") ∈ lw_all := lw_g (lw_at lw_m1 18 rfl) rfl
theorem q35 : (Jvm.Cond.fieldLink "CompactFit" (34 : Nat) "CompactFit" "counts" "[I") ∈ lw_all := lw_g (lw_at lw_m1 19 rfl) rfl
theorem q36 : (Jvm.Cond.fieldLink "CompactFit" (37 : Nat) "CompactFit" "scratch" "[I") ∈ lw_all := lw_g (lw_at lw_m1 20 rfl) rfl
theorem q37 : (Jvm.Cond.fieldLink "CompactFit" (40 : Nat) "CompactFit" "pageTotal" "I") ∈ lw_all := lw_g (lw_at lw_m1 21 rfl) rfl
theorem q38 : (Jvm.Cond.fieldLink "CompactFit" (44 : Nat) "CompactFit" "freePages" "I") ∈ lw_all := lw_g (lw_at lw_m1 22 rfl) rfl
theorem q39 : (Jvm.Cond.fieldLink "CompactFit" (51 : Nat) "CompactFit" "liveCount" "I") ∈ lw_all := lw_g (lw_at lw_m1 23 rfl) rfl
theorem q40 : (Jvm.Cond.laysFinal "CompactFit" "CompactFit" "memory" "[I") ∈ lw_all := lw_g (lw_at lw_m1 24 rfl) rfl
theorem q41 : (Jvm.Cond.soleField "CompactFit" "memory") ∈ lw_all := lw_g (lw_at lw_m1 25 rfl) rfl
theorem q42 : (Jvm.Cond.laysFinal "CompactFit" "CompactFit" "pageKind" "[I") ∈ lw_all := lw_g (lw_at lw_m1 26 rfl) rfl
theorem q43 : (Jvm.Cond.soleField "CompactFit" "pageKind") ∈ lw_all := lw_g (lw_at lw_m1 27 rfl) rfl
theorem q44 : (Jvm.Cond.laysFinal "CompactFit" "CompactFit" "pageCount" "[I") ∈ lw_all := lw_g (lw_at lw_m1 28 rfl) rfl
theorem q45 : (Jvm.Cond.soleField "CompactFit" "pageCount") ∈ lw_all := lw_g (lw_at lw_m1 29 rfl) rfl
theorem q46 : (Jvm.Cond.laysFinal "CompactFit" "CompactFit" "owner" "[I") ∈ lw_all := lw_g (lw_at lw_m1 30 rfl) rfl
theorem q47 : (Jvm.Cond.soleField "CompactFit" "owner") ∈ lw_all := lw_g (lw_at lw_m1 31 rfl) rfl
theorem q48 : (Jvm.Cond.laysFinal "CompactFit" "CompactFit" "pageOf" "[I") ∈ lw_all := lw_g (lw_at lw_m1 32 rfl) rfl
theorem q49 : (Jvm.Cond.soleField "CompactFit" "pageOf") ∈ lw_all := lw_g (lw_at lw_m1 33 rfl) rfl
theorem q50 : (Jvm.Cond.laysFinal "CompactFit" "CompactFit" "placeOf" "[I") ∈ lw_all := lw_g (lw_at lw_m1 34 rfl) rfl
theorem q51 : (Jvm.Cond.soleField "CompactFit" "placeOf") ∈ lw_all := lw_g (lw_at lw_m1 35 rfl) rfl
theorem q52 : (Jvm.Cond.laysFinal "CompactFit" "CompactFit" "sizeOf" "[I") ∈ lw_all := lw_g (lw_at lw_m1 36 rfl) rfl
theorem q53 : (Jvm.Cond.soleField "CompactFit" "sizeOf") ∈ lw_all := lw_g (lw_at lw_m1 37 rfl) rfl
theorem q54 : (Jvm.Cond.laysFinal "CompactFit" "CompactFit" "open" "[I") ∈ lw_all := lw_g (lw_at lw_m1 38 rfl) rfl
theorem q55 : (Jvm.Cond.soleField "CompactFit" "open") ∈ lw_all := lw_g (lw_at lw_m1 39 rfl) rfl
theorem q56 : (Jvm.Cond.laysFinal "CompactFit" "CompactFit" "counts" "[I") ∈ lw_all := lw_g (lw_at lw_m1 40 rfl) rfl
theorem q57 : (Jvm.Cond.soleField "CompactFit" "counts") ∈ lw_all := lw_g (lw_at lw_m1 41 rfl) rfl
theorem q58 : (Jvm.Cond.laysFinal "CompactFit" "CompactFit" "scratch" "[I") ∈ lw_all := lw_g (lw_at lw_m1 42 rfl) rfl
theorem q59 : (Jvm.Cond.soleField "CompactFit" "scratch") ∈ lw_all := lw_g (lw_at lw_m1 43 rfl) rfl
theorem q60 : (Jvm.Cond.lays "CompactFit" "CompactFit" "pageTotal" "I") ∈ lw_all := lw_g (lw_at lw_m1 44 rfl) rfl
theorem q61 : (Jvm.Cond.soleField "CompactFit" "pageTotal") ∈ lw_all := lw_g (lw_at lw_m1 45 rfl) rfl
theorem q62 : (Jvm.Cond.lays "CompactFit" "CompactFit" "freePages" "I") ∈ lw_all := lw_g (lw_at lw_m1 46 rfl) rfl
theorem q63 : (Jvm.Cond.soleField "CompactFit" "freePages") ∈ lw_all := lw_g (lw_at lw_m1 47 rfl) rfl
theorem q64 : (Jvm.Cond.lays "CompactFit" "CompactFit" "liveCount" "I") ∈ lw_all := lw_g (lw_at lw_m1 48 rfl) rfl
theorem q65 : (Jvm.Cond.soleField "CompactFit" "liveCount") ∈ lw_all := lw_g (lw_at lw_m1 49 rfl) rfl
theorem q66 : (Jvm.Cond.superclass "CompactFit" "java/lang/Object") ∈ lw_all := lw_g (lw_at lw_m1 50 rfl) rfl
theorem q69 : (Jvm.Cond.instanceMethod ({ cls := "CompactFit", name := "pages", desc := "()I" } : Jvm.MethodName)) ∈ lw_all := lw_g (lw_at lw_m1 53 rfl) rfl
theorem q70 : (Jvm.Cond.selects "CompactFit" ({ cls := "CompactFit", name := "pages", desc := "()I" } : Jvm.MethodName) ({ cls := "CompactFit", name := "pages", desc := "()I" } : Jvm.MethodName)) ∈ lw_all := lw_g (lw_at lw_m1 54 rfl) rfl
theorem q71 : (Jvm.Cond.code ({ cls := "CompactFit", name := "pages", desc := "()I" } : Jvm.MethodName) prog_1_method_2_code (1 : Nat) (Option.some Jvm.ClassFile.FieldType.int)) ∈ lw_all := lw_g (lw_at lw_m1 55 rfl) rfl
theorem q73 : (Jvm.Cond.instanceMethod ({ cls := "CompactFit", name := "allocate", desc := "(I)I" } : Jvm.MethodName)) ∈ lw_all := lw_g (lw_at lw_m1 57 rfl) rfl
theorem q74 : (Jvm.Cond.selects "CompactFit" ({ cls := "CompactFit", name := "allocate", desc := "(I)I" } : Jvm.MethodName) ({ cls := "CompactFit", name := "allocate", desc := "(I)I" } : Jvm.MethodName)) ∈ lw_all := lw_g (lw_at lw_m1 58 rfl) rfl
theorem q75 : (Jvm.Cond.code ({ cls := "CompactFit", name := "allocate", desc := "(I)I" } : Jvm.MethodName) prog_1_method_3_code (4 : Nat) (Option.some Jvm.ClassFile.FieldType.int)) ∈ lw_all := lw_g (lw_at lw_m1 59 rfl) rfl
theorem q76 : (Jvm.Cond.methodLink "CompactFit" (47 : Nat) ({ cls := "CompactFit", name := "isSize", desc := "(I)Z" } : Jvm.MethodName)) ∈ lw_all := lw_g (lw_at lw_m1 60 rfl) rfl
theorem q77 : (Jvm.Cond.static ({ cls := "CompactFit", name := "isSize", desc := "(I)Z" } : Jvm.MethodName)) ∈ lw_all := lw_g (lw_at lw_m1 61 rfl) rfl
theorem q78 : (Jvm.Cond.code ({ cls := "CompactFit", name := "isSize", desc := "(I)Z" } : Jvm.MethodName) prog_1_method_21_code (1 : Nat) (Option.some Jvm.ClassFile.FieldType.boolean)) ∈ lw_all := lw_g (lw_at lw_m1 62 rfl) rfl
theorem q79 : (Jvm.Cond.methodLink "CompactFit" (54 : Nat) ({ cls := "CompactFit", name := "kindOf", desc := "(I)I" } : Jvm.MethodName)) ∈ lw_all := lw_g (lw_at lw_m1 63 rfl) rfl
theorem q80 : (Jvm.Cond.static ({ cls := "CompactFit", name := "kindOf", desc := "(I)I" } : Jvm.MethodName)) ∈ lw_all := lw_g (lw_at lw_m1 64 rfl) rfl
theorem q81 : (Jvm.Cond.code ({ cls := "CompactFit", name := "kindOf", desc := "(I)I" } : Jvm.MethodName) prog_1_method_24_code (1 : Nat) (Option.some Jvm.ClassFile.FieldType.int)) ∈ lw_all := lw_g (lw_at lw_m1 65 rfl) rfl
theorem q82 : (Jvm.Cond.methodLink "CompactFit" (58 : Nat) ({ cls := "CompactFit", name := "leastFree", desc := "()I" } : Jvm.MethodName)) ∈ lw_all := lw_g (lw_at lw_m1 66 rfl) rfl
theorem q83 : (Jvm.Cond.privateMethod ({ cls := "CompactFit", name := "leastFree", desc := "()I" } : Jvm.MethodName)) ∈ lw_tbl := lw_at lw_m1 67 rfl
theorem q84 : (Jvm.Cond.instanceMethod ({ cls := "CompactFit", name := "leastFree", desc := "()I" } : Jvm.MethodName)) ∈ lw_all := lw_g (lw_at lw_m1 68 rfl) rfl
theorem q85 : (Jvm.Cond.code ({ cls := "CompactFit", name := "leastFree", desc := "()I" } : Jvm.MethodName) prog_1_method_29_code (2 : Nat) (Option.some Jvm.ClassFile.FieldType.int)) ∈ lw_all := lw_g (lw_at lw_m1 69 rfl) rfl
theorem q86 : (Jvm.Cond.methodLink "CompactFit" (62 : Nat) ({ cls := "CompactFit", name := "placeObject", desc := "(II)V" } : Jvm.MethodName)) ∈ lw_all := lw_g (lw_at lw_m1 70 rfl) rfl
theorem q87 : (Jvm.Cond.privateMethod ({ cls := "CompactFit", name := "placeObject", desc := "(II)V" } : Jvm.MethodName)) ∈ lw_tbl := lw_at lw_m1 71 rfl
theorem q88 : (Jvm.Cond.instanceMethod ({ cls := "CompactFit", name := "placeObject", desc := "(II)V" } : Jvm.MethodName)) ∈ lw_all := lw_g (lw_at lw_m1 72 rfl) rfl
theorem q89 : (Jvm.Cond.code ({ cls := "CompactFit", name := "placeObject", desc := "(II)V" } : Jvm.MethodName) prog_1_method_31_code (6 : Nat) (Option.none : Option Jvm.ClassFile.FieldType)) ∈ lw_all := lw_g (lw_at lw_m1 73 rfl) rfl
theorem q90 : (Jvm.Cond.methodLink "CompactFit" (93 : Nat) ({ cls := "CompactFit", name := "capacity", desc := "(I)I" } : Jvm.MethodName)) ∈ lw_all := lw_g (lw_at lw_m1 74 rfl) rfl
theorem q91 : (Jvm.Cond.static ({ cls := "CompactFit", name := "capacity", desc := "(I)I" } : Jvm.MethodName)) ∈ lw_all := lw_g (lw_at lw_m1 75 rfl) rfl
theorem q92 : (Jvm.Cond.code ({ cls := "CompactFit", name := "capacity", desc := "(I)I" } : Jvm.MethodName) prog_1_method_25_code (1 : Nat) (Option.some Jvm.ClassFile.FieldType.int)) ∈ lw_all := lw_g (lw_at lw_m1 76 rfl) rfl
theorem q93 : (Jvm.Cond.methodLink "CompactFit" (66 : Nat) ({ cls := "CompactFit", name := "wipe", desc := "(III)V" } : Jvm.MethodName)) ∈ lw_all := lw_g (lw_at lw_m1 77 rfl) rfl
theorem q94 : (Jvm.Cond.privateMethod ({ cls := "CompactFit", name := "wipe", desc := "(III)V" } : Jvm.MethodName)) ∈ lw_tbl := lw_at lw_m1 78 rfl
theorem q95 : (Jvm.Cond.instanceMethod ({ cls := "CompactFit", name := "wipe", desc := "(III)V" } : Jvm.MethodName)) ∈ lw_all := lw_g (lw_at lw_m1 79 rfl) rfl
theorem q96 : (Jvm.Cond.code ({ cls := "CompactFit", name := "wipe", desc := "(III)V" } : Jvm.MethodName) prog_1_method_28_code (6 : Nat) (Option.none : Option Jvm.ClassFile.FieldType)) ∈ lw_all := lw_g (lw_at lw_m1 80 rfl) rfl
theorem q97 : (Jvm.Cond.methodLink "CompactFit" (84 : Nat) ({ cls := "CompactFit", name := "baseOf", desc := "(I)I" } : Jvm.MethodName)) ∈ lw_all := lw_g (lw_at lw_m1 81 rfl) rfl
theorem q98 : (Jvm.Cond.privateMethod ({ cls := "CompactFit", name := "baseOf", desc := "(I)I" } : Jvm.MethodName)) ∈ lw_tbl := lw_at lw_m1 82 rfl
theorem q99 : (Jvm.Cond.instanceMethod ({ cls := "CompactFit", name := "baseOf", desc := "(I)I" } : Jvm.MethodName)) ∈ lw_all := lw_g (lw_at lw_m1 83 rfl) rfl
theorem q100 : (Jvm.Cond.code ({ cls := "CompactFit", name := "baseOf", desc := "(I)I" } : Jvm.MethodName) prog_1_method_26_code (2 : Nat) (Option.some Jvm.ClassFile.FieldType.int)) ∈ lw_all := lw_g (lw_at lw_m1 84 rfl) rfl
theorem q102 : (Jvm.Cond.instanceMethod ({ cls := "CompactFit", name := "free", desc := "(I)I" } : Jvm.MethodName)) ∈ lw_all := lw_g (lw_at lw_m1 86 rfl) rfl
theorem q103 : (Jvm.Cond.selects "CompactFit" ({ cls := "CompactFit", name := "free", desc := "(I)I" } : Jvm.MethodName) ({ cls := "CompactFit", name := "free", desc := "(I)I" } : Jvm.MethodName)) ∈ lw_all := lw_g (lw_at lw_m1 87 rfl) rfl
theorem q104 : (Jvm.Cond.code ({ cls := "CompactFit", name := "free", desc := "(I)I" } : Jvm.MethodName) prog_1_method_4_code (3 : Nat) (Option.some Jvm.ClassFile.FieldType.int)) ∈ lw_all := lw_g (lw_at lw_m1 88 rfl) rfl
theorem q105 : (Jvm.Cond.methodLink "CompactFit" (70 : Nat) ({ cls := "CompactFit", name := "isGood", desc := "(I)Z" } : Jvm.MethodName)) ∈ lw_all := lw_g (lw_at lw_m1 89 rfl) rfl
theorem q106 : (Jvm.Cond.privateMethod ({ cls := "CompactFit", name := "isGood", desc := "(I)Z" } : Jvm.MethodName)) ∈ lw_tbl := lw_at lw_m1 90 rfl
theorem q107 : (Jvm.Cond.instanceMethod ({ cls := "CompactFit", name := "isGood", desc := "(I)Z" } : Jvm.MethodName)) ∈ lw_all := lw_g (lw_at lw_m1 91 rfl) rfl
theorem q108 : (Jvm.Cond.code ({ cls := "CompactFit", name := "isGood", desc := "(I)Z" } : Jvm.MethodName) prog_1_method_23_code (2 : Nat) (Option.some Jvm.ClassFile.FieldType.boolean)) ∈ lw_all := lw_g (lw_at lw_m1 92 rfl) rfl
theorem q109 : (Jvm.Cond.methodLink "CompactFit" (73 : Nat) ({ cls := "CompactFit", name := "removeObject", desc := "(I)V" } : Jvm.MethodName)) ∈ lw_all := lw_g (lw_at lw_m1 93 rfl) rfl
theorem q110 : (Jvm.Cond.privateMethod ({ cls := "CompactFit", name := "removeObject", desc := "(I)V" } : Jvm.MethodName)) ∈ lw_tbl := lw_at lw_m1 94 rfl
theorem q111 : (Jvm.Cond.instanceMethod ({ cls := "CompactFit", name := "removeObject", desc := "(I)V" } : Jvm.MethodName)) ∈ lw_all := lw_g (lw_at lw_m1 95 rfl) rfl
theorem q112 : (Jvm.Cond.code ({ cls := "CompactFit", name := "removeObject", desc := "(I)V" } : Jvm.MethodName) prog_1_method_32_code (6 : Nat) (Option.none : Option Jvm.ClassFile.FieldType)) ∈ lw_all := lw_g (lw_at lw_m1 96 rfl) rfl
theorem q113 : (Jvm.Cond.methodLink "CompactFit" (99 : Nat) ({ cls := "CompactFit", name := "moveOne", desc := "(III)V" } : Jvm.MethodName)) ∈ lw_all := lw_g (lw_at lw_m1 97 rfl) rfl
theorem q114 : (Jvm.Cond.privateMethod ({ cls := "CompactFit", name := "moveOne", desc := "(III)V" } : Jvm.MethodName)) ∈ lw_tbl := lw_at lw_m1 98 rfl
theorem q115 : (Jvm.Cond.instanceMethod ({ cls := "CompactFit", name := "moveOne", desc := "(III)V" } : Jvm.MethodName)) ∈ lw_all := lw_g (lw_at lw_m1 99 rfl) rfl
theorem q116 : (Jvm.Cond.code ({ cls := "CompactFit", name := "moveOne", desc := "(III)V" } : Jvm.MethodName) prog_1_method_33_code (8 : Nat) (Option.none : Option Jvm.ClassFile.FieldType)) ∈ lw_all := lw_g (lw_at lw_m1 100 rfl) rfl
theorem q118 : (Jvm.Cond.instanceMethod ({ cls := "CompactFit", name := "resize", desc := "(II)I" } : Jvm.MethodName)) ∈ lw_all := lw_g (lw_at lw_m1 102 rfl) rfl
theorem q119 : (Jvm.Cond.selects "CompactFit" ({ cls := "CompactFit", name := "resize", desc := "(II)I" } : Jvm.MethodName) ({ cls := "CompactFit", name := "resize", desc := "(II)I" } : Jvm.MethodName)) ∈ lw_all := lw_g (lw_at lw_m1 103 rfl) rfl
theorem q120 : (Jvm.Cond.code ({ cls := "CompactFit", name := "resize", desc := "(II)I" } : Jvm.MethodName) prog_1_method_5_code (8 : Nat) (Option.some Jvm.ClassFile.FieldType.int)) ∈ lw_all := lw_g (lw_at lw_m1 104 rfl) rfl
theorem q121 : (Jvm.Cond.methodLink "CompactFit" (77 : Nat) ({ cls := "CompactFit", name := "neededAfter", desc := "(II)I" } : Jvm.MethodName)) ∈ lw_all := lw_g (lw_at lw_m1 105 rfl) rfl
theorem q122 : (Jvm.Cond.privateMethod ({ cls := "CompactFit", name := "neededAfter", desc := "(II)I" } : Jvm.MethodName)) ∈ lw_tbl := lw_at lw_m1 106 rfl
theorem q123 : (Jvm.Cond.instanceMethod ({ cls := "CompactFit", name := "neededAfter", desc := "(II)I" } : Jvm.MethodName)) ∈ lw_all := lw_g (lw_at lw_m1 107 rfl) rfl
theorem q124 : (Jvm.Cond.code ({ cls := "CompactFit", name := "neededAfter", desc := "(II)I" } : Jvm.MethodName) prog_1_method_30_code (6 : Nat) (Option.some Jvm.ClassFile.FieldType.int)) ∈ lw_all := lw_g (lw_at lw_m1 108 rfl) rfl
theorem q125 : (Jvm.Cond.methodLink "CompactFit" (81 : Nat) ({ cls := "CompactFit", name := "word", desc := "(II)I" } : Jvm.MethodName)) ∈ lw_all := lw_g (lw_at lw_m1 109 rfl) rfl
theorem q126 : (Jvm.Cond.privateMethod ({ cls := "CompactFit", name := "word", desc := "(II)I" } : Jvm.MethodName)) ∈ lw_tbl := lw_at lw_m1 110 rfl
theorem q127 : (Jvm.Cond.instanceMethod ({ cls := "CompactFit", name := "word", desc := "(II)I" } : Jvm.MethodName)) ∈ lw_all := lw_g (lw_at lw_m1 111 rfl) rfl
theorem q128 : (Jvm.Cond.code ({ cls := "CompactFit", name := "word", desc := "(II)I" } : Jvm.MethodName) prog_1_method_27_code (4 : Nat) (Option.some Jvm.ClassFile.FieldType.int)) ∈ lw_all := lw_g (lw_at lw_m1 112 rfl) rfl
theorem q130 : (Jvm.Cond.instanceMethod ({ cls := "CompactFit", name := "copy", desc := "(I)I" } : Jvm.MethodName)) ∈ lw_all := lw_g (lw_at lw_m1 114 rfl) rfl
theorem q131 : (Jvm.Cond.selects "CompactFit" ({ cls := "CompactFit", name := "copy", desc := "(I)I" } : Jvm.MethodName) ({ cls := "CompactFit", name := "copy", desc := "(I)I" } : Jvm.MethodName)) ∈ lw_all := lw_g (lw_at lw_m1 115 rfl) rfl
theorem q132 : (Jvm.Cond.code ({ cls := "CompactFit", name := "copy", desc := "(I)I" } : Jvm.MethodName) prog_1_method_6_code (7 : Nat) (Option.some Jvm.ClassFile.FieldType.int)) ∈ lw_all := lw_g (lw_at lw_m1 116 rfl) rfl
theorem q133 : (Jvm.Cond.methodLink "CompactFit" (87 : Nat) ({ cls := "CompactFit", name := "allocate", desc := "(I)I" } : Jvm.MethodName)) ∈ lw_all := lw_g (lw_at lw_m1 117 rfl) rfl
theorem q135 : (Jvm.Cond.instanceMethod ({ cls := "CompactFit", name := "freeClass", desc := "(I)I" } : Jvm.MethodName)) ∈ lw_all := lw_g (lw_at lw_m1 119 rfl) rfl
theorem q136 : (Jvm.Cond.selects "CompactFit" ({ cls := "CompactFit", name := "freeClass", desc := "(I)I" } : Jvm.MethodName) ({ cls := "CompactFit", name := "freeClass", desc := "(I)I" } : Jvm.MethodName)) ∈ lw_all := lw_g (lw_at lw_m1 120 rfl) rfl
theorem q137 : (Jvm.Cond.code ({ cls := "CompactFit", name := "freeClass", desc := "(I)I" } : Jvm.MethodName) prog_1_method_7_code (4 : Nat) (Option.some Jvm.ClassFile.FieldType.int)) ∈ lw_all := lw_g (lw_at lw_m1 121 rfl) rfl
theorem q138 : (Jvm.Cond.methodLink "CompactFit" (90 : Nat) ({ cls := "CompactFit", name := "isKind", desc := "(I)Z" } : Jvm.MethodName)) ∈ lw_all := lw_g (lw_at lw_m1 122 rfl) rfl
theorem q139 : (Jvm.Cond.static ({ cls := "CompactFit", name := "isKind", desc := "(I)Z" } : Jvm.MethodName)) ∈ lw_all := lw_g (lw_at lw_m1 123 rfl) rfl
theorem q140 : (Jvm.Cond.code ({ cls := "CompactFit", name := "isKind", desc := "(I)Z" } : Jvm.MethodName) prog_1_method_22_code (1 : Nat) (Option.some Jvm.ClassFile.FieldType.boolean)) ∈ lw_all := lw_g (lw_at lw_m1 124 rfl) rfl
theorem q142 : (Jvm.Cond.instanceMethod ({ cls := "CompactFit", name := "read", desc := "(II)I" } : Jvm.MethodName)) ∈ lw_all := lw_g (lw_at lw_m1 126 rfl) rfl
theorem q143 : (Jvm.Cond.selects "CompactFit" ({ cls := "CompactFit", name := "read", desc := "(II)I" } : Jvm.MethodName) ({ cls := "CompactFit", name := "read", desc := "(II)I" } : Jvm.MethodName)) ∈ lw_all := lw_g (lw_at lw_m1 127 rfl) rfl
theorem q144 : (Jvm.Cond.code ({ cls := "CompactFit", name := "read", desc := "(II)I" } : Jvm.MethodName) prog_1_method_8_code (3 : Nat) (Option.some Jvm.ClassFile.FieldType.int)) ∈ lw_all := lw_g (lw_at lw_m1 128 rfl) rfl
theorem q146 : (Jvm.Cond.instanceMethod ({ cls := "CompactFit", name := "write", desc := "(III)I" } : Jvm.MethodName)) ∈ lw_all := lw_g (lw_at lw_m1 130 rfl) rfl
theorem q147 : (Jvm.Cond.selects "CompactFit" ({ cls := "CompactFit", name := "write", desc := "(III)I" } : Jvm.MethodName) ({ cls := "CompactFit", name := "write", desc := "(III)I" } : Jvm.MethodName)) ∈ lw_all := lw_g (lw_at lw_m1 131 rfl) rfl
theorem q148 : (Jvm.Cond.code ({ cls := "CompactFit", name := "write", desc := "(III)I" } : Jvm.MethodName) prog_1_method_9_code (5 : Nat) (Option.some Jvm.ClassFile.FieldType.int)) ∈ lw_all := lw_g (lw_at lw_m1 132 rfl) rfl
theorem q150 : (Jvm.Cond.instanceMethod ({ cls := "CompactFit", name := "fill", desc := "(III)I" } : Jvm.MethodName)) ∈ lw_all := lw_g (lw_at lw_m1 134 rfl) rfl
theorem q151 : (Jvm.Cond.selects "CompactFit" ({ cls := "CompactFit", name := "fill", desc := "(III)I" } : Jvm.MethodName) ({ cls := "CompactFit", name := "fill", desc := "(III)I" } : Jvm.MethodName)) ∈ lw_all := lw_g (lw_at lw_m1 135 rfl) rfl
theorem q152 : (Jvm.Cond.code ({ cls := "CompactFit", name := "fill", desc := "(III)I" } : Jvm.MethodName) prog_1_method_10_code (6 : Nat) (Option.some Jvm.ClassFile.FieldType.int)) ∈ lw_all := lw_g (lw_at lw_m1 136 rfl) rfl
theorem q154 : (Jvm.Cond.instanceMethod ({ cls := "CompactFit", name := "exchange", desc := "(II)I" } : Jvm.MethodName)) ∈ lw_all := lw_g (lw_at lw_m1 138 rfl) rfl
theorem q155 : (Jvm.Cond.selects "CompactFit" ({ cls := "CompactFit", name := "exchange", desc := "(II)I" } : Jvm.MethodName) ({ cls := "CompactFit", name := "exchange", desc := "(II)I" } : Jvm.MethodName)) ∈ lw_all := lw_g (lw_at lw_m1 139 rfl) rfl
theorem q156 : (Jvm.Cond.code ({ cls := "CompactFit", name := "exchange", desc := "(II)I" } : Jvm.MethodName) prog_1_method_11_code (6 : Nat) (Option.some Jvm.ClassFile.FieldType.int)) ∈ lw_all := lw_g (lw_at lw_m1 140 rfl) rfl
theorem q158 : (Jvm.Cond.instanceMethod ({ cls := "CompactFit", name := "size", desc := "(I)I" } : Jvm.MethodName)) ∈ lw_all := lw_g (lw_at lw_m1 142 rfl) rfl
theorem q159 : (Jvm.Cond.selects "CompactFit" ({ cls := "CompactFit", name := "size", desc := "(I)I" } : Jvm.MethodName) ({ cls := "CompactFit", name := "size", desc := "(I)I" } : Jvm.MethodName)) ∈ lw_all := lw_g (lw_at lw_m1 143 rfl) rfl
theorem q160 : (Jvm.Cond.code ({ cls := "CompactFit", name := "size", desc := "(I)I" } : Jvm.MethodName) prog_1_method_12_code (2 : Nat) (Option.some Jvm.ClassFile.FieldType.int)) ∈ lw_all := lw_g (lw_at lw_m1 144 rfl) rfl
theorem q162 : (Jvm.Cond.instanceMethod ({ cls := "CompactFit", name := "live", desc := "()I" } : Jvm.MethodName)) ∈ lw_all := lw_g (lw_at lw_m1 146 rfl) rfl
theorem q163 : (Jvm.Cond.selects "CompactFit" ({ cls := "CompactFit", name := "live", desc := "()I" } : Jvm.MethodName) ({ cls := "CompactFit", name := "live", desc := "()I" } : Jvm.MethodName)) ∈ lw_all := lw_g (lw_at lw_m1 147 rfl) rfl
theorem q164 : (Jvm.Cond.code ({ cls := "CompactFit", name := "live", desc := "()I" } : Jvm.MethodName) prog_1_method_13_code (1 : Nat) (Option.some Jvm.ClassFile.FieldType.int)) ∈ lw_all := lw_g (lw_at lw_m1 148 rfl) rfl
theorem q166 : (Jvm.Cond.instanceMethod ({ cls := "CompactFit", name := "liveIn", desc := "(I)I" } : Jvm.MethodName)) ∈ lw_all := lw_g (lw_at lw_m1 150 rfl) rfl
theorem q167 : (Jvm.Cond.selects "CompactFit" ({ cls := "CompactFit", name := "liveIn", desc := "(I)I" } : Jvm.MethodName) ({ cls := "CompactFit", name := "liveIn", desc := "(I)I" } : Jvm.MethodName)) ∈ lw_all := lw_g (lw_at lw_m1 151 rfl) rfl
theorem q168 : (Jvm.Cond.code ({ cls := "CompactFit", name := "liveIn", desc := "(I)I" } : Jvm.MethodName) prog_1_method_14_code (2 : Nat) (Option.some Jvm.ClassFile.FieldType.int)) ∈ lw_all := lw_g (lw_at lw_m1 152 rfl) rfl
theorem q170 : (Jvm.Cond.instanceMethod ({ cls := "CompactFit", name := "needed", desc := "()I" } : Jvm.MethodName)) ∈ lw_all := lw_g (lw_at lw_m1 154 rfl) rfl
theorem q171 : (Jvm.Cond.selects "CompactFit" ({ cls := "CompactFit", name := "needed", desc := "()I" } : Jvm.MethodName) ({ cls := "CompactFit", name := "needed", desc := "()I" } : Jvm.MethodName)) ∈ lw_all := lw_g (lw_at lw_m1 155 rfl) rfl
theorem q172 : (Jvm.Cond.code ({ cls := "CompactFit", name := "needed", desc := "()I" } : Jvm.MethodName) prog_1_method_15_code (1 : Nat) (Option.some Jvm.ClassFile.FieldType.int)) ∈ lw_all := lw_g (lw_at lw_m1 156 rfl) rfl
theorem q174 : (Jvm.Cond.instanceMethod ({ cls := "CompactFit", name := "roomFor", desc := "(I)I" } : Jvm.MethodName)) ∈ lw_all := lw_g (lw_at lw_m1 158 rfl) rfl
theorem q175 : (Jvm.Cond.selects "CompactFit" ({ cls := "CompactFit", name := "roomFor", desc := "(I)I" } : Jvm.MethodName) ({ cls := "CompactFit", name := "roomFor", desc := "(I)I" } : Jvm.MethodName)) ∈ lw_all := lw_g (lw_at lw_m1 159 rfl) rfl
theorem q176 : (Jvm.Cond.code ({ cls := "CompactFit", name := "roomFor", desc := "(I)I" } : Jvm.MethodName) prog_1_method_16_code (4 : Nat) (Option.some Jvm.ClassFile.FieldType.int)) ∈ lw_all := lw_g (lw_at lw_m1 160 rfl) rfl
theorem q178 : (Jvm.Cond.instanceMethod ({ cls := "CompactFit", name := "sum", desc := "(I)I" } : Jvm.MethodName)) ∈ lw_all := lw_g (lw_at lw_m1 162 rfl) rfl
theorem q179 : (Jvm.Cond.selects "CompactFit" ({ cls := "CompactFit", name := "sum", desc := "(I)I" } : Jvm.MethodName) ({ cls := "CompactFit", name := "sum", desc := "(I)I" } : Jvm.MethodName)) ∈ lw_all := lw_g (lw_at lw_m1 163 rfl) rfl
theorem q180 : (Jvm.Cond.code ({ cls := "CompactFit", name := "sum", desc := "(I)I" } : Jvm.MethodName) prog_1_method_17_code (4 : Nat) (Option.some Jvm.ClassFile.FieldType.int)) ∈ lw_all := lw_g (lw_at lw_m1 164 rfl) rfl
theorem q182 : (Jvm.Cond.instanceMethod ({ cls := "CompactFit", name := "next", desc := "(I)I" } : Jvm.MethodName)) ∈ lw_all := lw_g (lw_at lw_m1 166 rfl) rfl
theorem q183 : (Jvm.Cond.selects "CompactFit" ({ cls := "CompactFit", name := "next", desc := "(I)I" } : Jvm.MethodName) ({ cls := "CompactFit", name := "next", desc := "(I)I" } : Jvm.MethodName)) ∈ lw_all := lw_g (lw_at lw_m1 167 rfl) rfl
theorem q184 : (Jvm.Cond.code ({ cls := "CompactFit", name := "next", desc := "(I)I" } : Jvm.MethodName) prog_1_method_18_code (3 : Nat) (Option.some Jvm.ClassFile.FieldType.int)) ∈ lw_all := lw_g (lw_at lw_m1 168 rfl) rfl
theorem q186 : (Jvm.Cond.instanceMethod ({ cls := "CompactFit", name := "count", desc := "(I)I" } : Jvm.MethodName)) ∈ lw_all := lw_g (lw_at lw_m1 170 rfl) rfl
theorem q187 : (Jvm.Cond.selects "CompactFit" ({ cls := "CompactFit", name := "count", desc := "(I)I" } : Jvm.MethodName) ({ cls := "CompactFit", name := "count", desc := "(I)I" } : Jvm.MethodName)) ∈ lw_all := lw_g (lw_at lw_m1 171 rfl) rfl
theorem q188 : (Jvm.Cond.code ({ cls := "CompactFit", name := "count", desc := "(I)I" } : Jvm.MethodName) prog_1_method_19_code (5 : Nat) (Option.some Jvm.ClassFile.FieldType.int)) ∈ lw_all := lw_g (lw_at lw_m1 172 rfl) rfl
theorem q190 : (Jvm.Cond.instanceMethod ({ cls := "CompactFit", name := "faults", desc := "()I" } : Jvm.MethodName)) ∈ lw_all := lw_g (lw_at lw_m1 174 rfl) rfl
theorem q191 : (Jvm.Cond.selects "CompactFit" ({ cls := "CompactFit", name := "faults", desc := "()I" } : Jvm.MethodName) ({ cls := "CompactFit", name := "faults", desc := "()I" } : Jvm.MethodName)) ∈ lw_all := lw_g (lw_at lw_m1 175 rfl) rfl
theorem q192 : (Jvm.Cond.code ({ cls := "CompactFit", name := "faults", desc := "()I" } : Jvm.MethodName) prog_1_method_20_code (5 : Nat) (Option.some Jvm.ClassFile.FieldType.int)) ∈ lw_all := lw_g (lw_at lw_m1 176 rfl) rfl
theorem q193 : (Jvm.Cond.methodLink "CompactFit" (96 : Nat) ({ cls := "CompactFit", name := "strangers", desc := "(I)I" } : Jvm.MethodName)) ∈ lw_all := lw_g (lw_at lw_m1 177 rfl) rfl
theorem q194 : (Jvm.Cond.privateMethod ({ cls := "CompactFit", name := "strangers", desc := "(I)I" } : Jvm.MethodName)) ∈ lw_tbl := lw_at lw_m1 178 rfl
theorem q195 : (Jvm.Cond.instanceMethod ({ cls := "CompactFit", name := "strangers", desc := "(I)I" } : Jvm.MethodName)) ∈ lw_all := lw_g (lw_at lw_m1 179 rfl) rfl
theorem q196 : (Jvm.Cond.code ({ cls := "CompactFit", name := "strangers", desc := "(I)I" } : Jvm.MethodName) prog_1_method_34_code (5 : Nat) (Option.some Jvm.ClassFile.FieldType.int)) ∈ lw_all := lw_g (lw_at lw_m1 180 rfl) rfl
theorem in_X1 : ∀ w ∈ wsX10, w ∈ lw_all := lw_in wsX10 [40, 42, 44, 46, 48, 50, 52, 54, 56, 58, 60, 62, 64] (by decide +kernel) (by decide +kernel)

/-! CompactFitModel -/
def RX2 : String := "CompactFitModel"
def TX2 : u_T := fun k => match k with
  | 0 => ("CompactFitModel", "pages", "I", false)
  | 1 => ("CompactFitModel", "size", "[I", false)
  | _ => ("CompactFitModel", "words", "[I", false)
def tyX2 : Nat → FieldType := fun k => match k with
  | 0 => .int
  | 1 => .array .int
  | _ => .array .int
abbrev wsX20 : List Cond := u_ws RX2 TX2 3
theorem nmX2 : ∀ a, a < 3 → ∀ b, b < 3 → a ≠ b → (TX2 a).2.1 ≠ (TX2 b).2.1 := by decide +kernel
theorem tyX2_ok : ∀ k, k < 3 → parseFieldDescriptor (TX2 k).2.2.1 = some (tyX2 k) := by decide +kernel
abbrev cX2_init : ByteArray := prog_3_method_1_code
def yX2_init : MethodName := ⟨RX2, "<init>", "(I)V"⟩
abbrev cX2_pages : ByteArray := prog_3_method_2_code
def yX2_pages : MethodName := ⟨RX2, "pages", "()I"⟩
abbrev cX2_allocate : ByteArray := prog_3_method_9_code
def yX2_allocate : MethodName := ⟨RX2, "allocate", "(I)I"⟩
abbrev cX2_leastFree : ByteArray := prog_3_method_7_code
def yX2_leastFree : MethodName := ⟨RX2, "leastFree", "()I"⟩
abbrev cX2_kindOf : ByteArray := prog_3_method_4_code
def yX2_kindOf : MethodName := ⟨RX2, "kindOf", "(I)I"⟩
abbrev cX2_needs : ByteArray := prog_3_method_6_code
def yX2_needs : MethodName := ⟨RX2, "needs", "(IIII)I"⟩
abbrev cX2_alive : ByteArray := prog_3_method_5_code
def yX2_alive : MethodName := ⟨RX2, "alive", "(I)I"⟩
abbrev cX2_wipe : ByteArray := prog_3_method_8_code
def yX2_wipe : MethodName := ⟨RX2, "wipe", "(I)V"⟩
abbrev cX2_free : ByteArray := prog_3_method_10_code
def yX2_free : MethodName := ⟨RX2, "free", "(I)I"⟩
abbrev cX2_bad : ByteArray := prog_3_method_3_code
def yX2_bad : MethodName := ⟨RX2, "bad", "(I)Z"⟩
abbrev cX2_resize : ByteArray := prog_3_method_11_code
def yX2_resize : MethodName := ⟨RX2, "resize", "(II)I"⟩
abbrev cX2_copy : ByteArray := prog_3_method_12_code
def yX2_copy : MethodName := ⟨RX2, "copy", "(I)I"⟩
abbrev cX2_freeClass : ByteArray := prog_3_method_13_code
def yX2_freeClass : MethodName := ⟨RX2, "freeClass", "(I)I"⟩
abbrev cX2_read : ByteArray := prog_3_method_14_code
def yX2_read : MethodName := ⟨RX2, "read", "(II)I"⟩
abbrev cX2_write : ByteArray := prog_3_method_15_code
def yX2_write : MethodName := ⟨RX2, "write", "(III)I"⟩
abbrev cX2_fill : ByteArray := prog_3_method_16_code
def yX2_fill : MethodName := ⟨RX2, "fill", "(III)I"⟩
abbrev cX2_exchange : ByteArray := prog_3_method_17_code
def yX2_exchange : MethodName := ⟨RX2, "exchange", "(II)I"⟩
abbrev cX2_size : ByteArray := prog_3_method_18_code
def yX2_size : MethodName := ⟨RX2, "size", "(I)I"⟩
abbrev cX2_live : ByteArray := prog_3_method_19_code
def yX2_live : MethodName := ⟨RX2, "live", "()I"⟩
abbrev cX2_liveIn : ByteArray := prog_3_method_20_code
def yX2_liveIn : MethodName := ⟨RX2, "liveIn", "(I)I"⟩
abbrev cX2_needed : ByteArray := prog_3_method_21_code
def yX2_needed : MethodName := ⟨RX2, "needed", "()I"⟩
abbrev cX2_roomFor : ByteArray := prog_3_method_22_code
def yX2_roomFor : MethodName := ⟨RX2, "roomFor", "(I)I"⟩
abbrev cX2_sum : ByteArray := prog_3_method_23_code
def yX2_sum : MethodName := ⟨RX2, "sum", "(I)I"⟩
abbrev cX2_next : ByteArray := prog_3_method_24_code
def yX2_next : MethodName := ⟨RX2, "next", "(I)I"⟩
abbrev cX2_count : ByteArray := prog_3_method_25_code
def yX2_count : MethodName := ⟨RX2, "count", "(I)I"⟩
abbrev cX2_faults : ByteArray := prog_3_method_26_code
def yX2_faults : MethodName := ⟨RX2, "faults", "()I"⟩
theorem q18 : (Jvm.Cond.initialized "CompactFitModel") ∈ lw_all := lw_g (lw_at lw_m1 2 rfl) rfl
theorem q201 : (Jvm.Cond.instantiable "CompactFitModel" (3 : Nat)) ∈ lw_all := lw_g (lw_at lw_m1 185 rfl) rfl
theorem q203 : (Jvm.Cond.instanceMethod ({ cls := "CompactFitModel", name := "<init>", desc := "(I)V" } : Jvm.MethodName)) ∈ lw_all := lw_g (lw_at lw_m1 187 rfl) rfl
theorem q204 : (Jvm.Cond.code ({ cls := "CompactFitModel", name := "<init>", desc := "(I)V" } : Jvm.MethodName) prog_3_method_1_code (2 : Nat) (Option.none : Option Jvm.ClassFile.FieldType)) ∈ lw_all := lw_g (lw_at lw_m1 188 rfl) rfl
theorem q205 : (Jvm.Cond.methodLink "CompactFitModel" (1 : Nat) ({ cls := "java/lang/Object", name := "<init>", desc := "()V" } : Jvm.MethodName)) ∈ lw_all := lw_g (lw_at lw_m1 189 rfl) rfl
theorem q206 : (Jvm.Cond.fieldLink "CompactFitModel" (16 : Nat) "CompactFitModel" "pages" "I") ∈ lw_all := lw_g (lw_at lw_m1 190 rfl) rfl
theorem q207 : (Jvm.Cond.fieldLink "CompactFitModel" (7 : Nat) "CompactFitModel" "size" "[I") ∈ lw_all := lw_g (lw_at lw_m1 191 rfl) rfl
theorem q208 : (Jvm.Cond.fieldLink "CompactFitModel" (13 : Nat) "CompactFitModel" "words" "[I") ∈ lw_all := lw_g (lw_at lw_m1 192 rfl) rfl
theorem q209 : (Jvm.Cond.lays "CompactFitModel" "CompactFitModel" "pages" "I") ∈ lw_all := lw_g (lw_at lw_m1 193 rfl) rfl
theorem q210 : (Jvm.Cond.soleField "CompactFitModel" "pages") ∈ lw_all := lw_g (lw_at lw_m1 194 rfl) rfl
theorem q211 : (Jvm.Cond.lays "CompactFitModel" "CompactFitModel" "size" "[I") ∈ lw_all := lw_g (lw_at lw_m1 195 rfl) rfl
theorem q212 : (Jvm.Cond.soleField "CompactFitModel" "size") ∈ lw_all := lw_g (lw_at lw_m1 196 rfl) rfl
theorem q213 : (Jvm.Cond.lays "CompactFitModel" "CompactFitModel" "words" "[I") ∈ lw_all := lw_g (lw_at lw_m1 197 rfl) rfl
theorem q214 : (Jvm.Cond.soleField "CompactFitModel" "words") ∈ lw_all := lw_g (lw_at lw_m1 198 rfl) rfl
theorem q215 : (Jvm.Cond.superclass "CompactFitModel" "java/lang/Object") ∈ lw_all := lw_g (lw_at lw_m1 199 rfl) rfl
theorem q217 : (Jvm.Cond.instanceMethod ({ cls := "CompactFitModel", name := "pages", desc := "()I" } : Jvm.MethodName)) ∈ lw_all := lw_g (lw_at lw_m1 201 rfl) rfl
theorem q218 : (Jvm.Cond.selects "CompactFitModel" ({ cls := "CompactFitModel", name := "pages", desc := "()I" } : Jvm.MethodName) ({ cls := "CompactFitModel", name := "pages", desc := "()I" } : Jvm.MethodName)) ∈ lw_all := lw_g (lw_at lw_m1 202 rfl) rfl
theorem q219 : (Jvm.Cond.code ({ cls := "CompactFitModel", name := "pages", desc := "()I" } : Jvm.MethodName) prog_3_method_2_code (1 : Nat) (Option.some Jvm.ClassFile.FieldType.int)) ∈ lw_all := lw_g (lw_at lw_m1 203 rfl) rfl
theorem q221 : (Jvm.Cond.instanceMethod ({ cls := "CompactFitModel", name := "allocate", desc := "(I)I" } : Jvm.MethodName)) ∈ lw_all := lw_g (lw_at lw_m1 205 rfl) rfl
theorem q222 : (Jvm.Cond.selects "CompactFitModel" ({ cls := "CompactFitModel", name := "allocate", desc := "(I)I" } : Jvm.MethodName) ({ cls := "CompactFitModel", name := "allocate", desc := "(I)I" } : Jvm.MethodName)) ∈ lw_all := lw_g (lw_at lw_m1 206 rfl) rfl
theorem q223 : (Jvm.Cond.code ({ cls := "CompactFitModel", name := "allocate", desc := "(I)I" } : Jvm.MethodName) prog_3_method_9_code (4 : Nat) (Option.some Jvm.ClassFile.FieldType.int)) ∈ lw_all := lw_g (lw_at lw_m1 207 rfl) rfl
theorem q224 : (Jvm.Cond.methodLink "CompactFitModel" (27 : Nat) ({ cls := "CompactFitModel", name := "leastFree", desc := "()I" } : Jvm.MethodName)) ∈ lw_all := lw_g (lw_at lw_m1 208 rfl) rfl
theorem q225 : (Jvm.Cond.privateMethod ({ cls := "CompactFitModel", name := "leastFree", desc := "()I" } : Jvm.MethodName)) ∈ lw_tbl := lw_at lw_m1 209 rfl
theorem q226 : (Jvm.Cond.instanceMethod ({ cls := "CompactFitModel", name := "leastFree", desc := "()I" } : Jvm.MethodName)) ∈ lw_all := lw_g (lw_at lw_m1 210 rfl) rfl
theorem q227 : (Jvm.Cond.code ({ cls := "CompactFitModel", name := "leastFree", desc := "()I" } : Jvm.MethodName) prog_3_method_7_code (2 : Nat) (Option.some Jvm.ClassFile.FieldType.int)) ∈ lw_all := lw_g (lw_at lw_m1 211 rfl) rfl
theorem q228 : (Jvm.Cond.methodLink "CompactFitModel" (20 : Nat) ({ cls := "CompactFitModel", name := "kindOf", desc := "(I)I" } : Jvm.MethodName)) ∈ lw_all := lw_g (lw_at lw_m1 212 rfl) rfl
theorem q229 : (Jvm.Cond.privateMethod ({ cls := "CompactFitModel", name := "kindOf", desc := "(I)I" } : Jvm.MethodName)) ∈ lw_tbl := lw_at lw_m1 213 rfl
theorem q230 : (Jvm.Cond.instanceMethod ({ cls := "CompactFitModel", name := "kindOf", desc := "(I)I" } : Jvm.MethodName)) ∈ lw_all := lw_g (lw_at lw_m1 214 rfl) rfl
theorem q231 : (Jvm.Cond.code ({ cls := "CompactFitModel", name := "kindOf", desc := "(I)I" } : Jvm.MethodName) prog_3_method_4_code (2 : Nat) (Option.some Jvm.ClassFile.FieldType.int)) ∈ lw_all := lw_g (lw_at lw_m1 215 rfl) rfl
theorem q232 : (Jvm.Cond.methodLink "CompactFitModel" (31 : Nat) ({ cls := "CompactFitModel", name := "needs", desc := "(IIII)I" } : Jvm.MethodName)) ∈ lw_all := lw_g (lw_at lw_m1 216 rfl) rfl
theorem q233 : (Jvm.Cond.privateMethod ({ cls := "CompactFitModel", name := "needs", desc := "(IIII)I" } : Jvm.MethodName)) ∈ lw_tbl := lw_at lw_m1 217 rfl
theorem q234 : (Jvm.Cond.instanceMethod ({ cls := "CompactFitModel", name := "needs", desc := "(IIII)I" } : Jvm.MethodName)) ∈ lw_all := lw_g (lw_at lw_m1 218 rfl) rfl
theorem q235 : (Jvm.Cond.code ({ cls := "CompactFitModel", name := "needs", desc := "(IIII)I" } : Jvm.MethodName) prog_3_method_6_code (9 : Nat) (Option.some Jvm.ClassFile.FieldType.int)) ∈ lw_all := lw_g (lw_at lw_m1 219 rfl) rfl
theorem q236 : (Jvm.Cond.methodLink "CompactFitModel" (24 : Nat) ({ cls := "CompactFitModel", name := "alive", desc := "(I)I" } : Jvm.MethodName)) ∈ lw_all := lw_g (lw_at lw_m1 220 rfl) rfl
theorem q237 : (Jvm.Cond.privateMethod ({ cls := "CompactFitModel", name := "alive", desc := "(I)I" } : Jvm.MethodName)) ∈ lw_tbl := lw_at lw_m1 221 rfl
theorem q238 : (Jvm.Cond.instanceMethod ({ cls := "CompactFitModel", name := "alive", desc := "(I)I" } : Jvm.MethodName)) ∈ lw_all := lw_g (lw_at lw_m1 222 rfl) rfl
theorem q239 : (Jvm.Cond.code ({ cls := "CompactFitModel", name := "alive", desc := "(I)I" } : Jvm.MethodName) prog_3_method_5_code (4 : Nat) (Option.some Jvm.ClassFile.FieldType.int)) ∈ lw_all := lw_g (lw_at lw_m1 223 rfl) rfl
theorem q240 : (Jvm.Cond.methodLink "CompactFitModel" (35 : Nat) ({ cls := "CompactFitModel", name := "wipe", desc := "(I)V" } : Jvm.MethodName)) ∈ lw_all := lw_g (lw_at lw_m1 224 rfl) rfl
theorem q241 : (Jvm.Cond.privateMethod ({ cls := "CompactFitModel", name := "wipe", desc := "(I)V" } : Jvm.MethodName)) ∈ lw_tbl := lw_at lw_m1 225 rfl
theorem q242 : (Jvm.Cond.instanceMethod ({ cls := "CompactFitModel", name := "wipe", desc := "(I)V" } : Jvm.MethodName)) ∈ lw_all := lw_g (lw_at lw_m1 226 rfl) rfl
theorem q243 : (Jvm.Cond.code ({ cls := "CompactFitModel", name := "wipe", desc := "(I)V" } : Jvm.MethodName) prog_3_method_8_code (3 : Nat) (Option.none : Option Jvm.ClassFile.FieldType)) ∈ lw_all := lw_g (lw_at lw_m1 227 rfl) rfl
theorem q245 : (Jvm.Cond.instanceMethod ({ cls := "CompactFitModel", name := "free", desc := "(I)I" } : Jvm.MethodName)) ∈ lw_all := lw_g (lw_at lw_m1 229 rfl) rfl
theorem q246 : (Jvm.Cond.selects "CompactFitModel" ({ cls := "CompactFitModel", name := "free", desc := "(I)I" } : Jvm.MethodName) ({ cls := "CompactFitModel", name := "free", desc := "(I)I" } : Jvm.MethodName)) ∈ lw_all := lw_g (lw_at lw_m1 230 rfl) rfl
theorem q247 : (Jvm.Cond.code ({ cls := "CompactFitModel", name := "free", desc := "(I)I" } : Jvm.MethodName) prog_3_method_10_code (3 : Nat) (Option.some Jvm.ClassFile.FieldType.int)) ∈ lw_all := lw_g (lw_at lw_m1 231 rfl) rfl
theorem q248 : (Jvm.Cond.methodLink "CompactFitModel" (39 : Nat) ({ cls := "CompactFitModel", name := "bad", desc := "(I)Z" } : Jvm.MethodName)) ∈ lw_all := lw_g (lw_at lw_m1 232 rfl) rfl
theorem q249 : (Jvm.Cond.privateMethod ({ cls := "CompactFitModel", name := "bad", desc := "(I)Z" } : Jvm.MethodName)) ∈ lw_tbl := lw_at lw_m1 233 rfl
theorem q250 : (Jvm.Cond.instanceMethod ({ cls := "CompactFitModel", name := "bad", desc := "(I)Z" } : Jvm.MethodName)) ∈ lw_all := lw_g (lw_at lw_m1 234 rfl) rfl
theorem q251 : (Jvm.Cond.code ({ cls := "CompactFitModel", name := "bad", desc := "(I)Z" } : Jvm.MethodName) prog_3_method_3_code (2 : Nat) (Option.some Jvm.ClassFile.FieldType.boolean)) ∈ lw_all := lw_g (lw_at lw_m1 235 rfl) rfl
theorem q253 : (Jvm.Cond.instanceMethod ({ cls := "CompactFitModel", name := "resize", desc := "(II)I" } : Jvm.MethodName)) ∈ lw_all := lw_g (lw_at lw_m1 237 rfl) rfl
theorem q254 : (Jvm.Cond.selects "CompactFitModel" ({ cls := "CompactFitModel", name := "resize", desc := "(II)I" } : Jvm.MethodName) ({ cls := "CompactFitModel", name := "resize", desc := "(II)I" } : Jvm.MethodName)) ∈ lw_all := lw_g (lw_at lw_m1 238 rfl) rfl
theorem q255 : (Jvm.Cond.code ({ cls := "CompactFitModel", name := "resize", desc := "(II)I" } : Jvm.MethodName) prog_3_method_11_code (7 : Nat) (Option.some Jvm.ClassFile.FieldType.int)) ∈ lw_all := lw_g (lw_at lw_m1 239 rfl) rfl
theorem q257 : (Jvm.Cond.instanceMethod ({ cls := "CompactFitModel", name := "copy", desc := "(I)I" } : Jvm.MethodName)) ∈ lw_all := lw_g (lw_at lw_m2 1 rfl) rfl
theorem q258 : (Jvm.Cond.selects "CompactFitModel" ({ cls := "CompactFitModel", name := "copy", desc := "(I)I" } : Jvm.MethodName) ({ cls := "CompactFitModel", name := "copy", desc := "(I)I" } : Jvm.MethodName)) ∈ lw_all := lw_g (lw_at lw_m2 2 rfl) rfl
theorem q259 : (Jvm.Cond.code ({ cls := "CompactFitModel", name := "copy", desc := "(I)I" } : Jvm.MethodName) prog_3_method_12_code (4 : Nat) (Option.some Jvm.ClassFile.FieldType.int)) ∈ lw_all := lw_g (lw_at lw_m2 3 rfl) rfl
theorem q260 : (Jvm.Cond.methodLink "CompactFitModel" (43 : Nat) ({ cls := "CompactFitModel", name := "allocate", desc := "(I)I" } : Jvm.MethodName)) ∈ lw_all := lw_g (lw_at lw_m2 4 rfl) rfl
theorem q262 : (Jvm.Cond.instanceMethod ({ cls := "CompactFitModel", name := "freeClass", desc := "(I)I" } : Jvm.MethodName)) ∈ lw_all := lw_g (lw_at lw_m2 6 rfl) rfl
theorem q263 : (Jvm.Cond.selects "CompactFitModel" ({ cls := "CompactFitModel", name := "freeClass", desc := "(I)I" } : Jvm.MethodName) ({ cls := "CompactFitModel", name := "freeClass", desc := "(I)I" } : Jvm.MethodName)) ∈ lw_all := lw_g (lw_at lw_m2 7 rfl) rfl
theorem q264 : (Jvm.Cond.code ({ cls := "CompactFitModel", name := "freeClass", desc := "(I)I" } : Jvm.MethodName) prog_3_method_13_code (4 : Nat) (Option.some Jvm.ClassFile.FieldType.int)) ∈ lw_all := lw_g (lw_at lw_m2 8 rfl) rfl
theorem q266 : (Jvm.Cond.instanceMethod ({ cls := "CompactFitModel", name := "read", desc := "(II)I" } : Jvm.MethodName)) ∈ lw_all := lw_g (lw_at lw_m2 10 rfl) rfl
theorem q267 : (Jvm.Cond.selects "CompactFitModel" ({ cls := "CompactFitModel", name := "read", desc := "(II)I" } : Jvm.MethodName) ({ cls := "CompactFitModel", name := "read", desc := "(II)I" } : Jvm.MethodName)) ∈ lw_all := lw_g (lw_at lw_m2 11 rfl) rfl
theorem q268 : (Jvm.Cond.code ({ cls := "CompactFitModel", name := "read", desc := "(II)I" } : Jvm.MethodName) prog_3_method_14_code (3 : Nat) (Option.some Jvm.ClassFile.FieldType.int)) ∈ lw_all := lw_g (lw_at lw_m2 12 rfl) rfl
theorem q270 : (Jvm.Cond.instanceMethod ({ cls := "CompactFitModel", name := "write", desc := "(III)I" } : Jvm.MethodName)) ∈ lw_all := lw_g (lw_at lw_m2 14 rfl) rfl
theorem q271 : (Jvm.Cond.selects "CompactFitModel" ({ cls := "CompactFitModel", name := "write", desc := "(III)I" } : Jvm.MethodName) ({ cls := "CompactFitModel", name := "write", desc := "(III)I" } : Jvm.MethodName)) ∈ lw_all := lw_g (lw_at lw_m2 15 rfl) rfl
theorem q272 : (Jvm.Cond.code ({ cls := "CompactFitModel", name := "write", desc := "(III)I" } : Jvm.MethodName) prog_3_method_15_code (4 : Nat) (Option.some Jvm.ClassFile.FieldType.int)) ∈ lw_all := lw_g (lw_at lw_m2 16 rfl) rfl
theorem q274 : (Jvm.Cond.instanceMethod ({ cls := "CompactFitModel", name := "fill", desc := "(III)I" } : Jvm.MethodName)) ∈ lw_all := lw_g (lw_at lw_m2 18 rfl) rfl
theorem q275 : (Jvm.Cond.selects "CompactFitModel" ({ cls := "CompactFitModel", name := "fill", desc := "(III)I" } : Jvm.MethodName) ({ cls := "CompactFitModel", name := "fill", desc := "(III)I" } : Jvm.MethodName)) ∈ lw_all := lw_g (lw_at lw_m2 19 rfl) rfl
theorem q276 : (Jvm.Cond.code ({ cls := "CompactFitModel", name := "fill", desc := "(III)I" } : Jvm.MethodName) prog_3_method_16_code (5 : Nat) (Option.some Jvm.ClassFile.FieldType.int)) ∈ lw_all := lw_g (lw_at lw_m2 20 rfl) rfl
theorem q278 : (Jvm.Cond.instanceMethod ({ cls := "CompactFitModel", name := "exchange", desc := "(II)I" } : Jvm.MethodName)) ∈ lw_all := lw_g (lw_at lw_m2 22 rfl) rfl
theorem q279 : (Jvm.Cond.selects "CompactFitModel" ({ cls := "CompactFitModel", name := "exchange", desc := "(II)I" } : Jvm.MethodName) ({ cls := "CompactFitModel", name := "exchange", desc := "(II)I" } : Jvm.MethodName)) ∈ lw_all := lw_g (lw_at lw_m2 23 rfl) rfl
theorem q280 : (Jvm.Cond.code ({ cls := "CompactFitModel", name := "exchange", desc := "(II)I" } : Jvm.MethodName) prog_3_method_17_code (6 : Nat) (Option.some Jvm.ClassFile.FieldType.int)) ∈ lw_all := lw_g (lw_at lw_m2 24 rfl) rfl
theorem q282 : (Jvm.Cond.instanceMethod ({ cls := "CompactFitModel", name := "size", desc := "(I)I" } : Jvm.MethodName)) ∈ lw_all := lw_g (lw_at lw_m2 26 rfl) rfl
theorem q283 : (Jvm.Cond.selects "CompactFitModel" ({ cls := "CompactFitModel", name := "size", desc := "(I)I" } : Jvm.MethodName) ({ cls := "CompactFitModel", name := "size", desc := "(I)I" } : Jvm.MethodName)) ∈ lw_all := lw_g (lw_at lw_m2 27 rfl) rfl
theorem q284 : (Jvm.Cond.code ({ cls := "CompactFitModel", name := "size", desc := "(I)I" } : Jvm.MethodName) prog_3_method_18_code (2 : Nat) (Option.some Jvm.ClassFile.FieldType.int)) ∈ lw_all := lw_g (lw_at lw_m2 28 rfl) rfl
theorem q286 : (Jvm.Cond.instanceMethod ({ cls := "CompactFitModel", name := "live", desc := "()I" } : Jvm.MethodName)) ∈ lw_all := lw_g (lw_at lw_m2 30 rfl) rfl
theorem q287 : (Jvm.Cond.selects "CompactFitModel" ({ cls := "CompactFitModel", name := "live", desc := "()I" } : Jvm.MethodName) ({ cls := "CompactFitModel", name := "live", desc := "()I" } : Jvm.MethodName)) ∈ lw_all := lw_g (lw_at lw_m2 31 rfl) rfl
theorem q288 : (Jvm.Cond.code ({ cls := "CompactFitModel", name := "live", desc := "()I" } : Jvm.MethodName) prog_3_method_19_code (3 : Nat) (Option.some Jvm.ClassFile.FieldType.int)) ∈ lw_all := lw_g (lw_at lw_m2 32 rfl) rfl
theorem q290 : (Jvm.Cond.instanceMethod ({ cls := "CompactFitModel", name := "liveIn", desc := "(I)I" } : Jvm.MethodName)) ∈ lw_all := lw_g (lw_at lw_m2 34 rfl) rfl
theorem q291 : (Jvm.Cond.selects "CompactFitModel" ({ cls := "CompactFitModel", name := "liveIn", desc := "(I)I" } : Jvm.MethodName) ({ cls := "CompactFitModel", name := "liveIn", desc := "(I)I" } : Jvm.MethodName)) ∈ lw_all := lw_g (lw_at lw_m2 35 rfl) rfl
theorem q292 : (Jvm.Cond.code ({ cls := "CompactFitModel", name := "liveIn", desc := "(I)I" } : Jvm.MethodName) prog_3_method_20_code (2 : Nat) (Option.some Jvm.ClassFile.FieldType.int)) ∈ lw_all := lw_g (lw_at lw_m2 36 rfl) rfl
theorem q294 : (Jvm.Cond.instanceMethod ({ cls := "CompactFitModel", name := "needed", desc := "()I" } : Jvm.MethodName)) ∈ lw_all := lw_g (lw_at lw_m2 38 rfl) rfl
theorem q295 : (Jvm.Cond.selects "CompactFitModel" ({ cls := "CompactFitModel", name := "needed", desc := "()I" } : Jvm.MethodName) ({ cls := "CompactFitModel", name := "needed", desc := "()I" } : Jvm.MethodName)) ∈ lw_all := lw_g (lw_at lw_m2 39 rfl) rfl
theorem q296 : (Jvm.Cond.code ({ cls := "CompactFitModel", name := "needed", desc := "()I" } : Jvm.MethodName) prog_3_method_21_code (1 : Nat) (Option.some Jvm.ClassFile.FieldType.int)) ∈ lw_all := lw_g (lw_at lw_m2 40 rfl) rfl
theorem q298 : (Jvm.Cond.instanceMethod ({ cls := "CompactFitModel", name := "roomFor", desc := "(I)I" } : Jvm.MethodName)) ∈ lw_all := lw_g (lw_at lw_m2 42 rfl) rfl
theorem q299 : (Jvm.Cond.selects "CompactFitModel" ({ cls := "CompactFitModel", name := "roomFor", desc := "(I)I" } : Jvm.MethodName) ({ cls := "CompactFitModel", name := "roomFor", desc := "(I)I" } : Jvm.MethodName)) ∈ lw_all := lw_g (lw_at lw_m2 43 rfl) rfl
theorem q300 : (Jvm.Cond.code ({ cls := "CompactFitModel", name := "roomFor", desc := "(I)I" } : Jvm.MethodName) prog_3_method_22_code (4 : Nat) (Option.some Jvm.ClassFile.FieldType.int)) ∈ lw_all := lw_g (lw_at lw_m2 44 rfl) rfl
theorem q302 : (Jvm.Cond.instanceMethod ({ cls := "CompactFitModel", name := "sum", desc := "(I)I" } : Jvm.MethodName)) ∈ lw_all := lw_g (lw_at lw_m2 46 rfl) rfl
theorem q303 : (Jvm.Cond.selects "CompactFitModel" ({ cls := "CompactFitModel", name := "sum", desc := "(I)I" } : Jvm.MethodName) ({ cls := "CompactFitModel", name := "sum", desc := "(I)I" } : Jvm.MethodName)) ∈ lw_all := lw_g (lw_at lw_m2 47 rfl) rfl
theorem q304 : (Jvm.Cond.code ({ cls := "CompactFitModel", name := "sum", desc := "(I)I" } : Jvm.MethodName) prog_3_method_23_code (4 : Nat) (Option.some Jvm.ClassFile.FieldType.int)) ∈ lw_all := lw_g (lw_at lw_m2 48 rfl) rfl
theorem q306 : (Jvm.Cond.instanceMethod ({ cls := "CompactFitModel", name := "next", desc := "(I)I" } : Jvm.MethodName)) ∈ lw_all := lw_g (lw_at lw_m2 50 rfl) rfl
theorem q307 : (Jvm.Cond.selects "CompactFitModel" ({ cls := "CompactFitModel", name := "next", desc := "(I)I" } : Jvm.MethodName) ({ cls := "CompactFitModel", name := "next", desc := "(I)I" } : Jvm.MethodName)) ∈ lw_all := lw_g (lw_at lw_m2 51 rfl) rfl
theorem q308 : (Jvm.Cond.code ({ cls := "CompactFitModel", name := "next", desc := "(I)I" } : Jvm.MethodName) prog_3_method_24_code (3 : Nat) (Option.some Jvm.ClassFile.FieldType.int)) ∈ lw_all := lw_g (lw_at lw_m2 52 rfl) rfl
theorem q310 : (Jvm.Cond.instanceMethod ({ cls := "CompactFitModel", name := "count", desc := "(I)I" } : Jvm.MethodName)) ∈ lw_all := lw_g (lw_at lw_m2 54 rfl) rfl
theorem q311 : (Jvm.Cond.selects "CompactFitModel" ({ cls := "CompactFitModel", name := "count", desc := "(I)I" } : Jvm.MethodName) ({ cls := "CompactFitModel", name := "count", desc := "(I)I" } : Jvm.MethodName)) ∈ lw_all := lw_g (lw_at lw_m2 55 rfl) rfl
theorem q312 : (Jvm.Cond.code ({ cls := "CompactFitModel", name := "count", desc := "(I)I" } : Jvm.MethodName) prog_3_method_25_code (5 : Nat) (Option.some Jvm.ClassFile.FieldType.int)) ∈ lw_all := lw_g (lw_at lw_m2 56 rfl) rfl
theorem q314 : (Jvm.Cond.instanceMethod ({ cls := "CompactFitModel", name := "faults", desc := "()I" } : Jvm.MethodName)) ∈ lw_all := lw_g (lw_at lw_m2 58 rfl) rfl
theorem q315 : (Jvm.Cond.selects "CompactFitModel" ({ cls := "CompactFitModel", name := "faults", desc := "()I" } : Jvm.MethodName) ({ cls := "CompactFitModel", name := "faults", desc := "()I" } : Jvm.MethodName)) ∈ lw_all := lw_g (lw_at lw_m2 59 rfl) rfl
theorem q316 : (Jvm.Cond.code ({ cls := "CompactFitModel", name := "faults", desc := "()I" } : Jvm.MethodName) prog_3_method_26_code (1 : Nat) (Option.some Jvm.ClassFile.FieldType.int)) ∈ lw_all := lw_g (lw_at lw_m2 60 rfl) rfl
theorem in_X2 : ∀ w ∈ wsX20, w ∈ lw_all := lw_in wsX20 [209, 211, 213] (by decide +kernel) (by decide +kernel)

/-! the law's own entry -/
abbrev cL_law : ByteArray := code

theorem q67 : (Jvm.Cond.arrayClass Jvm.ClassFile.FieldType.int) ∈ lw_all := lw_g (lw_at lw_m1 51 rfl) rfl
end
section
set_option maxRecDepth 100000
theorem dX1_init_0 : decode cX1_init 0 = .ok (.aload_n 0, 1) := by decide +kernel
theorem dX1_init_1 : decode cX1_init 1 = .ok (.invokespecial 1, 3) := by decide +kernel
theorem dX1_init_4 : decode cX1_init 4 = .ok (.aload_n 0, 1) := by decide +kernel
theorem dX1_init_5 : decode cX1_init 5 = .ok (.sipush 192, 3) := by decide +kernel
theorem dX1_init_8 : decode cX1_init 8 = .ok (.newarray .int, 2) := by decide +kernel
theorem dX1_init_10 : decode cX1_init 10 = .ok (.putfield 7, 3) := by decide +kernel
theorem dX1_init_13 : decode cX1_init 13 = .ok (.aload_n 0, 1) := by decide +kernel
theorem dX1_init_14 : decode cX1_init 14 = .ok (.bipush 12, 2) := by decide +kernel
theorem dX1_init_16 : decode cX1_init 16 = .ok (.newarray .int, 2) := by decide +kernel
theorem dX1_init_18 : decode cX1_init 18 = .ok (.putfield 13, 3) := by decide +kernel
theorem dX1_init_21 : decode cX1_init 21 = .ok (.aload_n 0, 1) := by decide +kernel
theorem dX1_init_22 : decode cX1_init 22 = .ok (.bipush 12, 2) := by decide +kernel
theorem dX1_init_24 : decode cX1_init 24 = .ok (.newarray .int, 2) := by decide +kernel
theorem dX1_init_26 : decode cX1_init 26 = .ok (.putfield 16, 3) := by decide +kernel
theorem dX1_init_29 : decode cX1_init 29 = .ok (.aload_n 0, 1) := by decide +kernel
theorem dX1_init_30 : decode cX1_init 30 = .ok (.bipush 96, 2) := by decide +kernel
theorem dX1_init_32 : decode cX1_init 32 = .ok (.newarray .int, 2) := by decide +kernel
theorem dX1_init_34 : decode cX1_init 34 = .ok (.putfield 19, 3) := by decide +kernel
theorem dX1_init_37 : decode cX1_init 37 = .ok (.aload_n 0, 1) := by decide +kernel
theorem dX1_init_38 : decode cX1_init 38 = .ok (.bipush 64, 2) := by decide +kernel
theorem dX1_init_40 : decode cX1_init 40 = .ok (.newarray .int, 2) := by decide +kernel
theorem dX1_init_42 : decode cX1_init 42 = .ok (.putfield 22, 3) := by decide +kernel
theorem dX1_init_45 : decode cX1_init 45 = .ok (.aload_n 0, 1) := by decide +kernel
theorem dX1_init_46 : decode cX1_init 46 = .ok (.bipush 64, 2) := by decide +kernel
theorem dX1_init_48 : decode cX1_init 48 = .ok (.newarray .int, 2) := by decide +kernel
theorem dX1_init_50 : decode cX1_init 50 = .ok (.putfield 25, 3) := by decide +kernel
theorem dX1_init_53 : decode cX1_init 53 = .ok (.aload_n 0, 1) := by decide +kernel
theorem dX1_init_54 : decode cX1_init 54 = .ok (.bipush 64, 2) := by decide +kernel
theorem dX1_init_56 : decode cX1_init 56 = .ok (.newarray .int, 2) := by decide +kernel
theorem dX1_init_58 : decode cX1_init 58 = .ok (.putfield 28, 3) := by decide +kernel
theorem dX1_init_61 : decode cX1_init 61 = .ok (.aload_n 0, 1) := by decide +kernel
theorem dX1_init_62 : decode cX1_init 62 = .ok (.iconst 4, 1) := by decide +kernel
theorem dX1_init_63 : decode cX1_init 63 = .ok (.newarray .int, 2) := by decide +kernel
theorem dX1_init_65 : decode cX1_init 65 = .ok (.putfield 31, 3) := by decide +kernel
theorem dX1_init_68 : decode cX1_init 68 = .ok (.aload_n 0, 1) := by decide +kernel
theorem dX1_init_69 : decode cX1_init 69 = .ok (.iconst 4, 1) := by decide +kernel
theorem dX1_init_70 : decode cX1_init 70 = .ok (.newarray .int, 2) := by decide +kernel
theorem dX1_init_72 : decode cX1_init 72 = .ok (.putfield 34, 3) := by decide +kernel
theorem dX1_init_75 : decode cX1_init 75 = .ok (.aload_n 0, 1) := by decide +kernel
theorem dX1_init_76 : decode cX1_init 76 = .ok (.bipush 16, 2) := by decide +kernel
theorem dX1_init_78 : decode cX1_init 78 = .ok (.newarray .int, 2) := by decide +kernel
theorem dX1_init_80 : decode cX1_init 80 = .ok (.putfield 37, 3) := by decide +kernel
theorem dX1_init_83 : decode cX1_init 83 = .ok (.aload_n 0, 1) := by decide +kernel
theorem dX1_init_84 : decode cX1_init 84 = .ok (.iload_n 1, 1) := by decide +kernel
theorem dX1_init_85 : decode cX1_init 85 = .ok (.iconst 2, 1) := by decide +kernel
theorem dX1_init_86 : decode cX1_init 86 = .ok (.if_icmp .ge 7, 3) := by decide +kernel
theorem dX1_init_89 : decode cX1_init 89 = .ok (.iconst 2, 1) := by decide +kernel
theorem dX1_init_90 : decode cX1_init 90 = .ok (.goto 4, 3) := by decide +kernel
theorem dX1_init_93 : decode cX1_init 93 = .ok (.iload_n 1, 1) := by decide +kernel
theorem dX1_init_94 : decode cX1_init 94 = .ok (.putfield 40, 3) := by decide +kernel
theorem dX1_init_97 : decode cX1_init 97 = .ok (.aload_n 0, 1) := by decide +kernel
theorem dX1_init_98 : decode cX1_init 98 = .ok (.getfield 40, 3) := by decide +kernel
theorem dX1_init_101 : decode cX1_init 101 = .ok (.bipush 12, 2) := by decide +kernel
theorem dX1_init_103 : decode cX1_init 103 = .ok (.if_icmp .le 9, 3) := by decide +kernel
theorem dX1_init_106 : decode cX1_init 106 = .ok (.aload_n 0, 1) := by decide +kernel
theorem dX1_init_107 : decode cX1_init 107 = .ok (.bipush 12, 2) := by decide +kernel
theorem dX1_init_109 : decode cX1_init 109 = .ok (.putfield 40, 3) := by decide +kernel
theorem dX1_init_112 : decode cX1_init 112 = .ok (.aload_n 0, 1) := by decide +kernel
theorem dX1_init_113 : decode cX1_init 113 = .ok (.aload_n 0, 1) := by decide +kernel
theorem dX1_init_114 : decode cX1_init 114 = .ok (.getfield 40, 3) := by decide +kernel
theorem dX1_init_117 : decode cX1_init 117 = .ok (.putfield 44, 3) := by decide +kernel
theorem dX1_init_120 : decode cX1_init 120 = .ok (.iconst 0, 1) := by decide +kernel
theorem dX1_init_121 : decode cX1_init 121 = .ok (.istore_n 2, 1) := by decide +kernel
theorem dX1_init_122 : decode cX1_init 122 = .ok (.iload_n 2, 1) := by decide +kernel
theorem dX1_init_123 : decode cX1_init 123 = .ok (.bipush 12, 2) := by decide +kernel
theorem dX1_init_125 : decode cX1_init 125 = .ok (.if_icmp .ge 16, 3) := by decide +kernel
theorem dX1_init_128 : decode cX1_init 128 = .ok (.aload_n 0, 1) := by decide +kernel
theorem dX1_init_129 : decode cX1_init 129 = .ok (.getfield 13, 3) := by decide +kernel
theorem dX1_init_132 : decode cX1_init 132 = .ok (.iload_n 2, 1) := by decide +kernel
theorem dX1_init_133 : decode cX1_init 133 = .ok (.iconst (-1), 1) := by decide +kernel
theorem dX1_init_134 : decode cX1_init 134 = .ok (.iastore, 1) := by decide +kernel
theorem dX1_init_135 : decode cX1_init 135 = .ok (.iinc 2 1, 3) := by decide +kernel
theorem dX1_init_138 : decode cX1_init 138 = .ok (.goto (-16), 3) := by decide +kernel
theorem dX1_init_141 : decode cX1_init 141 = .ok (.iconst 0, 1) := by decide +kernel
theorem dX1_init_142 : decode cX1_init 142 = .ok (.istore_n 2, 1) := by decide +kernel
theorem dX1_init_143 : decode cX1_init 143 = .ok (.iload_n 2, 1) := by decide +kernel
theorem dX1_init_144 : decode cX1_init 144 = .ok (.bipush 96, 2) := by decide +kernel
theorem dX1_init_146 : decode cX1_init 146 = .ok (.if_icmp .ge 16, 3) := by decide +kernel
theorem dX1_init_149 : decode cX1_init 149 = .ok (.aload_n 0, 1) := by decide +kernel
theorem dX1_init_150 : decode cX1_init 150 = .ok (.getfield 19, 3) := by decide +kernel
theorem dX1_init_153 : decode cX1_init 153 = .ok (.iload_n 2, 1) := by decide +kernel
theorem dX1_init_154 : decode cX1_init 154 = .ok (.iconst (-1), 1) := by decide +kernel
theorem dX1_init_155 : decode cX1_init 155 = .ok (.iastore, 1) := by decide +kernel
theorem dX1_init_156 : decode cX1_init 156 = .ok (.iinc 2 1, 3) := by decide +kernel
theorem dX1_init_159 : decode cX1_init 159 = .ok (.goto (-16), 3) := by decide +kernel
theorem dX1_init_162 : decode cX1_init 162 = .ok (.iconst 0, 1) := by decide +kernel
theorem dX1_init_163 : decode cX1_init 163 = .ok (.istore_n 2, 1) := by decide +kernel
theorem dX1_init_164 : decode cX1_init 164 = .ok (.iload_n 2, 1) := by decide +kernel
theorem dX1_init_165 : decode cX1_init 165 = .ok (.iconst 4, 1) := by decide +kernel
theorem dX1_init_166 : decode cX1_init 166 = .ok (.if_icmp .ge 16, 3) := by decide +kernel
theorem dX1_init_169 : decode cX1_init 169 = .ok (.aload_n 0, 1) := by decide +kernel
theorem dX1_init_170 : decode cX1_init 170 = .ok (.getfield 31, 3) := by decide +kernel
theorem dX1_init_173 : decode cX1_init 173 = .ok (.iload_n 2, 1) := by decide +kernel
theorem dX1_init_174 : decode cX1_init 174 = .ok (.iconst (-1), 1) := by decide +kernel
theorem dX1_init_175 : decode cX1_init 175 = .ok (.iastore, 1) := by decide +kernel
theorem dX1_init_176 : decode cX1_init 176 = .ok (.iinc 2 1, 3) := by decide +kernel
theorem dX1_init_179 : decode cX1_init 179 = .ok (.goto (-15), 3) := by decide +kernel
theorem dX1_init_182 : decode cX1_init 182 = .ok (.return_, 1) := by decide +kernel
theorem dX1_pages_0 : decode cX1_pages 0 = .ok (.aload_n 0, 1) := by decide +kernel
theorem dX1_pages_1 : decode cX1_pages 1 = .ok (.getfield 40, 3) := by decide +kernel
theorem dX1_pages_4 : decode cX1_pages 4 = .ok (.ireturn, 1) := by decide +kernel
theorem dX1_allocate_0 : decode cX1_allocate 0 = .ok (.iload_n 1, 1) := by decide +kernel
theorem dX1_allocate_1 : decode cX1_allocate 1 = .ok (.invokestatic 47, 3) := by decide +kernel
theorem dX1_allocate_4 : decode cX1_allocate 4 = .ok (.ifCond .ne 5, 3) := by decide +kernel
theorem dX1_allocate_7 : decode cX1_allocate 7 = .ok (.iconst (-1), 1) := by decide +kernel
theorem dX1_allocate_8 : decode cX1_allocate 8 = .ok (.ireturn, 1) := by decide +kernel
theorem dX1_allocate_9 : decode cX1_allocate 9 = .ok (.aload_n 0, 1) := by decide +kernel
theorem dX1_allocate_10 : decode cX1_allocate 10 = .ok (.getfield 51, 3) := by decide +kernel
theorem dX1_allocate_13 : decode cX1_allocate 13 = .ok (.bipush 64, 2) := by decide +kernel
theorem dX1_allocate_15 : decode cX1_allocate 15 = .ok (.if_icmp .ne 6, 3) := by decide +kernel
theorem dX1_allocate_18 : decode cX1_allocate 18 = .ok (.bipush (-2), 2) := by decide +kernel
theorem dX1_allocate_20 : decode cX1_allocate 20 = .ok (.ireturn, 1) := by decide +kernel
theorem dX1_allocate_21 : decode cX1_allocate 21 = .ok (.iload_n 1, 1) := by decide +kernel
theorem dX1_allocate_22 : decode cX1_allocate 22 = .ok (.invokestatic 54, 3) := by decide +kernel
theorem dX1_allocate_25 : decode cX1_allocate 25 = .ok (.istore_n 2, 1) := by decide +kernel
theorem dX1_allocate_26 : decode cX1_allocate 26 = .ok (.aload_n 0, 1) := by decide +kernel
theorem dX1_allocate_27 : decode cX1_allocate 27 = .ok (.getfield 31, 3) := by decide +kernel
theorem dX1_allocate_30 : decode cX1_allocate 30 = .ok (.iload_n 2, 1) := by decide +kernel
theorem dX1_allocate_31 : decode cX1_allocate 31 = .ok (.iaload, 1) := by decide +kernel
theorem dX1_allocate_32 : decode cX1_allocate 32 = .ok (.iconst (-1), 1) := by decide +kernel
theorem dX1_allocate_33 : decode cX1_allocate 33 = .ok (.if_icmp .ne 13, 3) := by decide +kernel
theorem dX1_allocate_36 : decode cX1_allocate 36 = .ok (.aload_n 0, 1) := by decide +kernel
theorem dX1_allocate_37 : decode cX1_allocate 37 = .ok (.getfield 44, 3) := by decide +kernel
theorem dX1_allocate_40 : decode cX1_allocate 40 = .ok (.ifCond .ne 6, 3) := by decide +kernel
theorem dX1_allocate_43 : decode cX1_allocate 43 = .ok (.bipush (-3), 2) := by decide +kernel
theorem dX1_allocate_45 : decode cX1_allocate 45 = .ok (.ireturn, 1) := by decide +kernel
theorem dX1_allocate_46 : decode cX1_allocate 46 = .ok (.aload_n 0, 1) := by decide +kernel
theorem dX1_allocate_47 : decode cX1_allocate 47 = .ok (.invokevirtual 58, 3) := by decide +kernel
theorem dX1_allocate_50 : decode cX1_allocate 50 = .ok (.istore_n 3, 1) := by decide +kernel
theorem dX1_allocate_51 : decode cX1_allocate 51 = .ok (.aload_n 0, 1) := by decide +kernel
theorem dX1_allocate_52 : decode cX1_allocate 52 = .ok (.getfield 28, 3) := by decide +kernel
theorem dX1_allocate_55 : decode cX1_allocate 55 = .ok (.iload_n 3, 1) := by decide +kernel
theorem dX1_allocate_56 : decode cX1_allocate 56 = .ok (.iload_n 1, 1) := by decide +kernel
theorem dX1_allocate_57 : decode cX1_allocate 57 = .ok (.iastore, 1) := by decide +kernel
theorem dX1_allocate_58 : decode cX1_allocate 58 = .ok (.aload_n 0, 1) := by decide +kernel
theorem dX1_allocate_59 : decode cX1_allocate 59 = .ok (.iload_n 3, 1) := by decide +kernel
theorem dX1_allocate_60 : decode cX1_allocate 60 = .ok (.iload_n 2, 1) := by decide +kernel
theorem dX1_allocate_61 : decode cX1_allocate 61 = .ok (.invokevirtual 62, 3) := by decide +kernel
theorem dX1_allocate_64 : decode cX1_allocate 64 = .ok (.aload_n 0, 1) := by decide +kernel
theorem dX1_allocate_65 : decode cX1_allocate 65 = .ok (.iload_n 3, 1) := by decide +kernel
theorem dX1_allocate_66 : decode cX1_allocate 66 = .ok (.iconst 0, 1) := by decide +kernel
theorem dX1_allocate_67 : decode cX1_allocate 67 = .ok (.iload_n 1, 1) := by decide +kernel
theorem dX1_allocate_68 : decode cX1_allocate 68 = .ok (.invokevirtual 66, 3) := by decide +kernel
theorem dX1_allocate_71 : decode cX1_allocate 71 = .ok (.iload_n 3, 1) := by decide +kernel
theorem dX1_allocate_72 : decode cX1_allocate 72 = .ok (.ireturn, 1) := by decide +kernel
theorem dX1_isSize_0 : decode cX1_isSize 0 = .ok (.iload_n 0, 1) := by decide +kernel
theorem dX1_isSize_1 : decode cX1_isSize 1 = .ok (.iconst 1, 1) := by decide +kernel
theorem dX1_isSize_2 : decode cX1_isSize 2 = .ok (.if_icmp .lt 13, 3) := by decide +kernel
theorem dX1_isSize_5 : decode cX1_isSize 5 = .ok (.iload_n 0, 1) := by decide +kernel
theorem dX1_isSize_6 : decode cX1_isSize 6 = .ok (.bipush 16, 2) := by decide +kernel
theorem dX1_isSize_8 : decode cX1_isSize 8 = .ok (.if_icmp .gt 7, 3) := by decide +kernel
theorem dX1_isSize_11 : decode cX1_isSize 11 = .ok (.iconst 1, 1) := by decide +kernel
theorem dX1_isSize_12 : decode cX1_isSize 12 = .ok (.goto 4, 3) := by decide +kernel
theorem dX1_isSize_15 : decode cX1_isSize 15 = .ok (.iconst 0, 1) := by decide +kernel
theorem dX1_isSize_16 : decode cX1_isSize 16 = .ok (.ireturn, 1) := by decide +kernel
theorem dX1_kindOf_0 : decode cX1_kindOf 0 = .ok (.iload_n 0, 1) := by decide +kernel
theorem dX1_kindOf_1 : decode cX1_kindOf 1 = .ok (.iconst 2, 1) := by decide +kernel
theorem dX1_kindOf_2 : decode cX1_kindOf 2 = .ok (.if_icmp .gt 5, 3) := by decide +kernel
theorem dX1_kindOf_5 : decode cX1_kindOf 5 = .ok (.iconst 0, 1) := by decide +kernel
theorem dX1_kindOf_6 : decode cX1_kindOf 6 = .ok (.ireturn, 1) := by decide +kernel
theorem dX1_kindOf_7 : decode cX1_kindOf 7 = .ok (.iload_n 0, 1) := by decide +kernel
theorem dX1_kindOf_8 : decode cX1_kindOf 8 = .ok (.iconst 4, 1) := by decide +kernel
theorem dX1_kindOf_9 : decode cX1_kindOf 9 = .ok (.if_icmp .gt 5, 3) := by decide +kernel
theorem dX1_kindOf_12 : decode cX1_kindOf 12 = .ok (.iconst 1, 1) := by decide +kernel
theorem dX1_kindOf_13 : decode cX1_kindOf 13 = .ok (.ireturn, 1) := by decide +kernel
theorem dX1_kindOf_14 : decode cX1_kindOf 14 = .ok (.iload_n 0, 1) := by decide +kernel
theorem dX1_kindOf_15 : decode cX1_kindOf 15 = .ok (.bipush 8, 2) := by decide +kernel
theorem dX1_kindOf_17 : decode cX1_kindOf 17 = .ok (.if_icmp .gt 7, 3) := by decide +kernel
theorem dX1_kindOf_20 : decode cX1_kindOf 20 = .ok (.iconst 2, 1) := by decide +kernel
theorem dX1_kindOf_21 : decode cX1_kindOf 21 = .ok (.goto 4, 3) := by decide +kernel
theorem dX1_kindOf_24 : decode cX1_kindOf 24 = .ok (.iconst 3, 1) := by decide +kernel
theorem dX1_kindOf_25 : decode cX1_kindOf 25 = .ok (.ireturn, 1) := by decide +kernel
theorem dX1_leastFree_0 : decode cX1_leastFree 0 = .ok (.iconst 0, 1) := by decide +kernel
theorem dX1_leastFree_1 : decode cX1_leastFree 1 = .ok (.istore_n 1, 1) := by decide +kernel
theorem dX1_leastFree_2 : decode cX1_leastFree 2 = .ok (.iload_n 1, 1) := by decide +kernel
theorem dX1_leastFree_3 : decode cX1_leastFree 3 = .ok (.bipush 64, 2) := by decide +kernel
theorem dX1_leastFree_5 : decode cX1_leastFree 5 = .ok (.if_icmp .ge 20, 3) := by decide +kernel
theorem dX1_leastFree_8 : decode cX1_leastFree 8 = .ok (.aload_n 0, 1) := by decide +kernel
theorem dX1_leastFree_9 : decode cX1_leastFree 9 = .ok (.getfield 28, 3) := by decide +kernel
theorem dX1_leastFree_12 : decode cX1_leastFree 12 = .ok (.iload_n 1, 1) := by decide +kernel
theorem dX1_leastFree_13 : decode cX1_leastFree 13 = .ok (.iaload, 1) := by decide +kernel
theorem dX1_leastFree_14 : decode cX1_leastFree 14 = .ok (.ifCond .ne 5, 3) := by decide +kernel
theorem dX1_leastFree_17 : decode cX1_leastFree 17 = .ok (.iload_n 1, 1) := by decide +kernel
theorem dX1_leastFree_18 : decode cX1_leastFree 18 = .ok (.ireturn, 1) := by decide +kernel
theorem dX1_leastFree_19 : decode cX1_leastFree 19 = .ok (.iinc 1 1, 3) := by decide +kernel
theorem dX1_leastFree_22 : decode cX1_leastFree 22 = .ok (.goto (-20), 3) := by decide +kernel
theorem dX1_leastFree_25 : decode cX1_leastFree 25 = .ok (.iconst 0, 1) := by decide +kernel
theorem dX1_leastFree_26 : decode cX1_leastFree 26 = .ok (.ireturn, 1) := by decide +kernel
theorem dX1_placeObject_0 : decode cX1_placeObject 0 = .ok (.aload_n 0, 1) := by decide +kernel
theorem dX1_placeObject_1 : decode cX1_placeObject 1 = .ok (.getfield 31, 3) := by decide +kernel
theorem dX1_placeObject_4 : decode cX1_placeObject 4 = .ok (.iload_n 2, 1) := by decide +kernel
theorem dX1_placeObject_5 : decode cX1_placeObject 5 = .ok (.iaload, 1) := by decide +kernel
theorem dX1_placeObject_6 : decode cX1_placeObject 6 = .ok (.istore_n 3, 1) := by decide +kernel
theorem dX1_placeObject_7 : decode cX1_placeObject 7 = .ok (.iload_n 3, 1) := by decide +kernel
theorem dX1_placeObject_8 : decode cX1_placeObject 8 = .ok (.iconst (-1), 1) := by decide +kernel
theorem dX1_placeObject_9 : decode cX1_placeObject 9 = .ok (.if_icmp .ne 58, 3) := by decide +kernel
theorem dX1_placeObject_12 : decode cX1_placeObject 12 = .ok (.iconst 0, 1) := by decide +kernel
theorem dX1_placeObject_13 : decode cX1_placeObject 13 = .ok (.istore_n 3, 1) := by decide +kernel
theorem dX1_placeObject_14 : decode cX1_placeObject 14 = .ok (.iload_n 3, 1) := by decide +kernel
theorem dX1_placeObject_15 : decode cX1_placeObject 15 = .ok (.bipush 11, 2) := by decide +kernel
theorem dX1_placeObject_17 : decode cX1_placeObject 17 = .ok (.if_icmp .ge 19, 3) := by decide +kernel
theorem dX1_placeObject_20 : decode cX1_placeObject 20 = .ok (.aload_n 0, 1) := by decide +kernel
theorem dX1_placeObject_21 : decode cX1_placeObject 21 = .ok (.getfield 13, 3) := by decide +kernel
theorem dX1_placeObject_24 : decode cX1_placeObject 24 = .ok (.iload_n 3, 1) := by decide +kernel
theorem dX1_placeObject_25 : decode cX1_placeObject 25 = .ok (.iaload, 1) := by decide +kernel
theorem dX1_placeObject_26 : decode cX1_placeObject 26 = .ok (.iconst (-1), 1) := by decide +kernel
theorem dX1_placeObject_27 : decode cX1_placeObject 27 = .ok (.if_icmp .eq 9, 3) := by decide +kernel
theorem dX1_placeObject_30 : decode cX1_placeObject 30 = .ok (.iinc 3 1, 3) := by decide +kernel
theorem dX1_placeObject_33 : decode cX1_placeObject 33 = .ok (.goto (-19), 3) := by decide +kernel
theorem dX1_placeObject_36 : decode cX1_placeObject 36 = .ok (.aload_n 0, 1) := by decide +kernel
theorem dX1_placeObject_37 : decode cX1_placeObject 37 = .ok (.getfield 13, 3) := by decide +kernel
theorem dX1_placeObject_40 : decode cX1_placeObject 40 = .ok (.iload_n 3, 1) := by decide +kernel
theorem dX1_placeObject_41 : decode cX1_placeObject 41 = .ok (.iload_n 2, 1) := by decide +kernel
theorem dX1_placeObject_42 : decode cX1_placeObject 42 = .ok (.iastore, 1) := by decide +kernel
theorem dX1_placeObject_43 : decode cX1_placeObject 43 = .ok (.aload_n 0, 1) := by decide +kernel
theorem dX1_placeObject_44 : decode cX1_placeObject 44 = .ok (.getfield 16, 3) := by decide +kernel
theorem dX1_placeObject_47 : decode cX1_placeObject 47 = .ok (.iload_n 3, 1) := by decide +kernel
theorem dX1_placeObject_48 : decode cX1_placeObject 48 = .ok (.iconst 0, 1) := by decide +kernel
theorem dX1_placeObject_49 : decode cX1_placeObject 49 = .ok (.iastore, 1) := by decide +kernel
theorem dX1_placeObject_50 : decode cX1_placeObject 50 = .ok (.aload_n 0, 1) := by decide +kernel
theorem dX1_placeObject_51 : decode cX1_placeObject 51 = .ok (.dup, 1) := by decide +kernel
theorem dX1_placeObject_52 : decode cX1_placeObject 52 = .ok (.getfield 44, 3) := by decide +kernel
theorem dX1_placeObject_55 : decode cX1_placeObject 55 = .ok (.iconst 1, 1) := by decide +kernel
theorem dX1_placeObject_56 : decode cX1_placeObject 56 = .ok (.isub, 1) := by decide +kernel
theorem dX1_placeObject_57 : decode cX1_placeObject 57 = .ok (.putfield 44, 3) := by decide +kernel
theorem dX1_placeObject_60 : decode cX1_placeObject 60 = .ok (.aload_n 0, 1) := by decide +kernel
theorem dX1_placeObject_61 : decode cX1_placeObject 61 = .ok (.getfield 31, 3) := by decide +kernel
theorem dX1_placeObject_64 : decode cX1_placeObject 64 = .ok (.iload_n 2, 1) := by decide +kernel
theorem dX1_placeObject_65 : decode cX1_placeObject 65 = .ok (.iload_n 3, 1) := by decide +kernel
theorem dX1_placeObject_66 : decode cX1_placeObject 66 = .ok (.iastore, 1) := by decide +kernel
theorem dX1_placeObject_67 : decode cX1_placeObject 67 = .ok (.iload_n 2, 1) := by decide +kernel
theorem dX1_placeObject_68 : decode cX1_placeObject 68 = .ok (.invokestatic 93, 3) := by decide +kernel
theorem dX1_placeObject_71 : decode cX1_placeObject 71 = .ok (.istore 4, 2) := by decide +kernel
theorem dX1_placeObject_73 : decode cX1_placeObject 73 = .ok (.iconst 0, 1) := by decide +kernel
theorem dX1_placeObject_74 : decode cX1_placeObject 74 = .ok (.istore 5, 2) := by decide +kernel
theorem dX1_placeObject_76 : decode cX1_placeObject 76 = .ok (.iload 5, 2) := by decide +kernel
theorem dX1_placeObject_78 : decode cX1_placeObject 78 = .ok (.iload 4, 2) := by decide +kernel
theorem dX1_placeObject_80 : decode cX1_placeObject 80 = .ok (.iconst 1, 1) := by decide +kernel
theorem dX1_placeObject_81 : decode cX1_placeObject 81 = .ok (.isub, 1) := by decide +kernel
theorem dX1_placeObject_82 : decode cX1_placeObject 82 = .ok (.if_icmp .ge 25, 3) := by decide +kernel
theorem dX1_placeObject_85 : decode cX1_placeObject 85 = .ok (.aload_n 0, 1) := by decide +kernel
theorem dX1_placeObject_86 : decode cX1_placeObject 86 = .ok (.getfield 19, 3) := by decide +kernel
theorem dX1_placeObject_89 : decode cX1_placeObject 89 = .ok (.bipush 8, 2) := by decide +kernel
theorem dX1_placeObject_91 : decode cX1_placeObject 91 = .ok (.iload_n 3, 1) := by decide +kernel
theorem dX1_placeObject_92 : decode cX1_placeObject 92 = .ok (.imul, 1) := by decide +kernel
theorem dX1_placeObject_93 : decode cX1_placeObject 93 = .ok (.iload 5, 2) := by decide +kernel
theorem dX1_placeObject_95 : decode cX1_placeObject 95 = .ok (.iadd, 1) := by decide +kernel
theorem dX1_placeObject_96 : decode cX1_placeObject 96 = .ok (.iaload, 1) := by decide +kernel
theorem dX1_placeObject_97 : decode cX1_placeObject 97 = .ok (.iconst (-1), 1) := by decide +kernel
theorem dX1_placeObject_98 : decode cX1_placeObject 98 = .ok (.if_icmp .eq 9, 3) := by decide +kernel
theorem dX1_placeObject_101 : decode cX1_placeObject 101 = .ok (.iinc 5 1, 3) := by decide +kernel
theorem dX1_placeObject_104 : decode cX1_placeObject 104 = .ok (.goto (-28), 3) := by decide +kernel
theorem dX1_placeObject_107 : decode cX1_placeObject 107 = .ok (.aload_n 0, 1) := by decide +kernel
theorem dX1_placeObject_108 : decode cX1_placeObject 108 = .ok (.getfield 19, 3) := by decide +kernel
theorem dX1_placeObject_111 : decode cX1_placeObject 111 = .ok (.bipush 8, 2) := by decide +kernel
theorem dX1_placeObject_113 : decode cX1_placeObject 113 = .ok (.iload_n 3, 1) := by decide +kernel
theorem dX1_placeObject_114 : decode cX1_placeObject 114 = .ok (.imul, 1) := by decide +kernel
theorem dX1_placeObject_115 : decode cX1_placeObject 115 = .ok (.iload 5, 2) := by decide +kernel
theorem dX1_placeObject_117 : decode cX1_placeObject 117 = .ok (.iadd, 1) := by decide +kernel
theorem dX1_placeObject_118 : decode cX1_placeObject 118 = .ok (.iload_n 1, 1) := by decide +kernel
theorem dX1_placeObject_119 : decode cX1_placeObject 119 = .ok (.iastore, 1) := by decide +kernel
theorem dX1_placeObject_120 : decode cX1_placeObject 120 = .ok (.aload_n 0, 1) := by decide +kernel
theorem dX1_placeObject_121 : decode cX1_placeObject 121 = .ok (.getfield 22, 3) := by decide +kernel
theorem dX1_placeObject_124 : decode cX1_placeObject 124 = .ok (.iload_n 1, 1) := by decide +kernel
theorem dX1_placeObject_125 : decode cX1_placeObject 125 = .ok (.iload_n 3, 1) := by decide +kernel
theorem dX1_placeObject_126 : decode cX1_placeObject 126 = .ok (.iastore, 1) := by decide +kernel
theorem dX1_placeObject_127 : decode cX1_placeObject 127 = .ok (.aload_n 0, 1) := by decide +kernel
theorem dX1_placeObject_128 : decode cX1_placeObject 128 = .ok (.getfield 25, 3) := by decide +kernel
theorem dX1_placeObject_131 : decode cX1_placeObject 131 = .ok (.iload_n 1, 1) := by decide +kernel
theorem dX1_placeObject_132 : decode cX1_placeObject 132 = .ok (.iload 5, 2) := by decide +kernel
theorem dX1_placeObject_134 : decode cX1_placeObject 134 = .ok (.iastore, 1) := by decide +kernel
theorem dX1_placeObject_135 : decode cX1_placeObject 135 = .ok (.aload_n 0, 1) := by decide +kernel
theorem dX1_placeObject_136 : decode cX1_placeObject 136 = .ok (.getfield 16, 3) := by decide +kernel
theorem dX1_placeObject_139 : decode cX1_placeObject 139 = .ok (.iload_n 3, 1) := by decide +kernel
theorem dX1_placeObject_140 : decode cX1_placeObject 140 = .ok (.dup2, 1) := by decide +kernel
theorem dX1_placeObject_141 : decode cX1_placeObject 141 = .ok (.iaload, 1) := by decide +kernel
theorem dX1_placeObject_142 : decode cX1_placeObject 142 = .ok (.iconst 1, 1) := by decide +kernel
theorem dX1_placeObject_143 : decode cX1_placeObject 143 = .ok (.iadd, 1) := by decide +kernel
theorem dX1_placeObject_144 : decode cX1_placeObject 144 = .ok (.iastore, 1) := by decide +kernel
theorem dX1_placeObject_145 : decode cX1_placeObject 145 = .ok (.aload_n 0, 1) := by decide +kernel
theorem dX1_placeObject_146 : decode cX1_placeObject 146 = .ok (.getfield 34, 3) := by decide +kernel
theorem dX1_placeObject_149 : decode cX1_placeObject 149 = .ok (.iload_n 2, 1) := by decide +kernel
theorem dX1_placeObject_150 : decode cX1_placeObject 150 = .ok (.dup2, 1) := by decide +kernel
theorem dX1_placeObject_151 : decode cX1_placeObject 151 = .ok (.iaload, 1) := by decide +kernel
theorem dX1_placeObject_152 : decode cX1_placeObject 152 = .ok (.iconst 1, 1) := by decide +kernel
theorem dX1_placeObject_153 : decode cX1_placeObject 153 = .ok (.iadd, 1) := by decide +kernel
theorem dX1_placeObject_154 : decode cX1_placeObject 154 = .ok (.iastore, 1) := by decide +kernel
theorem dX1_placeObject_155 : decode cX1_placeObject 155 = .ok (.aload_n 0, 1) := by decide +kernel
theorem dX1_placeObject_156 : decode cX1_placeObject 156 = .ok (.dup, 1) := by decide +kernel
theorem dX1_placeObject_157 : decode cX1_placeObject 157 = .ok (.getfield 51, 3) := by decide +kernel
theorem dX1_placeObject_160 : decode cX1_placeObject 160 = .ok (.iconst 1, 1) := by decide +kernel
theorem dX1_placeObject_161 : decode cX1_placeObject 161 = .ok (.iadd, 1) := by decide +kernel
theorem dX1_placeObject_162 : decode cX1_placeObject 162 = .ok (.putfield 51, 3) := by decide +kernel
theorem dX1_placeObject_165 : decode cX1_placeObject 165 = .ok (.aload_n 0, 1) := by decide +kernel
theorem dX1_placeObject_166 : decode cX1_placeObject 166 = .ok (.getfield 16, 3) := by decide +kernel
theorem dX1_placeObject_169 : decode cX1_placeObject 169 = .ok (.iload_n 3, 1) := by decide +kernel
theorem dX1_placeObject_170 : decode cX1_placeObject 170 = .ok (.iaload, 1) := by decide +kernel
theorem dX1_placeObject_171 : decode cX1_placeObject 171 = .ok (.iload 4, 2) := by decide +kernel
theorem dX1_placeObject_173 : decode cX1_placeObject 173 = .ok (.if_icmp .ne 10, 3) := by decide +kernel
theorem dX1_placeObject_176 : decode cX1_placeObject 176 = .ok (.aload_n 0, 1) := by decide +kernel
theorem dX1_placeObject_177 : decode cX1_placeObject 177 = .ok (.getfield 31, 3) := by decide +kernel
theorem dX1_placeObject_180 : decode cX1_placeObject 180 = .ok (.iload_n 2, 1) := by decide +kernel
theorem dX1_placeObject_181 : decode cX1_placeObject 181 = .ok (.iconst (-1), 1) := by decide +kernel
theorem dX1_placeObject_182 : decode cX1_placeObject 182 = .ok (.iastore, 1) := by decide +kernel
theorem dX1_placeObject_183 : decode cX1_placeObject 183 = .ok (.return_, 1) := by decide +kernel
theorem dX1_capacity_0 : decode cX1_capacity 0 = .ok (.bipush 8, 2) := by decide +kernel
theorem dX1_capacity_2 : decode cX1_capacity 2 = .ok (.iload_n 0, 1) := by decide +kernel
theorem dX1_capacity_3 : decode cX1_capacity 3 = .ok (.ishr, 1) := by decide +kernel
theorem dX1_capacity_4 : decode cX1_capacity 4 = .ok (.ireturn, 1) := by decide +kernel
theorem dX1_wipe_0 : decode cX1_wipe 0 = .ok (.aload_n 0, 1) := by decide +kernel
theorem dX1_wipe_1 : decode cX1_wipe 1 = .ok (.iload_n 1, 1) := by decide +kernel
theorem dX1_wipe_2 : decode cX1_wipe 2 = .ok (.invokevirtual 84, 3) := by decide +kernel
theorem dX1_wipe_5 : decode cX1_wipe 5 = .ok (.istore 4, 2) := by decide +kernel
theorem dX1_wipe_7 : decode cX1_wipe 7 = .ok (.iload_n 2, 1) := by decide +kernel
theorem dX1_wipe_8 : decode cX1_wipe 8 = .ok (.istore 5, 2) := by decide +kernel
theorem dX1_wipe_10 : decode cX1_wipe 10 = .ok (.iload 5, 2) := by decide +kernel
theorem dX1_wipe_12 : decode cX1_wipe 12 = .ok (.iload_n 3, 1) := by decide +kernel
theorem dX1_wipe_13 : decode cX1_wipe 13 = .ok (.if_icmp .ge 20, 3) := by decide +kernel
theorem dX1_wipe_16 : decode cX1_wipe 16 = .ok (.aload_n 0, 1) := by decide +kernel
theorem dX1_wipe_17 : decode cX1_wipe 17 = .ok (.getfield 7, 3) := by decide +kernel
theorem dX1_wipe_20 : decode cX1_wipe 20 = .ok (.iload 4, 2) := by decide +kernel
theorem dX1_wipe_22 : decode cX1_wipe 22 = .ok (.iload 5, 2) := by decide +kernel
theorem dX1_wipe_24 : decode cX1_wipe 24 = .ok (.iadd, 1) := by decide +kernel
theorem dX1_wipe_25 : decode cX1_wipe 25 = .ok (.iconst 0, 1) := by decide +kernel
theorem dX1_wipe_26 : decode cX1_wipe 26 = .ok (.iastore, 1) := by decide +kernel
theorem dX1_wipe_27 : decode cX1_wipe 27 = .ok (.iinc 5 1, 3) := by decide +kernel
theorem dX1_wipe_30 : decode cX1_wipe 30 = .ok (.goto (-20), 3) := by decide +kernel
theorem dX1_wipe_33 : decode cX1_wipe 33 = .ok (.return_, 1) := by decide +kernel
theorem dX1_baseOf_0 : decode cX1_baseOf 0 = .ok (.bipush 16, 2) := by decide +kernel
theorem dX1_baseOf_2 : decode cX1_baseOf 2 = .ok (.aload_n 0, 1) := by decide +kernel
theorem dX1_baseOf_3 : decode cX1_baseOf 3 = .ok (.getfield 22, 3) := by decide +kernel
theorem dX1_baseOf_6 : decode cX1_baseOf 6 = .ok (.iload_n 1, 1) := by decide +kernel
theorem dX1_baseOf_7 : decode cX1_baseOf 7 = .ok (.iaload, 1) := by decide +kernel
theorem dX1_baseOf_8 : decode cX1_baseOf 8 = .ok (.imul, 1) := by decide +kernel
theorem dX1_baseOf_9 : decode cX1_baseOf 9 = .ok (.aload_n 0, 1) := by decide +kernel
theorem dX1_baseOf_10 : decode cX1_baseOf 10 = .ok (.getfield 25, 3) := by decide +kernel
theorem dX1_baseOf_13 : decode cX1_baseOf 13 = .ok (.iload_n 1, 1) := by decide +kernel
theorem dX1_baseOf_14 : decode cX1_baseOf 14 = .ok (.iaload, 1) := by decide +kernel
theorem dX1_baseOf_15 : decode cX1_baseOf 15 = .ok (.aload_n 0, 1) := by decide +kernel
theorem dX1_baseOf_16 : decode cX1_baseOf 16 = .ok (.getfield 13, 3) := by decide +kernel
theorem dX1_baseOf_19 : decode cX1_baseOf 19 = .ok (.aload_n 0, 1) := by decide +kernel
theorem dX1_baseOf_20 : decode cX1_baseOf 20 = .ok (.getfield 22, 3) := by decide +kernel
theorem dX1_baseOf_23 : decode cX1_baseOf 23 = .ok (.iload_n 1, 1) := by decide +kernel
theorem dX1_baseOf_24 : decode cX1_baseOf 24 = .ok (.iaload, 1) := by decide +kernel
theorem dX1_baseOf_25 : decode cX1_baseOf 25 = .ok (.iaload, 1) := by decide +kernel
theorem dX1_baseOf_26 : decode cX1_baseOf 26 = .ok (.iconst 1, 1) := by decide +kernel
theorem dX1_baseOf_27 : decode cX1_baseOf 27 = .ok (.iadd, 1) := by decide +kernel
theorem dX1_baseOf_28 : decode cX1_baseOf 28 = .ok (.ishl, 1) := by decide +kernel
theorem dX1_baseOf_29 : decode cX1_baseOf 29 = .ok (.iadd, 1) := by decide +kernel
theorem dX1_baseOf_30 : decode cX1_baseOf 30 = .ok (.ireturn, 1) := by decide +kernel
theorem dX1_free_0 : decode cX1_free 0 = .ok (.aload_n 0, 1) := by decide +kernel
theorem dX1_free_1 : decode cX1_free 1 = .ok (.iload_n 1, 1) := by decide +kernel
theorem dX1_free_2 : decode cX1_free 2 = .ok (.invokevirtual 70, 3) := by decide +kernel
theorem dX1_free_5 : decode cX1_free 5 = .ok (.ifCond .ne 5, 3) := by decide +kernel
theorem dX1_free_8 : decode cX1_free 8 = .ok (.iconst (-1), 1) := by decide +kernel
theorem dX1_free_9 : decode cX1_free 9 = .ok (.ireturn, 1) := by decide +kernel
theorem dX1_free_10 : decode cX1_free 10 = .ok (.aload_n 0, 1) := by decide +kernel
theorem dX1_free_11 : decode cX1_free 11 = .ok (.getfield 28, 3) := by decide +kernel
theorem dX1_free_14 : decode cX1_free 14 = .ok (.iload_n 1, 1) := by decide +kernel
theorem dX1_free_15 : decode cX1_free 15 = .ok (.iaload, 1) := by decide +kernel
theorem dX1_free_16 : decode cX1_free 16 = .ok (.istore_n 2, 1) := by decide +kernel
theorem dX1_free_17 : decode cX1_free 17 = .ok (.aload_n 0, 1) := by decide +kernel
theorem dX1_free_18 : decode cX1_free 18 = .ok (.iload_n 1, 1) := by decide +kernel
theorem dX1_free_19 : decode cX1_free 19 = .ok (.invokevirtual 73, 3) := by decide +kernel
theorem dX1_free_22 : decode cX1_free 22 = .ok (.aload_n 0, 1) := by decide +kernel
theorem dX1_free_23 : decode cX1_free 23 = .ok (.getfield 28, 3) := by decide +kernel
theorem dX1_free_26 : decode cX1_free 26 = .ok (.iload_n 1, 1) := by decide +kernel
theorem dX1_free_27 : decode cX1_free 27 = .ok (.iconst 0, 1) := by decide +kernel
theorem dX1_free_28 : decode cX1_free 28 = .ok (.iastore, 1) := by decide +kernel
theorem dX1_free_29 : decode cX1_free 29 = .ok (.iload_n 2, 1) := by decide +kernel
theorem dX1_free_30 : decode cX1_free 30 = .ok (.ireturn, 1) := by decide +kernel
theorem dX1_isGood_0 : decode cX1_isGood 0 = .ok (.iload_n 1, 1) := by decide +kernel
theorem dX1_isGood_1 : decode cX1_isGood 1 = .ok (.ifCond .lt 22, 3) := by decide +kernel
theorem dX1_isGood_4 : decode cX1_isGood 4 = .ok (.iload_n 1, 1) := by decide +kernel
theorem dX1_isGood_5 : decode cX1_isGood 5 = .ok (.bipush 64, 2) := by decide +kernel
theorem dX1_isGood_7 : decode cX1_isGood 7 = .ok (.if_icmp .ge 16, 3) := by decide +kernel
theorem dX1_isGood_10 : decode cX1_isGood 10 = .ok (.aload_n 0, 1) := by decide +kernel
theorem dX1_isGood_11 : decode cX1_isGood 11 = .ok (.getfield 28, 3) := by decide +kernel
theorem dX1_isGood_14 : decode cX1_isGood 14 = .ok (.iload_n 1, 1) := by decide +kernel
theorem dX1_isGood_15 : decode cX1_isGood 15 = .ok (.iaload, 1) := by decide +kernel
theorem dX1_isGood_16 : decode cX1_isGood 16 = .ok (.ifCond .le 7, 3) := by decide +kernel
theorem dX1_isGood_19 : decode cX1_isGood 19 = .ok (.iconst 1, 1) := by decide +kernel
theorem dX1_isGood_20 : decode cX1_isGood 20 = .ok (.goto 4, 3) := by decide +kernel
theorem dX1_isGood_23 : decode cX1_isGood 23 = .ok (.iconst 0, 1) := by decide +kernel
theorem dX1_isGood_24 : decode cX1_isGood 24 = .ok (.ireturn, 1) := by decide +kernel
theorem dX1_removeObject_0 : decode cX1_removeObject 0 = .ok (.aload_n 0, 1) := by decide +kernel
theorem dX1_removeObject_1 : decode cX1_removeObject 1 = .ok (.getfield 22, 3) := by decide +kernel
theorem dX1_removeObject_4 : decode cX1_removeObject 4 = .ok (.iload_n 1, 1) := by decide +kernel
theorem dX1_removeObject_5 : decode cX1_removeObject 5 = .ok (.iaload, 1) := by decide +kernel
theorem dX1_removeObject_6 : decode cX1_removeObject 6 = .ok (.istore_n 2, 1) := by decide +kernel
theorem dX1_removeObject_7 : decode cX1_removeObject 7 = .ok (.aload_n 0, 1) := by decide +kernel
theorem dX1_removeObject_8 : decode cX1_removeObject 8 = .ok (.getfield 25, 3) := by decide +kernel
theorem dX1_removeObject_11 : decode cX1_removeObject 11 = .ok (.iload_n 1, 1) := by decide +kernel
theorem dX1_removeObject_12 : decode cX1_removeObject 12 = .ok (.iaload, 1) := by decide +kernel
theorem dX1_removeObject_13 : decode cX1_removeObject 13 = .ok (.istore_n 3, 1) := by decide +kernel
theorem dX1_removeObject_14 : decode cX1_removeObject 14 = .ok (.aload_n 0, 1) := by decide +kernel
theorem dX1_removeObject_15 : decode cX1_removeObject 15 = .ok (.getfield 13, 3) := by decide +kernel
theorem dX1_removeObject_18 : decode cX1_removeObject 18 = .ok (.iload_n 2, 1) := by decide +kernel
theorem dX1_removeObject_19 : decode cX1_removeObject 19 = .ok (.iaload, 1) := by decide +kernel
theorem dX1_removeObject_20 : decode cX1_removeObject 20 = .ok (.istore 4, 2) := by decide +kernel
theorem dX1_removeObject_22 : decode cX1_removeObject 22 = .ok (.aload_n 0, 1) := by decide +kernel
theorem dX1_removeObject_23 : decode cX1_removeObject 23 = .ok (.getfield 19, 3) := by decide +kernel
theorem dX1_removeObject_26 : decode cX1_removeObject 26 = .ok (.bipush 8, 2) := by decide +kernel
theorem dX1_removeObject_28 : decode cX1_removeObject 28 = .ok (.iload_n 2, 1) := by decide +kernel
theorem dX1_removeObject_29 : decode cX1_removeObject 29 = .ok (.imul, 1) := by decide +kernel
theorem dX1_removeObject_30 : decode cX1_removeObject 30 = .ok (.iload_n 3, 1) := by decide +kernel
theorem dX1_removeObject_31 : decode cX1_removeObject 31 = .ok (.iadd, 1) := by decide +kernel
theorem dX1_removeObject_32 : decode cX1_removeObject 32 = .ok (.iconst (-1), 1) := by decide +kernel
theorem dX1_removeObject_33 : decode cX1_removeObject 33 = .ok (.iastore, 1) := by decide +kernel
theorem dX1_removeObject_34 : decode cX1_removeObject 34 = .ok (.aload_n 0, 1) := by decide +kernel
theorem dX1_removeObject_35 : decode cX1_removeObject 35 = .ok (.getfield 16, 3) := by decide +kernel
theorem dX1_removeObject_38 : decode cX1_removeObject 38 = .ok (.iload_n 2, 1) := by decide +kernel
theorem dX1_removeObject_39 : decode cX1_removeObject 39 = .ok (.dup2, 1) := by decide +kernel
theorem dX1_removeObject_40 : decode cX1_removeObject 40 = .ok (.iaload, 1) := by decide +kernel
theorem dX1_removeObject_41 : decode cX1_removeObject 41 = .ok (.iconst 1, 1) := by decide +kernel
theorem dX1_removeObject_42 : decode cX1_removeObject 42 = .ok (.isub, 1) := by decide +kernel
theorem dX1_removeObject_43 : decode cX1_removeObject 43 = .ok (.iastore, 1) := by decide +kernel
theorem dX1_removeObject_44 : decode cX1_removeObject 44 = .ok (.aload_n 0, 1) := by decide +kernel
theorem dX1_removeObject_45 : decode cX1_removeObject 45 = .ok (.getfield 34, 3) := by decide +kernel
theorem dX1_removeObject_48 : decode cX1_removeObject 48 = .ok (.iload 4, 2) := by decide +kernel
end
section
set_option maxRecDepth 100000
theorem dX1_removeObject_50 : decode cX1_removeObject 50 = .ok (.dup2, 1) := by decide +kernel
theorem dX1_removeObject_51 : decode cX1_removeObject 51 = .ok (.iaload, 1) := by decide +kernel
theorem dX1_removeObject_52 : decode cX1_removeObject 52 = .ok (.iconst 1, 1) := by decide +kernel
theorem dX1_removeObject_53 : decode cX1_removeObject 53 = .ok (.isub, 1) := by decide +kernel
theorem dX1_removeObject_54 : decode cX1_removeObject 54 = .ok (.iastore, 1) := by decide +kernel
theorem dX1_removeObject_55 : decode cX1_removeObject 55 = .ok (.aload_n 0, 1) := by decide +kernel
theorem dX1_removeObject_56 : decode cX1_removeObject 56 = .ok (.dup, 1) := by decide +kernel
theorem dX1_removeObject_57 : decode cX1_removeObject 57 = .ok (.getfield 51, 3) := by decide +kernel
theorem dX1_removeObject_60 : decode cX1_removeObject 60 = .ok (.iconst 1, 1) := by decide +kernel
theorem dX1_removeObject_61 : decode cX1_removeObject 61 = .ok (.isub, 1) := by decide +kernel
theorem dX1_removeObject_62 : decode cX1_removeObject 62 = .ok (.putfield 51, 3) := by decide +kernel
theorem dX1_removeObject_65 : decode cX1_removeObject 65 = .ok (.aload_n 0, 1) := by decide +kernel
theorem dX1_removeObject_66 : decode cX1_removeObject 66 = .ok (.getfield 31, 3) := by decide +kernel
theorem dX1_removeObject_69 : decode cX1_removeObject 69 = .ok (.iload 4, 2) := by decide +kernel
theorem dX1_removeObject_71 : decode cX1_removeObject 71 = .ok (.iaload, 1) := by decide +kernel
theorem dX1_removeObject_72 : decode cX1_removeObject 72 = .ok (.istore 5, 2) := by decide +kernel
theorem dX1_removeObject_74 : decode cX1_removeObject 74 = .ok (.iload 5, 2) := by decide +kernel
theorem dX1_removeObject_76 : decode cX1_removeObject 76 = .ok (.iconst (-1), 1) := by decide +kernel
theorem dX1_removeObject_77 : decode cX1_removeObject 77 = .ok (.if_icmp .ne 17, 3) := by decide +kernel
theorem dX1_removeObject_80 : decode cX1_removeObject 80 = .ok (.aload_n 0, 1) := by decide +kernel
theorem dX1_removeObject_81 : decode cX1_removeObject 81 = .ok (.getfield 31, 3) := by decide +kernel
theorem dX1_removeObject_84 : decode cX1_removeObject 84 = .ok (.iload 4, 2) := by decide +kernel
theorem dX1_removeObject_86 : decode cX1_removeObject 86 = .ok (.iload_n 2, 1) := by decide +kernel
theorem dX1_removeObject_87 : decode cX1_removeObject 87 = .ok (.iastore, 1) := by decide +kernel
theorem dX1_removeObject_88 : decode cX1_removeObject 88 = .ok (.iload_n 2, 1) := by decide +kernel
theorem dX1_removeObject_89 : decode cX1_removeObject 89 = .ok (.istore 5, 2) := by decide +kernel
theorem dX1_removeObject_91 : decode cX1_removeObject 91 = .ok (.goto 17, 3) := by decide +kernel
theorem dX1_removeObject_94 : decode cX1_removeObject 94 = .ok (.iload 5, 2) := by decide +kernel
theorem dX1_removeObject_96 : decode cX1_removeObject 96 = .ok (.iload_n 2, 1) := by decide +kernel
theorem dX1_removeObject_97 : decode cX1_removeObject 97 = .ok (.if_icmp .eq 11, 3) := by decide +kernel
theorem dX1_removeObject_100 : decode cX1_removeObject 100 = .ok (.aload_n 0, 1) := by decide +kernel
theorem dX1_removeObject_101 : decode cX1_removeObject 101 = .ok (.iload 5, 2) := by decide +kernel
theorem dX1_removeObject_103 : decode cX1_removeObject 103 = .ok (.iload_n 2, 1) := by decide +kernel
theorem dX1_removeObject_104 : decode cX1_removeObject 104 = .ok (.iload_n 3, 1) := by decide +kernel
theorem dX1_removeObject_105 : decode cX1_removeObject 105 = .ok (.invokevirtual 99, 3) := by decide +kernel
theorem dX1_removeObject_108 : decode cX1_removeObject 108 = .ok (.aload_n 0, 1) := by decide +kernel
theorem dX1_removeObject_109 : decode cX1_removeObject 109 = .ok (.getfield 16, 3) := by decide +kernel
theorem dX1_removeObject_112 : decode cX1_removeObject 112 = .ok (.iload 5, 2) := by decide +kernel
theorem dX1_removeObject_114 : decode cX1_removeObject 114 = .ok (.iaload, 1) := by decide +kernel
theorem dX1_removeObject_115 : decode cX1_removeObject 115 = .ok (.ifCond .ne 29, 3) := by decide +kernel
theorem dX1_removeObject_118 : decode cX1_removeObject 118 = .ok (.aload_n 0, 1) := by decide +kernel
theorem dX1_removeObject_119 : decode cX1_removeObject 119 = .ok (.getfield 13, 3) := by decide +kernel
theorem dX1_removeObject_122 : decode cX1_removeObject 122 = .ok (.iload 5, 2) := by decide +kernel
theorem dX1_removeObject_124 : decode cX1_removeObject 124 = .ok (.iconst (-1), 1) := by decide +kernel
theorem dX1_removeObject_125 : decode cX1_removeObject 125 = .ok (.iastore, 1) := by decide +kernel
theorem dX1_removeObject_126 : decode cX1_removeObject 126 = .ok (.aload_n 0, 1) := by decide +kernel
theorem dX1_removeObject_127 : decode cX1_removeObject 127 = .ok (.getfield 31, 3) := by decide +kernel
theorem dX1_removeObject_130 : decode cX1_removeObject 130 = .ok (.iload 4, 2) := by decide +kernel
theorem dX1_removeObject_132 : decode cX1_removeObject 132 = .ok (.iconst (-1), 1) := by decide +kernel
theorem dX1_removeObject_133 : decode cX1_removeObject 133 = .ok (.iastore, 1) := by decide +kernel
theorem dX1_removeObject_134 : decode cX1_removeObject 134 = .ok (.aload_n 0, 1) := by decide +kernel
theorem dX1_removeObject_135 : decode cX1_removeObject 135 = .ok (.dup, 1) := by decide +kernel
theorem dX1_removeObject_136 : decode cX1_removeObject 136 = .ok (.getfield 44, 3) := by decide +kernel
theorem dX1_removeObject_139 : decode cX1_removeObject 139 = .ok (.iconst 1, 1) := by decide +kernel
theorem dX1_removeObject_140 : decode cX1_removeObject 140 = .ok (.iadd, 1) := by decide +kernel
theorem dX1_removeObject_141 : decode cX1_removeObject 141 = .ok (.putfield 44, 3) := by decide +kernel
theorem dX1_removeObject_144 : decode cX1_removeObject 144 = .ok (.return_, 1) := by decide +kernel
theorem dX1_moveOne_0 : decode cX1_moveOne 0 = .ok (.bipush 7, 2) := by decide +kernel
theorem dX1_moveOne_2 : decode cX1_moveOne 2 = .ok (.istore 4, 2) := by decide +kernel
theorem dX1_moveOne_4 : decode cX1_moveOne 4 = .ok (.iload 4, 2) := by decide +kernel
theorem dX1_moveOne_6 : decode cX1_moveOne 6 = .ok (.ifCond .le 25, 3) := by decide +kernel
theorem dX1_moveOne_9 : decode cX1_moveOne 9 = .ok (.aload_n 0, 1) := by decide +kernel
theorem dX1_moveOne_10 : decode cX1_moveOne 10 = .ok (.getfield 19, 3) := by decide +kernel
theorem dX1_moveOne_13 : decode cX1_moveOne 13 = .ok (.bipush 8, 2) := by decide +kernel
theorem dX1_moveOne_15 : decode cX1_moveOne 15 = .ok (.iload_n 1, 1) := by decide +kernel
theorem dX1_moveOne_16 : decode cX1_moveOne 16 = .ok (.imul, 1) := by decide +kernel
theorem dX1_moveOne_17 : decode cX1_moveOne 17 = .ok (.iload 4, 2) := by decide +kernel
theorem dX1_moveOne_19 : decode cX1_moveOne 19 = .ok (.iadd, 1) := by decide +kernel
theorem dX1_moveOne_20 : decode cX1_moveOne 20 = .ok (.iaload, 1) := by decide +kernel
theorem dX1_moveOne_21 : decode cX1_moveOne 21 = .ok (.iconst (-1), 1) := by decide +kernel
theorem dX1_moveOne_22 : decode cX1_moveOne 22 = .ok (.if_icmp .ne 9, 3) := by decide +kernel
theorem dX1_moveOne_25 : decode cX1_moveOne 25 = .ok (.iinc 4 (-1), 3) := by decide +kernel
theorem dX1_moveOne_28 : decode cX1_moveOne 28 = .ok (.goto (-24), 3) := by decide +kernel
theorem dX1_moveOne_31 : decode cX1_moveOne 31 = .ok (.aload_n 0, 1) := by decide +kernel
theorem dX1_moveOne_32 : decode cX1_moveOne 32 = .ok (.getfield 19, 3) := by decide +kernel
theorem dX1_moveOne_35 : decode cX1_moveOne 35 = .ok (.bipush 8, 2) := by decide +kernel
theorem dX1_moveOne_37 : decode cX1_moveOne 37 = .ok (.iload_n 1, 1) := by decide +kernel
theorem dX1_moveOne_38 : decode cX1_moveOne 38 = .ok (.imul, 1) := by decide +kernel
theorem dX1_moveOne_39 : decode cX1_moveOne 39 = .ok (.iload 4, 2) := by decide +kernel
theorem dX1_moveOne_41 : decode cX1_moveOne 41 = .ok (.iadd, 1) := by decide +kernel
theorem dX1_moveOne_42 : decode cX1_moveOne 42 = .ok (.iaload, 1) := by decide +kernel
theorem dX1_moveOne_43 : decode cX1_moveOne 43 = .ok (.istore 5, 2) := by decide +kernel
theorem dX1_moveOne_45 : decode cX1_moveOne 45 = .ok (.iconst 2, 1) := by decide +kernel
theorem dX1_moveOne_46 : decode cX1_moveOne 46 = .ok (.aload_n 0, 1) := by decide +kernel
theorem dX1_moveOne_47 : decode cX1_moveOne 47 = .ok (.getfield 13, 3) := by decide +kernel
theorem dX1_moveOne_50 : decode cX1_moveOne 50 = .ok (.iload_n 2, 1) := by decide +kernel
theorem dX1_moveOne_51 : decode cX1_moveOne 51 = .ok (.iaload, 1) := by decide +kernel
theorem dX1_moveOne_52 : decode cX1_moveOne 52 = .ok (.ishl, 1) := by decide +kernel
theorem dX1_moveOne_53 : decode cX1_moveOne 53 = .ok (.istore 6, 2) := by decide +kernel
theorem dX1_moveOne_55 : decode cX1_moveOne 55 = .ok (.iconst 0, 1) := by decide +kernel
theorem dX1_moveOne_56 : decode cX1_moveOne 56 = .ok (.istore 7, 2) := by decide +kernel
theorem dX1_moveOne_58 : decode cX1_moveOne 58 = .ok (.iload 7, 2) := by decide +kernel
theorem dX1_moveOne_60 : decode cX1_moveOne 60 = .ok (.iload 6, 2) := by decide +kernel
theorem dX1_moveOne_62 : decode cX1_moveOne 62 = .ok (.if_icmp .ge 44, 3) := by decide +kernel
theorem dX1_moveOne_65 : decode cX1_moveOne 65 = .ok (.aload_n 0, 1) := by decide +kernel
theorem dX1_moveOne_66 : decode cX1_moveOne 66 = .ok (.getfield 7, 3) := by decide +kernel
theorem dX1_moveOne_69 : decode cX1_moveOne 69 = .ok (.bipush 16, 2) := by decide +kernel
theorem dX1_moveOne_71 : decode cX1_moveOne 71 = .ok (.iload_n 2, 1) := by decide +kernel
theorem dX1_moveOne_72 : decode cX1_moveOne 72 = .ok (.imul, 1) := by decide +kernel
theorem dX1_moveOne_73 : decode cX1_moveOne 73 = .ok (.iload_n 3, 1) := by decide +kernel
theorem dX1_moveOne_74 : decode cX1_moveOne 74 = .ok (.iload 6, 2) := by decide +kernel
theorem dX1_moveOne_76 : decode cX1_moveOne 76 = .ok (.imul, 1) := by decide +kernel
theorem dX1_moveOne_77 : decode cX1_moveOne 77 = .ok (.iadd, 1) := by decide +kernel
theorem dX1_moveOne_78 : decode cX1_moveOne 78 = .ok (.iload 7, 2) := by decide +kernel
theorem dX1_moveOne_80 : decode cX1_moveOne 80 = .ok (.iadd, 1) := by decide +kernel
theorem dX1_moveOne_81 : decode cX1_moveOne 81 = .ok (.aload_n 0, 1) := by decide +kernel
theorem dX1_moveOne_82 : decode cX1_moveOne 82 = .ok (.getfield 7, 3) := by decide +kernel
theorem dX1_moveOne_85 : decode cX1_moveOne 85 = .ok (.bipush 16, 2) := by decide +kernel
theorem dX1_moveOne_87 : decode cX1_moveOne 87 = .ok (.iload_n 1, 1) := by decide +kernel
theorem dX1_moveOne_88 : decode cX1_moveOne 88 = .ok (.imul, 1) := by decide +kernel
theorem dX1_moveOne_89 : decode cX1_moveOne 89 = .ok (.iload 4, 2) := by decide +kernel
theorem dX1_moveOne_91 : decode cX1_moveOne 91 = .ok (.iload 6, 2) := by decide +kernel
theorem dX1_moveOne_93 : decode cX1_moveOne 93 = .ok (.imul, 1) := by decide +kernel
theorem dX1_moveOne_94 : decode cX1_moveOne 94 = .ok (.iadd, 1) := by decide +kernel
theorem dX1_moveOne_95 : decode cX1_moveOne 95 = .ok (.iload 7, 2) := by decide +kernel
theorem dX1_moveOne_97 : decode cX1_moveOne 97 = .ok (.iadd, 1) := by decide +kernel
theorem dX1_moveOne_98 : decode cX1_moveOne 98 = .ok (.iaload, 1) := by decide +kernel
theorem dX1_moveOne_99 : decode cX1_moveOne 99 = .ok (.iastore, 1) := by decide +kernel
theorem dX1_moveOne_100 : decode cX1_moveOne 100 = .ok (.iinc 7 1, 3) := by decide +kernel
theorem dX1_moveOne_103 : decode cX1_moveOne 103 = .ok (.goto (-45), 3) := by decide +kernel
theorem dX1_moveOne_106 : decode cX1_moveOne 106 = .ok (.aload_n 0, 1) := by decide +kernel
theorem dX1_moveOne_107 : decode cX1_moveOne 107 = .ok (.getfield 19, 3) := by decide +kernel
theorem dX1_moveOne_110 : decode cX1_moveOne 110 = .ok (.bipush 8, 2) := by decide +kernel
theorem dX1_moveOne_112 : decode cX1_moveOne 112 = .ok (.iload_n 1, 1) := by decide +kernel
theorem dX1_moveOne_113 : decode cX1_moveOne 113 = .ok (.imul, 1) := by decide +kernel
theorem dX1_moveOne_114 : decode cX1_moveOne 114 = .ok (.iload 4, 2) := by decide +kernel
theorem dX1_moveOne_116 : decode cX1_moveOne 116 = .ok (.iadd, 1) := by decide +kernel
theorem dX1_moveOne_117 : decode cX1_moveOne 117 = .ok (.iconst (-1), 1) := by decide +kernel
theorem dX1_moveOne_118 : decode cX1_moveOne 118 = .ok (.iastore, 1) := by decide +kernel
theorem dX1_moveOne_119 : decode cX1_moveOne 119 = .ok (.aload_n 0, 1) := by decide +kernel
theorem dX1_moveOne_120 : decode cX1_moveOne 120 = .ok (.getfield 19, 3) := by decide +kernel
theorem dX1_moveOne_123 : decode cX1_moveOne 123 = .ok (.bipush 8, 2) := by decide +kernel
theorem dX1_moveOne_125 : decode cX1_moveOne 125 = .ok (.iload_n 2, 1) := by decide +kernel
theorem dX1_moveOne_126 : decode cX1_moveOne 126 = .ok (.imul, 1) := by decide +kernel
theorem dX1_moveOne_127 : decode cX1_moveOne 127 = .ok (.iload_n 3, 1) := by decide +kernel
theorem dX1_moveOne_128 : decode cX1_moveOne 128 = .ok (.iadd, 1) := by decide +kernel
theorem dX1_moveOne_129 : decode cX1_moveOne 129 = .ok (.iload 5, 2) := by decide +kernel
theorem dX1_moveOne_131 : decode cX1_moveOne 131 = .ok (.iastore, 1) := by decide +kernel
theorem dX1_moveOne_132 : decode cX1_moveOne 132 = .ok (.aload_n 0, 1) := by decide +kernel
theorem dX1_moveOne_133 : decode cX1_moveOne 133 = .ok (.getfield 22, 3) := by decide +kernel
theorem dX1_moveOne_136 : decode cX1_moveOne 136 = .ok (.iload 5, 2) := by decide +kernel
theorem dX1_moveOne_138 : decode cX1_moveOne 138 = .ok (.iload_n 2, 1) := by decide +kernel
theorem dX1_moveOne_139 : decode cX1_moveOne 139 = .ok (.iastore, 1) := by decide +kernel
theorem dX1_moveOne_140 : decode cX1_moveOne 140 = .ok (.aload_n 0, 1) := by decide +kernel
theorem dX1_moveOne_141 : decode cX1_moveOne 141 = .ok (.getfield 25, 3) := by decide +kernel
theorem dX1_moveOne_144 : decode cX1_moveOne 144 = .ok (.iload 5, 2) := by decide +kernel
theorem dX1_moveOne_146 : decode cX1_moveOne 146 = .ok (.iload_n 3, 1) := by decide +kernel
theorem dX1_moveOne_147 : decode cX1_moveOne 147 = .ok (.iastore, 1) := by decide +kernel
theorem dX1_moveOne_148 : decode cX1_moveOne 148 = .ok (.aload_n 0, 1) := by decide +kernel
theorem dX1_moveOne_149 : decode cX1_moveOne 149 = .ok (.getfield 16, 3) := by decide +kernel
theorem dX1_moveOne_152 : decode cX1_moveOne 152 = .ok (.iload_n 1, 1) := by decide +kernel
theorem dX1_moveOne_153 : decode cX1_moveOne 153 = .ok (.dup2, 1) := by decide +kernel
theorem dX1_moveOne_154 : decode cX1_moveOne 154 = .ok (.iaload, 1) := by decide +kernel
theorem dX1_moveOne_155 : decode cX1_moveOne 155 = .ok (.iconst 1, 1) := by decide +kernel
theorem dX1_moveOne_156 : decode cX1_moveOne 156 = .ok (.isub, 1) := by decide +kernel
theorem dX1_moveOne_157 : decode cX1_moveOne 157 = .ok (.iastore, 1) := by decide +kernel
theorem dX1_moveOne_158 : decode cX1_moveOne 158 = .ok (.aload_n 0, 1) := by decide +kernel
theorem dX1_moveOne_159 : decode cX1_moveOne 159 = .ok (.getfield 16, 3) := by decide +kernel
theorem dX1_moveOne_162 : decode cX1_moveOne 162 = .ok (.iload_n 2, 1) := by decide +kernel
theorem dX1_moveOne_163 : decode cX1_moveOne 163 = .ok (.dup2, 1) := by decide +kernel
theorem dX1_moveOne_164 : decode cX1_moveOne 164 = .ok (.iaload, 1) := by decide +kernel
theorem dX1_moveOne_165 : decode cX1_moveOne 165 = .ok (.iconst 1, 1) := by decide +kernel
theorem dX1_moveOne_166 : decode cX1_moveOne 166 = .ok (.iadd, 1) := by decide +kernel
theorem dX1_moveOne_167 : decode cX1_moveOne 167 = .ok (.iastore, 1) := by decide +kernel
theorem dX1_moveOne_168 : decode cX1_moveOne 168 = .ok (.return_, 1) := by decide +kernel
theorem dX1_resize_0 : decode cX1_resize 0 = .ok (.aload_n 0, 1) := by decide +kernel
theorem dX1_resize_1 : decode cX1_resize 1 = .ok (.iload_n 1, 1) := by decide +kernel
theorem dX1_resize_2 : decode cX1_resize 2 = .ok (.invokevirtual 70, 3) := by decide +kernel
theorem dX1_resize_5 : decode cX1_resize 5 = .ok (.ifCond .ne 5, 3) := by decide +kernel
theorem dX1_resize_8 : decode cX1_resize 8 = .ok (.iconst (-1), 1) := by decide +kernel
theorem dX1_resize_9 : decode cX1_resize 9 = .ok (.ireturn, 1) := by decide +kernel
theorem dX1_resize_10 : decode cX1_resize 10 = .ok (.iload_n 2, 1) := by decide +kernel
theorem dX1_resize_11 : decode cX1_resize 11 = .ok (.invokestatic 47, 3) := by decide +kernel
theorem dX1_resize_14 : decode cX1_resize 14 = .ok (.ifCond .ne 6, 3) := by decide +kernel
theorem dX1_resize_17 : decode cX1_resize 17 = .ok (.bipush (-2), 2) := by decide +kernel
theorem dX1_resize_19 : decode cX1_resize 19 = .ok (.ireturn, 1) := by decide +kernel
theorem dX1_resize_20 : decode cX1_resize 20 = .ok (.aload_n 0, 1) := by decide +kernel
theorem dX1_resize_21 : decode cX1_resize 21 = .ok (.getfield 28, 3) := by decide +kernel
theorem dX1_resize_24 : decode cX1_resize 24 = .ok (.iload_n 1, 1) := by decide +kernel
theorem dX1_resize_25 : decode cX1_resize 25 = .ok (.iaload, 1) := by decide +kernel
theorem dX1_resize_26 : decode cX1_resize 26 = .ok (.istore_n 3, 1) := by decide +kernel
theorem dX1_resize_27 : decode cX1_resize 27 = .ok (.iload_n 3, 1) := by decide +kernel
theorem dX1_resize_28 : decode cX1_resize 28 = .ok (.invokestatic 54, 3) := by decide +kernel
theorem dX1_resize_31 : decode cX1_resize 31 = .ok (.istore 4, 2) := by decide +kernel
theorem dX1_resize_33 : decode cX1_resize 33 = .ok (.iload_n 2, 1) := by decide +kernel
theorem dX1_resize_34 : decode cX1_resize 34 = .ok (.invokestatic 54, 3) := by decide +kernel
theorem dX1_resize_37 : decode cX1_resize 37 = .ok (.istore 5, 2) := by decide +kernel
theorem dX1_resize_39 : decode cX1_resize 39 = .ok (.iload 4, 2) := by decide +kernel
theorem dX1_resize_41 : decode cX1_resize 41 = .ok (.iload 5, 2) := by decide +kernel
theorem dX1_resize_43 : decode cX1_resize 43 = .ok (.if_icmp .eq 122, 3) := by decide +kernel
theorem dX1_resize_46 : decode cX1_resize 46 = .ok (.aload_n 0, 1) := by decide +kernel
theorem dX1_resize_47 : decode cX1_resize 47 = .ok (.iload 4, 2) := by decide +kernel
theorem dX1_resize_49 : decode cX1_resize 49 = .ok (.iload 5, 2) := by decide +kernel
theorem dX1_resize_51 : decode cX1_resize 51 = .ok (.invokevirtual 77, 3) := by decide +kernel
theorem dX1_resize_54 : decode cX1_resize 54 = .ok (.aload_n 0, 1) := by decide +kernel
theorem dX1_resize_55 : decode cX1_resize 55 = .ok (.getfield 40, 3) := by decide +kernel
theorem dX1_resize_58 : decode cX1_resize 58 = .ok (.if_icmp .le 6, 3) := by decide +kernel
theorem dX1_resize_61 : decode cX1_resize 61 = .ok (.bipush (-3), 2) := by decide +kernel
theorem dX1_resize_63 : decode cX1_resize 63 = .ok (.ireturn, 1) := by decide +kernel
theorem dX1_resize_64 : decode cX1_resize 64 = .ok (.iconst 0, 1) := by decide +kernel
theorem dX1_resize_65 : decode cX1_resize 65 = .ok (.istore 6, 2) := by decide +kernel
theorem dX1_resize_67 : decode cX1_resize 67 = .ok (.iload 6, 2) := by decide +kernel
theorem dX1_resize_69 : decode cX1_resize 69 = .ok (.bipush 16, 2) := by decide +kernel
theorem dX1_resize_71 : decode cX1_resize 71 = .ok (.if_icmp .ge 33, 3) := by decide +kernel
theorem dX1_resize_74 : decode cX1_resize 74 = .ok (.aload_n 0, 1) := by decide +kernel
theorem dX1_resize_75 : decode cX1_resize 75 = .ok (.getfield 37, 3) := by decide +kernel
theorem dX1_resize_78 : decode cX1_resize 78 = .ok (.iload 6, 2) := by decide +kernel
theorem dX1_resize_80 : decode cX1_resize 80 = .ok (.iload 6, 2) := by decide +kernel
theorem dX1_resize_82 : decode cX1_resize 82 = .ok (.iload_n 3, 1) := by decide +kernel
theorem dX1_resize_83 : decode cX1_resize 83 = .ok (.if_icmp .ge 13, 3) := by decide +kernel
theorem dX1_resize_86 : decode cX1_resize 86 = .ok (.aload_n 0, 1) := by decide +kernel
theorem dX1_resize_87 : decode cX1_resize 87 = .ok (.iload_n 1, 1) := by decide +kernel
theorem dX1_resize_88 : decode cX1_resize 88 = .ok (.iload 6, 2) := by decide +kernel
theorem dX1_resize_90 : decode cX1_resize 90 = .ok (.invokevirtual 81, 3) := by decide +kernel
theorem dX1_resize_93 : decode cX1_resize 93 = .ok (.goto 4, 3) := by decide +kernel
theorem dX1_resize_96 : decode cX1_resize 96 = .ok (.iconst 0, 1) := by decide +kernel
theorem dX1_resize_97 : decode cX1_resize 97 = .ok (.iastore, 1) := by decide +kernel
theorem dX1_resize_98 : decode cX1_resize 98 = .ok (.iinc 6 1, 3) := by decide +kernel
theorem dX1_resize_101 : decode cX1_resize 101 = .ok (.goto (-34), 3) := by decide +kernel
theorem dX1_resize_104 : decode cX1_resize 104 = .ok (.aload_n 0, 1) := by decide +kernel
theorem dX1_resize_105 : decode cX1_resize 105 = .ok (.iload_n 1, 1) := by decide +kernel
theorem dX1_resize_106 : decode cX1_resize 106 = .ok (.invokevirtual 73, 3) := by decide +kernel
theorem dX1_resize_109 : decode cX1_resize 109 = .ok (.aload_n 0, 1) := by decide +kernel
theorem dX1_resize_110 : decode cX1_resize 110 = .ok (.getfield 28, 3) := by decide +kernel
theorem dX1_resize_113 : decode cX1_resize 113 = .ok (.iload_n 1, 1) := by decide +kernel
theorem dX1_resize_114 : decode cX1_resize 114 = .ok (.iload_n 2, 1) := by decide +kernel
theorem dX1_resize_115 : decode cX1_resize 115 = .ok (.iastore, 1) := by decide +kernel
theorem dX1_resize_116 : decode cX1_resize 116 = .ok (.aload_n 0, 1) := by decide +kernel
theorem dX1_resize_117 : decode cX1_resize 117 = .ok (.iload_n 1, 1) := by decide +kernel
theorem dX1_resize_118 : decode cX1_resize 118 = .ok (.iload 5, 2) := by decide +kernel
theorem dX1_resize_120 : decode cX1_resize 120 = .ok (.invokevirtual 62, 3) := by decide +kernel
theorem dX1_resize_123 : decode cX1_resize 123 = .ok (.aload_n 0, 1) := by decide +kernel
theorem dX1_resize_124 : decode cX1_resize 124 = .ok (.iload_n 1, 1) := by decide +kernel
theorem dX1_resize_125 : decode cX1_resize 125 = .ok (.invokevirtual 84, 3) := by decide +kernel
theorem dX1_resize_128 : decode cX1_resize 128 = .ok (.istore 6, 2) := by decide +kernel
theorem dX1_resize_130 : decode cX1_resize 130 = .ok (.iconst 0, 1) := by decide +kernel
theorem dX1_resize_131 : decode cX1_resize 131 = .ok (.istore 7, 2) := by decide +kernel
theorem dX1_resize_133 : decode cX1_resize 133 = .ok (.iload 7, 2) := by decide +kernel
theorem dX1_resize_135 : decode cX1_resize 135 = .ok (.iload_n 2, 1) := by decide +kernel
theorem dX1_resize_136 : decode cX1_resize 136 = .ok (.if_icmp .ge 26, 3) := by decide +kernel
theorem dX1_resize_139 : decode cX1_resize 139 = .ok (.aload_n 0, 1) := by decide +kernel
theorem dX1_resize_140 : decode cX1_resize 140 = .ok (.getfield 7, 3) := by decide +kernel
theorem dX1_resize_143 : decode cX1_resize 143 = .ok (.iload 6, 2) := by decide +kernel
theorem dX1_resize_145 : decode cX1_resize 145 = .ok (.iload 7, 2) := by decide +kernel
theorem dX1_resize_147 : decode cX1_resize 147 = .ok (.iadd, 1) := by decide +kernel
theorem dX1_resize_148 : decode cX1_resize 148 = .ok (.aload_n 0, 1) := by decide +kernel
theorem dX1_resize_149 : decode cX1_resize 149 = .ok (.getfield 37, 3) := by decide +kernel
theorem dX1_resize_152 : decode cX1_resize 152 = .ok (.iload 7, 2) := by decide +kernel
theorem dX1_resize_154 : decode cX1_resize 154 = .ok (.iaload, 1) := by decide +kernel
theorem dX1_resize_155 : decode cX1_resize 155 = .ok (.iastore, 1) := by decide +kernel
theorem dX1_resize_156 : decode cX1_resize 156 = .ok (.iinc 7 1, 3) := by decide +kernel
theorem dX1_resize_159 : decode cX1_resize 159 = .ok (.goto (-26), 3) := by decide +kernel
theorem dX1_resize_162 : decode cX1_resize 162 = .ok (.goto 17, 3) := by decide +kernel
theorem dX1_resize_165 : decode cX1_resize 165 = .ok (.aload_n 0, 1) := by decide +kernel
theorem dX1_resize_166 : decode cX1_resize 166 = .ok (.getfield 28, 3) := by decide +kernel
theorem dX1_resize_169 : decode cX1_resize 169 = .ok (.iload_n 1, 1) := by decide +kernel
theorem dX1_resize_170 : decode cX1_resize 170 = .ok (.iload_n 2, 1) := by decide +kernel
theorem dX1_resize_171 : decode cX1_resize 171 = .ok (.iastore, 1) := by decide +kernel
theorem dX1_resize_172 : decode cX1_resize 172 = .ok (.aload_n 0, 1) := by decide +kernel
theorem dX1_resize_173 : decode cX1_resize 173 = .ok (.iload_n 1, 1) := by decide +kernel
theorem dX1_resize_174 : decode cX1_resize 174 = .ok (.iload_n 3, 1) := by decide +kernel
theorem dX1_resize_175 : decode cX1_resize 175 = .ok (.iload_n 2, 1) := by decide +kernel
theorem dX1_resize_176 : decode cX1_resize 176 = .ok (.invokevirtual 66, 3) := by decide +kernel
theorem dX1_resize_179 : decode cX1_resize 179 = .ok (.iload_n 3, 1) := by decide +kernel
theorem dX1_resize_180 : decode cX1_resize 180 = .ok (.ireturn, 1) := by decide +kernel
theorem dX1_neededAfter_0 : decode cX1_neededAfter 0 = .ok (.iload_n 1, 1) := by decide +kernel
theorem dX1_neededAfter_1 : decode cX1_neededAfter 1 = .ok (.invokestatic 93, 3) := by decide +kernel
theorem dX1_neededAfter_4 : decode cX1_neededAfter 4 = .ok (.istore_n 3, 1) := by decide +kernel
theorem dX1_neededAfter_5 : decode cX1_neededAfter 5 = .ok (.iload_n 2, 1) := by decide +kernel
theorem dX1_neededAfter_6 : decode cX1_neededAfter 6 = .ok (.invokestatic 93, 3) := by decide +kernel
theorem dX1_neededAfter_9 : decode cX1_neededAfter 9 = .ok (.istore 4, 2) := by decide +kernel
theorem dX1_neededAfter_11 : decode cX1_neededAfter 11 = .ok (.aload_n 0, 1) := by decide +kernel
theorem dX1_neededAfter_12 : decode cX1_neededAfter 12 = .ok (.getfield 40, 3) := by decide +kernel
theorem dX1_neededAfter_15 : decode cX1_neededAfter 15 = .ok (.aload_n 0, 1) := by decide +kernel
theorem dX1_neededAfter_16 : decode cX1_neededAfter 16 = .ok (.getfield 44, 3) := by decide +kernel
theorem dX1_neededAfter_19 : decode cX1_neededAfter 19 = .ok (.isub, 1) := by decide +kernel
theorem dX1_neededAfter_20 : decode cX1_neededAfter 20 = .ok (.istore 5, 2) := by decide +kernel
theorem dX1_neededAfter_22 : decode cX1_neededAfter 22 = .ok (.aload_n 0, 1) := by decide +kernel
theorem dX1_neededAfter_23 : decode cX1_neededAfter 23 = .ok (.getfield 31, 3) := by decide +kernel
theorem dX1_neededAfter_26 : decode cX1_neededAfter 26 = .ok (.iload_n 1, 1) := by decide +kernel
theorem dX1_neededAfter_27 : decode cX1_neededAfter 27 = .ok (.iaload, 1) := by decide +kernel
theorem dX1_neededAfter_28 : decode cX1_neededAfter 28 = .ok (.iconst (-1), 1) := by decide +kernel
theorem dX1_neededAfter_29 : decode cX1_neededAfter 29 = .ok (.if_icmp .eq 21, 3) := by decide +kernel
theorem dX1_neededAfter_32 : decode cX1_neededAfter 32 = .ok (.aload_n 0, 1) := by decide +kernel
theorem dX1_neededAfter_33 : decode cX1_neededAfter 33 = .ok (.getfield 16, 3) := by decide +kernel
theorem dX1_neededAfter_36 : decode cX1_neededAfter 36 = .ok (.aload_n 0, 1) := by decide +kernel
theorem dX1_neededAfter_37 : decode cX1_neededAfter 37 = .ok (.getfield 31, 3) := by decide +kernel
theorem dX1_neededAfter_40 : decode cX1_neededAfter 40 = .ok (.iload_n 1, 1) := by decide +kernel
theorem dX1_neededAfter_41 : decode cX1_neededAfter 41 = .ok (.iaload, 1) := by decide +kernel
theorem dX1_neededAfter_42 : decode cX1_neededAfter 42 = .ok (.iaload, 1) := by decide +kernel
theorem dX1_neededAfter_43 : decode cX1_neededAfter 43 = .ok (.iconst 1, 1) := by decide +kernel
theorem dX1_neededAfter_44 : decode cX1_neededAfter 44 = .ok (.if_icmp .ne 14, 3) := by decide +kernel
theorem dX1_neededAfter_47 : decode cX1_neededAfter 47 = .ok (.goto 8, 3) := by decide +kernel
theorem dX1_neededAfter_50 : decode cX1_neededAfter 50 = .ok (.iload_n 3, 1) := by decide +kernel
theorem dX1_neededAfter_51 : decode cX1_neededAfter 51 = .ok (.iconst 1, 1) := by decide +kernel
theorem dX1_neededAfter_52 : decode cX1_neededAfter 52 = .ok (.if_icmp .ne 6, 3) := by decide +kernel
theorem dX1_neededAfter_55 : decode cX1_neededAfter 55 = .ok (.iinc 5 (-1), 3) := by decide +kernel
theorem dX1_neededAfter_58 : decode cX1_neededAfter 58 = .ok (.aload_n 0, 1) := by decide +kernel
theorem dX1_neededAfter_59 : decode cX1_neededAfter 59 = .ok (.getfield 31, 3) := by decide +kernel
theorem dX1_neededAfter_62 : decode cX1_neededAfter 62 = .ok (.iload_n 2, 1) := by decide +kernel
theorem dX1_neededAfter_63 : decode cX1_neededAfter 63 = .ok (.iaload, 1) := by decide +kernel
theorem dX1_neededAfter_64 : decode cX1_neededAfter 64 = .ok (.iconst (-1), 1) := by decide +kernel
theorem dX1_neededAfter_65 : decode cX1_neededAfter 65 = .ok (.if_icmp .eq 19, 3) := by decide +kernel
theorem dX1_neededAfter_68 : decode cX1_neededAfter 68 = .ok (.aload_n 0, 1) := by decide +kernel
theorem dX1_neededAfter_69 : decode cX1_neededAfter 69 = .ok (.getfield 16, 3) := by decide +kernel
theorem dX1_neededAfter_72 : decode cX1_neededAfter 72 = .ok (.aload_n 0, 1) := by decide +kernel
theorem dX1_neededAfter_73 : decode cX1_neededAfter 73 = .ok (.getfield 31, 3) := by decide +kernel
theorem dX1_neededAfter_76 : decode cX1_neededAfter 76 = .ok (.iload_n 2, 1) := by decide +kernel
theorem dX1_neededAfter_77 : decode cX1_neededAfter 77 = .ok (.iaload, 1) := by decide +kernel
theorem dX1_neededAfter_78 : decode cX1_neededAfter 78 = .ok (.iaload, 1) := by decide +kernel
theorem dX1_neededAfter_79 : decode cX1_neededAfter 79 = .ok (.iload 4, 2) := by decide +kernel
theorem dX1_neededAfter_81 : decode cX1_neededAfter 81 = .ok (.if_icmp .ne 6, 3) := by decide +kernel
theorem dX1_neededAfter_84 : decode cX1_neededAfter 84 = .ok (.iinc 5 1, 3) := by decide +kernel
theorem dX1_neededAfter_87 : decode cX1_neededAfter 87 = .ok (.iload 5, 2) := by decide +kernel
theorem dX1_neededAfter_89 : decode cX1_neededAfter 89 = .ok (.ireturn, 1) := by decide +kernel
theorem dX1_word_0 : decode cX1_word 0 = .ok (.aload_n 0, 1) := by decide +kernel
theorem dX1_word_1 : decode cX1_word 1 = .ok (.iload_n 1, 1) := by decide +kernel
theorem dX1_word_2 : decode cX1_word 2 = .ok (.invokevirtual 84, 3) := by decide +kernel
theorem dX1_word_5 : decode cX1_word 5 = .ok (.istore_n 3, 1) := by decide +kernel
theorem dX1_word_6 : decode cX1_word 6 = .ok (.aload_n 0, 1) := by decide +kernel
theorem dX1_word_7 : decode cX1_word 7 = .ok (.getfield 7, 3) := by decide +kernel
theorem dX1_word_10 : decode cX1_word 10 = .ok (.iload_n 3, 1) := by decide +kernel
theorem dX1_word_11 : decode cX1_word 11 = .ok (.iload_n 2, 1) := by decide +kernel
theorem dX1_word_12 : decode cX1_word 12 = .ok (.iadd, 1) := by decide +kernel
theorem dX1_word_13 : decode cX1_word 13 = .ok (.iaload, 1) := by decide +kernel
theorem dX1_word_14 : decode cX1_word 14 = .ok (.ireturn, 1) := by decide +kernel
theorem dX1_copy_0 : decode cX1_copy 0 = .ok (.aload_n 0, 1) := by decide +kernel
theorem dX1_copy_1 : decode cX1_copy 1 = .ok (.iload_n 1, 1) := by decide +kernel
theorem dX1_copy_2 : decode cX1_copy 2 = .ok (.invokevirtual 70, 3) := by decide +kernel
theorem dX1_copy_5 : decode cX1_copy 5 = .ok (.ifCond .ne 5, 3) := by decide +kernel
theorem dX1_copy_8 : decode cX1_copy 8 = .ok (.iconst (-1), 1) := by decide +kernel
theorem dX1_copy_9 : decode cX1_copy 9 = .ok (.ireturn, 1) := by decide +kernel
theorem dX1_copy_10 : decode cX1_copy 10 = .ok (.aload_n 0, 1) := by decide +kernel
theorem dX1_copy_11 : decode cX1_copy 11 = .ok (.getfield 28, 3) := by decide +kernel
theorem dX1_copy_14 : decode cX1_copy 14 = .ok (.iload_n 1, 1) := by decide +kernel
theorem dX1_copy_15 : decode cX1_copy 15 = .ok (.iaload, 1) := by decide +kernel
theorem dX1_copy_16 : decode cX1_copy 16 = .ok (.istore_n 2, 1) := by decide +kernel
theorem dX1_copy_17 : decode cX1_copy 17 = .ok (.aload_n 0, 1) := by decide +kernel
theorem dX1_copy_18 : decode cX1_copy 18 = .ok (.iload_n 2, 1) := by decide +kernel
theorem dX1_copy_19 : decode cX1_copy 19 = .ok (.invokevirtual 87, 3) := by decide +kernel
theorem dX1_copy_22 : decode cX1_copy 22 = .ok (.istore_n 3, 1) := by decide +kernel
theorem dX1_copy_23 : decode cX1_copy 23 = .ok (.iload_n 3, 1) := by decide +kernel
theorem dX1_copy_24 : decode cX1_copy 24 = .ok (.ifCond .ge 5, 3) := by decide +kernel
theorem dX1_copy_27 : decode cX1_copy 27 = .ok (.iload_n 3, 1) := by decide +kernel
theorem dX1_copy_28 : decode cX1_copy 28 = .ok (.ireturn, 1) := by decide +kernel
theorem dX1_copy_29 : decode cX1_copy 29 = .ok (.aload_n 0, 1) := by decide +kernel
theorem dX1_copy_30 : decode cX1_copy 30 = .ok (.iload_n 1, 1) := by decide +kernel
theorem dX1_copy_31 : decode cX1_copy 31 = .ok (.invokevirtual 84, 3) := by decide +kernel
theorem dX1_copy_34 : decode cX1_copy 34 = .ok (.istore 4, 2) := by decide +kernel
theorem dX1_copy_36 : decode cX1_copy 36 = .ok (.aload_n 0, 1) := by decide +kernel
theorem dX1_copy_37 : decode cX1_copy 37 = .ok (.iload_n 3, 1) := by decide +kernel
theorem dX1_copy_38 : decode cX1_copy 38 = .ok (.invokevirtual 84, 3) := by decide +kernel
theorem dX1_copy_41 : decode cX1_copy 41 = .ok (.istore 5, 2) := by decide +kernel
theorem dX1_copy_43 : decode cX1_copy 43 = .ok (.iconst 0, 1) := by decide +kernel
theorem dX1_copy_44 : decode cX1_copy 44 = .ok (.istore 6, 2) := by decide +kernel
theorem dX1_copy_46 : decode cX1_copy 46 = .ok (.iload 6, 2) := by decide +kernel
theorem dX1_copy_48 : decode cX1_copy 48 = .ok (.iload_n 2, 1) := by decide +kernel
theorem dX1_copy_49 : decode cX1_copy 49 = .ok (.if_icmp .ge 29, 3) := by decide +kernel
theorem dX1_copy_52 : decode cX1_copy 52 = .ok (.aload_n 0, 1) := by decide +kernel
theorem dX1_copy_53 : decode cX1_copy 53 = .ok (.getfield 7, 3) := by decide +kernel
theorem dX1_copy_56 : decode cX1_copy 56 = .ok (.iload 5, 2) := by decide +kernel
theorem dX1_copy_58 : decode cX1_copy 58 = .ok (.iload 6, 2) := by decide +kernel
theorem dX1_copy_60 : decode cX1_copy 60 = .ok (.iadd, 1) := by decide +kernel
theorem dX1_copy_61 : decode cX1_copy 61 = .ok (.aload_n 0, 1) := by decide +kernel
theorem dX1_copy_62 : decode cX1_copy 62 = .ok (.getfield 7, 3) := by decide +kernel
theorem dX1_copy_65 : decode cX1_copy 65 = .ok (.iload 4, 2) := by decide +kernel
theorem dX1_copy_67 : decode cX1_copy 67 = .ok (.iload 6, 2) := by decide +kernel
theorem dX1_copy_69 : decode cX1_copy 69 = .ok (.iadd, 1) := by decide +kernel
theorem dX1_copy_70 : decode cX1_copy 70 = .ok (.iaload, 1) := by decide +kernel
theorem dX1_copy_71 : decode cX1_copy 71 = .ok (.iastore, 1) := by decide +kernel
theorem dX1_copy_72 : decode cX1_copy 72 = .ok (.iinc 6 1, 3) := by decide +kernel
theorem dX1_copy_75 : decode cX1_copy 75 = .ok (.goto (-29), 3) := by decide +kernel
theorem dX1_copy_78 : decode cX1_copy 78 = .ok (.iload_n 3, 1) := by decide +kernel
theorem dX1_copy_79 : decode cX1_copy 79 = .ok (.ireturn, 1) := by decide +kernel
theorem dX1_freeClass_0 : decode cX1_freeClass 0 = .ok (.iload_n 1, 1) := by decide +kernel
theorem dX1_freeClass_1 : decode cX1_freeClass 1 = .ok (.invokestatic 90, 3) := by decide +kernel
theorem dX1_freeClass_4 : decode cX1_freeClass 4 = .ok (.ifCond .ne 5, 3) := by decide +kernel
theorem dX1_freeClass_7 : decode cX1_freeClass 7 = .ok (.iconst (-1), 1) := by decide +kernel
theorem dX1_freeClass_8 : decode cX1_freeClass 8 = .ok (.ireturn, 1) := by decide +kernel
theorem dX1_freeClass_9 : decode cX1_freeClass 9 = .ok (.iconst 0, 1) := by decide +kernel
theorem dX1_freeClass_10 : decode cX1_freeClass 10 = .ok (.istore_n 2, 1) := by decide +kernel
theorem dX1_freeClass_11 : decode cX1_freeClass 11 = .ok (.iconst 0, 1) := by decide +kernel
theorem dX1_freeClass_12 : decode cX1_freeClass 12 = .ok (.istore_n 3, 1) := by decide +kernel
theorem dX1_freeClass_13 : decode cX1_freeClass 13 = .ok (.iload_n 3, 1) := by decide +kernel
theorem dX1_freeClass_14 : decode cX1_freeClass 14 = .ok (.bipush 64, 2) := by decide +kernel
theorem dX1_freeClass_16 : decode cX1_freeClass 16 = .ok (.if_icmp .ge 48, 3) := by decide +kernel
theorem dX1_freeClass_19 : decode cX1_freeClass 19 = .ok (.aload_n 0, 1) := by decide +kernel
theorem dX1_freeClass_20 : decode cX1_freeClass 20 = .ok (.getfield 28, 3) := by decide +kernel
theorem dX1_freeClass_23 : decode cX1_freeClass 23 = .ok (.iload_n 3, 1) := by decide +kernel
theorem dX1_freeClass_24 : decode cX1_freeClass 24 = .ok (.iaload, 1) := by decide +kernel
theorem dX1_freeClass_25 : decode cX1_freeClass 25 = .ok (.ifCond .le 33, 3) := by decide +kernel
theorem dX1_freeClass_28 : decode cX1_freeClass 28 = .ok (.aload_n 0, 1) := by decide +kernel
theorem dX1_freeClass_29 : decode cX1_freeClass 29 = .ok (.getfield 13, 3) := by decide +kernel
theorem dX1_freeClass_32 : decode cX1_freeClass 32 = .ok (.aload_n 0, 1) := by decide +kernel
theorem dX1_freeClass_33 : decode cX1_freeClass 33 = .ok (.getfield 22, 3) := by decide +kernel
theorem dX1_freeClass_36 : decode cX1_freeClass 36 = .ok (.iload_n 3, 1) := by decide +kernel
theorem dX1_freeClass_37 : decode cX1_freeClass 37 = .ok (.iaload, 1) := by decide +kernel
theorem dX1_freeClass_38 : decode cX1_freeClass 38 = .ok (.iaload, 1) := by decide +kernel
theorem dX1_freeClass_39 : decode cX1_freeClass 39 = .ok (.iload_n 1, 1) := by decide +kernel
theorem dX1_freeClass_40 : decode cX1_freeClass 40 = .ok (.if_icmp .ne 18, 3) := by decide +kernel
theorem dX1_freeClass_43 : decode cX1_freeClass 43 = .ok (.aload_n 0, 1) := by decide +kernel
theorem dX1_freeClass_44 : decode cX1_freeClass 44 = .ok (.iload_n 3, 1) := by decide +kernel
theorem dX1_freeClass_45 : decode cX1_freeClass 45 = .ok (.invokevirtual 73, 3) := by decide +kernel
theorem dX1_freeClass_48 : decode cX1_freeClass 48 = .ok (.aload_n 0, 1) := by decide +kernel
theorem dX1_freeClass_49 : decode cX1_freeClass 49 = .ok (.getfield 28, 3) := by decide +kernel
theorem dX1_freeClass_52 : decode cX1_freeClass 52 = .ok (.iload_n 3, 1) := by decide +kernel
theorem dX1_freeClass_53 : decode cX1_freeClass 53 = .ok (.iconst 0, 1) := by decide +kernel
theorem dX1_freeClass_54 : decode cX1_freeClass 54 = .ok (.iastore, 1) := by decide +kernel
theorem dX1_freeClass_55 : decode cX1_freeClass 55 = .ok (.iinc 2 1, 3) := by decide +kernel
theorem dX1_freeClass_58 : decode cX1_freeClass 58 = .ok (.iinc 3 1, 3) := by decide +kernel
theorem dX1_freeClass_61 : decode cX1_freeClass 61 = .ok (.goto (-48), 3) := by decide +kernel
theorem dX1_freeClass_64 : decode cX1_freeClass 64 = .ok (.iload_n 2, 1) := by decide +kernel
theorem dX1_freeClass_65 : decode cX1_freeClass 65 = .ok (.ireturn, 1) := by decide +kernel
theorem dX1_isKind_0 : decode cX1_isKind 0 = .ok (.iload_n 0, 1) := by decide +kernel
theorem dX1_isKind_1 : decode cX1_isKind 1 = .ok (.ifCond .lt 12, 3) := by decide +kernel
theorem dX1_isKind_4 : decode cX1_isKind 4 = .ok (.iload_n 0, 1) := by decide +kernel
theorem dX1_isKind_5 : decode cX1_isKind 5 = .ok (.iconst 3, 1) := by decide +kernel
theorem dX1_isKind_6 : decode cX1_isKind 6 = .ok (.if_icmp .gt 7, 3) := by decide +kernel
theorem dX1_isKind_9 : decode cX1_isKind 9 = .ok (.iconst 1, 1) := by decide +kernel
theorem dX1_isKind_10 : decode cX1_isKind 10 = .ok (.goto 4, 3) := by decide +kernel
end
section
set_option maxRecDepth 100000
theorem dX1_isKind_13 : decode cX1_isKind 13 = .ok (.iconst 0, 1) := by decide +kernel
theorem dX1_isKind_14 : decode cX1_isKind 14 = .ok (.ireturn, 1) := by decide +kernel
theorem dX1_read_0 : decode cX1_read 0 = .ok (.aload_n 0, 1) := by decide +kernel
theorem dX1_read_1 : decode cX1_read 1 = .ok (.iload_n 1, 1) := by decide +kernel
theorem dX1_read_2 : decode cX1_read 2 = .ok (.invokevirtual 70, 3) := by decide +kernel
theorem dX1_read_5 : decode cX1_read 5 = .ok (.ifCond .eq 26, 3) := by decide +kernel
theorem dX1_read_8 : decode cX1_read 8 = .ok (.iload_n 2, 1) := by decide +kernel
theorem dX1_read_9 : decode cX1_read 9 = .ok (.ifCond .lt 22, 3) := by decide +kernel
theorem dX1_read_12 : decode cX1_read 12 = .ok (.iload_n 2, 1) := by decide +kernel
theorem dX1_read_13 : decode cX1_read 13 = .ok (.aload_n 0, 1) := by decide +kernel
theorem dX1_read_14 : decode cX1_read 14 = .ok (.getfield 28, 3) := by decide +kernel
theorem dX1_read_17 : decode cX1_read 17 = .ok (.iload_n 1, 1) := by decide +kernel
theorem dX1_read_18 : decode cX1_read 18 = .ok (.iaload, 1) := by decide +kernel
theorem dX1_read_19 : decode cX1_read 19 = .ok (.if_icmp .ge 12, 3) := by decide +kernel
theorem dX1_read_22 : decode cX1_read 22 = .ok (.aload_n 0, 1) := by decide +kernel
theorem dX1_read_23 : decode cX1_read 23 = .ok (.iload_n 1, 1) := by decide +kernel
theorem dX1_read_24 : decode cX1_read 24 = .ok (.iload_n 2, 1) := by decide +kernel
theorem dX1_read_25 : decode cX1_read 25 = .ok (.invokevirtual 81, 3) := by decide +kernel
theorem dX1_read_28 : decode cX1_read 28 = .ok (.goto 4, 3) := by decide +kernel
theorem dX1_read_31 : decode cX1_read 31 = .ok (.iconst 0, 1) := by decide +kernel
theorem dX1_read_32 : decode cX1_read 32 = .ok (.ireturn, 1) := by decide +kernel
theorem dX1_write_0 : decode cX1_write 0 = .ok (.aload_n 0, 1) := by decide +kernel
theorem dX1_write_1 : decode cX1_write 1 = .ok (.iload_n 1, 1) := by decide +kernel
theorem dX1_write_2 : decode cX1_write 2 = .ok (.invokevirtual 70, 3) := by decide +kernel
theorem dX1_write_5 : decode cX1_write 5 = .ok (.ifCond .ne 5, 3) := by decide +kernel
theorem dX1_write_8 : decode cX1_write 8 = .ok (.iconst (-1), 1) := by decide +kernel
theorem dX1_write_9 : decode cX1_write 9 = .ok (.ireturn, 1) := by decide +kernel
theorem dX1_write_10 : decode cX1_write 10 = .ok (.iload_n 2, 1) := by decide +kernel
theorem dX1_write_11 : decode cX1_write 11 = .ok (.ifCond .lt 13, 3) := by decide +kernel
theorem dX1_write_14 : decode cX1_write 14 = .ok (.iload_n 2, 1) := by decide +kernel
theorem dX1_write_15 : decode cX1_write 15 = .ok (.aload_n 0, 1) := by decide +kernel
theorem dX1_write_16 : decode cX1_write 16 = .ok (.getfield 28, 3) := by decide +kernel
theorem dX1_write_19 : decode cX1_write 19 = .ok (.iload_n 1, 1) := by decide +kernel
theorem dX1_write_20 : decode cX1_write 20 = .ok (.iaload, 1) := by decide +kernel
theorem dX1_write_21 : decode cX1_write 21 = .ok (.if_icmp .lt 6, 3) := by decide +kernel
theorem dX1_write_24 : decode cX1_write 24 = .ok (.bipush (-2), 2) := by decide +kernel
theorem dX1_write_26 : decode cX1_write 26 = .ok (.ireturn, 1) := by decide +kernel
theorem dX1_write_27 : decode cX1_write 27 = .ok (.aload_n 0, 1) := by decide +kernel
theorem dX1_write_28 : decode cX1_write 28 = .ok (.iload_n 1, 1) := by decide +kernel
theorem dX1_write_29 : decode cX1_write 29 = .ok (.invokevirtual 84, 3) := by decide +kernel
theorem dX1_write_32 : decode cX1_write 32 = .ok (.istore 4, 2) := by decide +kernel
theorem dX1_write_34 : decode cX1_write 34 = .ok (.aload_n 0, 1) := by decide +kernel
theorem dX1_write_35 : decode cX1_write 35 = .ok (.getfield 7, 3) := by decide +kernel
theorem dX1_write_38 : decode cX1_write 38 = .ok (.iload 4, 2) := by decide +kernel
theorem dX1_write_40 : decode cX1_write 40 = .ok (.iload_n 2, 1) := by decide +kernel
theorem dX1_write_41 : decode cX1_write 41 = .ok (.iadd, 1) := by decide +kernel
theorem dX1_write_42 : decode cX1_write 42 = .ok (.iload_n 3, 1) := by decide +kernel
theorem dX1_write_43 : decode cX1_write 43 = .ok (.iastore, 1) := by decide +kernel
theorem dX1_write_44 : decode cX1_write 44 = .ok (.iconst 0, 1) := by decide +kernel
theorem dX1_write_45 : decode cX1_write 45 = .ok (.ireturn, 1) := by decide +kernel
theorem dX1_fill_0 : decode cX1_fill 0 = .ok (.aload_n 0, 1) := by decide +kernel
theorem dX1_fill_1 : decode cX1_fill 1 = .ok (.iload_n 1, 1) := by decide +kernel
theorem dX1_fill_2 : decode cX1_fill 2 = .ok (.invokevirtual 70, 3) := by decide +kernel
theorem dX1_fill_5 : decode cX1_fill 5 = .ok (.ifCond .ne 5, 3) := by decide +kernel
theorem dX1_fill_8 : decode cX1_fill 8 = .ok (.iconst (-1), 1) := by decide +kernel
theorem dX1_fill_9 : decode cX1_fill 9 = .ok (.ireturn, 1) := by decide +kernel
theorem dX1_fill_10 : decode cX1_fill 10 = .ok (.aload_n 0, 1) := by decide +kernel
theorem dX1_fill_11 : decode cX1_fill 11 = .ok (.iload_n 1, 1) := by decide +kernel
theorem dX1_fill_12 : decode cX1_fill 12 = .ok (.invokevirtual 84, 3) := by decide +kernel
theorem dX1_fill_15 : decode cX1_fill 15 = .ok (.istore 4, 2) := by decide +kernel
theorem dX1_fill_17 : decode cX1_fill 17 = .ok (.iconst 0, 1) := by decide +kernel
theorem dX1_fill_18 : decode cX1_fill 18 = .ok (.istore 5, 2) := by decide +kernel
theorem dX1_fill_20 : decode cX1_fill 20 = .ok (.iload 5, 2) := by decide +kernel
theorem dX1_fill_22 : decode cX1_fill 22 = .ok (.aload_n 0, 1) := by decide +kernel
theorem dX1_fill_23 : decode cX1_fill 23 = .ok (.getfield 28, 3) := by decide +kernel
theorem dX1_fill_26 : decode cX1_fill 26 = .ok (.iload_n 1, 1) := by decide +kernel
theorem dX1_fill_27 : decode cX1_fill 27 = .ok (.iaload, 1) := by decide +kernel
theorem dX1_fill_28 : decode cX1_fill 28 = .ok (.if_icmp .ge 25, 3) := by decide +kernel
theorem dX1_fill_31 : decode cX1_fill 31 = .ok (.aload_n 0, 1) := by decide +kernel
theorem dX1_fill_32 : decode cX1_fill 32 = .ok (.getfield 7, 3) := by decide +kernel
theorem dX1_fill_35 : decode cX1_fill 35 = .ok (.iload 4, 2) := by decide +kernel
theorem dX1_fill_37 : decode cX1_fill 37 = .ok (.iload 5, 2) := by decide +kernel
theorem dX1_fill_39 : decode cX1_fill 39 = .ok (.iadd, 1) := by decide +kernel
theorem dX1_fill_40 : decode cX1_fill 40 = .ok (.iload_n 2, 1) := by decide +kernel
theorem dX1_fill_41 : decode cX1_fill 41 = .ok (.iload 5, 2) := by decide +kernel
theorem dX1_fill_43 : decode cX1_fill 43 = .ok (.iload_n 3, 1) := by decide +kernel
theorem dX1_fill_44 : decode cX1_fill 44 = .ok (.imul, 1) := by decide +kernel
theorem dX1_fill_45 : decode cX1_fill 45 = .ok (.iadd, 1) := by decide +kernel
theorem dX1_fill_46 : decode cX1_fill 46 = .ok (.iastore, 1) := by decide +kernel
theorem dX1_fill_47 : decode cX1_fill 47 = .ok (.iinc 5 1, 3) := by decide +kernel
theorem dX1_fill_50 : decode cX1_fill 50 = .ok (.goto (-30), 3) := by decide +kernel
theorem dX1_fill_53 : decode cX1_fill 53 = .ok (.aload_n 0, 1) := by decide +kernel
theorem dX1_fill_54 : decode cX1_fill 54 = .ok (.getfield 28, 3) := by decide +kernel
theorem dX1_fill_57 : decode cX1_fill 57 = .ok (.iload_n 1, 1) := by decide +kernel
theorem dX1_fill_58 : decode cX1_fill 58 = .ok (.iaload, 1) := by decide +kernel
theorem dX1_fill_59 : decode cX1_fill 59 = .ok (.ireturn, 1) := by decide +kernel
theorem dX1_exchange_0 : decode cX1_exchange 0 = .ok (.aload_n 0, 1) := by decide +kernel
theorem dX1_exchange_1 : decode cX1_exchange 1 = .ok (.iload_n 1, 1) := by decide +kernel
theorem dX1_exchange_2 : decode cX1_exchange 2 = .ok (.invokevirtual 70, 3) := by decide +kernel
theorem dX1_exchange_5 : decode cX1_exchange 5 = .ok (.ifCond .eq 11, 3) := by decide +kernel
theorem dX1_exchange_8 : decode cX1_exchange 8 = .ok (.aload_n 0, 1) := by decide +kernel
theorem dX1_exchange_9 : decode cX1_exchange 9 = .ok (.iload_n 2, 1) := by decide +kernel
theorem dX1_exchange_10 : decode cX1_exchange 10 = .ok (.invokevirtual 70, 3) := by decide +kernel
theorem dX1_exchange_13 : decode cX1_exchange 13 = .ok (.ifCond .ne 5, 3) := by decide +kernel
theorem dX1_exchange_16 : decode cX1_exchange 16 = .ok (.iconst (-1), 1) := by decide +kernel
theorem dX1_exchange_17 : decode cX1_exchange 17 = .ok (.ireturn, 1) := by decide +kernel
theorem dX1_exchange_18 : decode cX1_exchange 18 = .ok (.aload_n 0, 1) := by decide +kernel
theorem dX1_exchange_19 : decode cX1_exchange 19 = .ok (.getfield 22, 3) := by decide +kernel
theorem dX1_exchange_22 : decode cX1_exchange 22 = .ok (.iload_n 1, 1) := by decide +kernel
theorem dX1_exchange_23 : decode cX1_exchange 23 = .ok (.iaload, 1) := by decide +kernel
theorem dX1_exchange_24 : decode cX1_exchange 24 = .ok (.istore_n 3, 1) := by decide +kernel
theorem dX1_exchange_25 : decode cX1_exchange 25 = .ok (.aload_n 0, 1) := by decide +kernel
theorem dX1_exchange_26 : decode cX1_exchange 26 = .ok (.getfield 25, 3) := by decide +kernel
theorem dX1_exchange_29 : decode cX1_exchange 29 = .ok (.iload_n 1, 1) := by decide +kernel
theorem dX1_exchange_30 : decode cX1_exchange 30 = .ok (.iaload, 1) := by decide +kernel
theorem dX1_exchange_31 : decode cX1_exchange 31 = .ok (.istore 4, 2) := by decide +kernel
theorem dX1_exchange_33 : decode cX1_exchange 33 = .ok (.aload_n 0, 1) := by decide +kernel
theorem dX1_exchange_34 : decode cX1_exchange 34 = .ok (.getfield 28, 3) := by decide +kernel
theorem dX1_exchange_37 : decode cX1_exchange 37 = .ok (.iload_n 1, 1) := by decide +kernel
theorem dX1_exchange_38 : decode cX1_exchange 38 = .ok (.iaload, 1) := by decide +kernel
theorem dX1_exchange_39 : decode cX1_exchange 39 = .ok (.istore 5, 2) := by decide +kernel
theorem dX1_exchange_41 : decode cX1_exchange 41 = .ok (.aload_n 0, 1) := by decide +kernel
theorem dX1_exchange_42 : decode cX1_exchange 42 = .ok (.getfield 22, 3) := by decide +kernel
theorem dX1_exchange_45 : decode cX1_exchange 45 = .ok (.iload_n 1, 1) := by decide +kernel
theorem dX1_exchange_46 : decode cX1_exchange 46 = .ok (.aload_n 0, 1) := by decide +kernel
theorem dX1_exchange_47 : decode cX1_exchange 47 = .ok (.getfield 22, 3) := by decide +kernel
theorem dX1_exchange_50 : decode cX1_exchange 50 = .ok (.iload_n 2, 1) := by decide +kernel
theorem dX1_exchange_51 : decode cX1_exchange 51 = .ok (.iaload, 1) := by decide +kernel
theorem dX1_exchange_52 : decode cX1_exchange 52 = .ok (.iastore, 1) := by decide +kernel
theorem dX1_exchange_53 : decode cX1_exchange 53 = .ok (.aload_n 0, 1) := by decide +kernel
theorem dX1_exchange_54 : decode cX1_exchange 54 = .ok (.getfield 25, 3) := by decide +kernel
theorem dX1_exchange_57 : decode cX1_exchange 57 = .ok (.iload_n 1, 1) := by decide +kernel
theorem dX1_exchange_58 : decode cX1_exchange 58 = .ok (.aload_n 0, 1) := by decide +kernel
theorem dX1_exchange_59 : decode cX1_exchange 59 = .ok (.getfield 25, 3) := by decide +kernel
theorem dX1_exchange_62 : decode cX1_exchange 62 = .ok (.iload_n 2, 1) := by decide +kernel
theorem dX1_exchange_63 : decode cX1_exchange 63 = .ok (.iaload, 1) := by decide +kernel
theorem dX1_exchange_64 : decode cX1_exchange 64 = .ok (.iastore, 1) := by decide +kernel
theorem dX1_exchange_65 : decode cX1_exchange 65 = .ok (.aload_n 0, 1) := by decide +kernel
theorem dX1_exchange_66 : decode cX1_exchange 66 = .ok (.getfield 28, 3) := by decide +kernel
theorem dX1_exchange_69 : decode cX1_exchange 69 = .ok (.iload_n 1, 1) := by decide +kernel
theorem dX1_exchange_70 : decode cX1_exchange 70 = .ok (.aload_n 0, 1) := by decide +kernel
theorem dX1_exchange_71 : decode cX1_exchange 71 = .ok (.getfield 28, 3) := by decide +kernel
theorem dX1_exchange_74 : decode cX1_exchange 74 = .ok (.iload_n 2, 1) := by decide +kernel
theorem dX1_exchange_75 : decode cX1_exchange 75 = .ok (.iaload, 1) := by decide +kernel
theorem dX1_exchange_76 : decode cX1_exchange 76 = .ok (.iastore, 1) := by decide +kernel
theorem dX1_exchange_77 : decode cX1_exchange 77 = .ok (.aload_n 0, 1) := by decide +kernel
theorem dX1_exchange_78 : decode cX1_exchange 78 = .ok (.getfield 22, 3) := by decide +kernel
theorem dX1_exchange_81 : decode cX1_exchange 81 = .ok (.iload_n 2, 1) := by decide +kernel
theorem dX1_exchange_82 : decode cX1_exchange 82 = .ok (.iload_n 3, 1) := by decide +kernel
theorem dX1_exchange_83 : decode cX1_exchange 83 = .ok (.iastore, 1) := by decide +kernel
theorem dX1_exchange_84 : decode cX1_exchange 84 = .ok (.aload_n 0, 1) := by decide +kernel
theorem dX1_exchange_85 : decode cX1_exchange 85 = .ok (.getfield 25, 3) := by decide +kernel
theorem dX1_exchange_88 : decode cX1_exchange 88 = .ok (.iload_n 2, 1) := by decide +kernel
theorem dX1_exchange_89 : decode cX1_exchange 89 = .ok (.iload 4, 2) := by decide +kernel
theorem dX1_exchange_91 : decode cX1_exchange 91 = .ok (.iastore, 1) := by decide +kernel
theorem dX1_exchange_92 : decode cX1_exchange 92 = .ok (.aload_n 0, 1) := by decide +kernel
theorem dX1_exchange_93 : decode cX1_exchange 93 = .ok (.getfield 28, 3) := by decide +kernel
theorem dX1_exchange_96 : decode cX1_exchange 96 = .ok (.iload_n 2, 1) := by decide +kernel
theorem dX1_exchange_97 : decode cX1_exchange 97 = .ok (.iload 5, 2) := by decide +kernel
theorem dX1_exchange_99 : decode cX1_exchange 99 = .ok (.iastore, 1) := by decide +kernel
theorem dX1_exchange_100 : decode cX1_exchange 100 = .ok (.aload_n 0, 1) := by decide +kernel
theorem dX1_exchange_101 : decode cX1_exchange 101 = .ok (.getfield 19, 3) := by decide +kernel
theorem dX1_exchange_104 : decode cX1_exchange 104 = .ok (.bipush 8, 2) := by decide +kernel
theorem dX1_exchange_106 : decode cX1_exchange 106 = .ok (.aload_n 0, 1) := by decide +kernel
theorem dX1_exchange_107 : decode cX1_exchange 107 = .ok (.getfield 22, 3) := by decide +kernel
theorem dX1_exchange_110 : decode cX1_exchange 110 = .ok (.iload_n 1, 1) := by decide +kernel
theorem dX1_exchange_111 : decode cX1_exchange 111 = .ok (.iaload, 1) := by decide +kernel
theorem dX1_exchange_112 : decode cX1_exchange 112 = .ok (.imul, 1) := by decide +kernel
theorem dX1_exchange_113 : decode cX1_exchange 113 = .ok (.aload_n 0, 1) := by decide +kernel
theorem dX1_exchange_114 : decode cX1_exchange 114 = .ok (.getfield 25, 3) := by decide +kernel
theorem dX1_exchange_117 : decode cX1_exchange 117 = .ok (.iload_n 1, 1) := by decide +kernel
theorem dX1_exchange_118 : decode cX1_exchange 118 = .ok (.iaload, 1) := by decide +kernel
theorem dX1_exchange_119 : decode cX1_exchange 119 = .ok (.iadd, 1) := by decide +kernel
theorem dX1_exchange_120 : decode cX1_exchange 120 = .ok (.iload_n 1, 1) := by decide +kernel
theorem dX1_exchange_121 : decode cX1_exchange 121 = .ok (.iastore, 1) := by decide +kernel
theorem dX1_exchange_122 : decode cX1_exchange 122 = .ok (.aload_n 0, 1) := by decide +kernel
theorem dX1_exchange_123 : decode cX1_exchange 123 = .ok (.getfield 19, 3) := by decide +kernel
theorem dX1_exchange_126 : decode cX1_exchange 126 = .ok (.bipush 8, 2) := by decide +kernel
theorem dX1_exchange_128 : decode cX1_exchange 128 = .ok (.aload_n 0, 1) := by decide +kernel
theorem dX1_exchange_129 : decode cX1_exchange 129 = .ok (.getfield 22, 3) := by decide +kernel
theorem dX1_exchange_132 : decode cX1_exchange 132 = .ok (.iload_n 2, 1) := by decide +kernel
theorem dX1_exchange_133 : decode cX1_exchange 133 = .ok (.iaload, 1) := by decide +kernel
theorem dX1_exchange_134 : decode cX1_exchange 134 = .ok (.imul, 1) := by decide +kernel
theorem dX1_exchange_135 : decode cX1_exchange 135 = .ok (.aload_n 0, 1) := by decide +kernel
theorem dX1_exchange_136 : decode cX1_exchange 136 = .ok (.getfield 25, 3) := by decide +kernel
theorem dX1_exchange_139 : decode cX1_exchange 139 = .ok (.iload_n 2, 1) := by decide +kernel
theorem dX1_exchange_140 : decode cX1_exchange 140 = .ok (.iaload, 1) := by decide +kernel
theorem dX1_exchange_141 : decode cX1_exchange 141 = .ok (.iadd, 1) := by decide +kernel
theorem dX1_exchange_142 : decode cX1_exchange 142 = .ok (.iload_n 2, 1) := by decide +kernel
theorem dX1_exchange_143 : decode cX1_exchange 143 = .ok (.iastore, 1) := by decide +kernel
theorem dX1_exchange_144 : decode cX1_exchange 144 = .ok (.iconst 0, 1) := by decide +kernel
theorem dX1_exchange_145 : decode cX1_exchange 145 = .ok (.ireturn, 1) := by decide +kernel
theorem dX1_size_0 : decode cX1_size 0 = .ok (.aload_n 0, 1) := by decide +kernel
theorem dX1_size_1 : decode cX1_size 1 = .ok (.iload_n 1, 1) := by decide +kernel
theorem dX1_size_2 : decode cX1_size 2 = .ok (.invokevirtual 70, 3) := by decide +kernel
theorem dX1_size_5 : decode cX1_size 5 = .ok (.ifCond .eq 12, 3) := by decide +kernel
theorem dX1_size_8 : decode cX1_size 8 = .ok (.aload_n 0, 1) := by decide +kernel
theorem dX1_size_9 : decode cX1_size 9 = .ok (.getfield 28, 3) := by decide +kernel
theorem dX1_size_12 : decode cX1_size 12 = .ok (.iload_n 1, 1) := by decide +kernel
theorem dX1_size_13 : decode cX1_size 13 = .ok (.iaload, 1) := by decide +kernel
theorem dX1_size_14 : decode cX1_size 14 = .ok (.goto 4, 3) := by decide +kernel
theorem dX1_size_17 : decode cX1_size 17 = .ok (.iconst 0, 1) := by decide +kernel
theorem dX1_size_18 : decode cX1_size 18 = .ok (.ireturn, 1) := by decide +kernel
theorem dX1_live_0 : decode cX1_live 0 = .ok (.aload_n 0, 1) := by decide +kernel
theorem dX1_live_1 : decode cX1_live 1 = .ok (.getfield 51, 3) := by decide +kernel
theorem dX1_live_4 : decode cX1_live 4 = .ok (.ireturn, 1) := by decide +kernel
theorem dX1_liveIn_0 : decode cX1_liveIn 0 = .ok (.iload_n 1, 1) := by decide +kernel
theorem dX1_liveIn_1 : decode cX1_liveIn 1 = .ok (.invokestatic 90, 3) := by decide +kernel
theorem dX1_liveIn_4 : decode cX1_liveIn 4 = .ok (.ifCond .eq 12, 3) := by decide +kernel
theorem dX1_liveIn_7 : decode cX1_liveIn 7 = .ok (.aload_n 0, 1) := by decide +kernel
theorem dX1_liveIn_8 : decode cX1_liveIn 8 = .ok (.getfield 34, 3) := by decide +kernel
theorem dX1_liveIn_11 : decode cX1_liveIn 11 = .ok (.iload_n 1, 1) := by decide +kernel
theorem dX1_liveIn_12 : decode cX1_liveIn 12 = .ok (.iaload, 1) := by decide +kernel
theorem dX1_liveIn_13 : decode cX1_liveIn 13 = .ok (.goto 4, 3) := by decide +kernel
theorem dX1_liveIn_16 : decode cX1_liveIn 16 = .ok (.iconst (-1), 1) := by decide +kernel
theorem dX1_liveIn_17 : decode cX1_liveIn 17 = .ok (.ireturn, 1) := by decide +kernel
theorem dX1_needed_0 : decode cX1_needed 0 = .ok (.aload_n 0, 1) := by decide +kernel
theorem dX1_needed_1 : decode cX1_needed 1 = .ok (.getfield 40, 3) := by decide +kernel
theorem dX1_needed_4 : decode cX1_needed 4 = .ok (.aload_n 0, 1) := by decide +kernel
theorem dX1_needed_5 : decode cX1_needed 5 = .ok (.getfield 44, 3) := by decide +kernel
theorem dX1_needed_8 : decode cX1_needed 8 = .ok (.isub, 1) := by decide +kernel
theorem dX1_needed_9 : decode cX1_needed 9 = .ok (.ireturn, 1) := by decide +kernel
theorem dX1_roomFor_0 : decode cX1_roomFor 0 = .ok (.iload_n 1, 1) := by decide +kernel
theorem dX1_roomFor_1 : decode cX1_roomFor 1 = .ok (.invokestatic 90, 3) := by decide +kernel
theorem dX1_roomFor_4 : decode cX1_roomFor 4 = .ok (.ifCond .ne 5, 3) := by decide +kernel
theorem dX1_roomFor_7 : decode cX1_roomFor 7 = .ok (.iconst (-1), 1) := by decide +kernel
theorem dX1_roomFor_8 : decode cX1_roomFor 8 = .ok (.ireturn, 1) := by decide +kernel
theorem dX1_roomFor_9 : decode cX1_roomFor 9 = .ok (.iload_n 1, 1) := by decide +kernel
theorem dX1_roomFor_10 : decode cX1_roomFor 10 = .ok (.invokestatic 93, 3) := by decide +kernel
theorem dX1_roomFor_13 : decode cX1_roomFor 13 = .ok (.istore_n 2, 1) := by decide +kernel
theorem dX1_roomFor_14 : decode cX1_roomFor 14 = .ok (.aload_n 0, 1) := by decide +kernel
theorem dX1_roomFor_15 : decode cX1_roomFor 15 = .ok (.getfield 44, 3) := by decide +kernel
theorem dX1_roomFor_18 : decode cX1_roomFor 18 = .ok (.iload_n 2, 1) := by decide +kernel
theorem dX1_roomFor_19 : decode cX1_roomFor 19 = .ok (.imul, 1) := by decide +kernel
theorem dX1_roomFor_20 : decode cX1_roomFor 20 = .ok (.istore_n 3, 1) := by decide +kernel
theorem dX1_roomFor_21 : decode cX1_roomFor 21 = .ok (.aload_n 0, 1) := by decide +kernel
theorem dX1_roomFor_22 : decode cX1_roomFor 22 = .ok (.getfield 31, 3) := by decide +kernel
theorem dX1_roomFor_25 : decode cX1_roomFor 25 = .ok (.iload_n 1, 1) := by decide +kernel
theorem dX1_roomFor_26 : decode cX1_roomFor 26 = .ok (.iaload, 1) := by decide +kernel
theorem dX1_roomFor_27 : decode cX1_roomFor 27 = .ok (.iconst (-1), 1) := by decide +kernel
theorem dX1_roomFor_28 : decode cX1_roomFor 28 = .ok (.if_icmp .eq 19, 3) := by decide +kernel
theorem dX1_roomFor_31 : decode cX1_roomFor 31 = .ok (.iload_n 3, 1) := by decide +kernel
theorem dX1_roomFor_32 : decode cX1_roomFor 32 = .ok (.iload_n 2, 1) := by decide +kernel
theorem dX1_roomFor_33 : decode cX1_roomFor 33 = .ok (.aload_n 0, 1) := by decide +kernel
theorem dX1_roomFor_34 : decode cX1_roomFor 34 = .ok (.getfield 16, 3) := by decide +kernel
theorem dX1_roomFor_37 : decode cX1_roomFor 37 = .ok (.aload_n 0, 1) := by decide +kernel
theorem dX1_roomFor_38 : decode cX1_roomFor 38 = .ok (.getfield 31, 3) := by decide +kernel
theorem dX1_roomFor_41 : decode cX1_roomFor 41 = .ok (.iload_n 1, 1) := by decide +kernel
theorem dX1_roomFor_42 : decode cX1_roomFor 42 = .ok (.iaload, 1) := by decide +kernel
theorem dX1_roomFor_43 : decode cX1_roomFor 43 = .ok (.iaload, 1) := by decide +kernel
theorem dX1_roomFor_44 : decode cX1_roomFor 44 = .ok (.isub, 1) := by decide +kernel
theorem dX1_roomFor_45 : decode cX1_roomFor 45 = .ok (.iadd, 1) := by decide +kernel
theorem dX1_roomFor_46 : decode cX1_roomFor 46 = .ok (.istore_n 3, 1) := by decide +kernel
theorem dX1_roomFor_47 : decode cX1_roomFor 47 = .ok (.iload_n 3, 1) := by decide +kernel
theorem dX1_roomFor_48 : decode cX1_roomFor 48 = .ok (.ireturn, 1) := by decide +kernel
theorem dX1_sum_0 : decode cX1_sum 0 = .ok (.aload_n 0, 1) := by decide +kernel
theorem dX1_sum_1 : decode cX1_sum 1 = .ok (.iload_n 1, 1) := by decide +kernel
theorem dX1_sum_2 : decode cX1_sum 2 = .ok (.invokevirtual 70, 3) := by decide +kernel
theorem dX1_sum_5 : decode cX1_sum 5 = .ok (.ifCond .ne 5, 3) := by decide +kernel
theorem dX1_sum_8 : decode cX1_sum 8 = .ok (.iconst 0, 1) := by decide +kernel
theorem dX1_sum_9 : decode cX1_sum 9 = .ok (.ireturn, 1) := by decide +kernel
theorem dX1_sum_10 : decode cX1_sum 10 = .ok (.iconst 0, 1) := by decide +kernel
theorem dX1_sum_11 : decode cX1_sum 11 = .ok (.istore_n 2, 1) := by decide +kernel
theorem dX1_sum_12 : decode cX1_sum 12 = .ok (.iconst 0, 1) := by decide +kernel
theorem dX1_sum_13 : decode cX1_sum 13 = .ok (.istore_n 3, 1) := by decide +kernel
theorem dX1_sum_14 : decode cX1_sum 14 = .ok (.iload_n 3, 1) := by decide +kernel
theorem dX1_sum_15 : decode cX1_sum 15 = .ok (.aload_n 0, 1) := by decide +kernel
theorem dX1_sum_16 : decode cX1_sum 16 = .ok (.getfield 28, 3) := by decide +kernel
theorem dX1_sum_19 : decode cX1_sum 19 = .ok (.iload_n 1, 1) := by decide +kernel
theorem dX1_sum_20 : decode cX1_sum 20 = .ok (.iaload, 1) := by decide +kernel
theorem dX1_sum_21 : decode cX1_sum 21 = .ok (.if_icmp .ge 18, 3) := by decide +kernel
theorem dX1_sum_24 : decode cX1_sum 24 = .ok (.iload_n 2, 1) := by decide +kernel
theorem dX1_sum_25 : decode cX1_sum 25 = .ok (.aload_n 0, 1) := by decide +kernel
theorem dX1_sum_26 : decode cX1_sum 26 = .ok (.iload_n 1, 1) := by decide +kernel
theorem dX1_sum_27 : decode cX1_sum 27 = .ok (.iload_n 3, 1) := by decide +kernel
theorem dX1_sum_28 : decode cX1_sum 28 = .ok (.invokevirtual 81, 3) := by decide +kernel
theorem dX1_sum_31 : decode cX1_sum 31 = .ok (.iadd, 1) := by decide +kernel
theorem dX1_sum_32 : decode cX1_sum 32 = .ok (.istore_n 2, 1) := by decide +kernel
theorem dX1_sum_33 : decode cX1_sum 33 = .ok (.iinc 3 1, 3) := by decide +kernel
theorem dX1_sum_36 : decode cX1_sum 36 = .ok (.goto (-22), 3) := by decide +kernel
theorem dX1_sum_39 : decode cX1_sum 39 = .ok (.iload_n 2, 1) := by decide +kernel
theorem dX1_sum_40 : decode cX1_sum 40 = .ok (.ireturn, 1) := by decide +kernel
theorem dX1_next_0 : decode cX1_next 0 = .ok (.iload_n 1, 1) := by decide +kernel
theorem dX1_next_1 : decode cX1_next 1 = .ok (.ifCond .ge 7, 3) := by decide +kernel
theorem dX1_next_4 : decode cX1_next 4 = .ok (.iconst 0, 1) := by decide +kernel
theorem dX1_next_5 : decode cX1_next 5 = .ok (.goto 4, 3) := by decide +kernel
theorem dX1_next_8 : decode cX1_next 8 = .ok (.iload_n 1, 1) := by decide +kernel
theorem dX1_next_9 : decode cX1_next 9 = .ok (.istore_n 2, 1) := by decide +kernel
theorem dX1_next_10 : decode cX1_next 10 = .ok (.iload_n 2, 1) := by decide +kernel
theorem dX1_next_11 : decode cX1_next 11 = .ok (.bipush 64, 2) := by decide +kernel
theorem dX1_next_13 : decode cX1_next 13 = .ok (.if_icmp .ge 20, 3) := by decide +kernel
theorem dX1_next_16 : decode cX1_next 16 = .ok (.aload_n 0, 1) := by decide +kernel
theorem dX1_next_17 : decode cX1_next 17 = .ok (.getfield 28, 3) := by decide +kernel
theorem dX1_next_20 : decode cX1_next 20 = .ok (.iload_n 2, 1) := by decide +kernel
theorem dX1_next_21 : decode cX1_next 21 = .ok (.iaload, 1) := by decide +kernel
theorem dX1_next_22 : decode cX1_next 22 = .ok (.ifCond .le 5, 3) := by decide +kernel
theorem dX1_next_25 : decode cX1_next 25 = .ok (.iload_n 2, 1) := by decide +kernel
theorem dX1_next_26 : decode cX1_next 26 = .ok (.ireturn, 1) := by decide +kernel
theorem dX1_next_27 : decode cX1_next 27 = .ok (.iinc 2 1, 3) := by decide +kernel
theorem dX1_next_30 : decode cX1_next 30 = .ok (.goto (-20), 3) := by decide +kernel
theorem dX1_next_33 : decode cX1_next 33 = .ok (.iconst (-1), 1) := by decide +kernel
theorem dX1_next_34 : decode cX1_next 34 = .ok (.ireturn, 1) := by decide +kernel
theorem dX1_count_0 : decode cX1_count 0 = .ok (.iconst 0, 1) := by decide +kernel
theorem dX1_count_1 : decode cX1_count 1 = .ok (.istore_n 2, 1) := by decide +kernel
theorem dX1_count_2 : decode cX1_count 2 = .ok (.iconst 0, 1) := by decide +kernel
theorem dX1_count_3 : decode cX1_count 3 = .ok (.istore_n 3, 1) := by decide +kernel
theorem dX1_count_4 : decode cX1_count 4 = .ok (.iload_n 3, 1) := by decide +kernel
theorem dX1_count_5 : decode cX1_count 5 = .ok (.bipush 64, 2) := by decide +kernel
theorem dX1_count_7 : decode cX1_count 7 = .ok (.if_icmp .ge 43, 3) := by decide +kernel
theorem dX1_count_10 : decode cX1_count 10 = .ok (.iconst 0, 1) := by decide +kernel
theorem dX1_count_11 : decode cX1_count 11 = .ok (.istore 4, 2) := by decide +kernel
theorem dX1_count_13 : decode cX1_count 13 = .ok (.iload 4, 2) := by decide +kernel
theorem dX1_count_15 : decode cX1_count 15 = .ok (.aload_n 0, 1) := by decide +kernel
theorem dX1_count_16 : decode cX1_count 16 = .ok (.getfield 28, 3) := by decide +kernel
theorem dX1_count_19 : decode cX1_count 19 = .ok (.iload_n 3, 1) := by decide +kernel
theorem dX1_count_20 : decode cX1_count 20 = .ok (.iaload, 1) := by decide +kernel
theorem dX1_count_21 : decode cX1_count 21 = .ok (.if_icmp .ge 23, 3) := by decide +kernel
theorem dX1_count_24 : decode cX1_count 24 = .ok (.aload_n 0, 1) := by decide +kernel
theorem dX1_count_25 : decode cX1_count 25 = .ok (.iload_n 3, 1) := by decide +kernel
theorem dX1_count_26 : decode cX1_count 26 = .ok (.iload 4, 2) := by decide +kernel
theorem dX1_count_28 : decode cX1_count 28 = .ok (.invokevirtual 81, 3) := by decide +kernel
theorem dX1_count_31 : decode cX1_count 31 = .ok (.iload_n 1, 1) := by decide +kernel
theorem dX1_count_32 : decode cX1_count 32 = .ok (.if_icmp .ne 6, 3) := by decide +kernel
theorem dX1_count_35 : decode cX1_count 35 = .ok (.iinc 2 1, 3) := by decide +kernel
theorem dX1_count_38 : decode cX1_count 38 = .ok (.iinc 4 1, 3) := by decide +kernel
theorem dX1_count_41 : decode cX1_count 41 = .ok (.goto (-28), 3) := by decide +kernel
theorem dX1_count_44 : decode cX1_count 44 = .ok (.iinc 3 1, 3) := by decide +kernel
theorem dX1_count_47 : decode cX1_count 47 = .ok (.goto (-43), 3) := by decide +kernel
theorem dX1_count_50 : decode cX1_count 50 = .ok (.iload_n 2, 1) := by decide +kernel
theorem dX1_count_51 : decode cX1_count 51 = .ok (.ireturn, 1) := by decide +kernel
theorem dX1_faults_0 : decode cX1_faults 0 = .ok (.iconst 0, 1) := by decide +kernel
theorem dX1_faults_1 : decode cX1_faults 1 = .ok (.istore_n 1, 1) := by decide +kernel
theorem dX1_faults_2 : decode cX1_faults 2 = .ok (.iconst 0, 1) := by decide +kernel
theorem dX1_faults_3 : decode cX1_faults 3 = .ok (.istore_n 2, 1) := by decide +kernel
theorem dX1_faults_4 : decode cX1_faults 4 = .ok (.iload_n 2, 1) := by decide +kernel
theorem dX1_faults_5 : decode cX1_faults 5 = .ok (.aload_n 0, 1) := by decide +kernel
theorem dX1_faults_6 : decode cX1_faults 6 = .ok (.getfield 40, 3) := by decide +kernel
theorem dX1_faults_9 : decode cX1_faults 9 = .ok (.if_icmp .ge 86, 3) := by decide +kernel
theorem dX1_faults_12 : decode cX1_faults 12 = .ok (.aload_n 0, 1) := by decide +kernel
theorem dX1_faults_13 : decode cX1_faults 13 = .ok (.getfield 13, 3) := by decide +kernel
theorem dX1_faults_16 : decode cX1_faults 16 = .ok (.iload_n 2, 1) := by decide +kernel
theorem dX1_faults_17 : decode cX1_faults 17 = .ok (.iaload, 1) := by decide +kernel
theorem dX1_faults_18 : decode cX1_faults 18 = .ok (.iconst (-1), 1) := by decide +kernel
theorem dX1_faults_19 : decode cX1_faults 19 = .ok (.if_icmp .eq 70, 3) := by decide +kernel
theorem dX1_faults_22 : decode cX1_faults 22 = .ok (.aload_n 0, 1) := by decide +kernel
theorem dX1_faults_23 : decode cX1_faults 23 = .ok (.getfield 13, 3) := by decide +kernel
theorem dX1_faults_26 : decode cX1_faults 26 = .ok (.iload_n 2, 1) := by decide +kernel
theorem dX1_faults_27 : decode cX1_faults 27 = .ok (.iaload, 1) := by decide +kernel
theorem dX1_faults_28 : decode cX1_faults 28 = .ok (.invokestatic 93, 3) := by decide +kernel
theorem dX1_faults_31 : decode cX1_faults 31 = .ok (.istore_n 3, 1) := by decide +kernel
theorem dX1_faults_32 : decode cX1_faults 32 = .ok (.aload_n 0, 1) := by decide +kernel
theorem dX1_faults_33 : decode cX1_faults 33 = .ok (.getfield 16, 3) := by decide +kernel
theorem dX1_faults_36 : decode cX1_faults 36 = .ok (.iload_n 2, 1) := by decide +kernel
theorem dX1_faults_37 : decode cX1_faults 37 = .ok (.iaload, 1) := by decide +kernel
theorem dX1_faults_38 : decode cX1_faults 38 = .ok (.iload_n 3, 1) := by decide +kernel
theorem dX1_faults_39 : decode cX1_faults 39 = .ok (.if_icmp .ge 22, 3) := by decide +kernel
theorem dX1_faults_42 : decode cX1_faults 42 = .ok (.aload_n 0, 1) := by decide +kernel
theorem dX1_faults_43 : decode cX1_faults 43 = .ok (.getfield 31, 3) := by decide +kernel
theorem dX1_faults_46 : decode cX1_faults 46 = .ok (.aload_n 0, 1) := by decide +kernel
theorem dX1_faults_47 : decode cX1_faults 47 = .ok (.getfield 13, 3) := by decide +kernel
theorem dX1_faults_50 : decode cX1_faults 50 = .ok (.iload_n 2, 1) := by decide +kernel
theorem dX1_faults_51 : decode cX1_faults 51 = .ok (.iaload, 1) := by decide +kernel
theorem dX1_faults_52 : decode cX1_faults 52 = .ok (.iaload, 1) := by decide +kernel
theorem dX1_faults_53 : decode cX1_faults 53 = .ok (.iload_n 2, 1) := by decide +kernel
theorem dX1_faults_54 : decode cX1_faults 54 = .ok (.if_icmp .eq 7, 3) := by decide +kernel
theorem dX1_faults_57 : decode cX1_faults 57 = .ok (.iconst 1, 1) := by decide +kernel
theorem dX1_faults_58 : decode cX1_faults 58 = .ok (.goto 4, 3) := by decide +kernel
theorem dX1_faults_61 : decode cX1_faults 61 = .ok (.iconst 0, 1) := by decide +kernel
theorem dX1_faults_62 : decode cX1_faults 62 = .ok (.istore 4, 2) := by decide +kernel
theorem dX1_faults_64 : decode cX1_faults 64 = .ok (.aload_n 0, 1) := by decide +kernel
theorem dX1_faults_65 : decode cX1_faults 65 = .ok (.getfield 16, 3) := by decide +kernel
theorem dX1_faults_68 : decode cX1_faults 68 = .ok (.iload_n 2, 1) := by decide +kernel
theorem dX1_faults_69 : decode cX1_faults 69 = .ok (.iaload, 1) := by decide +kernel
theorem dX1_faults_70 : decode cX1_faults 70 = .ok (.ifCond .eq 16, 3) := by decide +kernel
theorem dX1_faults_73 : decode cX1_faults 73 = .ok (.iload 4, 2) := by decide +kernel
theorem dX1_faults_75 : decode cX1_faults 75 = .ok (.ifCond .ne 11, 3) := by decide +kernel
theorem dX1_faults_78 : decode cX1_faults 78 = .ok (.aload_n 0, 1) := by decide +kernel
theorem dX1_faults_79 : decode cX1_faults 79 = .ok (.iload_n 2, 1) := by decide +kernel
theorem dX1_faults_80 : decode cX1_faults 80 = .ok (.invokevirtual 96, 3) := by decide +kernel
theorem dX1_faults_83 : decode cX1_faults 83 = .ok (.ifCond .le 6, 3) := by decide +kernel
theorem dX1_faults_86 : decode cX1_faults 86 = .ok (.iinc 1 1, 3) := by decide +kernel
theorem dX1_faults_89 : decode cX1_faults 89 = .ok (.iinc 2 1, 3) := by decide +kernel
theorem dX1_faults_92 : decode cX1_faults 92 = .ok (.goto (-88), 3) := by decide +kernel
theorem dX1_faults_95 : decode cX1_faults 95 = .ok (.iload_n 1, 1) := by decide +kernel
theorem dX1_faults_96 : decode cX1_faults 96 = .ok (.ireturn, 1) := by decide +kernel
theorem dX1_strangers_0 : decode cX1_strangers 0 = .ok (.iconst 0, 1) := by decide +kernel
theorem dX1_strangers_1 : decode cX1_strangers 1 = .ok (.istore_n 2, 1) := by decide +kernel
theorem dX1_strangers_2 : decode cX1_strangers 2 = .ok (.iconst 0, 1) := by decide +kernel
theorem dX1_strangers_3 : decode cX1_strangers 3 = .ok (.istore_n 3, 1) := by decide +kernel
theorem dX1_strangers_4 : decode cX1_strangers 4 = .ok (.iload_n 3, 1) := by decide +kernel
theorem dX1_strangers_5 : decode cX1_strangers 5 = .ok (.bipush 8, 2) := by decide +kernel
theorem dX1_strangers_7 : decode cX1_strangers 7 = .ok (.if_icmp .ge 72, 3) := by decide +kernel
theorem dX1_strangers_10 : decode cX1_strangers 10 = .ok (.aload_n 0, 1) := by decide +kernel
theorem dX1_strangers_11 : decode cX1_strangers 11 = .ok (.getfield 19, 3) := by decide +kernel
theorem dX1_strangers_14 : decode cX1_strangers 14 = .ok (.bipush 8, 2) := by decide +kernel
theorem dX1_strangers_16 : decode cX1_strangers 16 = .ok (.iload_n 1, 1) := by decide +kernel
theorem dX1_strangers_17 : decode cX1_strangers 17 = .ok (.imul, 1) := by decide +kernel
theorem dX1_strangers_18 : decode cX1_strangers 18 = .ok (.iload_n 3, 1) := by decide +kernel
theorem dX1_strangers_19 : decode cX1_strangers 19 = .ok (.iadd, 1) := by decide +kernel
theorem dX1_strangers_20 : decode cX1_strangers 20 = .ok (.iaload, 1) := by decide +kernel
theorem dX1_strangers_21 : decode cX1_strangers 21 = .ok (.istore 4, 2) := by decide +kernel
theorem dX1_strangers_23 : decode cX1_strangers 23 = .ok (.iload 4, 2) := by decide +kernel
theorem dX1_strangers_25 : decode cX1_strangers 25 = .ok (.iconst (-1), 1) := by decide +kernel
theorem dX1_strangers_26 : decode cX1_strangers 26 = .ok (.if_icmp .eq 47, 3) := by decide +kernel
theorem dX1_strangers_29 : decode cX1_strangers 29 = .ok (.aload_n 0, 1) := by decide +kernel
theorem dX1_strangers_30 : decode cX1_strangers 30 = .ok (.getfield 22, 3) := by decide +kernel
theorem dX1_strangers_33 : decode cX1_strangers 33 = .ok (.iload 4, 2) := by decide +kernel
theorem dX1_strangers_35 : decode cX1_strangers 35 = .ok (.iaload, 1) := by decide +kernel
theorem dX1_strangers_36 : decode cX1_strangers 36 = .ok (.iload_n 1, 1) := by decide +kernel
theorem dX1_strangers_37 : decode cX1_strangers 37 = .ok (.if_icmp .ne 33, 3) := by decide +kernel
theorem dX1_strangers_40 : decode cX1_strangers 40 = .ok (.aload_n 0, 1) := by decide +kernel
theorem dX1_strangers_41 : decode cX1_strangers 41 = .ok (.getfield 25, 3) := by decide +kernel
theorem dX1_strangers_44 : decode cX1_strangers 44 = .ok (.iload 4, 2) := by decide +kernel
theorem dX1_strangers_46 : decode cX1_strangers 46 = .ok (.iaload, 1) := by decide +kernel
theorem dX1_strangers_47 : decode cX1_strangers 47 = .ok (.iload_n 3, 1) := by decide +kernel
theorem dX1_strangers_48 : decode cX1_strangers 48 = .ok (.if_icmp .ne 22, 3) := by decide +kernel
theorem dX1_strangers_51 : decode cX1_strangers 51 = .ok (.aload_n 0, 1) := by decide +kernel
theorem dX1_strangers_52 : decode cX1_strangers 52 = .ok (.getfield 28, 3) := by decide +kernel
theorem dX1_strangers_55 : decode cX1_strangers 55 = .ok (.iload 4, 2) := by decide +kernel
theorem dX1_strangers_57 : decode cX1_strangers 57 = .ok (.iaload, 1) := by decide +kernel
theorem dX1_strangers_58 : decode cX1_strangers 58 = .ok (.invokestatic 54, 3) := by decide +kernel
theorem dX1_strangers_61 : decode cX1_strangers 61 = .ok (.aload_n 0, 1) := by decide +kernel
theorem dX1_strangers_62 : decode cX1_strangers 62 = .ok (.getfield 13, 3) := by decide +kernel
theorem dX1_strangers_65 : decode cX1_strangers 65 = .ok (.iload_n 1, 1) := by decide +kernel
theorem dX1_strangers_66 : decode cX1_strangers 66 = .ok (.iaload, 1) := by decide +kernel
theorem dX1_strangers_67 : decode cX1_strangers 67 = .ok (.if_icmp .eq 6, 3) := by decide +kernel
theorem dX1_strangers_70 : decode cX1_strangers 70 = .ok (.iinc 2 1, 3) := by decide +kernel
theorem dX1_strangers_73 : decode cX1_strangers 73 = .ok (.iinc 3 1, 3) := by decide +kernel
theorem dX1_strangers_76 : decode cX1_strangers 76 = .ok (.goto (-72), 3) := by decide +kernel
theorem dX1_strangers_79 : decode cX1_strangers 79 = .ok (.iload_n 2, 1) := by decide +kernel
theorem dX1_strangers_80 : decode cX1_strangers 80 = .ok (.ireturn, 1) := by decide +kernel
end
section
set_option maxRecDepth 100000
theorem dX2_init_0 : decode cX2_init 0 = .ok (.aload_n 0, 1) := by decide +kernel
theorem dX2_init_1 : decode cX2_init 1 = .ok (.invokespecial 1, 3) := by decide +kernel
theorem dX2_init_4 : decode cX2_init 4 = .ok (.aload_n 0, 1) := by decide +kernel
theorem dX2_init_5 : decode cX2_init 5 = .ok (.bipush 64, 2) := by decide +kernel
theorem dX2_init_7 : decode cX2_init 7 = .ok (.newarray .int, 2) := by decide +kernel
theorem dX2_init_9 : decode cX2_init 9 = .ok (.putfield 7, 3) := by decide +kernel
theorem dX2_init_12 : decode cX2_init 12 = .ok (.aload_n 0, 1) := by decide +kernel
theorem dX2_init_13 : decode cX2_init 13 = .ok (.sipush 1024, 3) := by decide +kernel
theorem dX2_init_16 : decode cX2_init 16 = .ok (.newarray .int, 2) := by decide +kernel
theorem dX2_init_18 : decode cX2_init 18 = .ok (.putfield 13, 3) := by decide +kernel
theorem dX2_init_21 : decode cX2_init 21 = .ok (.aload_n 0, 1) := by decide +kernel
theorem dX2_init_22 : decode cX2_init 22 = .ok (.iload_n 1, 1) := by decide +kernel
theorem dX2_init_23 : decode cX2_init 23 = .ok (.iconst 2, 1) := by decide +kernel
theorem dX2_init_24 : decode cX2_init 24 = .ok (.if_icmp .ge 7, 3) := by decide +kernel
theorem dX2_init_27 : decode cX2_init 27 = .ok (.iconst 2, 1) := by decide +kernel
theorem dX2_init_28 : decode cX2_init 28 = .ok (.goto 15, 3) := by decide +kernel
theorem dX2_init_31 : decode cX2_init 31 = .ok (.iload_n 1, 1) := by decide +kernel
theorem dX2_init_32 : decode cX2_init 32 = .ok (.bipush 12, 2) := by decide +kernel
theorem dX2_init_34 : decode cX2_init 34 = .ok (.if_icmp .le 8, 3) := by decide +kernel
theorem dX2_init_37 : decode cX2_init 37 = .ok (.bipush 12, 2) := by decide +kernel
theorem dX2_init_39 : decode cX2_init 39 = .ok (.goto 4, 3) := by decide +kernel
theorem dX2_init_42 : decode cX2_init 42 = .ok (.iload_n 1, 1) := by decide +kernel
theorem dX2_init_43 : decode cX2_init 43 = .ok (.putfield 16, 3) := by decide +kernel
theorem dX2_init_46 : decode cX2_init 46 = .ok (.return_, 1) := by decide +kernel
theorem dX2_pages_0 : decode cX2_pages 0 = .ok (.aload_n 0, 1) := by decide +kernel
theorem dX2_pages_1 : decode cX2_pages 1 = .ok (.getfield 16, 3) := by decide +kernel
theorem dX2_pages_4 : decode cX2_pages 4 = .ok (.ireturn, 1) := by decide +kernel
theorem dX2_allocate_0 : decode cX2_allocate 0 = .ok (.iload_n 1, 1) := by decide +kernel
theorem dX2_allocate_1 : decode cX2_allocate 1 = .ok (.iconst 1, 1) := by decide +kernel
theorem dX2_allocate_2 : decode cX2_allocate 2 = .ok (.if_icmp .lt 9, 3) := by decide +kernel
theorem dX2_allocate_5 : decode cX2_allocate 5 = .ok (.iload_n 1, 1) := by decide +kernel
theorem dX2_allocate_6 : decode cX2_allocate 6 = .ok (.bipush 16, 2) := by decide +kernel
theorem dX2_allocate_8 : decode cX2_allocate 8 = .ok (.if_icmp .le 5, 3) := by decide +kernel
theorem dX2_allocate_11 : decode cX2_allocate 11 = .ok (.iconst (-1), 1) := by decide +kernel
theorem dX2_allocate_12 : decode cX2_allocate 12 = .ok (.ireturn, 1) := by decide +kernel
theorem dX2_allocate_13 : decode cX2_allocate 13 = .ok (.aload_n 0, 1) := by decide +kernel
theorem dX2_allocate_14 : decode cX2_allocate 14 = .ok (.invokevirtual 27, 3) := by decide +kernel
theorem dX2_allocate_17 : decode cX2_allocate 17 = .ok (.istore_n 2, 1) := by decide +kernel
theorem dX2_allocate_18 : decode cX2_allocate 18 = .ok (.iload_n 2, 1) := by decide +kernel
theorem dX2_allocate_19 : decode cX2_allocate 19 = .ok (.ifCond .ge 6, 3) := by decide +kernel
theorem dX2_allocate_22 : decode cX2_allocate 22 = .ok (.bipush (-2), 2) := by decide +kernel
theorem dX2_allocate_24 : decode cX2_allocate 24 = .ok (.ireturn, 1) := by decide +kernel
theorem dX2_allocate_25 : decode cX2_allocate 25 = .ok (.aload_n 0, 1) := by decide +kernel
theorem dX2_allocate_26 : decode cX2_allocate 26 = .ok (.iload_n 1, 1) := by decide +kernel
theorem dX2_allocate_27 : decode cX2_allocate 27 = .ok (.invokevirtual 20, 3) := by decide +kernel
theorem dX2_allocate_30 : decode cX2_allocate 30 = .ok (.istore_n 3, 1) := by decide +kernel
theorem dX2_allocate_31 : decode cX2_allocate 31 = .ok (.aload_n 0, 1) := by decide +kernel
theorem dX2_allocate_32 : decode cX2_allocate 32 = .ok (.iload_n 3, 1) := by decide +kernel
theorem dX2_allocate_33 : decode cX2_allocate 33 = .ok (.iconst 1, 1) := by decide +kernel
theorem dX2_allocate_34 : decode cX2_allocate 34 = .ok (.iconst (-1), 1) := by decide +kernel
theorem dX2_allocate_35 : decode cX2_allocate 35 = .ok (.iconst 0, 1) := by decide +kernel
theorem dX2_allocate_36 : decode cX2_allocate 36 = .ok (.invokevirtual 31, 3) := by decide +kernel
theorem dX2_allocate_39 : decode cX2_allocate 39 = .ok (.aload_n 0, 1) := by decide +kernel
theorem dX2_allocate_40 : decode cX2_allocate 40 = .ok (.getfield 16, 3) := by decide +kernel
theorem dX2_allocate_43 : decode cX2_allocate 43 = .ok (.if_icmp .le 6, 3) := by decide +kernel
theorem dX2_allocate_46 : decode cX2_allocate 46 = .ok (.bipush (-3), 2) := by decide +kernel
theorem dX2_allocate_48 : decode cX2_allocate 48 = .ok (.ireturn, 1) := by decide +kernel
theorem dX2_allocate_49 : decode cX2_allocate 49 = .ok (.aload_n 0, 1) := by decide +kernel
theorem dX2_allocate_50 : decode cX2_allocate 50 = .ok (.iload_n 2, 1) := by decide +kernel
theorem dX2_allocate_51 : decode cX2_allocate 51 = .ok (.invokevirtual 35, 3) := by decide +kernel
theorem dX2_allocate_54 : decode cX2_allocate 54 = .ok (.aload_n 0, 1) := by decide +kernel
theorem dX2_allocate_55 : decode cX2_allocate 55 = .ok (.getfield 7, 3) := by decide +kernel
theorem dX2_allocate_58 : decode cX2_allocate 58 = .ok (.iload_n 2, 1) := by decide +kernel
theorem dX2_allocate_59 : decode cX2_allocate 59 = .ok (.iload_n 1, 1) := by decide +kernel
theorem dX2_allocate_60 : decode cX2_allocate 60 = .ok (.iastore, 1) := by decide +kernel
theorem dX2_allocate_61 : decode cX2_allocate 61 = .ok (.iload_n 2, 1) := by decide +kernel
theorem dX2_allocate_62 : decode cX2_allocate 62 = .ok (.ireturn, 1) := by decide +kernel
theorem dX2_leastFree_0 : decode cX2_leastFree 0 = .ok (.iconst 0, 1) := by decide +kernel
theorem dX2_leastFree_1 : decode cX2_leastFree 1 = .ok (.istore_n 1, 1) := by decide +kernel
theorem dX2_leastFree_2 : decode cX2_leastFree 2 = .ok (.iload_n 1, 1) := by decide +kernel
theorem dX2_leastFree_3 : decode cX2_leastFree 3 = .ok (.bipush 64, 2) := by decide +kernel
theorem dX2_leastFree_5 : decode cX2_leastFree 5 = .ok (.if_icmp .ge 20, 3) := by decide +kernel
theorem dX2_leastFree_8 : decode cX2_leastFree 8 = .ok (.aload_n 0, 1) := by decide +kernel
theorem dX2_leastFree_9 : decode cX2_leastFree 9 = .ok (.getfield 7, 3) := by decide +kernel
theorem dX2_leastFree_12 : decode cX2_leastFree 12 = .ok (.iload_n 1, 1) := by decide +kernel
theorem dX2_leastFree_13 : decode cX2_leastFree 13 = .ok (.iaload, 1) := by decide +kernel
theorem dX2_leastFree_14 : decode cX2_leastFree 14 = .ok (.ifCond .ne 5, 3) := by decide +kernel
theorem dX2_leastFree_17 : decode cX2_leastFree 17 = .ok (.iload_n 1, 1) := by decide +kernel
theorem dX2_leastFree_18 : decode cX2_leastFree 18 = .ok (.ireturn, 1) := by decide +kernel
theorem dX2_leastFree_19 : decode cX2_leastFree 19 = .ok (.iinc 1 1, 3) := by decide +kernel
theorem dX2_leastFree_22 : decode cX2_leastFree 22 = .ok (.goto (-20), 3) := by decide +kernel
theorem dX2_leastFree_25 : decode cX2_leastFree 25 = .ok (.iconst (-1), 1) := by decide +kernel
theorem dX2_leastFree_26 : decode cX2_leastFree 26 = .ok (.ireturn, 1) := by decide +kernel
theorem dX2_kindOf_0 : decode cX2_kindOf 0 = .ok (.iload_n 1, 1) := by decide +kernel
theorem dX2_kindOf_1 : decode cX2_kindOf 1 = .ok (.iconst 3, 1) := by decide +kernel
theorem dX2_kindOf_2 : decode cX2_kindOf 2 = .ok (.if_icmp .ge 7, 3) := by decide +kernel
theorem dX2_kindOf_5 : decode cX2_kindOf 5 = .ok (.iconst 0, 1) := by decide +kernel
theorem dX2_kindOf_6 : decode cX2_kindOf 6 = .ok (.goto 23, 3) := by decide +kernel
theorem dX2_kindOf_9 : decode cX2_kindOf 9 = .ok (.iload_n 1, 1) := by decide +kernel
theorem dX2_kindOf_10 : decode cX2_kindOf 10 = .ok (.iconst 5, 1) := by decide +kernel
theorem dX2_kindOf_11 : decode cX2_kindOf 11 = .ok (.if_icmp .ge 7, 3) := by decide +kernel
theorem dX2_kindOf_14 : decode cX2_kindOf 14 = .ok (.iconst 1, 1) := by decide +kernel
theorem dX2_kindOf_15 : decode cX2_kindOf 15 = .ok (.goto 14, 3) := by decide +kernel
theorem dX2_kindOf_18 : decode cX2_kindOf 18 = .ok (.iload_n 1, 1) := by decide +kernel
theorem dX2_kindOf_19 : decode cX2_kindOf 19 = .ok (.bipush 9, 2) := by decide +kernel
theorem dX2_kindOf_21 : decode cX2_kindOf 21 = .ok (.if_icmp .ge 7, 3) := by decide +kernel
theorem dX2_kindOf_24 : decode cX2_kindOf 24 = .ok (.iconst 2, 1) := by decide +kernel
theorem dX2_kindOf_25 : decode cX2_kindOf 25 = .ok (.goto 4, 3) := by decide +kernel
theorem dX2_kindOf_28 : decode cX2_kindOf 28 = .ok (.iconst 3, 1) := by decide +kernel
theorem dX2_kindOf_29 : decode cX2_kindOf 29 = .ok (.ireturn, 1) := by decide +kernel
theorem dX2_needs_0 : decode cX2_needs 0 = .ok (.iconst 0, 1) := by decide +kernel
theorem dX2_needs_1 : decode cX2_needs 1 = .ok (.istore 5, 2) := by decide +kernel
theorem dX2_needs_3 : decode cX2_needs 3 = .ok (.iconst 0, 1) := by decide +kernel
theorem dX2_needs_4 : decode cX2_needs 4 = .ok (.istore 6, 2) := by decide +kernel
theorem dX2_needs_6 : decode cX2_needs 6 = .ok (.iload 6, 2) := by decide +kernel
theorem dX2_needs_8 : decode cX2_needs 8 = .ok (.iconst 4, 1) := by decide +kernel
theorem dX2_needs_9 : decode cX2_needs 9 = .ok (.if_icmp .ge 73, 3) := by decide +kernel
theorem dX2_needs_12 : decode cX2_needs 12 = .ok (.aload_n 0, 1) := by decide +kernel
theorem dX2_needs_13 : decode cX2_needs 13 = .ok (.iload 6, 2) := by decide +kernel
theorem dX2_needs_15 : decode cX2_needs 15 = .ok (.invokevirtual 24, 3) := by decide +kernel
theorem dX2_needs_18 : decode cX2_needs 18 = .ok (.istore 7, 2) := by decide +kernel
theorem dX2_needs_20 : decode cX2_needs 20 = .ok (.iload 6, 2) := by decide +kernel
theorem dX2_needs_22 : decode cX2_needs 22 = .ok (.iload_n 1, 1) := by decide +kernel
theorem dX2_needs_23 : decode cX2_needs 23 = .ok (.if_icmp .ne 9, 3) := by decide +kernel
theorem dX2_needs_26 : decode cX2_needs 26 = .ok (.iload 7, 2) := by decide +kernel
theorem dX2_needs_28 : decode cX2_needs 28 = .ok (.iload_n 2, 1) := by decide +kernel
theorem dX2_needs_29 : decode cX2_needs 29 = .ok (.iadd, 1) := by decide +kernel
theorem dX2_needs_30 : decode cX2_needs 30 = .ok (.istore 7, 2) := by decide +kernel
theorem dX2_needs_32 : decode cX2_needs 32 = .ok (.iload 6, 2) := by decide +kernel
theorem dX2_needs_34 : decode cX2_needs 34 = .ok (.iload_n 3, 1) := by decide +kernel
theorem dX2_needs_35 : decode cX2_needs 35 = .ok (.if_icmp .ne 10, 3) := by decide +kernel
theorem dX2_needs_38 : decode cX2_needs 38 = .ok (.iload 7, 2) := by decide +kernel
theorem dX2_needs_40 : decode cX2_needs 40 = .ok (.iload 4, 2) := by decide +kernel
theorem dX2_needs_42 : decode cX2_needs 42 = .ok (.isub, 1) := by decide +kernel
theorem dX2_needs_43 : decode cX2_needs 43 = .ok (.istore 7, 2) := by decide +kernel
theorem dX2_needs_45 : decode cX2_needs 45 = .ok (.bipush 8, 2) := by decide +kernel
theorem dX2_needs_47 : decode cX2_needs 47 = .ok (.iload 6, 2) := by decide +kernel
theorem dX2_needs_49 : decode cX2_needs 49 = .ok (.ishr, 1) := by decide +kernel
theorem dX2_needs_50 : decode cX2_needs 50 = .ok (.istore 8, 2) := by decide +kernel
theorem dX2_needs_52 : decode cX2_needs 52 = .ok (.iload 8, 2) := by decide +kernel
theorem dX2_needs_54 : decode cX2_needs 54 = .ok (.iconst 1, 1) := by decide +kernel
theorem dX2_needs_55 : decode cX2_needs 55 = .ok (.if_icmp .ge 6, 3) := by decide +kernel
theorem dX2_needs_58 : decode cX2_needs 58 = .ok (.iconst 1, 1) := by decide +kernel
theorem dX2_needs_59 : decode cX2_needs 59 = .ok (.istore 8, 2) := by decide +kernel
theorem dX2_needs_61 : decode cX2_needs 61 = .ok (.iload 5, 2) := by decide +kernel
theorem dX2_needs_63 : decode cX2_needs 63 = .ok (.iload 7, 2) := by decide +kernel
theorem dX2_needs_65 : decode cX2_needs 65 = .ok (.iload 8, 2) := by decide +kernel
theorem dX2_needs_67 : decode cX2_needs 67 = .ok (.iadd, 1) := by decide +kernel
theorem dX2_needs_68 : decode cX2_needs 68 = .ok (.iconst 1, 1) := by decide +kernel
theorem dX2_needs_69 : decode cX2_needs 69 = .ok (.isub, 1) := by decide +kernel
theorem dX2_needs_70 : decode cX2_needs 70 = .ok (.iload 8, 2) := by decide +kernel
theorem dX2_needs_72 : decode cX2_needs 72 = .ok (.idiv, 1) := by decide +kernel
theorem dX2_needs_73 : decode cX2_needs 73 = .ok (.iadd, 1) := by decide +kernel
theorem dX2_needs_74 : decode cX2_needs 74 = .ok (.istore 5, 2) := by decide +kernel
theorem dX2_needs_76 : decode cX2_needs 76 = .ok (.iinc 6 1, 3) := by decide +kernel
theorem dX2_needs_79 : decode cX2_needs 79 = .ok (.goto (-73), 3) := by decide +kernel
theorem dX2_needs_82 : decode cX2_needs 82 = .ok (.iload 5, 2) := by decide +kernel
theorem dX2_needs_84 : decode cX2_needs 84 = .ok (.ireturn, 1) := by decide +kernel
theorem dX2_alive_0 : decode cX2_alive 0 = .ok (.iconst 0, 1) := by decide +kernel
theorem dX2_alive_1 : decode cX2_alive 1 = .ok (.istore_n 2, 1) := by decide +kernel
theorem dX2_alive_2 : decode cX2_alive 2 = .ok (.iconst 0, 1) := by decide +kernel
theorem dX2_alive_3 : decode cX2_alive 3 = .ok (.istore_n 3, 1) := by decide +kernel
theorem dX2_alive_4 : decode cX2_alive 4 = .ok (.iload_n 3, 1) := by decide +kernel
theorem dX2_alive_5 : decode cX2_alive 5 = .ok (.bipush 64, 2) := by decide +kernel
theorem dX2_alive_7 : decode cX2_alive 7 = .ok (.if_icmp .ge 35, 3) := by decide +kernel
theorem dX2_alive_10 : decode cX2_alive 10 = .ok (.aload_n 0, 1) := by decide +kernel
theorem dX2_alive_11 : decode cX2_alive 11 = .ok (.getfield 7, 3) := by decide +kernel
theorem dX2_alive_14 : decode cX2_alive 14 = .ok (.iload_n 3, 1) := by decide +kernel
theorem dX2_alive_15 : decode cX2_alive 15 = .ok (.iaload, 1) := by decide +kernel
theorem dX2_alive_16 : decode cX2_alive 16 = .ok (.ifCond .le 20, 3) := by decide +kernel
theorem dX2_alive_19 : decode cX2_alive 19 = .ok (.aload_n 0, 1) := by decide +kernel
theorem dX2_alive_20 : decode cX2_alive 20 = .ok (.aload_n 0, 1) := by decide +kernel
theorem dX2_alive_21 : decode cX2_alive 21 = .ok (.getfield 7, 3) := by decide +kernel
theorem dX2_alive_24 : decode cX2_alive 24 = .ok (.iload_n 3, 1) := by decide +kernel
theorem dX2_alive_25 : decode cX2_alive 25 = .ok (.iaload, 1) := by decide +kernel
theorem dX2_alive_26 : decode cX2_alive 26 = .ok (.invokevirtual 20, 3) := by decide +kernel
theorem dX2_alive_29 : decode cX2_alive 29 = .ok (.iload_n 1, 1) := by decide +kernel
theorem dX2_alive_30 : decode cX2_alive 30 = .ok (.if_icmp .ne 6, 3) := by decide +kernel
theorem dX2_alive_33 : decode cX2_alive 33 = .ok (.iinc 2 1, 3) := by decide +kernel
theorem dX2_alive_36 : decode cX2_alive 36 = .ok (.iinc 3 1, 3) := by decide +kernel
theorem dX2_alive_39 : decode cX2_alive 39 = .ok (.goto (-35), 3) := by decide +kernel
theorem dX2_alive_42 : decode cX2_alive 42 = .ok (.iload_n 2, 1) := by decide +kernel
theorem dX2_alive_43 : decode cX2_alive 43 = .ok (.ireturn, 1) := by decide +kernel
theorem dX2_wipe_0 : decode cX2_wipe 0 = .ok (.aload_n 0, 1) := by decide +kernel
theorem dX2_wipe_1 : decode cX2_wipe 1 = .ok (.getfield 7, 3) := by decide +kernel
theorem dX2_wipe_4 : decode cX2_wipe 4 = .ok (.iload_n 1, 1) := by decide +kernel
theorem dX2_wipe_5 : decode cX2_wipe 5 = .ok (.iconst 0, 1) := by decide +kernel
theorem dX2_wipe_6 : decode cX2_wipe 6 = .ok (.iastore, 1) := by decide +kernel
theorem dX2_wipe_7 : decode cX2_wipe 7 = .ok (.iconst 0, 1) := by decide +kernel
theorem dX2_wipe_8 : decode cX2_wipe 8 = .ok (.istore_n 2, 1) := by decide +kernel
theorem dX2_wipe_9 : decode cX2_wipe 9 = .ok (.iload_n 2, 1) := by decide +kernel
theorem dX2_wipe_10 : decode cX2_wipe 10 = .ok (.bipush 16, 2) := by decide +kernel
theorem dX2_wipe_12 : decode cX2_wipe 12 = .ok (.if_icmp .ge 21, 3) := by decide +kernel
theorem dX2_wipe_15 : decode cX2_wipe 15 = .ok (.aload_n 0, 1) := by decide +kernel
theorem dX2_wipe_16 : decode cX2_wipe 16 = .ok (.getfield 13, 3) := by decide +kernel
theorem dX2_wipe_19 : decode cX2_wipe 19 = .ok (.bipush 16, 2) := by decide +kernel
theorem dX2_wipe_21 : decode cX2_wipe 21 = .ok (.iload_n 1, 1) := by decide +kernel
theorem dX2_wipe_22 : decode cX2_wipe 22 = .ok (.imul, 1) := by decide +kernel
theorem dX2_wipe_23 : decode cX2_wipe 23 = .ok (.iload_n 2, 1) := by decide +kernel
theorem dX2_wipe_24 : decode cX2_wipe 24 = .ok (.iadd, 1) := by decide +kernel
theorem dX2_wipe_25 : decode cX2_wipe 25 = .ok (.iconst 0, 1) := by decide +kernel
theorem dX2_wipe_26 : decode cX2_wipe 26 = .ok (.iastore, 1) := by decide +kernel
theorem dX2_wipe_27 : decode cX2_wipe 27 = .ok (.iinc 2 1, 3) := by decide +kernel
theorem dX2_wipe_30 : decode cX2_wipe 30 = .ok (.goto (-21), 3) := by decide +kernel
theorem dX2_wipe_33 : decode cX2_wipe 33 = .ok (.return_, 1) := by decide +kernel
theorem dX2_free_0 : decode cX2_free 0 = .ok (.aload_n 0, 1) := by decide +kernel
theorem dX2_free_1 : decode cX2_free 1 = .ok (.iload_n 1, 1) := by decide +kernel
theorem dX2_free_2 : decode cX2_free 2 = .ok (.invokevirtual 39, 3) := by decide +kernel
theorem dX2_free_5 : decode cX2_free 5 = .ok (.ifCond .eq 5, 3) := by decide +kernel
theorem dX2_free_8 : decode cX2_free 8 = .ok (.iconst (-1), 1) := by decide +kernel
theorem dX2_free_9 : decode cX2_free 9 = .ok (.ireturn, 1) := by decide +kernel
theorem dX2_free_10 : decode cX2_free 10 = .ok (.aload_n 0, 1) := by decide +kernel
theorem dX2_free_11 : decode cX2_free 11 = .ok (.getfield 7, 3) := by decide +kernel
theorem dX2_free_14 : decode cX2_free 14 = .ok (.iload_n 1, 1) := by decide +kernel
theorem dX2_free_15 : decode cX2_free 15 = .ok (.iaload, 1) := by decide +kernel
theorem dX2_free_16 : decode cX2_free 16 = .ok (.istore_n 2, 1) := by decide +kernel
theorem dX2_free_17 : decode cX2_free 17 = .ok (.aload_n 0, 1) := by decide +kernel
theorem dX2_free_18 : decode cX2_free 18 = .ok (.iload_n 1, 1) := by decide +kernel
theorem dX2_free_19 : decode cX2_free 19 = .ok (.invokevirtual 35, 3) := by decide +kernel
theorem dX2_free_22 : decode cX2_free 22 = .ok (.iload_n 2, 1) := by decide +kernel
theorem dX2_free_23 : decode cX2_free 23 = .ok (.ireturn, 1) := by decide +kernel
theorem dX2_bad_0 : decode cX2_bad 0 = .ok (.iload_n 1, 1) := by decide +kernel
theorem dX2_bad_1 : decode cX2_bad 1 = .ok (.ifCond .lt 18, 3) := by decide +kernel
theorem dX2_bad_4 : decode cX2_bad 4 = .ok (.iload_n 1, 1) := by decide +kernel
theorem dX2_bad_5 : decode cX2_bad 5 = .ok (.bipush 63, 2) := by decide +kernel
theorem dX2_bad_7 : decode cX2_bad 7 = .ok (.if_icmp .gt 12, 3) := by decide +kernel
theorem dX2_bad_10 : decode cX2_bad 10 = .ok (.aload_n 0, 1) := by decide +kernel
theorem dX2_bad_11 : decode cX2_bad 11 = .ok (.getfield 7, 3) := by decide +kernel
theorem dX2_bad_14 : decode cX2_bad 14 = .ok (.iload_n 1, 1) := by decide +kernel
theorem dX2_bad_15 : decode cX2_bad 15 = .ok (.iaload, 1) := by decide +kernel
theorem dX2_bad_16 : decode cX2_bad 16 = .ok (.ifCond .ne 7, 3) := by decide +kernel
theorem dX2_bad_19 : decode cX2_bad 19 = .ok (.iconst 1, 1) := by decide +kernel
theorem dX2_bad_20 : decode cX2_bad 20 = .ok (.goto 4, 3) := by decide +kernel
theorem dX2_bad_23 : decode cX2_bad 23 = .ok (.iconst 0, 1) := by decide +kernel
theorem dX2_bad_24 : decode cX2_bad 24 = .ok (.ireturn, 1) := by decide +kernel
theorem dX2_resize_0 : decode cX2_resize 0 = .ok (.aload_n 0, 1) := by decide +kernel
theorem dX2_resize_1 : decode cX2_resize 1 = .ok (.iload_n 1, 1) := by decide +kernel
theorem dX2_resize_2 : decode cX2_resize 2 = .ok (.invokevirtual 39, 3) := by decide +kernel
theorem dX2_resize_5 : decode cX2_resize 5 = .ok (.ifCond .eq 5, 3) := by decide +kernel
theorem dX2_resize_8 : decode cX2_resize 8 = .ok (.iconst (-1), 1) := by decide +kernel
theorem dX2_resize_9 : decode cX2_resize 9 = .ok (.ireturn, 1) := by decide +kernel
theorem dX2_resize_10 : decode cX2_resize 10 = .ok (.iload_n 2, 1) := by decide +kernel
theorem dX2_resize_11 : decode cX2_resize 11 = .ok (.iconst 1, 1) := by decide +kernel
theorem dX2_resize_12 : decode cX2_resize 12 = .ok (.if_icmp .lt 9, 3) := by decide +kernel
theorem dX2_resize_15 : decode cX2_resize 15 = .ok (.iload_n 2, 1) := by decide +kernel
theorem dX2_resize_16 : decode cX2_resize 16 = .ok (.bipush 16, 2) := by decide +kernel
theorem dX2_resize_18 : decode cX2_resize 18 = .ok (.if_icmp .le 6, 3) := by decide +kernel
theorem dX2_resize_21 : decode cX2_resize 21 = .ok (.bipush (-2), 2) := by decide +kernel
theorem dX2_resize_23 : decode cX2_resize 23 = .ok (.ireturn, 1) := by decide +kernel
theorem dX2_resize_24 : decode cX2_resize 24 = .ok (.aload_n 0, 1) := by decide +kernel
theorem dX2_resize_25 : decode cX2_resize 25 = .ok (.iload_n 2, 1) := by decide +kernel
theorem dX2_resize_26 : decode cX2_resize 26 = .ok (.invokevirtual 20, 3) := by decide +kernel
theorem dX2_resize_29 : decode cX2_resize 29 = .ok (.istore_n 3, 1) := by decide +kernel
theorem dX2_resize_30 : decode cX2_resize 30 = .ok (.aload_n 0, 1) := by decide +kernel
theorem dX2_resize_31 : decode cX2_resize 31 = .ok (.aload_n 0, 1) := by decide +kernel
theorem dX2_resize_32 : decode cX2_resize 32 = .ok (.getfield 7, 3) := by decide +kernel
theorem dX2_resize_35 : decode cX2_resize 35 = .ok (.iload_n 1, 1) := by decide +kernel
theorem dX2_resize_36 : decode cX2_resize 36 = .ok (.iaload, 1) := by decide +kernel
theorem dX2_resize_37 : decode cX2_resize 37 = .ok (.invokevirtual 20, 3) := by decide +kernel
theorem dX2_resize_40 : decode cX2_resize 40 = .ok (.istore 4, 2) := by decide +kernel
theorem dX2_resize_42 : decode cX2_resize 42 = .ok (.aload_n 0, 1) := by decide +kernel
theorem dX2_resize_43 : decode cX2_resize 43 = .ok (.iload_n 3, 1) := by decide +kernel
theorem dX2_resize_44 : decode cX2_resize 44 = .ok (.iconst 1, 1) := by decide +kernel
theorem dX2_resize_45 : decode cX2_resize 45 = .ok (.iload 4, 2) := by decide +kernel
theorem dX2_resize_47 : decode cX2_resize 47 = .ok (.iconst 1, 1) := by decide +kernel
theorem dX2_resize_48 : decode cX2_resize 48 = .ok (.invokevirtual 31, 3) := by decide +kernel
theorem dX2_resize_51 : decode cX2_resize 51 = .ok (.aload_n 0, 1) := by decide +kernel
theorem dX2_resize_52 : decode cX2_resize 52 = .ok (.getfield 16, 3) := by decide +kernel
theorem dX2_resize_55 : decode cX2_resize 55 = .ok (.if_icmp .le 6, 3) := by decide +kernel
theorem dX2_resize_58 : decode cX2_resize 58 = .ok (.bipush (-3), 2) := by decide +kernel
theorem dX2_resize_60 : decode cX2_resize 60 = .ok (.ireturn, 1) := by decide +kernel
theorem dX2_resize_61 : decode cX2_resize 61 = .ok (.aload_n 0, 1) := by decide +kernel
theorem dX2_resize_62 : decode cX2_resize 62 = .ok (.getfield 7, 3) := by decide +kernel
theorem dX2_resize_65 : decode cX2_resize 65 = .ok (.iload_n 1, 1) := by decide +kernel
theorem dX2_resize_66 : decode cX2_resize 66 = .ok (.iaload, 1) := by decide +kernel
theorem dX2_resize_67 : decode cX2_resize 67 = .ok (.istore 5, 2) := by decide +kernel
theorem dX2_resize_69 : decode cX2_resize 69 = .ok (.iload_n 2, 1) := by decide +kernel
theorem dX2_resize_70 : decode cX2_resize 70 = .ok (.istore 6, 2) := by decide +kernel
theorem dX2_resize_72 : decode cX2_resize 72 = .ok (.iload 6, 2) := by decide +kernel
theorem dX2_resize_74 : decode cX2_resize 74 = .ok (.bipush 16, 2) := by decide +kernel
theorem dX2_resize_76 : decode cX2_resize 76 = .ok (.if_icmp .ge 22, 3) := by decide +kernel
theorem dX2_resize_79 : decode cX2_resize 79 = .ok (.aload_n 0, 1) := by decide +kernel
theorem dX2_resize_80 : decode cX2_resize 80 = .ok (.getfield 13, 3) := by decide +kernel
theorem dX2_resize_83 : decode cX2_resize 83 = .ok (.bipush 16, 2) := by decide +kernel
theorem dX2_resize_85 : decode cX2_resize 85 = .ok (.iload_n 1, 1) := by decide +kernel
theorem dX2_resize_86 : decode cX2_resize 86 = .ok (.imul, 1) := by decide +kernel
theorem dX2_resize_87 : decode cX2_resize 87 = .ok (.iload 6, 2) := by decide +kernel
theorem dX2_resize_89 : decode cX2_resize 89 = .ok (.iadd, 1) := by decide +kernel
theorem dX2_resize_90 : decode cX2_resize 90 = .ok (.iconst 0, 1) := by decide +kernel
theorem dX2_resize_91 : decode cX2_resize 91 = .ok (.iastore, 1) := by decide +kernel
theorem dX2_resize_92 : decode cX2_resize 92 = .ok (.iinc 6 1, 3) := by decide +kernel
theorem dX2_resize_95 : decode cX2_resize 95 = .ok (.goto (-23), 3) := by decide +kernel
theorem dX2_resize_98 : decode cX2_resize 98 = .ok (.aload_n 0, 1) := by decide +kernel
theorem dX2_resize_99 : decode cX2_resize 99 = .ok (.getfield 7, 3) := by decide +kernel
theorem dX2_resize_102 : decode cX2_resize 102 = .ok (.iload_n 1, 1) := by decide +kernel
theorem dX2_resize_103 : decode cX2_resize 103 = .ok (.iload_n 2, 1) := by decide +kernel
theorem dX2_resize_104 : decode cX2_resize 104 = .ok (.iastore, 1) := by decide +kernel
theorem dX2_resize_105 : decode cX2_resize 105 = .ok (.iload 5, 2) := by decide +kernel
theorem dX2_resize_107 : decode cX2_resize 107 = .ok (.ireturn, 1) := by decide +kernel
theorem dX2_copy_0 : decode cX2_copy 0 = .ok (.aload_n 0, 1) := by decide +kernel
theorem dX2_copy_1 : decode cX2_copy 1 = .ok (.iload_n 1, 1) := by decide +kernel
theorem dX2_copy_2 : decode cX2_copy 2 = .ok (.invokevirtual 39, 3) := by decide +kernel
theorem dX2_copy_5 : decode cX2_copy 5 = .ok (.ifCond .eq 5, 3) := by decide +kernel
theorem dX2_copy_8 : decode cX2_copy 8 = .ok (.iconst (-1), 1) := by decide +kernel
theorem dX2_copy_9 : decode cX2_copy 9 = .ok (.ireturn, 1) := by decide +kernel
theorem dX2_copy_10 : decode cX2_copy 10 = .ok (.aload_n 0, 1) := by decide +kernel
theorem dX2_copy_11 : decode cX2_copy 11 = .ok (.aload_n 0, 1) := by decide +kernel
theorem dX2_copy_12 : decode cX2_copy 12 = .ok (.getfield 7, 3) := by decide +kernel
theorem dX2_copy_15 : decode cX2_copy 15 = .ok (.iload_n 1, 1) := by decide +kernel
theorem dX2_copy_16 : decode cX2_copy 16 = .ok (.iaload, 1) := by decide +kernel
theorem dX2_copy_17 : decode cX2_copy 17 = .ok (.invokevirtual 43, 3) := by decide +kernel
theorem dX2_copy_20 : decode cX2_copy 20 = .ok (.istore_n 2, 1) := by decide +kernel
theorem dX2_copy_21 : decode cX2_copy 21 = .ok (.iload_n 2, 1) := by decide +kernel
theorem dX2_copy_22 : decode cX2_copy 22 = .ok (.ifCond .ge 5, 3) := by decide +kernel
theorem dX2_copy_25 : decode cX2_copy 25 = .ok (.iload_n 2, 1) := by decide +kernel
theorem dX2_copy_26 : decode cX2_copy 26 = .ok (.ireturn, 1) := by decide +kernel
theorem dX2_copy_27 : decode cX2_copy 27 = .ok (.iconst 0, 1) := by decide +kernel
theorem dX2_copy_28 : decode cX2_copy 28 = .ok (.istore_n 3, 1) := by decide +kernel
theorem dX2_copy_29 : decode cX2_copy 29 = .ok (.iload_n 3, 1) := by decide +kernel
theorem dX2_copy_30 : decode cX2_copy 30 = .ok (.bipush 16, 2) := by decide +kernel
theorem dX2_copy_32 : decode cX2_copy 32 = .ok (.if_icmp .ge 31, 3) := by decide +kernel
theorem dX2_copy_35 : decode cX2_copy 35 = .ok (.aload_n 0, 1) := by decide +kernel
theorem dX2_copy_36 : decode cX2_copy 36 = .ok (.getfield 13, 3) := by decide +kernel
theorem dX2_copy_39 : decode cX2_copy 39 = .ok (.bipush 16, 2) := by decide +kernel
theorem dX2_copy_41 : decode cX2_copy 41 = .ok (.iload_n 2, 1) := by decide +kernel
theorem dX2_copy_42 : decode cX2_copy 42 = .ok (.imul, 1) := by decide +kernel
theorem dX2_copy_43 : decode cX2_copy 43 = .ok (.iload_n 3, 1) := by decide +kernel
theorem dX2_copy_44 : decode cX2_copy 44 = .ok (.iadd, 1) := by decide +kernel
theorem dX2_copy_45 : decode cX2_copy 45 = .ok (.aload_n 0, 1) := by decide +kernel
theorem dX2_copy_46 : decode cX2_copy 46 = .ok (.getfield 13, 3) := by decide +kernel
theorem dX2_copy_49 : decode cX2_copy 49 = .ok (.bipush 16, 2) := by decide +kernel
theorem dX2_copy_51 : decode cX2_copy 51 = .ok (.iload_n 1, 1) := by decide +kernel
theorem dX2_copy_52 : decode cX2_copy 52 = .ok (.imul, 1) := by decide +kernel
theorem dX2_copy_53 : decode cX2_copy 53 = .ok (.iload_n 3, 1) := by decide +kernel
theorem dX2_copy_54 : decode cX2_copy 54 = .ok (.iadd, 1) := by decide +kernel
theorem dX2_copy_55 : decode cX2_copy 55 = .ok (.iaload, 1) := by decide +kernel
theorem dX2_copy_56 : decode cX2_copy 56 = .ok (.iastore, 1) := by decide +kernel
theorem dX2_copy_57 : decode cX2_copy 57 = .ok (.iinc 3 1, 3) := by decide +kernel
theorem dX2_copy_60 : decode cX2_copy 60 = .ok (.goto (-31), 3) := by decide +kernel
theorem dX2_copy_63 : decode cX2_copy 63 = .ok (.iload_n 2, 1) := by decide +kernel
theorem dX2_copy_64 : decode cX2_copy 64 = .ok (.ireturn, 1) := by decide +kernel
theorem dX2_freeClass_0 : decode cX2_freeClass 0 = .ok (.iload_n 1, 1) := by decide +kernel
theorem dX2_freeClass_1 : decode cX2_freeClass 1 = .ok (.ifCond .lt 8, 3) := by decide +kernel
theorem dX2_freeClass_4 : decode cX2_freeClass 4 = .ok (.iload_n 1, 1) := by decide +kernel
theorem dX2_freeClass_5 : decode cX2_freeClass 5 = .ok (.iconst 3, 1) := by decide +kernel
theorem dX2_freeClass_6 : decode cX2_freeClass 6 = .ok (.if_icmp .le 5, 3) := by decide +kernel
theorem dX2_freeClass_9 : decode cX2_freeClass 9 = .ok (.iconst (-1), 1) := by decide +kernel
theorem dX2_freeClass_10 : decode cX2_freeClass 10 = .ok (.ireturn, 1) := by decide +kernel
theorem dX2_freeClass_11 : decode cX2_freeClass 11 = .ok (.iconst 0, 1) := by decide +kernel
theorem dX2_freeClass_12 : decode cX2_freeClass 12 = .ok (.istore_n 2, 1) := by decide +kernel
theorem dX2_freeClass_13 : decode cX2_freeClass 13 = .ok (.iconst 0, 1) := by decide +kernel
theorem dX2_freeClass_14 : decode cX2_freeClass 14 = .ok (.istore_n 3, 1) := by decide +kernel
theorem dX2_freeClass_15 : decode cX2_freeClass 15 = .ok (.iload_n 3, 1) := by decide +kernel
theorem dX2_freeClass_16 : decode cX2_freeClass 16 = .ok (.bipush 64, 2) := by decide +kernel
theorem dX2_freeClass_18 : decode cX2_freeClass 18 = .ok (.if_icmp .ge 40, 3) := by decide +kernel
theorem dX2_freeClass_21 : decode cX2_freeClass 21 = .ok (.aload_n 0, 1) := by decide +kernel
theorem dX2_freeClass_22 : decode cX2_freeClass 22 = .ok (.getfield 7, 3) := by decide +kernel
theorem dX2_freeClass_25 : decode cX2_freeClass 25 = .ok (.iload_n 3, 1) := by decide +kernel
theorem dX2_freeClass_26 : decode cX2_freeClass 26 = .ok (.iaload, 1) := by decide +kernel
theorem dX2_freeClass_27 : decode cX2_freeClass 27 = .ok (.ifCond .le 25, 3) := by decide +kernel
theorem dX2_freeClass_30 : decode cX2_freeClass 30 = .ok (.aload_n 0, 1) := by decide +kernel
theorem dX2_freeClass_31 : decode cX2_freeClass 31 = .ok (.aload_n 0, 1) := by decide +kernel
theorem dX2_freeClass_32 : decode cX2_freeClass 32 = .ok (.getfield 7, 3) := by decide +kernel
theorem dX2_freeClass_35 : decode cX2_freeClass 35 = .ok (.iload_n 3, 1) := by decide +kernel
theorem dX2_freeClass_36 : decode cX2_freeClass 36 = .ok (.iaload, 1) := by decide +kernel
theorem dX2_freeClass_37 : decode cX2_freeClass 37 = .ok (.invokevirtual 20, 3) := by decide +kernel
theorem dX2_freeClass_40 : decode cX2_freeClass 40 = .ok (.iload_n 1, 1) := by decide +kernel
theorem dX2_freeClass_41 : decode cX2_freeClass 41 = .ok (.if_icmp .ne 11, 3) := by decide +kernel
theorem dX2_freeClass_44 : decode cX2_freeClass 44 = .ok (.aload_n 0, 1) := by decide +kernel
theorem dX2_freeClass_45 : decode cX2_freeClass 45 = .ok (.iload_n 3, 1) := by decide +kernel
theorem dX2_freeClass_46 : decode cX2_freeClass 46 = .ok (.invokevirtual 35, 3) := by decide +kernel
theorem dX2_freeClass_49 : decode cX2_freeClass 49 = .ok (.iinc 2 1, 3) := by decide +kernel
theorem dX2_freeClass_52 : decode cX2_freeClass 52 = .ok (.iinc 3 1, 3) := by decide +kernel
theorem dX2_freeClass_55 : decode cX2_freeClass 55 = .ok (.goto (-40), 3) := by decide +kernel
theorem dX2_freeClass_58 : decode cX2_freeClass 58 = .ok (.iload_n 2, 1) := by decide +kernel
theorem dX2_freeClass_59 : decode cX2_freeClass 59 = .ok (.ireturn, 1) := by decide +kernel
theorem dX2_read_0 : decode cX2_read 0 = .ok (.aload_n 0, 1) := by decide +kernel
theorem dX2_read_1 : decode cX2_read 1 = .ok (.iload_n 1, 1) := by decide +kernel
theorem dX2_read_2 : decode cX2_read 2 = .ok (.invokevirtual 39, 3) := by decide +kernel
theorem dX2_read_5 : decode cX2_read 5 = .ok (.ifCond .ne 17, 3) := by decide +kernel
theorem dX2_read_8 : decode cX2_read 8 = .ok (.iload_n 2, 1) := by decide +kernel
theorem dX2_read_9 : decode cX2_read 9 = .ok (.ifCond .lt 13, 3) := by decide +kernel
theorem dX2_read_12 : decode cX2_read 12 = .ok (.iload_n 2, 1) := by decide +kernel
theorem dX2_read_13 : decode cX2_read 13 = .ok (.aload_n 0, 1) := by decide +kernel
theorem dX2_read_14 : decode cX2_read 14 = .ok (.getfield 7, 3) := by decide +kernel
theorem dX2_read_17 : decode cX2_read 17 = .ok (.iload_n 1, 1) := by decide +kernel
theorem dX2_read_18 : decode cX2_read 18 = .ok (.iaload, 1) := by decide +kernel
theorem dX2_read_19 : decode cX2_read 19 = .ok (.if_icmp .lt 5, 3) := by decide +kernel
theorem dX2_read_22 : decode cX2_read 22 = .ok (.iconst 0, 1) := by decide +kernel
theorem dX2_read_23 : decode cX2_read 23 = .ok (.ireturn, 1) := by decide +kernel
theorem dX2_read_24 : decode cX2_read 24 = .ok (.aload_n 0, 1) := by decide +kernel
theorem dX2_read_25 : decode cX2_read 25 = .ok (.getfield 13, 3) := by decide +kernel
theorem dX2_read_28 : decode cX2_read 28 = .ok (.bipush 16, 2) := by decide +kernel
theorem dX2_read_30 : decode cX2_read 30 = .ok (.iload_n 1, 1) := by decide +kernel
theorem dX2_read_31 : decode cX2_read 31 = .ok (.imul, 1) := by decide +kernel
theorem dX2_read_32 : decode cX2_read 32 = .ok (.iload_n 2, 1) := by decide +kernel
theorem dX2_read_33 : decode cX2_read 33 = .ok (.iadd, 1) := by decide +kernel
theorem dX2_read_34 : decode cX2_read 34 = .ok (.iaload, 1) := by decide +kernel
theorem dX2_read_35 : decode cX2_read 35 = .ok (.ireturn, 1) := by decide +kernel
theorem dX2_write_0 : decode cX2_write 0 = .ok (.aload_n 0, 1) := by decide +kernel
theorem dX2_write_1 : decode cX2_write 1 = .ok (.iload_n 1, 1) := by decide +kernel
theorem dX2_write_2 : decode cX2_write 2 = .ok (.invokevirtual 39, 3) := by decide +kernel
theorem dX2_write_5 : decode cX2_write 5 = .ok (.ifCond .eq 5, 3) := by decide +kernel
theorem dX2_write_8 : decode cX2_write 8 = .ok (.iconst (-1), 1) := by decide +kernel
theorem dX2_write_9 : decode cX2_write 9 = .ok (.ireturn, 1) := by decide +kernel
theorem dX2_write_10 : decode cX2_write 10 = .ok (.iload_n 2, 1) := by decide +kernel
theorem dX2_write_11 : decode cX2_write 11 = .ok (.ifCond .lt 13, 3) := by decide +kernel
theorem dX2_write_14 : decode cX2_write 14 = .ok (.iload_n 2, 1) := by decide +kernel
theorem dX2_write_15 : decode cX2_write 15 = .ok (.aload_n 0, 1) := by decide +kernel
theorem dX2_write_16 : decode cX2_write 16 = .ok (.getfield 7, 3) := by decide +kernel
theorem dX2_write_19 : decode cX2_write 19 = .ok (.iload_n 1, 1) := by decide +kernel
theorem dX2_write_20 : decode cX2_write 20 = .ok (.iaload, 1) := by decide +kernel
theorem dX2_write_21 : decode cX2_write 21 = .ok (.if_icmp .lt 6, 3) := by decide +kernel
theorem dX2_write_24 : decode cX2_write 24 = .ok (.bipush (-2), 2) := by decide +kernel
theorem dX2_write_26 : decode cX2_write 26 = .ok (.ireturn, 1) := by decide +kernel
theorem dX2_write_27 : decode cX2_write 27 = .ok (.aload_n 0, 1) := by decide +kernel
theorem dX2_write_28 : decode cX2_write 28 = .ok (.getfield 13, 3) := by decide +kernel
theorem dX2_write_31 : decode cX2_write 31 = .ok (.bipush 16, 2) := by decide +kernel
theorem dX2_write_33 : decode cX2_write 33 = .ok (.iload_n 1, 1) := by decide +kernel
theorem dX2_write_34 : decode cX2_write 34 = .ok (.imul, 1) := by decide +kernel
theorem dX2_write_35 : decode cX2_write 35 = .ok (.iload_n 2, 1) := by decide +kernel
theorem dX2_write_36 : decode cX2_write 36 = .ok (.iadd, 1) := by decide +kernel
theorem dX2_write_37 : decode cX2_write 37 = .ok (.iload_n 3, 1) := by decide +kernel
theorem dX2_write_38 : decode cX2_write 38 = .ok (.iastore, 1) := by decide +kernel
theorem dX2_write_39 : decode cX2_write 39 = .ok (.iconst 0, 1) := by decide +kernel
theorem dX2_write_40 : decode cX2_write 40 = .ok (.ireturn, 1) := by decide +kernel
theorem dX2_fill_0 : decode cX2_fill 0 = .ok (.aload_n 0, 1) := by decide +kernel
theorem dX2_fill_1 : decode cX2_fill 1 = .ok (.iload_n 1, 1) := by decide +kernel
theorem dX2_fill_2 : decode cX2_fill 2 = .ok (.invokevirtual 39, 3) := by decide +kernel
theorem dX2_fill_5 : decode cX2_fill 5 = .ok (.ifCond .eq 5, 3) := by decide +kernel
theorem dX2_fill_8 : decode cX2_fill 8 = .ok (.iconst (-1), 1) := by decide +kernel
theorem dX2_fill_9 : decode cX2_fill 9 = .ok (.ireturn, 1) := by decide +kernel
theorem dX2_fill_10 : decode cX2_fill 10 = .ok (.iconst 0, 1) := by decide +kernel
theorem dX2_fill_11 : decode cX2_fill 11 = .ok (.istore 4, 2) := by decide +kernel
theorem dX2_fill_13 : decode cX2_fill 13 = .ok (.iload 4, 2) := by decide +kernel
theorem dX2_fill_15 : decode cX2_fill 15 = .ok (.aload_n 0, 1) := by decide +kernel
theorem dX2_fill_16 : decode cX2_fill 16 = .ok (.getfield 7, 3) := by decide +kernel
theorem dX2_fill_19 : decode cX2_fill 19 = .ok (.iload_n 1, 1) := by decide +kernel
theorem dX2_fill_20 : decode cX2_fill 20 = .ok (.iaload, 1) := by decide +kernel
theorem dX2_fill_21 : decode cX2_fill 21 = .ok (.if_icmp .ge 34, 3) := by decide +kernel
theorem dX2_fill_24 : decode cX2_fill 24 = .ok (.iload 4, 2) := by decide +kernel
theorem dX2_fill_26 : decode cX2_fill 26 = .ok (.bipush 16, 2) := by decide +kernel
theorem dX2_fill_28 : decode cX2_fill 28 = .ok (.if_icmp .ge 27, 3) := by decide +kernel
theorem dX2_fill_31 : decode cX2_fill 31 = .ok (.aload_n 0, 1) := by decide +kernel
theorem dX2_fill_32 : decode cX2_fill 32 = .ok (.getfield 13, 3) := by decide +kernel
theorem dX2_fill_35 : decode cX2_fill 35 = .ok (.bipush 16, 2) := by decide +kernel
theorem dX2_fill_37 : decode cX2_fill 37 = .ok (.iload_n 1, 1) := by decide +kernel
theorem dX2_fill_38 : decode cX2_fill 38 = .ok (.imul, 1) := by decide +kernel
theorem dX2_fill_39 : decode cX2_fill 39 = .ok (.iload 4, 2) := by decide +kernel
theorem dX2_fill_41 : decode cX2_fill 41 = .ok (.iadd, 1) := by decide +kernel
theorem dX2_fill_42 : decode cX2_fill 42 = .ok (.iload_n 2, 1) := by decide +kernel
theorem dX2_fill_43 : decode cX2_fill 43 = .ok (.iload 4, 2) := by decide +kernel
theorem dX2_fill_45 : decode cX2_fill 45 = .ok (.iload_n 3, 1) := by decide +kernel
theorem dX2_fill_46 : decode cX2_fill 46 = .ok (.imul, 1) := by decide +kernel
theorem dX2_fill_47 : decode cX2_fill 47 = .ok (.iadd, 1) := by decide +kernel
theorem dX2_fill_48 : decode cX2_fill 48 = .ok (.iastore, 1) := by decide +kernel
theorem dX2_fill_49 : decode cX2_fill 49 = .ok (.iinc 4 1, 3) := by decide +kernel
theorem dX2_fill_52 : decode cX2_fill 52 = .ok (.goto (-39), 3) := by decide +kernel
theorem dX2_fill_55 : decode cX2_fill 55 = .ok (.aload_n 0, 1) := by decide +kernel
theorem dX2_fill_56 : decode cX2_fill 56 = .ok (.getfield 7, 3) := by decide +kernel
theorem dX2_fill_59 : decode cX2_fill 59 = .ok (.iload_n 1, 1) := by decide +kernel
theorem dX2_fill_60 : decode cX2_fill 60 = .ok (.iaload, 1) := by decide +kernel
theorem dX2_fill_61 : decode cX2_fill 61 = .ok (.ireturn, 1) := by decide +kernel
theorem dX2_exchange_0 : decode cX2_exchange 0 = .ok (.aload_n 0, 1) := by decide +kernel
theorem dX2_exchange_1 : decode cX2_exchange 1 = .ok (.iload_n 1, 1) := by decide +kernel
theorem dX2_exchange_2 : decode cX2_exchange 2 = .ok (.invokevirtual 39, 3) := by decide +kernel
theorem dX2_exchange_5 : decode cX2_exchange 5 = .ok (.ifCond .ne 11, 3) := by decide +kernel
theorem dX2_exchange_8 : decode cX2_exchange 8 = .ok (.aload_n 0, 1) := by decide +kernel
theorem dX2_exchange_9 : decode cX2_exchange 9 = .ok (.iload_n 2, 1) := by decide +kernel
theorem dX2_exchange_10 : decode cX2_exchange 10 = .ok (.invokevirtual 39, 3) := by decide +kernel
theorem dX2_exchange_13 : decode cX2_exchange 13 = .ok (.ifCond .eq 5, 3) := by decide +kernel
theorem dX2_exchange_16 : decode cX2_exchange 16 = .ok (.iconst (-1), 1) := by decide +kernel
theorem dX2_exchange_17 : decode cX2_exchange 17 = .ok (.ireturn, 1) := by decide +kernel
theorem dX2_exchange_18 : decode cX2_exchange 18 = .ok (.aload_n 0, 1) := by decide +kernel
theorem dX2_exchange_19 : decode cX2_exchange 19 = .ok (.getfield 7, 3) := by decide +kernel
theorem dX2_exchange_22 : decode cX2_exchange 22 = .ok (.iload_n 1, 1) := by decide +kernel
theorem dX2_exchange_23 : decode cX2_exchange 23 = .ok (.iaload, 1) := by decide +kernel
theorem dX2_exchange_24 : decode cX2_exchange 24 = .ok (.istore_n 3, 1) := by decide +kernel
theorem dX2_exchange_25 : decode cX2_exchange 25 = .ok (.aload_n 0, 1) := by decide +kernel
theorem dX2_exchange_26 : decode cX2_exchange 26 = .ok (.getfield 7, 3) := by decide +kernel
theorem dX2_exchange_29 : decode cX2_exchange 29 = .ok (.iload_n 1, 1) := by decide +kernel
theorem dX2_exchange_30 : decode cX2_exchange 30 = .ok (.aload_n 0, 1) := by decide +kernel
theorem dX2_exchange_31 : decode cX2_exchange 31 = .ok (.getfield 7, 3) := by decide +kernel
theorem dX2_exchange_34 : decode cX2_exchange 34 = .ok (.iload_n 2, 1) := by decide +kernel
theorem dX2_exchange_35 : decode cX2_exchange 35 = .ok (.iaload, 1) := by decide +kernel
theorem dX2_exchange_36 : decode cX2_exchange 36 = .ok (.iastore, 1) := by decide +kernel
theorem dX2_exchange_37 : decode cX2_exchange 37 = .ok (.aload_n 0, 1) := by decide +kernel
theorem dX2_exchange_38 : decode cX2_exchange 38 = .ok (.getfield 7, 3) := by decide +kernel
theorem dX2_exchange_41 : decode cX2_exchange 41 = .ok (.iload_n 2, 1) := by decide +kernel
theorem dX2_exchange_42 : decode cX2_exchange 42 = .ok (.iload_n 3, 1) := by decide +kernel
theorem dX2_exchange_43 : decode cX2_exchange 43 = .ok (.iastore, 1) := by decide +kernel
theorem dX2_exchange_44 : decode cX2_exchange 44 = .ok (.iconst 0, 1) := by decide +kernel
theorem dX2_exchange_45 : decode cX2_exchange 45 = .ok (.istore 4, 2) := by decide +kernel
theorem dX2_exchange_47 : decode cX2_exchange 47 = .ok (.iload 4, 2) := by decide +kernel
theorem dX2_exchange_49 : decode cX2_exchange 49 = .ok (.bipush 16, 2) := by decide +kernel
theorem dX2_exchange_51 : decode cX2_exchange 51 = .ok (.if_icmp .ge 61, 3) := by decide +kernel
theorem dX2_exchange_54 : decode cX2_exchange 54 = .ok (.aload_n 0, 1) := by decide +kernel
theorem dX2_exchange_55 : decode cX2_exchange 55 = .ok (.getfield 13, 3) := by decide +kernel
theorem dX2_exchange_58 : decode cX2_exchange 58 = .ok (.bipush 16, 2) := by decide +kernel
theorem dX2_exchange_60 : decode cX2_exchange 60 = .ok (.iload_n 1, 1) := by decide +kernel
theorem dX2_exchange_61 : decode cX2_exchange 61 = .ok (.imul, 1) := by decide +kernel
theorem dX2_exchange_62 : decode cX2_exchange 62 = .ok (.iload 4, 2) := by decide +kernel
theorem dX2_exchange_64 : decode cX2_exchange 64 = .ok (.iadd, 1) := by decide +kernel
theorem dX2_exchange_65 : decode cX2_exchange 65 = .ok (.iaload, 1) := by decide +kernel
theorem dX2_exchange_66 : decode cX2_exchange 66 = .ok (.istore 5, 2) := by decide +kernel
theorem dX2_exchange_68 : decode cX2_exchange 68 = .ok (.aload_n 0, 1) := by decide +kernel
theorem dX2_exchange_69 : decode cX2_exchange 69 = .ok (.getfield 13, 3) := by decide +kernel
theorem dX2_exchange_72 : decode cX2_exchange 72 = .ok (.bipush 16, 2) := by decide +kernel
theorem dX2_exchange_74 : decode cX2_exchange 74 = .ok (.iload_n 1, 1) := by decide +kernel
theorem dX2_exchange_75 : decode cX2_exchange 75 = .ok (.imul, 1) := by decide +kernel
theorem dX2_exchange_76 : decode cX2_exchange 76 = .ok (.iload 4, 2) := by decide +kernel
theorem dX2_exchange_78 : decode cX2_exchange 78 = .ok (.iadd, 1) := by decide +kernel
theorem dX2_exchange_79 : decode cX2_exchange 79 = .ok (.aload_n 0, 1) := by decide +kernel
theorem dX2_exchange_80 : decode cX2_exchange 80 = .ok (.getfield 13, 3) := by decide +kernel
theorem dX2_exchange_83 : decode cX2_exchange 83 = .ok (.bipush 16, 2) := by decide +kernel
theorem dX2_exchange_85 : decode cX2_exchange 85 = .ok (.iload_n 2, 1) := by decide +kernel
theorem dX2_exchange_86 : decode cX2_exchange 86 = .ok (.imul, 1) := by decide +kernel
theorem dX2_exchange_87 : decode cX2_exchange 87 = .ok (.iload 4, 2) := by decide +kernel
theorem dX2_exchange_89 : decode cX2_exchange 89 = .ok (.iadd, 1) := by decide +kernel
theorem dX2_exchange_90 : decode cX2_exchange 90 = .ok (.iaload, 1) := by decide +kernel
theorem dX2_exchange_91 : decode cX2_exchange 91 = .ok (.iastore, 1) := by decide +kernel
theorem dX2_exchange_92 : decode cX2_exchange 92 = .ok (.aload_n 0, 1) := by decide +kernel
theorem dX2_exchange_93 : decode cX2_exchange 93 = .ok (.getfield 13, 3) := by decide +kernel
theorem dX2_exchange_96 : decode cX2_exchange 96 = .ok (.bipush 16, 2) := by decide +kernel
theorem dX2_exchange_98 : decode cX2_exchange 98 = .ok (.iload_n 2, 1) := by decide +kernel
theorem dX2_exchange_99 : decode cX2_exchange 99 = .ok (.imul, 1) := by decide +kernel
theorem dX2_exchange_100 : decode cX2_exchange 100 = .ok (.iload 4, 2) := by decide +kernel
theorem dX2_exchange_102 : decode cX2_exchange 102 = .ok (.iadd, 1) := by decide +kernel
theorem dX2_exchange_103 : decode cX2_exchange 103 = .ok (.iload 5, 2) := by decide +kernel
theorem dX2_exchange_105 : decode cX2_exchange 105 = .ok (.iastore, 1) := by decide +kernel
theorem dX2_exchange_106 : decode cX2_exchange 106 = .ok (.iinc 4 1, 3) := by decide +kernel
theorem dX2_exchange_109 : decode cX2_exchange 109 = .ok (.goto (-62), 3) := by decide +kernel
theorem dX2_exchange_112 : decode cX2_exchange 112 = .ok (.iconst 0, 1) := by decide +kernel
theorem dX2_exchange_113 : decode cX2_exchange 113 = .ok (.ireturn, 1) := by decide +kernel
theorem dX2_size_0 : decode cX2_size 0 = .ok (.aload_n 0, 1) := by decide +kernel
theorem dX2_size_1 : decode cX2_size 1 = .ok (.iload_n 1, 1) := by decide +kernel
theorem dX2_size_2 : decode cX2_size 2 = .ok (.invokevirtual 39, 3) := by decide +kernel
theorem dX2_size_5 : decode cX2_size 5 = .ok (.ifCond .eq 7, 3) := by decide +kernel
theorem dX2_size_8 : decode cX2_size 8 = .ok (.iconst 0, 1) := by decide +kernel
theorem dX2_size_9 : decode cX2_size 9 = .ok (.goto 9, 3) := by decide +kernel
theorem dX2_size_12 : decode cX2_size 12 = .ok (.aload_n 0, 1) := by decide +kernel
theorem dX2_size_13 : decode cX2_size 13 = .ok (.getfield 7, 3) := by decide +kernel
theorem dX2_size_16 : decode cX2_size 16 = .ok (.iload_n 1, 1) := by decide +kernel
theorem dX2_size_17 : decode cX2_size 17 = .ok (.iaload, 1) := by decide +kernel
theorem dX2_size_18 : decode cX2_size 18 = .ok (.ireturn, 1) := by decide +kernel
theorem dX2_live_0 : decode cX2_live 0 = .ok (.iconst 0, 1) := by decide +kernel
theorem dX2_live_1 : decode cX2_live 1 = .ok (.istore_n 1, 1) := by decide +kernel
theorem dX2_live_2 : decode cX2_live 2 = .ok (.iconst 0, 1) := by decide +kernel
theorem dX2_live_3 : decode cX2_live 3 = .ok (.istore_n 2, 1) := by decide +kernel
theorem dX2_live_4 : decode cX2_live 4 = .ok (.iload_n 2, 1) := by decide +kernel
theorem dX2_live_5 : decode cX2_live 5 = .ok (.bipush 64, 2) := by decide +kernel
theorem dX2_live_7 : decode cX2_live 7 = .ok (.if_icmp .ge 21, 3) := by decide +kernel
theorem dX2_live_10 : decode cX2_live 10 = .ok (.aload_n 0, 1) := by decide +kernel
theorem dX2_live_11 : decode cX2_live 11 = .ok (.getfield 7, 3) := by decide +kernel
theorem dX2_live_14 : decode cX2_live 14 = .ok (.iload_n 2, 1) := by decide +kernel
theorem dX2_live_15 : decode cX2_live 15 = .ok (.iaload, 1) := by decide +kernel
theorem dX2_live_16 : decode cX2_live 16 = .ok (.ifCond .le 6, 3) := by decide +kernel
theorem dX2_live_19 : decode cX2_live 19 = .ok (.iinc 1 1, 3) := by decide +kernel
theorem dX2_live_22 : decode cX2_live 22 = .ok (.iinc 2 1, 3) := by decide +kernel
theorem dX2_live_25 : decode cX2_live 25 = .ok (.goto (-21), 3) := by decide +kernel
theorem dX2_live_28 : decode cX2_live 28 = .ok (.iload_n 1, 1) := by decide +kernel
theorem dX2_live_29 : decode cX2_live 29 = .ok (.ireturn, 1) := by decide +kernel
theorem dX2_liveIn_0 : decode cX2_liveIn 0 = .ok (.iload_n 1, 1) := by decide +kernel
theorem dX2_liveIn_1 : decode cX2_liveIn 1 = .ok (.ifCond .lt 8, 3) := by decide +kernel
theorem dX2_liveIn_4 : decode cX2_liveIn 4 = .ok (.iload_n 1, 1) := by decide +kernel
theorem dX2_liveIn_5 : decode cX2_liveIn 5 = .ok (.iconst 3, 1) := by decide +kernel
theorem dX2_liveIn_6 : decode cX2_liveIn 6 = .ok (.if_icmp .le 7, 3) := by decide +kernel
theorem dX2_liveIn_9 : decode cX2_liveIn 9 = .ok (.iconst (-1), 1) := by decide +kernel
theorem dX2_liveIn_10 : decode cX2_liveIn 10 = .ok (.goto 8, 3) := by decide +kernel
theorem dX2_liveIn_13 : decode cX2_liveIn 13 = .ok (.aload_n 0, 1) := by decide +kernel
theorem dX2_liveIn_14 : decode cX2_liveIn 14 = .ok (.iload_n 1, 1) := by decide +kernel
theorem dX2_liveIn_15 : decode cX2_liveIn 15 = .ok (.invokevirtual 24, 3) := by decide +kernel
theorem dX2_liveIn_18 : decode cX2_liveIn 18 = .ok (.ireturn, 1) := by decide +kernel
theorem dX2_needed_0 : decode cX2_needed 0 = .ok (.aload_n 0, 1) := by decide +kernel
theorem dX2_needed_1 : decode cX2_needed 1 = .ok (.iconst (-1), 1) := by decide +kernel
theorem dX2_needed_2 : decode cX2_needed 2 = .ok (.iconst 0, 1) := by decide +kernel
theorem dX2_needed_3 : decode cX2_needed 3 = .ok (.iconst (-1), 1) := by decide +kernel
theorem dX2_needed_4 : decode cX2_needed 4 = .ok (.iconst 0, 1) := by decide +kernel
theorem dX2_needed_5 : decode cX2_needed 5 = .ok (.invokevirtual 31, 3) := by decide +kernel
theorem dX2_needed_8 : decode cX2_needed 8 = .ok (.ireturn, 1) := by decide +kernel
theorem dX2_roomFor_0 : decode cX2_roomFor 0 = .ok (.iload_n 1, 1) := by decide +kernel
theorem dX2_roomFor_1 : decode cX2_roomFor 1 = .ok (.ifCond .lt 8, 3) := by decide +kernel
theorem dX2_roomFor_4 : decode cX2_roomFor 4 = .ok (.iload_n 1, 1) := by decide +kernel
theorem dX2_roomFor_5 : decode cX2_roomFor 5 = .ok (.iconst 3, 1) := by decide +kernel
theorem dX2_roomFor_6 : decode cX2_roomFor 6 = .ok (.if_icmp .le 5, 3) := by decide +kernel
theorem dX2_roomFor_9 : decode cX2_roomFor 9 = .ok (.iconst (-1), 1) := by decide +kernel
theorem dX2_roomFor_10 : decode cX2_roomFor 10 = .ok (.ireturn, 1) := by decide +kernel
theorem dX2_roomFor_11 : decode cX2_roomFor 11 = .ok (.iconst 0, 1) := by decide +kernel
theorem dX2_roomFor_12 : decode cX2_roomFor 12 = .ok (.istore_n 2, 1) := by decide +kernel
theorem dX2_roomFor_13 : decode cX2_roomFor 13 = .ok (.iconst 1, 1) := by decide +kernel
theorem dX2_roomFor_14 : decode cX2_roomFor 14 = .ok (.istore_n 3, 1) := by decide +kernel
theorem dX2_roomFor_15 : decode cX2_roomFor 15 = .ok (.iload_n 3, 1) := by decide +kernel
theorem dX2_roomFor_16 : decode cX2_roomFor 16 = .ok (.bipush 96, 2) := by decide +kernel
theorem dX2_roomFor_18 : decode cX2_roomFor 18 = .ok (.if_icmp .gt 26, 3) := by decide +kernel
theorem dX2_roomFor_21 : decode cX2_roomFor 21 = .ok (.aload_n 0, 1) := by decide +kernel
theorem dX2_roomFor_22 : decode cX2_roomFor 22 = .ok (.iload_n 1, 1) := by decide +kernel
theorem dX2_roomFor_23 : decode cX2_roomFor 23 = .ok (.iload_n 3, 1) := by decide +kernel
theorem dX2_roomFor_24 : decode cX2_roomFor 24 = .ok (.iconst (-1), 1) := by decide +kernel
theorem dX2_roomFor_25 : decode cX2_roomFor 25 = .ok (.iconst 0, 1) := by decide +kernel
theorem dX2_roomFor_26 : decode cX2_roomFor 26 = .ok (.invokevirtual 31, 3) := by decide +kernel
theorem dX2_roomFor_29 : decode cX2_roomFor 29 = .ok (.aload_n 0, 1) := by decide +kernel
theorem dX2_roomFor_30 : decode cX2_roomFor 30 = .ok (.getfield 16, 3) := by decide +kernel
theorem dX2_roomFor_33 : decode cX2_roomFor 33 = .ok (.if_icmp .gt 5, 3) := by decide +kernel
theorem dX2_roomFor_36 : decode cX2_roomFor 36 = .ok (.iload_n 3, 1) := by decide +kernel
theorem dX2_roomFor_37 : decode cX2_roomFor 37 = .ok (.istore_n 2, 1) := by decide +kernel
theorem dX2_roomFor_38 : decode cX2_roomFor 38 = .ok (.iinc 3 1, 3) := by decide +kernel
theorem dX2_roomFor_41 : decode cX2_roomFor 41 = .ok (.goto (-26), 3) := by decide +kernel
theorem dX2_roomFor_44 : decode cX2_roomFor 44 = .ok (.iload_n 2, 1) := by decide +kernel
theorem dX2_roomFor_45 : decode cX2_roomFor 45 = .ok (.ireturn, 1) := by decide +kernel
theorem dX2_sum_0 : decode cX2_sum 0 = .ok (.aload_n 0, 1) := by decide +kernel
theorem dX2_sum_1 : decode cX2_sum 1 = .ok (.iload_n 1, 1) := by decide +kernel
theorem dX2_sum_2 : decode cX2_sum 2 = .ok (.invokevirtual 39, 3) := by decide +kernel
theorem dX2_sum_5 : decode cX2_sum 5 = .ok (.ifCond .eq 5, 3) := by decide +kernel
theorem dX2_sum_8 : decode cX2_sum 8 = .ok (.iconst 0, 1) := by decide +kernel
theorem dX2_sum_9 : decode cX2_sum 9 = .ok (.ireturn, 1) := by decide +kernel
theorem dX2_sum_10 : decode cX2_sum 10 = .ok (.iconst 0, 1) := by decide +kernel
theorem dX2_sum_11 : decode cX2_sum 11 = .ok (.istore_n 2, 1) := by decide +kernel
theorem dX2_sum_12 : decode cX2_sum 12 = .ok (.iconst 0, 1) := by decide +kernel
theorem dX2_sum_13 : decode cX2_sum 13 = .ok (.istore_n 3, 1) := by decide +kernel
theorem dX2_sum_14 : decode cX2_sum 14 = .ok (.iload_n 3, 1) := by decide +kernel
theorem dX2_sum_15 : decode cX2_sum 15 = .ok (.bipush 16, 2) := by decide +kernel
theorem dX2_sum_17 : decode cX2_sum 17 = .ok (.if_icmp .ge 23, 3) := by decide +kernel
theorem dX2_sum_20 : decode cX2_sum 20 = .ok (.iload_n 2, 1) := by decide +kernel
theorem dX2_sum_21 : decode cX2_sum 21 = .ok (.aload_n 0, 1) := by decide +kernel
theorem dX2_sum_22 : decode cX2_sum 22 = .ok (.getfield 13, 3) := by decide +kernel
theorem dX2_sum_25 : decode cX2_sum 25 = .ok (.bipush 16, 2) := by decide +kernel
theorem dX2_sum_27 : decode cX2_sum 27 = .ok (.iload_n 1, 1) := by decide +kernel
theorem dX2_sum_28 : decode cX2_sum 28 = .ok (.imul, 1) := by decide +kernel
theorem dX2_sum_29 : decode cX2_sum 29 = .ok (.iload_n 3, 1) := by decide +kernel
theorem dX2_sum_30 : decode cX2_sum 30 = .ok (.iadd, 1) := by decide +kernel
theorem dX2_sum_31 : decode cX2_sum 31 = .ok (.iaload, 1) := by decide +kernel
theorem dX2_sum_32 : decode cX2_sum 32 = .ok (.iadd, 1) := by decide +kernel
theorem dX2_sum_33 : decode cX2_sum 33 = .ok (.istore_n 2, 1) := by decide +kernel
theorem dX2_sum_34 : decode cX2_sum 34 = .ok (.iinc 3 1, 3) := by decide +kernel
theorem dX2_sum_37 : decode cX2_sum 37 = .ok (.goto (-23), 3) := by decide +kernel
theorem dX2_sum_40 : decode cX2_sum 40 = .ok (.iload_n 2, 1) := by decide +kernel
theorem dX2_sum_41 : decode cX2_sum 41 = .ok (.ireturn, 1) := by decide +kernel
theorem dX2_next_0 : decode cX2_next 0 = .ok (.iconst 0, 1) := by decide +kernel
theorem dX2_next_1 : decode cX2_next 1 = .ok (.istore_n 2, 1) := by decide +kernel
theorem dX2_next_2 : decode cX2_next 2 = .ok (.iload_n 2, 1) := by decide +kernel
theorem dX2_next_3 : decode cX2_next 3 = .ok (.bipush 64, 2) := by decide +kernel
theorem dX2_next_5 : decode cX2_next 5 = .ok (.if_icmp .ge 25, 3) := by decide +kernel
theorem dX2_next_8 : decode cX2_next 8 = .ok (.iload_n 2, 1) := by decide +kernel
theorem dX2_next_9 : decode cX2_next 9 = .ok (.iload_n 1, 1) := by decide +kernel
theorem dX2_next_10 : decode cX2_next 10 = .ok (.if_icmp .lt 14, 3) := by decide +kernel
theorem dX2_next_13 : decode cX2_next 13 = .ok (.aload_n 0, 1) := by decide +kernel
theorem dX2_next_14 : decode cX2_next 14 = .ok (.getfield 7, 3) := by decide +kernel
theorem dX2_next_17 : decode cX2_next 17 = .ok (.iload_n 2, 1) := by decide +kernel
theorem dX2_next_18 : decode cX2_next 18 = .ok (.iaload, 1) := by decide +kernel
theorem dX2_next_19 : decode cX2_next 19 = .ok (.ifCond .le 5, 3) := by decide +kernel
theorem dX2_next_22 : decode cX2_next 22 = .ok (.iload_n 2, 1) := by decide +kernel
theorem dX2_next_23 : decode cX2_next 23 = .ok (.ireturn, 1) := by decide +kernel
theorem dX2_next_24 : decode cX2_next 24 = .ok (.iinc 2 1, 3) := by decide +kernel
theorem dX2_next_27 : decode cX2_next 27 = .ok (.goto (-25), 3) := by decide +kernel
theorem dX2_next_30 : decode cX2_next 30 = .ok (.iconst (-1), 1) := by decide +kernel
theorem dX2_next_31 : decode cX2_next 31 = .ok (.ireturn, 1) := by decide +kernel
theorem dX2_count_0 : decode cX2_count 0 = .ok (.iconst 0, 1) := by decide +kernel
theorem dX2_count_1 : decode cX2_count 1 = .ok (.istore_n 2, 1) := by decide +kernel
theorem dX2_count_2 : decode cX2_count 2 = .ok (.iconst 0, 1) := by decide +kernel
theorem dX2_count_3 : decode cX2_count 3 = .ok (.istore_n 3, 1) := by decide +kernel
theorem dX2_count_4 : decode cX2_count 4 = .ok (.iload_n 3, 1) := by decide +kernel
theorem dX2_count_5 : decode cX2_count 5 = .ok (.bipush 64, 2) := by decide +kernel
theorem dX2_count_7 : decode cX2_count 7 = .ok (.if_icmp .ge 55, 3) := by decide +kernel
theorem dX2_count_10 : decode cX2_count 10 = .ok (.iconst 0, 1) := by decide +kernel
theorem dX2_count_11 : decode cX2_count 11 = .ok (.istore 4, 2) := by decide +kernel
theorem dX2_count_13 : decode cX2_count 13 = .ok (.iload 4, 2) := by decide +kernel
theorem dX2_count_15 : decode cX2_count 15 = .ok (.aload_n 0, 1) := by decide +kernel
theorem dX2_count_16 : decode cX2_count 16 = .ok (.getfield 7, 3) := by decide +kernel
theorem dX2_count_19 : decode cX2_count 19 = .ok (.iload_n 3, 1) := by decide +kernel
theorem dX2_count_20 : decode cX2_count 20 = .ok (.iaload, 1) := by decide +kernel
theorem dX2_count_21 : decode cX2_count 21 = .ok (.if_icmp .ge 35, 3) := by decide +kernel
theorem dX2_count_24 : decode cX2_count 24 = .ok (.iload 4, 2) := by decide +kernel
theorem dX2_count_26 : decode cX2_count 26 = .ok (.bipush 16, 2) := by decide +kernel
theorem dX2_count_28 : decode cX2_count 28 = .ok (.if_icmp .ge 28, 3) := by decide +kernel
theorem dX2_count_31 : decode cX2_count 31 = .ok (.aload_n 0, 1) := by decide +kernel
theorem dX2_count_32 : decode cX2_count 32 = .ok (.getfield 13, 3) := by decide +kernel
theorem dX2_count_35 : decode cX2_count 35 = .ok (.bipush 16, 2) := by decide +kernel
theorem dX2_count_37 : decode cX2_count 37 = .ok (.iload_n 3, 1) := by decide +kernel
theorem dX2_count_38 : decode cX2_count 38 = .ok (.imul, 1) := by decide +kernel
theorem dX2_count_39 : decode cX2_count 39 = .ok (.iload 4, 2) := by decide +kernel
theorem dX2_count_41 : decode cX2_count 41 = .ok (.iadd, 1) := by decide +kernel
theorem dX2_count_42 : decode cX2_count 42 = .ok (.iaload, 1) := by decide +kernel
theorem dX2_count_43 : decode cX2_count 43 = .ok (.iload_n 1, 1) := by decide +kernel
theorem dX2_count_44 : decode cX2_count 44 = .ok (.if_icmp .ne 6, 3) := by decide +kernel
theorem dX2_count_47 : decode cX2_count 47 = .ok (.iinc 2 1, 3) := by decide +kernel
theorem dX2_count_50 : decode cX2_count 50 = .ok (.iinc 4 1, 3) := by decide +kernel
theorem dX2_count_53 : decode cX2_count 53 = .ok (.goto (-40), 3) := by decide +kernel
theorem dX2_count_56 : decode cX2_count 56 = .ok (.iinc 3 1, 3) := by decide +kernel
theorem dX2_count_59 : decode cX2_count 59 = .ok (.goto (-55), 3) := by decide +kernel
theorem dX2_count_62 : decode cX2_count 62 = .ok (.iload_n 2, 1) := by decide +kernel
theorem dX2_count_63 : decode cX2_count 63 = .ok (.ireturn, 1) := by decide +kernel
theorem dX2_faults_0 : decode cX2_faults 0 = .ok (.iconst 0, 1) := by decide +kernel
theorem dX2_faults_1 : decode cX2_faults 1 = .ok (.ireturn, 1) := by decide +kernel
end
section
set_option maxRecDepth 100000
theorem dJ0_init_0 : decode cJ0_init 0 = .ok (.return_, 1) := by decide +kernel
theorem dX0_cell_0 : decode cX0_cell 0 = .ok (.iload_n 1, 1) := by decide +kernel
theorem dX0_cell_1 : decode cX0_cell 1 = .ok (.aload_n 0, 1) := by decide +kernel
theorem dX0_cell_2 : decode cX0_cell 2 = .ok (.arraylength, 1) := by decide +kernel
theorem dX0_cell_3 : decode cX0_cell 3 = .ok (.if_icmp .ge 9, 3) := by decide +kernel
theorem dX0_cell_6 : decode cX0_cell 6 = .ok (.aload_n 0, 1) := by decide +kernel
theorem dX0_cell_7 : decode cX0_cell 7 = .ok (.iload_n 1, 1) := by decide +kernel
theorem dX0_cell_8 : decode cX0_cell 8 = .ok (.iaload, 1) := by decide +kernel
theorem dX0_cell_9 : decode cX0_cell 9 = .ok (.goto 4, 3) := by decide +kernel
theorem dX0_cell_12 : decode cX0_cell 12 = .ok (.iconst 0, 1) := by decide +kernel
theorem dX0_cell_13 : decode cX0_cell 13 = .ok (.ireturn, 1) := by decide +kernel
theorem dL_law_0 : decode cL_law 0 = .ok (.new 7, 3) := by decide +kernel
theorem dL_law_3 : decode cL_law 3 = .ok (.dup, 1) := by decide +kernel
theorem dL_law_4 : decode cL_law 4 = .ok (.aload_n 0, 1) := by decide +kernel
theorem dL_law_5 : decode cL_law 5 = .ok (.iconst 0, 1) := by decide +kernel
theorem dL_law_6 : decode cL_law 6 = .ok (.invokestatic 9, 3) := by decide +kernel
theorem dL_law_9 : decode cL_law 9 = .ok (.invokespecial 15, 3) := by decide +kernel
theorem dL_law_12 : decode cL_law 12 = .ok (.astore_n 1, 1) := by decide +kernel
theorem dL_law_13 : decode cL_law 13 = .ok (.new 18, 3) := by decide +kernel
theorem dL_law_16 : decode cL_law 16 = .ok (.dup, 1) := by decide +kernel
theorem dL_law_17 : decode cL_law 17 = .ok (.aload_n 0, 1) := by decide +kernel
theorem dL_law_18 : decode cL_law 18 = .ok (.iconst 0, 1) := by decide +kernel
theorem dL_law_19 : decode cL_law 19 = .ok (.invokestatic 9, 3) := by decide +kernel
theorem dL_law_22 : decode cL_law 22 = .ok (.invokespecial 20, 3) := by decide +kernel
theorem dL_law_25 : decode cL_law 25 = .ok (.astore_n 2, 1) := by decide +kernel
theorem dL_law_26 : decode cL_law 26 = .ok (.iconst 1, 1) := by decide +kernel
theorem dL_law_27 : decode cL_law 27 = .ok (.istore_n 3, 1) := by decide +kernel
theorem dL_law_28 : decode cL_law 28 = .ok (.iload_n 3, 1) := by decide +kernel
theorem dL_law_29 : decode cL_law 29 = .ok (.aload_n 0, 1) := by decide +kernel
theorem dL_law_30 : decode cL_law 30 = .ok (.arraylength, 1) := by decide +kernel
theorem dL_law_31 : decode cL_law 31 = .ok (.iconst 4, 1) := by decide +kernel
theorem dL_law_32 : decode cL_law 32 = .ok (.isub, 1) := by decide +kernel
theorem dL_law_33 : decode cL_law 33 = .ok (.if_icmp .gt 572, 3) := by decide +kernel
theorem dL_law_36 : decode cL_law 36 = .ok (.aload_n 0, 1) := by decide +kernel
theorem dL_law_37 : decode cL_law 37 = .ok (.iload_n 3, 1) := by decide +kernel
theorem dL_law_38 : decode cL_law 38 = .ok (.iaload, 1) := by decide +kernel
theorem dL_law_39 : decode cL_law 39 = .ok (.bipush 31, 2) := by decide +kernel
theorem dL_law_41 : decode cL_law 41 = .ok (.iand, 1) := by decide +kernel
theorem dL_law_42 : decode cL_law 42 = .ok (.tableswitch 557 0 18 #[90, 103, 126, 149, 182, 205, 228, 261, 304, 347, 380, 403, 416, 439, 452, 475, 498, 521, 544], 90) := by decide +kernel
theorem dL_law_132 : decode cL_law 132 = .ok (.aload_n 1, 1) := by decide +kernel
theorem dL_law_133 : decode cL_law 133 = .ok (.invokevirtual 21, 3) := by decide +kernel
theorem dL_law_136 : decode cL_law 136 = .ok (.aload_n 2, 1) := by decide +kernel
theorem dL_law_137 : decode cL_law 137 = .ok (.invokevirtual 25, 3) := by decide +kernel
theorem dL_law_140 : decode cL_law 140 = .ok (.if_icmp .eq 459, 3) := by decide +kernel
theorem dL_law_143 : decode cL_law 143 = .ok (.iconst 0, 1) := by decide +kernel
theorem dL_law_144 : decode cL_law 144 = .ok (.ireturn, 1) := by decide +kernel
theorem dL_law_145 : decode cL_law 145 = .ok (.aload_n 1, 1) := by decide +kernel
theorem dL_law_146 : decode cL_law 146 = .ok (.aload_n 0, 1) := by decide +kernel
theorem dL_law_147 : decode cL_law 147 = .ok (.iload_n 3, 1) := by decide +kernel
theorem dL_law_148 : decode cL_law 148 = .ok (.iconst 1, 1) := by decide +kernel
theorem dL_law_149 : decode cL_law 149 = .ok (.iadd, 1) := by decide +kernel
theorem dL_law_150 : decode cL_law 150 = .ok (.iaload, 1) := by decide +kernel
theorem dL_law_151 : decode cL_law 151 = .ok (.invokevirtual 26, 3) := by decide +kernel
theorem dL_law_154 : decode cL_law 154 = .ok (.aload_n 2, 1) := by decide +kernel
theorem dL_law_155 : decode cL_law 155 = .ok (.aload_n 0, 1) := by decide +kernel
theorem dL_law_156 : decode cL_law 156 = .ok (.iload_n 3, 1) := by decide +kernel
theorem dL_law_157 : decode cL_law 157 = .ok (.iconst 1, 1) := by decide +kernel
theorem dL_law_158 : decode cL_law 158 = .ok (.iadd, 1) := by decide +kernel
theorem dL_law_159 : decode cL_law 159 = .ok (.iaload, 1) := by decide +kernel
theorem dL_law_160 : decode cL_law 160 = .ok (.invokevirtual 30, 3) := by decide +kernel
theorem dL_law_163 : decode cL_law 163 = .ok (.if_icmp .eq 436, 3) := by decide +kernel
theorem dL_law_166 : decode cL_law 166 = .ok (.iconst 0, 1) := by decide +kernel
theorem dL_law_167 : decode cL_law 167 = .ok (.ireturn, 1) := by decide +kernel
theorem dL_law_168 : decode cL_law 168 = .ok (.aload_n 1, 1) := by decide +kernel
theorem dL_law_169 : decode cL_law 169 = .ok (.aload_n 0, 1) := by decide +kernel
theorem dL_law_170 : decode cL_law 170 = .ok (.iload_n 3, 1) := by decide +kernel
theorem dL_law_171 : decode cL_law 171 = .ok (.iconst 1, 1) := by decide +kernel
theorem dL_law_172 : decode cL_law 172 = .ok (.iadd, 1) := by decide +kernel
theorem dL_law_173 : decode cL_law 173 = .ok (.iaload, 1) := by decide +kernel
theorem dL_law_174 : decode cL_law 174 = .ok (.invokevirtual 31, 3) := by decide +kernel
theorem dL_law_177 : decode cL_law 177 = .ok (.aload_n 2, 1) := by decide +kernel
theorem dL_law_178 : decode cL_law 178 = .ok (.aload_n 0, 1) := by decide +kernel
theorem dL_law_179 : decode cL_law 179 = .ok (.iload_n 3, 1) := by decide +kernel
theorem dL_law_180 : decode cL_law 180 = .ok (.iconst 1, 1) := by decide +kernel
theorem dL_law_181 : decode cL_law 181 = .ok (.iadd, 1) := by decide +kernel
theorem dL_law_182 : decode cL_law 182 = .ok (.iaload, 1) := by decide +kernel
theorem dL_law_183 : decode cL_law 183 = .ok (.invokevirtual 34, 3) := by decide +kernel
theorem dL_law_186 : decode cL_law 186 = .ok (.if_icmp .eq 413, 3) := by decide +kernel
theorem dL_law_189 : decode cL_law 189 = .ok (.iconst 0, 1) := by decide +kernel
theorem dL_law_190 : decode cL_law 190 = .ok (.ireturn, 1) := by decide +kernel
theorem dL_law_191 : decode cL_law 191 = .ok (.aload_n 1, 1) := by decide +kernel
theorem dL_law_192 : decode cL_law 192 = .ok (.aload_n 0, 1) := by decide +kernel
theorem dL_law_193 : decode cL_law 193 = .ok (.iload_n 3, 1) := by decide +kernel
theorem dL_law_194 : decode cL_law 194 = .ok (.iconst 1, 1) := by decide +kernel
theorem dL_law_195 : decode cL_law 195 = .ok (.iadd, 1) := by decide +kernel
theorem dL_law_196 : decode cL_law 196 = .ok (.iaload, 1) := by decide +kernel
theorem dL_law_197 : decode cL_law 197 = .ok (.aload_n 0, 1) := by decide +kernel
theorem dL_law_198 : decode cL_law 198 = .ok (.iload_n 3, 1) := by decide +kernel
theorem dL_law_199 : decode cL_law 199 = .ok (.iconst 2, 1) := by decide +kernel
theorem dL_law_200 : decode cL_law 200 = .ok (.iadd, 1) := by decide +kernel
theorem dL_law_201 : decode cL_law 201 = .ok (.iaload, 1) := by decide +kernel
theorem dL_law_202 : decode cL_law 202 = .ok (.invokevirtual 35, 3) := by decide +kernel
theorem dL_law_205 : decode cL_law 205 = .ok (.aload_n 2, 1) := by decide +kernel
theorem dL_law_206 : decode cL_law 206 = .ok (.aload_n 0, 1) := by decide +kernel
theorem dL_law_207 : decode cL_law 207 = .ok (.iload_n 3, 1) := by decide +kernel
theorem dL_law_208 : decode cL_law 208 = .ok (.iconst 1, 1) := by decide +kernel
theorem dL_law_209 : decode cL_law 209 = .ok (.iadd, 1) := by decide +kernel
theorem dL_law_210 : decode cL_law 210 = .ok (.iaload, 1) := by decide +kernel
theorem dL_law_211 : decode cL_law 211 = .ok (.aload_n 0, 1) := by decide +kernel
theorem dL_law_212 : decode cL_law 212 = .ok (.iload_n 3, 1) := by decide +kernel
theorem dL_law_213 : decode cL_law 213 = .ok (.iconst 2, 1) := by decide +kernel
theorem dL_law_214 : decode cL_law 214 = .ok (.iadd, 1) := by decide +kernel
theorem dL_law_215 : decode cL_law 215 = .ok (.iaload, 1) := by decide +kernel
theorem dL_law_216 : decode cL_law 216 = .ok (.invokevirtual 39, 3) := by decide +kernel
theorem dL_law_219 : decode cL_law 219 = .ok (.if_icmp .eq 380, 3) := by decide +kernel
theorem dL_law_222 : decode cL_law 222 = .ok (.iconst 0, 1) := by decide +kernel
theorem dL_law_223 : decode cL_law 223 = .ok (.ireturn, 1) := by decide +kernel
theorem dL_law_224 : decode cL_law 224 = .ok (.aload_n 1, 1) := by decide +kernel
theorem dL_law_225 : decode cL_law 225 = .ok (.aload_n 0, 1) := by decide +kernel
theorem dL_law_226 : decode cL_law 226 = .ok (.iload_n 3, 1) := by decide +kernel
theorem dL_law_227 : decode cL_law 227 = .ok (.iconst 1, 1) := by decide +kernel
theorem dL_law_228 : decode cL_law 228 = .ok (.iadd, 1) := by decide +kernel
theorem dL_law_229 : decode cL_law 229 = .ok (.iaload, 1) := by decide +kernel
theorem dL_law_230 : decode cL_law 230 = .ok (.invokevirtual 40, 3) := by decide +kernel
theorem dL_law_233 : decode cL_law 233 = .ok (.aload_n 2, 1) := by decide +kernel
theorem dL_law_234 : decode cL_law 234 = .ok (.aload_n 0, 1) := by decide +kernel
theorem dL_law_235 : decode cL_law 235 = .ok (.iload_n 3, 1) := by decide +kernel
theorem dL_law_236 : decode cL_law 236 = .ok (.iconst 1, 1) := by decide +kernel
theorem dL_law_237 : decode cL_law 237 = .ok (.iadd, 1) := by decide +kernel
theorem dL_law_238 : decode cL_law 238 = .ok (.iaload, 1) := by decide +kernel
theorem dL_law_239 : decode cL_law 239 = .ok (.invokevirtual 43, 3) := by decide +kernel
theorem dL_law_242 : decode cL_law 242 = .ok (.if_icmp .eq 357, 3) := by decide +kernel
theorem dL_law_245 : decode cL_law 245 = .ok (.iconst 0, 1) := by decide +kernel
theorem dL_law_246 : decode cL_law 246 = .ok (.ireturn, 1) := by decide +kernel
theorem dL_law_247 : decode cL_law 247 = .ok (.aload_n 1, 1) := by decide +kernel
theorem dL_law_248 : decode cL_law 248 = .ok (.aload_n 0, 1) := by decide +kernel
theorem dL_law_249 : decode cL_law 249 = .ok (.iload_n 3, 1) := by decide +kernel
theorem dL_law_250 : decode cL_law 250 = .ok (.iconst 1, 1) := by decide +kernel
theorem dL_law_251 : decode cL_law 251 = .ok (.iadd, 1) := by decide +kernel
theorem dL_law_252 : decode cL_law 252 = .ok (.iaload, 1) := by decide +kernel
theorem dL_law_253 : decode cL_law 253 = .ok (.invokevirtual 44, 3) := by decide +kernel
theorem dL_law_256 : decode cL_law 256 = .ok (.aload_n 2, 1) := by decide +kernel
theorem dL_law_257 : decode cL_law 257 = .ok (.aload_n 0, 1) := by decide +kernel
theorem dL_law_258 : decode cL_law 258 = .ok (.iload_n 3, 1) := by decide +kernel
theorem dL_law_259 : decode cL_law 259 = .ok (.iconst 1, 1) := by decide +kernel
theorem dL_law_260 : decode cL_law 260 = .ok (.iadd, 1) := by decide +kernel
theorem dL_law_261 : decode cL_law 261 = .ok (.iaload, 1) := by decide +kernel
theorem dL_law_262 : decode cL_law 262 = .ok (.invokevirtual 47, 3) := by decide +kernel
theorem dL_law_265 : decode cL_law 265 = .ok (.if_icmp .eq 334, 3) := by decide +kernel
theorem dL_law_268 : decode cL_law 268 = .ok (.iconst 0, 1) := by decide +kernel
theorem dL_law_269 : decode cL_law 269 = .ok (.ireturn, 1) := by decide +kernel
theorem dL_law_270 : decode cL_law 270 = .ok (.aload_n 1, 1) := by decide +kernel
theorem dL_law_271 : decode cL_law 271 = .ok (.aload_n 0, 1) := by decide +kernel
theorem dL_law_272 : decode cL_law 272 = .ok (.iload_n 3, 1) := by decide +kernel
theorem dL_law_273 : decode cL_law 273 = .ok (.iconst 1, 1) := by decide +kernel
theorem dL_law_274 : decode cL_law 274 = .ok (.iadd, 1) := by decide +kernel
theorem dL_law_275 : decode cL_law 275 = .ok (.iaload, 1) := by decide +kernel
theorem dL_law_276 : decode cL_law 276 = .ok (.aload_n 0, 1) := by decide +kernel
theorem dL_law_277 : decode cL_law 277 = .ok (.iload_n 3, 1) := by decide +kernel
theorem dL_law_278 : decode cL_law 278 = .ok (.iconst 2, 1) := by decide +kernel
theorem dL_law_279 : decode cL_law 279 = .ok (.iadd, 1) := by decide +kernel
theorem dL_law_280 : decode cL_law 280 = .ok (.iaload, 1) := by decide +kernel
theorem dL_law_281 : decode cL_law 281 = .ok (.invokevirtual 48, 3) := by decide +kernel
theorem dL_law_284 : decode cL_law 284 = .ok (.aload_n 2, 1) := by decide +kernel
theorem dL_law_285 : decode cL_law 285 = .ok (.aload_n 0, 1) := by decide +kernel
theorem dL_law_286 : decode cL_law 286 = .ok (.iload_n 3, 1) := by decide +kernel
theorem dL_law_287 : decode cL_law 287 = .ok (.iconst 1, 1) := by decide +kernel
theorem dL_law_288 : decode cL_law 288 = .ok (.iadd, 1) := by decide +kernel
theorem dL_law_289 : decode cL_law 289 = .ok (.iaload, 1) := by decide +kernel
theorem dL_law_290 : decode cL_law 290 = .ok (.aload_n 0, 1) := by decide +kernel
theorem dL_law_291 : decode cL_law 291 = .ok (.iload_n 3, 1) := by decide +kernel
theorem dL_law_292 : decode cL_law 292 = .ok (.iconst 2, 1) := by decide +kernel
theorem dL_law_293 : decode cL_law 293 = .ok (.iadd, 1) := by decide +kernel
theorem dL_law_294 : decode cL_law 294 = .ok (.iaload, 1) := by decide +kernel
theorem dL_law_295 : decode cL_law 295 = .ok (.invokevirtual 51, 3) := by decide +kernel
theorem dL_law_298 : decode cL_law 298 = .ok (.if_icmp .eq 301, 3) := by decide +kernel
theorem dL_law_301 : decode cL_law 301 = .ok (.iconst 0, 1) := by decide +kernel
theorem dL_law_302 : decode cL_law 302 = .ok (.ireturn, 1) := by decide +kernel
theorem dL_law_303 : decode cL_law 303 = .ok (.aload_n 1, 1) := by decide +kernel
theorem dL_law_304 : decode cL_law 304 = .ok (.aload_n 0, 1) := by decide +kernel
theorem dL_law_305 : decode cL_law 305 = .ok (.iload_n 3, 1) := by decide +kernel
theorem dL_law_306 : decode cL_law 306 = .ok (.iconst 1, 1) := by decide +kernel
theorem dL_law_307 : decode cL_law 307 = .ok (.iadd, 1) := by decide +kernel
theorem dL_law_308 : decode cL_law 308 = .ok (.iaload, 1) := by decide +kernel
theorem dL_law_309 : decode cL_law 309 = .ok (.aload_n 0, 1) := by decide +kernel
theorem dL_law_310 : decode cL_law 310 = .ok (.iload_n 3, 1) := by decide +kernel
theorem dL_law_311 : decode cL_law 311 = .ok (.iconst 2, 1) := by decide +kernel
theorem dL_law_312 : decode cL_law 312 = .ok (.iadd, 1) := by decide +kernel
theorem dL_law_313 : decode cL_law 313 = .ok (.iaload, 1) := by decide +kernel
theorem dL_law_314 : decode cL_law 314 = .ok (.aload_n 0, 1) := by decide +kernel
theorem dL_law_315 : decode cL_law 315 = .ok (.iload_n 3, 1) := by decide +kernel
theorem dL_law_316 : decode cL_law 316 = .ok (.iconst 3, 1) := by decide +kernel
theorem dL_law_317 : decode cL_law 317 = .ok (.iadd, 1) := by decide +kernel
theorem dL_law_318 : decode cL_law 318 = .ok (.iaload, 1) := by decide +kernel
theorem dL_law_319 : decode cL_law 319 = .ok (.invokevirtual 52, 3) := by decide +kernel
theorem dL_law_322 : decode cL_law 322 = .ok (.aload_n 2, 1) := by decide +kernel
theorem dL_law_323 : decode cL_law 323 = .ok (.aload_n 0, 1) := by decide +kernel
theorem dL_law_324 : decode cL_law 324 = .ok (.iload_n 3, 1) := by decide +kernel
theorem dL_law_325 : decode cL_law 325 = .ok (.iconst 1, 1) := by decide +kernel
theorem dL_law_326 : decode cL_law 326 = .ok (.iadd, 1) := by decide +kernel
theorem dL_law_327 : decode cL_law 327 = .ok (.iaload, 1) := by decide +kernel
theorem dL_law_328 : decode cL_law 328 = .ok (.aload_n 0, 1) := by decide +kernel
theorem dL_law_329 : decode cL_law 329 = .ok (.iload_n 3, 1) := by decide +kernel
theorem dL_law_330 : decode cL_law 330 = .ok (.iconst 2, 1) := by decide +kernel
theorem dL_law_331 : decode cL_law 331 = .ok (.iadd, 1) := by decide +kernel
theorem dL_law_332 : decode cL_law 332 = .ok (.iaload, 1) := by decide +kernel
theorem dL_law_333 : decode cL_law 333 = .ok (.aload_n 0, 1) := by decide +kernel
theorem dL_law_334 : decode cL_law 334 = .ok (.iload_n 3, 1) := by decide +kernel
theorem dL_law_335 : decode cL_law 335 = .ok (.iconst 3, 1) := by decide +kernel
theorem dL_law_336 : decode cL_law 336 = .ok (.iadd, 1) := by decide +kernel
theorem dL_law_337 : decode cL_law 337 = .ok (.iaload, 1) := by decide +kernel
theorem dL_law_338 : decode cL_law 338 = .ok (.invokevirtual 56, 3) := by decide +kernel
theorem dL_law_341 : decode cL_law 341 = .ok (.if_icmp .eq 258, 3) := by decide +kernel
theorem dL_law_344 : decode cL_law 344 = .ok (.iconst 0, 1) := by decide +kernel
theorem dL_law_345 : decode cL_law 345 = .ok (.ireturn, 1) := by decide +kernel
theorem dL_law_346 : decode cL_law 346 = .ok (.aload_n 1, 1) := by decide +kernel
theorem dL_law_347 : decode cL_law 347 = .ok (.aload_n 0, 1) := by decide +kernel
theorem dL_law_348 : decode cL_law 348 = .ok (.iload_n 3, 1) := by decide +kernel
theorem dL_law_349 : decode cL_law 349 = .ok (.iconst 1, 1) := by decide +kernel
theorem dL_law_350 : decode cL_law 350 = .ok (.iadd, 1) := by decide +kernel
theorem dL_law_351 : decode cL_law 351 = .ok (.iaload, 1) := by decide +kernel
theorem dL_law_352 : decode cL_law 352 = .ok (.aload_n 0, 1) := by decide +kernel
theorem dL_law_353 : decode cL_law 353 = .ok (.iload_n 3, 1) := by decide +kernel
theorem dL_law_354 : decode cL_law 354 = .ok (.iconst 2, 1) := by decide +kernel
theorem dL_law_355 : decode cL_law 355 = .ok (.iadd, 1) := by decide +kernel
theorem dL_law_356 : decode cL_law 356 = .ok (.iaload, 1) := by decide +kernel
theorem dL_law_357 : decode cL_law 357 = .ok (.aload_n 0, 1) := by decide +kernel
theorem dL_law_358 : decode cL_law 358 = .ok (.iload_n 3, 1) := by decide +kernel
theorem dL_law_359 : decode cL_law 359 = .ok (.iconst 3, 1) := by decide +kernel
theorem dL_law_360 : decode cL_law 360 = .ok (.iadd, 1) := by decide +kernel
theorem dL_law_361 : decode cL_law 361 = .ok (.iaload, 1) := by decide +kernel
theorem dL_law_362 : decode cL_law 362 = .ok (.invokevirtual 57, 3) := by decide +kernel
theorem dL_law_365 : decode cL_law 365 = .ok (.aload_n 2, 1) := by decide +kernel
theorem dL_law_366 : decode cL_law 366 = .ok (.aload_n 0, 1) := by decide +kernel
theorem dL_law_367 : decode cL_law 367 = .ok (.iload_n 3, 1) := by decide +kernel
theorem dL_law_368 : decode cL_law 368 = .ok (.iconst 1, 1) := by decide +kernel
theorem dL_law_369 : decode cL_law 369 = .ok (.iadd, 1) := by decide +kernel
theorem dL_law_370 : decode cL_law 370 = .ok (.iaload, 1) := by decide +kernel
theorem dL_law_371 : decode cL_law 371 = .ok (.aload_n 0, 1) := by decide +kernel
theorem dL_law_372 : decode cL_law 372 = .ok (.iload_n 3, 1) := by decide +kernel
theorem dL_law_373 : decode cL_law 373 = .ok (.iconst 2, 1) := by decide +kernel
theorem dL_law_374 : decode cL_law 374 = .ok (.iadd, 1) := by decide +kernel
theorem dL_law_375 : decode cL_law 375 = .ok (.iaload, 1) := by decide +kernel
theorem dL_law_376 : decode cL_law 376 = .ok (.aload_n 0, 1) := by decide +kernel
theorem dL_law_377 : decode cL_law 377 = .ok (.iload_n 3, 1) := by decide +kernel
theorem dL_law_378 : decode cL_law 378 = .ok (.iconst 3, 1) := by decide +kernel
theorem dL_law_379 : decode cL_law 379 = .ok (.iadd, 1) := by decide +kernel
theorem dL_law_380 : decode cL_law 380 = .ok (.iaload, 1) := by decide +kernel
theorem dL_law_381 : decode cL_law 381 = .ok (.invokevirtual 60, 3) := by decide +kernel
theorem dL_law_384 : decode cL_law 384 = .ok (.if_icmp .eq 215, 3) := by decide +kernel
theorem dL_law_387 : decode cL_law 387 = .ok (.iconst 0, 1) := by decide +kernel
theorem dL_law_388 : decode cL_law 388 = .ok (.ireturn, 1) := by decide +kernel
theorem dL_law_389 : decode cL_law 389 = .ok (.aload_n 1, 1) := by decide +kernel
theorem dL_law_390 : decode cL_law 390 = .ok (.aload_n 0, 1) := by decide +kernel
theorem dL_law_391 : decode cL_law 391 = .ok (.iload_n 3, 1) := by decide +kernel
theorem dL_law_392 : decode cL_law 392 = .ok (.iconst 1, 1) := by decide +kernel
theorem dL_law_393 : decode cL_law 393 = .ok (.iadd, 1) := by decide +kernel
theorem dL_law_394 : decode cL_law 394 = .ok (.iaload, 1) := by decide +kernel
theorem dL_law_395 : decode cL_law 395 = .ok (.aload_n 0, 1) := by decide +kernel
theorem dL_law_396 : decode cL_law 396 = .ok (.iload_n 3, 1) := by decide +kernel
theorem dL_law_397 : decode cL_law 397 = .ok (.iconst 2, 1) := by decide +kernel
theorem dL_law_398 : decode cL_law 398 = .ok (.iadd, 1) := by decide +kernel
theorem dL_law_399 : decode cL_law 399 = .ok (.iaload, 1) := by decide +kernel
theorem dL_law_400 : decode cL_law 400 = .ok (.invokevirtual 61, 3) := by decide +kernel
theorem dL_law_403 : decode cL_law 403 = .ok (.aload_n 2, 1) := by decide +kernel
theorem dL_law_404 : decode cL_law 404 = .ok (.aload_n 0, 1) := by decide +kernel
theorem dL_law_405 : decode cL_law 405 = .ok (.iload_n 3, 1) := by decide +kernel
theorem dL_law_406 : decode cL_law 406 = .ok (.iconst 1, 1) := by decide +kernel
theorem dL_law_407 : decode cL_law 407 = .ok (.iadd, 1) := by decide +kernel
theorem dL_law_408 : decode cL_law 408 = .ok (.iaload, 1) := by decide +kernel
theorem dL_law_409 : decode cL_law 409 = .ok (.aload_n 0, 1) := by decide +kernel
theorem dL_law_410 : decode cL_law 410 = .ok (.iload_n 3, 1) := by decide +kernel
theorem dL_law_411 : decode cL_law 411 = .ok (.iconst 2, 1) := by decide +kernel
theorem dL_law_412 : decode cL_law 412 = .ok (.iadd, 1) := by decide +kernel
theorem dL_law_413 : decode cL_law 413 = .ok (.iaload, 1) := by decide +kernel
theorem dL_law_414 : decode cL_law 414 = .ok (.invokevirtual 64, 3) := by decide +kernel
theorem dL_law_417 : decode cL_law 417 = .ok (.if_icmp .eq 182, 3) := by decide +kernel
theorem dL_law_420 : decode cL_law 420 = .ok (.iconst 0, 1) := by decide +kernel
theorem dL_law_421 : decode cL_law 421 = .ok (.ireturn, 1) := by decide +kernel
theorem dL_law_422 : decode cL_law 422 = .ok (.aload_n 1, 1) := by decide +kernel
theorem dL_law_423 : decode cL_law 423 = .ok (.aload_n 0, 1) := by decide +kernel
theorem dL_law_424 : decode cL_law 424 = .ok (.iload_n 3, 1) := by decide +kernel
theorem dL_law_425 : decode cL_law 425 = .ok (.iconst 1, 1) := by decide +kernel
theorem dL_law_426 : decode cL_law 426 = .ok (.iadd, 1) := by decide +kernel
theorem dL_law_427 : decode cL_law 427 = .ok (.iaload, 1) := by decide +kernel
theorem dL_law_428 : decode cL_law 428 = .ok (.invokevirtual 65, 3) := by decide +kernel
theorem dL_law_431 : decode cL_law 431 = .ok (.aload_n 2, 1) := by decide +kernel
theorem dL_law_432 : decode cL_law 432 = .ok (.aload_n 0, 1) := by decide +kernel
theorem dL_law_433 : decode cL_law 433 = .ok (.iload_n 3, 1) := by decide +kernel
theorem dL_law_434 : decode cL_law 434 = .ok (.iconst 1, 1) := by decide +kernel
theorem dL_law_435 : decode cL_law 435 = .ok (.iadd, 1) := by decide +kernel
theorem dL_law_436 : decode cL_law 436 = .ok (.iaload, 1) := by decide +kernel
theorem dL_law_437 : decode cL_law 437 = .ok (.invokevirtual 68, 3) := by decide +kernel
theorem dL_law_440 : decode cL_law 440 = .ok (.if_icmp .eq 159, 3) := by decide +kernel
theorem dL_law_443 : decode cL_law 443 = .ok (.iconst 0, 1) := by decide +kernel
theorem dL_law_444 : decode cL_law 444 = .ok (.ireturn, 1) := by decide +kernel
theorem dL_law_445 : decode cL_law 445 = .ok (.aload_n 1, 1) := by decide +kernel
theorem dL_law_446 : decode cL_law 446 = .ok (.invokevirtual 69, 3) := by decide +kernel
theorem dL_law_449 : decode cL_law 449 = .ok (.aload_n 2, 1) := by decide +kernel
theorem dL_law_450 : decode cL_law 450 = .ok (.invokevirtual 72, 3) := by decide +kernel
theorem dL_law_453 : decode cL_law 453 = .ok (.if_icmp .eq 146, 3) := by decide +kernel
theorem dL_law_456 : decode cL_law 456 = .ok (.iconst 0, 1) := by decide +kernel
theorem dL_law_457 : decode cL_law 457 = .ok (.ireturn, 1) := by decide +kernel
theorem dL_law_458 : decode cL_law 458 = .ok (.aload_n 1, 1) := by decide +kernel
theorem dL_law_459 : decode cL_law 459 = .ok (.aload_n 0, 1) := by decide +kernel
theorem dL_law_460 : decode cL_law 460 = .ok (.iload_n 3, 1) := by decide +kernel
theorem dL_law_461 : decode cL_law 461 = .ok (.iconst 1, 1) := by decide +kernel
theorem dL_law_462 : decode cL_law 462 = .ok (.iadd, 1) := by decide +kernel
theorem dL_law_463 : decode cL_law 463 = .ok (.iaload, 1) := by decide +kernel
theorem dL_law_464 : decode cL_law 464 = .ok (.invokevirtual 73, 3) := by decide +kernel
theorem dL_law_467 : decode cL_law 467 = .ok (.aload_n 2, 1) := by decide +kernel
theorem dL_law_468 : decode cL_law 468 = .ok (.aload_n 0, 1) := by decide +kernel
theorem dL_law_469 : decode cL_law 469 = .ok (.iload_n 3, 1) := by decide +kernel
theorem dL_law_470 : decode cL_law 470 = .ok (.iconst 1, 1) := by decide +kernel
theorem dL_law_471 : decode cL_law 471 = .ok (.iadd, 1) := by decide +kernel
theorem dL_law_472 : decode cL_law 472 = .ok (.iaload, 1) := by decide +kernel
theorem dL_law_473 : decode cL_law 473 = .ok (.invokevirtual 76, 3) := by decide +kernel
theorem dL_law_476 : decode cL_law 476 = .ok (.if_icmp .eq 123, 3) := by decide +kernel
theorem dL_law_479 : decode cL_law 479 = .ok (.iconst 0, 1) := by decide +kernel
theorem dL_law_480 : decode cL_law 480 = .ok (.ireturn, 1) := by decide +kernel
theorem dL_law_481 : decode cL_law 481 = .ok (.aload_n 1, 1) := by decide +kernel
theorem dL_law_482 : decode cL_law 482 = .ok (.invokevirtual 77, 3) := by decide +kernel
theorem dL_law_485 : decode cL_law 485 = .ok (.aload_n 2, 1) := by decide +kernel
theorem dL_law_486 : decode cL_law 486 = .ok (.invokevirtual 80, 3) := by decide +kernel
theorem dL_law_489 : decode cL_law 489 = .ok (.if_icmp .eq 110, 3) := by decide +kernel
theorem dL_law_492 : decode cL_law 492 = .ok (.iconst 0, 1) := by decide +kernel
theorem dL_law_493 : decode cL_law 493 = .ok (.ireturn, 1) := by decide +kernel
theorem dL_law_494 : decode cL_law 494 = .ok (.aload_n 1, 1) := by decide +kernel
theorem dL_law_495 : decode cL_law 495 = .ok (.aload_n 0, 1) := by decide +kernel
theorem dL_law_496 : decode cL_law 496 = .ok (.iload_n 3, 1) := by decide +kernel
theorem dL_law_497 : decode cL_law 497 = .ok (.iconst 1, 1) := by decide +kernel
theorem dL_law_498 : decode cL_law 498 = .ok (.iadd, 1) := by decide +kernel
theorem dL_law_499 : decode cL_law 499 = .ok (.iaload, 1) := by decide +kernel
theorem dL_law_500 : decode cL_law 500 = .ok (.invokevirtual 81, 3) := by decide +kernel
theorem dL_law_503 : decode cL_law 503 = .ok (.aload_n 2, 1) := by decide +kernel
theorem dL_law_504 : decode cL_law 504 = .ok (.aload_n 0, 1) := by decide +kernel
theorem dL_law_505 : decode cL_law 505 = .ok (.iload_n 3, 1) := by decide +kernel
theorem dL_law_506 : decode cL_law 506 = .ok (.iconst 1, 1) := by decide +kernel
theorem dL_law_507 : decode cL_law 507 = .ok (.iadd, 1) := by decide +kernel
theorem dL_law_508 : decode cL_law 508 = .ok (.iaload, 1) := by decide +kernel
theorem dL_law_509 : decode cL_law 509 = .ok (.invokevirtual 84, 3) := by decide +kernel
theorem dL_law_512 : decode cL_law 512 = .ok (.if_icmp .eq 87, 3) := by decide +kernel
theorem dL_law_515 : decode cL_law 515 = .ok (.iconst 0, 1) := by decide +kernel
theorem dL_law_516 : decode cL_law 516 = .ok (.ireturn, 1) := by decide +kernel
theorem dL_law_517 : decode cL_law 517 = .ok (.aload_n 1, 1) := by decide +kernel
theorem dL_law_518 : decode cL_law 518 = .ok (.aload_n 0, 1) := by decide +kernel
theorem dL_law_519 : decode cL_law 519 = .ok (.iload_n 3, 1) := by decide +kernel
theorem dL_law_520 : decode cL_law 520 = .ok (.iconst 1, 1) := by decide +kernel
theorem dL_law_521 : decode cL_law 521 = .ok (.iadd, 1) := by decide +kernel
theorem dL_law_522 : decode cL_law 522 = .ok (.iaload, 1) := by decide +kernel
theorem dL_law_523 : decode cL_law 523 = .ok (.invokevirtual 85, 3) := by decide +kernel
theorem dL_law_526 : decode cL_law 526 = .ok (.aload_n 2, 1) := by decide +kernel
theorem dL_law_527 : decode cL_law 527 = .ok (.aload_n 0, 1) := by decide +kernel
theorem dL_law_528 : decode cL_law 528 = .ok (.iload_n 3, 1) := by decide +kernel
theorem dL_law_529 : decode cL_law 529 = .ok (.iconst 1, 1) := by decide +kernel
theorem dL_law_530 : decode cL_law 530 = .ok (.iadd, 1) := by decide +kernel
theorem dL_law_531 : decode cL_law 531 = .ok (.iaload, 1) := by decide +kernel
theorem dL_law_532 : decode cL_law 532 = .ok (.invokevirtual 88, 3) := by decide +kernel
theorem dL_law_535 : decode cL_law 535 = .ok (.if_icmp .eq 64, 3) := by decide +kernel
theorem dL_law_538 : decode cL_law 538 = .ok (.iconst 0, 1) := by decide +kernel
theorem dL_law_539 : decode cL_law 539 = .ok (.ireturn, 1) := by decide +kernel
theorem dL_law_540 : decode cL_law 540 = .ok (.aload_n 1, 1) := by decide +kernel
theorem dL_law_541 : decode cL_law 541 = .ok (.aload_n 0, 1) := by decide +kernel
theorem dL_law_542 : decode cL_law 542 = .ok (.iload_n 3, 1) := by decide +kernel
theorem dL_law_543 : decode cL_law 543 = .ok (.iconst 1, 1) := by decide +kernel
theorem dL_law_544 : decode cL_law 544 = .ok (.iadd, 1) := by decide +kernel
theorem dL_law_545 : decode cL_law 545 = .ok (.iaload, 1) := by decide +kernel
theorem dL_law_546 : decode cL_law 546 = .ok (.invokevirtual 89, 3) := by decide +kernel
theorem dL_law_549 : decode cL_law 549 = .ok (.aload_n 2, 1) := by decide +kernel
theorem dL_law_550 : decode cL_law 550 = .ok (.aload_n 0, 1) := by decide +kernel
theorem dL_law_551 : decode cL_law 551 = .ok (.iload_n 3, 1) := by decide +kernel
theorem dL_law_552 : decode cL_law 552 = .ok (.iconst 1, 1) := by decide +kernel
theorem dL_law_553 : decode cL_law 553 = .ok (.iadd, 1) := by decide +kernel
theorem dL_law_554 : decode cL_law 554 = .ok (.iaload, 1) := by decide +kernel
theorem dL_law_555 : decode cL_law 555 = .ok (.invokevirtual 92, 3) := by decide +kernel
theorem dL_law_558 : decode cL_law 558 = .ok (.if_icmp .eq 41, 3) := by decide +kernel
theorem dL_law_561 : decode cL_law 561 = .ok (.iconst 0, 1) := by decide +kernel
theorem dL_law_562 : decode cL_law 562 = .ok (.ireturn, 1) := by decide +kernel
theorem dL_law_563 : decode cL_law 563 = .ok (.aload_n 1, 1) := by decide +kernel
theorem dL_law_564 : decode cL_law 564 = .ok (.aload_n 0, 1) := by decide +kernel
theorem dL_law_565 : decode cL_law 565 = .ok (.iload_n 3, 1) := by decide +kernel
theorem dL_law_566 : decode cL_law 566 = .ok (.iconst 1, 1) := by decide +kernel
theorem dL_law_567 : decode cL_law 567 = .ok (.iadd, 1) := by decide +kernel
theorem dL_law_568 : decode cL_law 568 = .ok (.iaload, 1) := by decide +kernel
theorem dL_law_569 : decode cL_law 569 = .ok (.invokevirtual 93, 3) := by decide +kernel
theorem dL_law_572 : decode cL_law 572 = .ok (.aload_n 2, 1) := by decide +kernel
theorem dL_law_573 : decode cL_law 573 = .ok (.aload_n 0, 1) := by decide +kernel
theorem dL_law_574 : decode cL_law 574 = .ok (.iload_n 3, 1) := by decide +kernel
theorem dL_law_575 : decode cL_law 575 = .ok (.iconst 1, 1) := by decide +kernel
theorem dL_law_576 : decode cL_law 576 = .ok (.iadd, 1) := by decide +kernel
theorem dL_law_577 : decode cL_law 577 = .ok (.iaload, 1) := by decide +kernel
theorem dL_law_578 : decode cL_law 578 = .ok (.invokevirtual 96, 3) := by decide +kernel
theorem dL_law_581 : decode cL_law 581 = .ok (.if_icmp .eq 18, 3) := by decide +kernel
theorem dL_law_584 : decode cL_law 584 = .ok (.iconst 0, 1) := by decide +kernel
theorem dL_law_585 : decode cL_law 585 = .ok (.ireturn, 1) := by decide +kernel
theorem dL_law_586 : decode cL_law 586 = .ok (.aload_n 1, 1) := by decide +kernel
theorem dL_law_587 : decode cL_law 587 = .ok (.invokevirtual 97, 3) := by decide +kernel
theorem dL_law_590 : decode cL_law 590 = .ok (.aload_n 2, 1) := by decide +kernel
theorem dL_law_591 : decode cL_law 591 = .ok (.invokevirtual 100, 3) := by decide +kernel
theorem dL_law_594 : decode cL_law 594 = .ok (.if_icmp .eq 5, 3) := by decide +kernel
theorem dL_law_597 : decode cL_law 597 = .ok (.iconst 0, 1) := by decide +kernel
theorem dL_law_598 : decode cL_law 598 = .ok (.ireturn, 1) := by decide +kernel
theorem dL_law_599 : decode cL_law 599 = .ok (.iinc 3 4, 3) := by decide +kernel
theorem dL_law_602 : decode cL_law 602 = .ok (.goto (-574), 3) := by decide +kernel
theorem dL_law_605 : decode cL_law 605 = .ok (.iconst 1, 1) := by decide +kernel
theorem dL_law_606 : decode cL_law 606 = .ok (.ireturn, 1) := by decide +kernel
end
section
set_option maxRecDepth 100000
/-! THE STATES AND THE WORLDS. A state is St: number of the array, place, value; number 10 holds the int fields -/
abbrev St : Type := Nat → Nat → Int32
def up (σ : St) (k i : Nat) (v : Int32) : St := fun k' i' => if k' = k ∧ i' = i then v else σ k' i'
theorem up_self (σ : St) (k i : Nat) (v : Int32) : up σ k i v k = upd (σ k) i v := by
  funext j
  by_cases h : j = i <;> simp [up, upd, h]
theorem up_other (σ : St) {k k' : Nat} (i : Nat) (v : Int32) (h : k' ≠ k) : up σ k i v k' = σ k' := by
  funext j
  simp [up, h]
abbrev vwCl : List vw_C := [(RX1, TX1, 13), (RX2, TX2, 3)]
/-- the cells of a CompactFit: a 10 is the object, a 0 .. a 9 its arrays -/
def wX (a : Nat → Nat) (d : ClassId) (σ : St) : va_W := [(a 10, .inr (0, [.ref (a 0), .ref (a 1), .ref (a 2), .ref (a 3), .ref (a 4), .ref (a 5), .ref (a 6), .ref (a 7), .ref (a 8), .ref (a 9), .int (σ 10 0), .int (σ 10 1), .int (σ 10 2)])), (a 0, .inl (d, 192, .inl (σ 0))), (a 1, .inl (d, 12, .inl (σ 1))), (a 2, .inl (d, 12, .inl (σ 2))), (a 3, .inl (d, 96, .inl (σ 3))), (a 4, .inl (d, 64, .inl (σ 4))), (a 5, .inl (d, 64, .inl (σ 5))), (a 6, .inl (d, 64, .inl (σ 6))), (a 7, .inl (d, 4, .inl (σ 7))), (a 8, .inl (d, 4, .inl (σ 8))), (a 9, .inl (d, 16, .inl (σ 9)))]
/-- the cells of a CompactFitModel -/
def wM (a : Nat → Nat) (d : ClassId) (σ : St) : va_W := [(a 10, .inr (1, [.int (σ 10 0), .ref (a 0), .ref (a 1)])), (a 0, .inl (d, 64, .inl (σ 0))), (a 1, .inl (d, 1024, .inl (σ 1)))]
def wI (D : va_G) (wf : St → va_W) (d : ClassId) (σ : St) (U : State) : Prop := va_P D vwCl (wf σ) U.heap ∧ va_K D vwCl [(d, .int)] U ∧ va_D (fun _ => True) (wf σ)
def wO (D : va_G) (wf : St → va_W) (d : ClassId) (A : Nat → Prop) (σ : St) (t : State) : Prop := va_P D vwCl (wf σ) t.heap ∧ va_K D vwCl [(d, .int)] t ∧ va_D A (wf σ)
def HH (D : va_G) (wf : St → va_W) (d : ClassId) (A : Nat → Prop) (s : State) (σ : St) (H : Heap) (locs : List Loc) : Prop := va_K D vwCl [(d, .int)] s ∧ va_P D vwCl (wf σ) H ∧ va_D A (wf σ) ∧ va_S A s.heap H locs ∧ ∀ q : Nat, s.heap.size ≤ q → A q
/-- a contract of an int method, of a void one: F is its predicate, K what is to hold behind it -/
def CTi (l : Launch) (y : MethodName) (cc : ByteArray) (maxL : Nat) (ret : Option FieldType) (rm : Room) (wf : St → va_W) (D : va_G) (d : ClassId) (av : List Value) (F : St → (Int32 → St → Prop) → Prop) : Prop :=
  ∀ (sz : Nat) (σ : St) (K : Int32 → St → Prop), Met l y (ws_ y cc maxL ret) rm (va_Pc av (fun U => U.heap.size = sz ∧ wI D wf d σ U ∧ F σ K)) (va_Qi K (wO D wf d (va_A (wf σ) sz)) (va_A (wf σ) sz)) 0 0 (va_A (wf σ) sz)
def CTv (l : Launch) (y : MethodName) (cc : ByteArray) (maxL : Nat) (ret : Option FieldType) (rm : Room) (wf : St → va_W) (D : va_G) (d : ClassId) (av : List Value) (F : St → (St → Prop) → Prop) : Prop :=
  ∀ (sz : Nat) (σ : St) (K : St → Prop), Met l y (ws_ y cc maxL ret) rm (va_Pc av (fun U => U.heap.size = sz ∧ wI D wf d σ U ∧ F σ K)) (va_Qv K (wO D wf d (va_A (wf σ) sz)) (va_A (wf σ) sz)) 0 0 (va_A (wf σ) sz)
theorem msI {l : Launch} {y : MethodName} {cc : ByteArray} {maxL : Nat} {ret : Option FieldType} {rm : Room} {wf : St → va_W} {D : va_G} {d : ClassId} {av : List Value} {F : St → (Int32 → St → Prop) → Prop} (hy : plainName y.cls = true) (hle : (lg_sl av).length ≤ maxL)
    (body : ∀ (p : Program) (e : Env) (s : State) (m : MethodId) (below : List Frame) (meth : Method) (c : Code) (A : Nat → Prop) (σ : St) (K : Int32 → St → Prop) (ls : Array Slot), CallFix p m c cc maxL s av.toArray lw_all y.cls → meth.sig.returnType = ret → meth.locks = false → HH D wf d A s σ s.heap [] → F σ K → lv_has ls maxL (lv_args 0 av) →
      W p l e rm s m av.toArray below meth c s.heap [] 0 0 (MQ below (va_Qi K (wO D wf d A) A) av.toArray s 0 0 A) (F0 m 0 ls [])) : CTi l y cc maxL ret rm wf D d av F := by
  intro sz σ K
  refine Met.ofW (cc := cc) (maxL := maxL) (ret := ret) hy rfl ?_
  intro p e s m args below meth c s₁ B hml hv
  obtain ⟨rfl, hsz, ⟨hP, hK, hD0⟩, hF⟩ := hv
  have hts := atoms_spec (ws := ws_ y cc maxL ret) B.pre
  have hts : ∀ w ∈ lw_all, w.before _ s = true := fun w h => hts w (List.mem_cons_of_mem _ h)
  have hown : s.vm.findClass y.cls = some m.cls := findClass_of_methodNamed B.named
  subst hsz
  have hD := hD0.self (sz := s.heap.size)
  have hA : ∀ q : Nat, s.heap.size ≤ q → va_A (wf σ) s.heap.size q := fun q h => Or.inr h
  have hl := lv_entry av (n := maxL) hle
  rw [lg_entry_eq]
  exact body p e s m below meth c _ σ K _ ⟨B.exec, B.bytes, hml, hown, hts⟩ B.returns B.notSynchronized ⟨hK, hP, hD, va_S.rf, hA⟩ hF hl
theorem msV {l : Launch} {y : MethodName} {cc : ByteArray} {maxL : Nat} {ret : Option FieldType} {rm : Room} {wf : St → va_W} {D : va_G} {d : ClassId} {av : List Value} {F : St → (St → Prop) → Prop} (hy : plainName y.cls = true) (hle : (lg_sl av).length ≤ maxL)
    (body : ∀ (p : Program) (e : Env) (s : State) (m : MethodId) (below : List Frame) (meth : Method) (c : Code) (A : Nat → Prop) (σ : St) (K : St → Prop) (ls : Array Slot), CallFix p m c cc maxL s av.toArray lw_all y.cls → meth.sig.returnType = ret → meth.locks = false → HH D wf d A s σ s.heap [] → F σ K → lv_has ls maxL (lv_args 0 av) →
      W p l e rm s m av.toArray below meth c s.heap [] 0 0 (MQ below (va_Qv K (wO D wf d A) A) av.toArray s 0 0 A) (F0 m 0 ls [])) : CTv l y cc maxL ret rm wf D d av F := by
  intro sz σ K
  refine Met.ofW (cc := cc) (maxL := maxL) (ret := ret) hy rfl ?_
  intro p e s m args below meth c s₁ B hml hv
  obtain ⟨rfl, hsz, ⟨hP, hK, hD0⟩, hF⟩ := hv
  have hts := atoms_spec (ws := ws_ y cc maxL ret) B.pre
  have hts : ∀ w ∈ lw_all, w.before _ s = true := fun w h => hts w (List.mem_cons_of_mem _ h)
  have hown : s.vm.findClass y.cls = some m.cls := findClass_of_methodNamed B.named
  subst hsz
  have hD := hD0.self (sz := s.heap.size)
  have hA : ∀ q : Nat, s.heap.size ≤ q → va_A (wf σ) s.heap.size q := fun q h => Or.inr h
  have hl := lv_entry av (n := maxL) hle
  rw [lg_entry_eq]
  exact body p e s m below meth c _ σ K _ ⟨B.exec, B.bytes, hml, hown, hts⟩ B.returns B.notSynchronized ⟨hK, hP, hD, va_S.rf, hA⟩ hF hl
section ROWS
variable {p : Program} {l : Launch} {e : Env} {R : Room} {s : State} {m : MethodId} {args : Array Value} {below : List Frame} {meth : Method} {c : Code} {H : Heap} {locs : List Loc} {cells slots : Nat} {Q : State → Prop}
variable {cc : ByteArray} {pc nL : Nat} {ls : Array Slot} {rest : List Value} {D : va_G} {wf : St → va_W} {d : ClassId} {A : Nat → Prop} {σ : St} {a : Nat → Nat} {own : String}
/-- a return of an int, of a boolean, of nothing -/
theorem riI {K : Int32 → St → Prop} {v : Int32} (S : CallFix p m c cc nL s args lw_all own) (hr : meth.sig.returnType = some .int) (hlk : meth.locks = false) (hH : HH D wf d A s σ H locs) (hK : K v σ) (hdg : decode cc pc = .ok (.ireturn, 1)) : W p l e R s m args below meth c H locs 0 0 (MQ below (va_Qi K (wO D wf d A) A) args s 0 0 A) (F0 m pc ls [.int v]) :=
  W.iret S.1 S.2.1 hr (fun t ht hW => ⟨⟨v, σ, rfl, hK, by rw [ht]; exact hH.2.1, va_K.moved hW.alike hH.1, hH.2.2.1⟩, hH.2.2.2.1.F ht⟩) hH.2.2.2.1.2.2 hdg hlk
theorem riZ {K : Int32 → St → Prop} {v : Int32} (S : CallFix p m c cc nL s args lw_all own) (hr : meth.sig.returnType = some .boolean) (hn : narrow .boolean (.int v) = .int v) (hlk : meth.locks = false) (hH : HH D wf d A s σ H locs) (hK : K v σ) (hdg : decode cc pc = .ok (.ireturn, 1)) : W p l e R s m args below meth c H locs 0 0 (MQ below (va_Qi K (wO D wf d A) A) args s 0 0 A) (F0 m pc ls [.int v]) :=
  W.zret S.1 S.2.1 hr hn (fun t ht hW => ⟨⟨v, σ, rfl, hK, by rw [ht]; exact hH.2.1, va_K.moved hW.alike hH.1, hH.2.2.1⟩, hH.2.2.2.1.F ht⟩) hH.2.2.2.1.2.2 hdg hlk
theorem riV {K : St → Prop} (S : CallFix p m c cc nL s args lw_all own) (hr : meth.sig.returnType = none) (hlk : meth.locks = false) (hH : HH D wf d A s σ H locs) (hK : K σ) (hdg : decode cc pc = .ok (.return_, 1)) : W p l e R s m args below meth c H locs 0 0 (MQ below (va_Qv K (wO D wf d A) A) args s 0 0 A) (F0 m pc ls []) :=
  W.vret S.1 S.2.1 hr (fun t ht hW => ⟨⟨σ, rfl, hK, by rw [ht]; exact hH.2.1, va_K.moved hW.alike hH.1, hH.2.2.1⟩, hH.2.2.2.1.F ht⟩) hH.2.2.2.1.2.2 hdg hlk
/-- a field of a CompactFit, of a CompactFitModel -/
theorem gX (k : Nat) {index : Nat} {v : Value} (S : CallFix p m c cc nL s args lw_all RX1) (hH : HH D (wX a d) d A s σ H locs) (hk : k < 13) (hlink : Cond.fieldLink RX1 index (TX1 k).1 (TX1 k).2.1 (TX1 k).2.2.1 ∈ lw_all) (hv : ([.ref (a 0), .ref (a 1), .ref (a 2), .ref (a 3), .ref (a 4), .ref (a 5), .ref (a 6), .ref (a 7), .ref (a 8), .ref (a 9), .int (σ 10 0), .int (σ 10 1), .int (σ 10 2)] : List Value)[k]? = some v) (hdg : decode cc pc = .ok (.getfield index, 3))
    (kk : W p l e R s m args below meth c H locs cells slots Q (F0 m (pc + 3) ls (v :: rest))) : W p l e R s m args below meth c H locs cells slots Q (F0 m pc ls (.ref (a 10) :: rest)) :=
  va_get S.1 S.2.1 S.2.2.2.2 in_X1 S.2.2.2.1 hH.1 hH.2.1 0 rfl (ci := 0) rfl k hk (S.2.2.2.2 _ hlink) (fun _ h => h) hv hdg kk
theorem gM (k : Nat) {index : Nat} {v : Value} (S : CallFix p m c cc nL s args lw_all RX2) (hH : HH D (wM a d) d A s σ H locs) (hk : k < 3) (hlink : Cond.fieldLink RX2 index (TX2 k).1 (TX2 k).2.1 (TX2 k).2.2.1 ∈ lw_all) (hv : ([.int (σ 10 0), .ref (a 0), .ref (a 1)] : List Value)[k]? = some v) (hdg : decode cc pc = .ok (.getfield index, 3))
    (kk : W p l e R s m args below meth c H locs cells slots Q (F0 m (pc + 3) ls (v :: rest))) : W p l e R s m args below meth c H locs cells slots Q (F0 m pc ls (.ref (a 10) :: rest)) :=
  va_get S.1 S.2.1 S.2.2.2.2 in_X2 S.2.2.2.1 hH.1 hH.2.1 0 rfl (ci := 1) rfl k hk (S.2.2.2.2 _ hlink) (fun _ h => h) hv hdg kk
/-- an int field of a CompactFit is written -/
theorem wX_int (σ : St) (a : Nat → Nat) (d : ClassId) (v : Int32) : (wX a d σ).set 0 (a 10, .inr (0, ([.ref (a 0), .ref (a 1), .ref (a 2), .ref (a 3), .ref (a 4), .ref (a 5), .ref (a 6), .ref (a 7), .ref (a 8), .ref (a 9), .int (σ 10 0), .int (σ 10 1), .int (σ 10 2)] : List Value).set 10 (.int v))) = wX a d (up σ 10 0 v) ∧ (wX a d σ).set 0 (a 10, .inr (0, ([.ref (a 0), .ref (a 1), .ref (a 2), .ref (a 3), .ref (a 4), .ref (a 5), .ref (a 6), .ref (a 7), .ref (a 8), .ref (a 9), .int (σ 10 0), .int (σ 10 1), .int (σ 10 2)] : List Value).set 11 (.int v))) = wX a d (up σ 10 1 v) ∧ (wX a d σ).set 0 (a 10, .inr (0, ([.ref (a 0), .ref (a 1), .ref (a 2), .ref (a 3), .ref (a 4), .ref (a 5), .ref (a 6), .ref (a 7), .ref (a 8), .ref (a 9), .int (σ 10 0), .int (σ 10 1), .int (σ 10 2)] : List Value).set 12 (.int v))) = wX a d (up σ 10 2 v) := by
  refine ⟨?_, ?_, ?_⟩ <;> simp [wX, up_other, up_self, upd, List.set]
theorem pX (f : Nat) {index : Nat} {v : Int32} (S : CallFix p m c cc nL s args lw_all RX1) (hH : HH D (wX a d) d A s σ H locs) (hf : f < 3) (hlink : Cond.fieldLink RX1 index (TX1 (f + 10)).1 (TX1 (f + 10)).2.1 (TX1 (f + 10)).2.2.1 ∈ lw_all) (hdg : decode cc pc = .ok (.putfield index, 3))
    (kk : ∀ (H1 : Heap) (locs1 : List Loc), HH D (wX a d) d A s (up σ 10 f v) H1 locs1 → W p l e R s m args below meth c H1 locs1 cells slots Q (F0 m (pc + 3) ls rest)) : W p l e R s m args below meth c H locs cells slots Q (F0 m pc ls (.int v :: .ref (a 10) :: rest)) := by
  have hset := wX_int σ a d v
  refine va_put S.1 S.2.1 S.2.2.2.2 in_X1 tyX1 tyX1_ok nmX1 S.2.2.2.1 hH.1 hH.2.1 hH.2.2.1 hH.2.2.2.1 0 rfl (ci := 0) rfl (f + 10) (by omega) (S.2.2.2.2 _ hlink) (fun _ h => h) ?_ (ty := .int) ?_ rfl rfl (by show f + 10 < 13; omega) hdg (fun H1 locs1 hP hD hS => kk H1 locs1 ⟨hH.1, ?_, ?_, hS, hH.2.2.2.2⟩)
  · rcases (show f = 0 ∨ f = 1 ∨ f = 2 by omega) with rfl | rfl | rfl <;> rfl
  · rcases (show f = 0 ∨ f = 1 ∨ f = 2 by omega) with rfl | rfl | rfl <;> decide +kernel
  · rcases (show f = 0 ∨ f = 1 ∨ f = 2 by omega) with rfl | rfl | rfl
    · rw [← hset.1]; exact hP
    · rw [← hset.2.1]; exact hP
    · rw [← hset.2.2]; exact hP
  · rcases (show f = 0 ∨ f = 1 ∨ f = 2 by omega) with rfl | rfl | rfl
    · rw [← hset.1]; exact hD
    · rw [← hset.2.1]; exact hD
    · rw [← hset.2.2]; exact hD
/-- an element is read, is written -/
theorem lA {q0 k n ak j : Nat} {i : Int32} (S : CallFix p m c cc nL s args lw_all own) (hH : HH D wf d A s σ H locs) (hw : (wf σ)[q0]? = some (ak, .inl (d, n, .inl (σ k)))) (hi : i = nI j) (hj : j < n) (hn : n < 2 ^ 31) (hdg : decode cc pc = .ok (.iaload, 1))
    (kk : W p l e R s m args below meth c H locs cells slots Q (F0 m (pc + 1) ls (.int (σ k j) :: rest))) : W p l e R s m args below meth c H locs cells slots Q (F0 m pc ls (.int i :: .ref ak :: rest)) := by
  subst hi
  refine va_iald S.1 S.2.1 hH.1 hH.2.1 q0 0 hw rfl (vp_in_nI hj hn) hdg ?_
  rw [nI_clamp (by omega)]
  exact kk
theorem sA {q0 k n ak j : Nat} {i v : Int32} (S : CallFix p m c cc nL s args lw_all own) (hH : HH D wf d A s σ H locs) (hw : (wf σ)[q0]? = some (ak, .inl (d, n, .inl (σ k)))) (hset : (wf σ).set q0 (ak, .inl (d, n, .inl (upd (σ k) j v))) = wf (up σ k j v)) (hi : i = nI j) (hj : j < n) (hn : n < 2 ^ 31) (hdg : decode cc pc = .ok (.iastore, 1))
    (kk : ∀ (H1 : Heap) (locs1 : List Loc), HH D wf d A s (up σ k j v) H1 locs1 → W p l e R s m args below meth c H1 locs1 cells slots Q (F0 m (pc + 1) ls rest)) : W p l e R s m args below meth c H locs cells slots Q (F0 m pc ls (.int v :: .int i :: .ref ak :: rest)) := by
  subst hi
  refine va_iast S.1 S.2.1 hH.1 hH.2.1 hH.2.2.1 hH.2.2.2.1 q0 0 hw rfl (vp_in_nI hj hn) hdg (fun H1 locs1 hP hD hS => ?_)
  rw [nI_clamp (by omega), hset] at hP hD
  exact kk H1 locs1 ⟨hH.1, hP, hD, hS, hH.2.2.2.2⟩
/-- calls in one world -/
theorem cVi {y : MethodName} {bytes : ByteArray} {maxL n index : Nat} {ret : Option FieldType} {rm : Room} {As st : List Value} {F : St → (Int32 → St → Prop) → Prop} {K : Int32 → St → Prop} {b ci : Nat} {fs : List Value} {q : vw_C} (S : CallFix p m c cc nL s args lw_all own) (hH : HH D wf d A s σ H locs) (hM : CTi l y bytes maxL ret rm wf D d (.ref b :: As) F) (cw : CallW R s args own q.1 index y bytes maxL ret (ws_ y bytes maxL ret) rm 0 0 n) (hw0 : (wf σ)[0]? = some (b, .inr (ci, fs))) (hc : vwCl[ci]? = some q) (hp : F σ K) (hn : As.length = n) (hsize : ls.size = nL) (hstack : st = As.reverse ++ .ref b :: rest) (hroom : (rest.map fun v => v.category).sum ≤ 8) (hdg : decode cc pc = .ok (.invokevirtual index, 3)) (hf : cells ≤ R.cells ∧ slots ≤ R.slots)
    (kk : ∀ (r : Int32) (σ1 : St) (H1 : Heap) (locs1 : List Loc), K r σ1 → HH D wf d A s σ1 H1 locs1 → W p l e R s m args below meth c H1 locs1 cells slots Q (F0 m (pc + 3) ls (.int r :: rest))) : W p l e R s m args below meth c H locs cells slots Q (F0 m pc ls st) := by
  obtain ⟨hK, hP, hD, hS, hA⟩ := hH
  have hFc : ∀ x, va_A (wf σ) H.size x → A x := by
    intro x h
    rcases h with ⟨k, e', h⟩ | h
    · exact hD.2 k _ h
    · exact hA x (Nat.le_trans hS.1 h)
  refine va_calli (va_runV (As := As) (rest := rest) S (hM H.size σ K) cw ⟨fun a' U g mk hq => by obtain ⟨q0, q1, ⟨qP, qK, qD⟩, qF⟩ := hq; exact ⟨q0, q1, ⟨qP, va_K.moved (u := U) (U := U.calling g mk a') (Vm.Alike.refl U.vm) qK, qD⟩, qF⟩, va_recv hK hP hc hw0, fun U hU hW => ⟨rfl, by rw [hU], ⟨by rw [hU]; exact hP, va_K.moved hW.alike hK, hD.weaken (fun _ _ _ _ => trivial)⟩, hp⟩⟩ rfl hn hsize hstack (lv_room hroom) hdg hf) hS (fun x _ h => hFc x h) hFc (fun r u t H1 locs1 ht hvm hw1 hB hz1 hk1 hS1 => ?_)
  obtain ⟨hP1, hK1, hD1⟩ := hB
  rw [ht] at hP1
  exact kk r u H1 locs1 hw1 ⟨va_K.moved hvm.symm hK1, hP1, hD1.weaken (fun k x _ h => hFc x.1 h), hS1, hA⟩
theorem cVv {y : MethodName} {bytes : ByteArray} {maxL n index : Nat} {ret : Option FieldType} {rm : Room} {As st : List Value} {F : St → (St → Prop) → Prop} {K : St → Prop} {b ci : Nat} {fs : List Value} {q : vw_C} (S : CallFix p m c cc nL s args lw_all own) (hH : HH D wf d A s σ H locs) (hM : CTv l y bytes maxL ret rm wf D d (.ref b :: As) F) (cw : CallW R s args own q.1 index y bytes maxL ret (ws_ y bytes maxL ret) rm 0 0 n) (hw0 : (wf σ)[0]? = some (b, .inr (ci, fs))) (hc : vwCl[ci]? = some q) (hp : F σ K) (hn : As.length = n) (hsize : ls.size = nL) (hstack : st = As.reverse ++ .ref b :: rest) (hroom : (rest.map fun v => v.category).sum ≤ 8) (hdg : decode cc pc = .ok (.invokevirtual index, 3)) (hf : cells ≤ R.cells ∧ slots ≤ R.slots)
    (kk : ∀ (σ1 : St) (H1 : Heap) (locs1 : List Loc), K σ1 → HH D wf d A s σ1 H1 locs1 → W p l e R s m args below meth c H1 locs1 cells slots Q (F0 m (pc + 3) ls rest)) : W p l e R s m args below meth c H locs cells slots Q (F0 m pc ls st) := by
  obtain ⟨hK, hP, hD, hS, hA⟩ := hH
  have hFc : ∀ x, va_A (wf σ) H.size x → A x := by
    intro x h
    rcases h with ⟨k, e', h⟩ | h
    · exact hD.2 k _ h
    · exact hA x (Nat.le_trans hS.1 h)
  refine va_callv (va_runV (As := As) (rest := rest) S (hM H.size σ K) cw ⟨fun a' U g mk hq => by obtain ⟨q0, q1, ⟨qP, qK, qD⟩, qF⟩ := hq; exact ⟨q0, q1, ⟨qP, va_K.moved (u := U) (U := U.calling g mk a') (Vm.Alike.refl U.vm) qK, qD⟩, qF⟩, va_recv hK hP hc hw0, fun U hU hW => ⟨rfl, by rw [hU], ⟨by rw [hU]; exact hP, va_K.moved hW.alike hK, hD.weaken (fun _ _ _ _ => trivial)⟩, hp⟩⟩ rfl hn hsize hstack (lv_room hroom) hdg hf) hS (fun x _ h => hFc x h) hFc (fun u t H1 locs1 ht hvm hw1 hB hz1 hk1 hS1 => ?_)
  obtain ⟨hP1, hK1, hD1⟩ := hB
  rw [ht] at hP1
  exact kk u H1 locs1 hw1 ⟨va_K.moved hvm.symm hK1, hP1, hD1.weaken (fun k x _ h => hFc x.1 h), hS1, hA⟩
theorem cSi {y : MethodName} {bytes : ByteArray} {maxL n index : Nat} {ret : Option FieldType} {rm : Room} {As st : List Value} {F : St → (Int32 → St → Prop) → Prop} {K : Int32 → St → Prop} (S : CallFix p m c cc nL s args lw_all own) (hH : HH D wf d A s σ H locs) (hM : CTi l y bytes maxL ret rm wf D d As F) (cw : CallB R s args own index y bytes maxL ret (ws_ y bytes maxL ret) rm 0 0 n ∧ (Cond.static y).before args s = true) (hp : F σ K) (hn : As.length = n) (hsize : ls.size = nL) (hstack : st = As.reverse ++ rest) (hroom : (rest.map fun v => v.category).sum ≤ 8) (hdg : decode cc pc = .ok (.invokestatic index, 3)) (hf : cells ≤ R.cells ∧ slots ≤ R.slots)
    (kk : ∀ (r : Int32) (σ1 : St) (H1 : Heap) (locs1 : List Loc), K r σ1 → HH D wf d A s σ1 H1 locs1 → W p l e R s m args below meth c H1 locs1 cells slots Q (F0 m (pc + 3) ls (.int r :: rest))) : W p l e R s m args below meth c H locs cells slots Q (F0 m pc ls st) := by
  obtain ⟨hK, hP, hD, hS, hA⟩ := hH
  have hFc : ∀ x, va_A (wf σ) H.size x → A x := by
    intro x h
    rcases h with ⟨k, e', h⟩ | h
    · exact hD.2 k _ h
    · exact hA x (Nat.le_trans hS.1 h)
  refine va_calli (va_runS (As := As) (rest := rest) S (hM H.size σ K) cw ⟨fun a' U g mk hq => by obtain ⟨q0, q1, ⟨qP, qK, qD⟩, qF⟩ := hq; exact ⟨q0, q1, ⟨qP, va_K.moved (u := U) (U := U.calling g mk a') (Vm.Alike.refl U.vm) qK, qD⟩, qF⟩, fun U hU hW => ⟨rfl, by rw [hU], ⟨by rw [hU]; exact hP, va_K.moved hW.alike hK, hD.weaken (fun _ _ _ _ => trivial)⟩, hp⟩⟩ rfl hn hsize hstack (lv_room hroom) hdg hf) hS (fun x _ h => hFc x h) hFc (fun r u t H1 locs1 ht hvm hw1 hB hz1 hk1 hS1 => ?_)
  obtain ⟨hP1, hK1, hD1⟩ := hB
  rw [ht] at hP1
  exact kk r u H1 locs1 hw1 ⟨va_K.moved hvm.symm hK1, hP1, hD1.weaken (fun k x _ h => hFc x.1 h), hS1, hA⟩
end ROWS
section SETS
variable (σ : St) (a : Nat → Nat) (d : ClassId) (j : Nat) (v : Int32)
theorem wX_set_0 : (wX a d σ).set 1 (a 0, .inl (d, 192, .inl (upd (σ 0) j v))) = wX a d (up σ 0 j v) := by simp [wX, up_other, up_self, List.set]
theorem wX_set_1 : (wX a d σ).set 2 (a 1, .inl (d, 12, .inl (upd (σ 1) j v))) = wX a d (up σ 1 j v) := by simp [wX, up_other, up_self, List.set]
theorem wX_set_2 : (wX a d σ).set 3 (a 2, .inl (d, 12, .inl (upd (σ 2) j v))) = wX a d (up σ 2 j v) := by simp [wX, up_other, up_self, List.set]
theorem wX_set_3 : (wX a d σ).set 4 (a 3, .inl (d, 96, .inl (upd (σ 3) j v))) = wX a d (up σ 3 j v) := by simp [wX, up_other, up_self, List.set]
theorem wX_set_4 : (wX a d σ).set 5 (a 4, .inl (d, 64, .inl (upd (σ 4) j v))) = wX a d (up σ 4 j v) := by simp [wX, up_other, up_self, List.set]
theorem wX_set_5 : (wX a d σ).set 6 (a 5, .inl (d, 64, .inl (upd (σ 5) j v))) = wX a d (up σ 5 j v) := by simp [wX, up_other, up_self, List.set]
theorem wX_set_6 : (wX a d σ).set 7 (a 6, .inl (d, 64, .inl (upd (σ 6) j v))) = wX a d (up σ 6 j v) := by simp [wX, up_other, up_self, List.set]
theorem wX_set_7 : (wX a d σ).set 8 (a 7, .inl (d, 4, .inl (upd (σ 7) j v))) = wX a d (up σ 7 j v) := by simp [wX, up_other, up_self, List.set]
theorem wX_set_8 : (wX a d σ).set 9 (a 8, .inl (d, 4, .inl (upd (σ 8) j v))) = wX a d (up σ 8 j v) := by simp [wX, up_other, up_self, List.set]
theorem wX_set_9 : (wX a d σ).set 10 (a 9, .inl (d, 16, .inl (upd (σ 9) j v))) = wX a d (up σ 9 j v) := by simp [wX, up_other, up_self, List.set]
theorem wM_set_0 : (wM a d σ).set 1 (a 0, .inl (d, 64, .inl (upd (σ 0) j v))) = wM a d (up σ 0 j v) := by simp [wM, up_other, up_self, List.set]
theorem wM_set_1 : (wM a d σ).set 2 (a 1, .inl (d, 1024, .inl (upd (σ 1) j v))) = wM a d (up σ 1 j v) := by simp [wM, up_other, up_self, List.set]
end SETS
end
section
set_option maxRecDepth 100000
theorem gwX1_47 : GoodIn lw_all (va_wsS RX1 47 yX1_isSize (ws_ yX1_isSize cX1_isSize 1 (some .boolean))) := lw_S q76 q77 q17 q78
theorem hdX1_isSize : yX1_isSize.cls ≠ "java/lang/invoke/MethodHandle" ∧ yX1_isSize.cls ≠ "java/lang/invoke/VarHandle" ∧ (parseMethodDescriptor yX1_isSize.desc).map (fun d => d.parameters.length) = some 1 := by decide +kernel
theorem gwX1_54 : GoodIn lw_all (va_wsS RX1 54 yX1_kindOf (ws_ yX1_kindOf cX1_kindOf 1 (some .int))) := lw_S q79 q80 q17 q81
theorem hdX1_kindOf : yX1_kindOf.cls ≠ "java/lang/invoke/MethodHandle" ∧ yX1_kindOf.cls ≠ "java/lang/invoke/VarHandle" ∧ (parseMethodDescriptor yX1_kindOf.desc).map (fun d => d.parameters.length) = some 1 := by decide +kernel
theorem gwX1_58 : GoodIn lw_all (wsV RX1 58 RX1 yX1_leastFree (ws_ yX1_leastFree cX1_leastFree 2 (some .int))) := lw_V q82 q84 qs0 q17 q85
theorem hdX1_leastFree : yX1_leastFree.cls = RX1 ∧ yX1_leastFree.cls ≠ "java/lang/invoke/MethodHandle" ∧ yX1_leastFree.cls ≠ "java/lang/invoke/VarHandle" ∧ (parseMethodDescriptor yX1_leastFree.desc).map (fun d => d.parameters.length) = some 0 := by decide +kernel
theorem gwX1_62 : GoodIn lw_all (wsV RX1 62 RX1 yX1_placeObject (ws_ yX1_placeObject cX1_placeObject 6 none)) := lw_V q86 q88 qs1 q17 q89
theorem hdX1_placeObject : yX1_placeObject.cls = RX1 ∧ yX1_placeObject.cls ≠ "java/lang/invoke/MethodHandle" ∧ yX1_placeObject.cls ≠ "java/lang/invoke/VarHandle" ∧ (parseMethodDescriptor yX1_placeObject.desc).map (fun d => d.parameters.length) = some 2 := by decide +kernel
theorem gwX1_66 : GoodIn lw_all (wsV RX1 66 RX1 yX1_wipe (ws_ yX1_wipe cX1_wipe 6 none)) := lw_V q93 q95 qs2 q17 q96
theorem hdX1_wipe : yX1_wipe.cls = RX1 ∧ yX1_wipe.cls ≠ "java/lang/invoke/MethodHandle" ∧ yX1_wipe.cls ≠ "java/lang/invoke/VarHandle" ∧ (parseMethodDescriptor yX1_wipe.desc).map (fun d => d.parameters.length) = some 3 := by decide +kernel
theorem gwX1_70 : GoodIn lw_all (wsV RX1 70 RX1 yX1_isGood (ws_ yX1_isGood cX1_isGood 2 (some .boolean))) := lw_V q105 q107 qs4 q17 q108
theorem hdX1_isGood : yX1_isGood.cls = RX1 ∧ yX1_isGood.cls ≠ "java/lang/invoke/MethodHandle" ∧ yX1_isGood.cls ≠ "java/lang/invoke/VarHandle" ∧ (parseMethodDescriptor yX1_isGood.desc).map (fun d => d.parameters.length) = some 1 := by decide +kernel
theorem gwX1_73 : GoodIn lw_all (wsV RX1 73 RX1 yX1_removeObject (ws_ yX1_removeObject cX1_removeObject 6 none)) := lw_V q109 q111 qs5 q17 q112
theorem hdX1_removeObject : yX1_removeObject.cls = RX1 ∧ yX1_removeObject.cls ≠ "java/lang/invoke/MethodHandle" ∧ yX1_removeObject.cls ≠ "java/lang/invoke/VarHandle" ∧ (parseMethodDescriptor yX1_removeObject.desc).map (fun d => d.parameters.length) = some 1 := by decide +kernel
theorem gwX1_77 : GoodIn lw_all (wsV RX1 77 RX1 yX1_neededAfter (ws_ yX1_neededAfter cX1_neededAfter 6 (some .int))) := lw_V q121 q123 qs7 q17 q124
theorem hdX1_neededAfter : yX1_neededAfter.cls = RX1 ∧ yX1_neededAfter.cls ≠ "java/lang/invoke/MethodHandle" ∧ yX1_neededAfter.cls ≠ "java/lang/invoke/VarHandle" ∧ (parseMethodDescriptor yX1_neededAfter.desc).map (fun d => d.parameters.length) = some 2 := by decide +kernel
theorem gwX1_81 : GoodIn lw_all (wsV RX1 81 RX1 yX1_word (ws_ yX1_word cX1_word 4 (some .int))) := lw_V q125 q127 qs8 q17 q128
theorem hdX1_word : yX1_word.cls = RX1 ∧ yX1_word.cls ≠ "java/lang/invoke/MethodHandle" ∧ yX1_word.cls ≠ "java/lang/invoke/VarHandle" ∧ (parseMethodDescriptor yX1_word.desc).map (fun d => d.parameters.length) = some 2 := by decide +kernel
theorem gwX1_84 : GoodIn lw_all (wsV RX1 84 RX1 yX1_baseOf (ws_ yX1_baseOf cX1_baseOf 2 (some .int))) := lw_V q97 q99 qs3 q17 q100
theorem hdX1_baseOf : yX1_baseOf.cls = RX1 ∧ yX1_baseOf.cls ≠ "java/lang/invoke/MethodHandle" ∧ yX1_baseOf.cls ≠ "java/lang/invoke/VarHandle" ∧ (parseMethodDescriptor yX1_baseOf.desc).map (fun d => d.parameters.length) = some 1 := by decide +kernel
theorem gwX1_87 : GoodIn lw_all (wsV RX1 87 RX1 yX1_allocate (ws_ yX1_allocate cX1_allocate 4 (some .int))) := lw_V q133 q73 q74 q17 q75
theorem hdX1_allocate : yX1_allocate.cls = RX1 ∧ yX1_allocate.cls ≠ "java/lang/invoke/MethodHandle" ∧ yX1_allocate.cls ≠ "java/lang/invoke/VarHandle" ∧ (parseMethodDescriptor yX1_allocate.desc).map (fun d => d.parameters.length) = some 1 := by decide +kernel
theorem gwX1_90 : GoodIn lw_all (va_wsS RX1 90 yX1_isKind (ws_ yX1_isKind cX1_isKind 1 (some .boolean))) := lw_S q138 q139 q17 q140
theorem hdX1_isKind : yX1_isKind.cls ≠ "java/lang/invoke/MethodHandle" ∧ yX1_isKind.cls ≠ "java/lang/invoke/VarHandle" ∧ (parseMethodDescriptor yX1_isKind.desc).map (fun d => d.parameters.length) = some 1 := by decide +kernel
theorem gwX1_93 : GoodIn lw_all (va_wsS RX1 93 yX1_capacity (ws_ yX1_capacity cX1_capacity 1 (some .int))) := lw_S q90 q91 q17 q92
theorem hdX1_capacity : yX1_capacity.cls ≠ "java/lang/invoke/MethodHandle" ∧ yX1_capacity.cls ≠ "java/lang/invoke/VarHandle" ∧ (parseMethodDescriptor yX1_capacity.desc).map (fun d => d.parameters.length) = some 1 := by decide +kernel
theorem gwX1_96 : GoodIn lw_all (wsV RX1 96 RX1 yX1_strangers (ws_ yX1_strangers cX1_strangers 5 (some .int))) := lw_V q193 q195 qs9 q17 q196
theorem hdX1_strangers : yX1_strangers.cls = RX1 ∧ yX1_strangers.cls ≠ "java/lang/invoke/MethodHandle" ∧ yX1_strangers.cls ≠ "java/lang/invoke/VarHandle" ∧ (parseMethodDescriptor yX1_strangers.desc).map (fun d => d.parameters.length) = some 1 := by decide +kernel
theorem gwX1_99 : GoodIn lw_all (wsV RX1 99 RX1 yX1_moveOne (ws_ yX1_moveOne cX1_moveOne 8 none)) := lw_V q113 q115 qs6 q17 q116
theorem hdX1_moveOne : yX1_moveOne.cls = RX1 ∧ yX1_moveOne.cls ≠ "java/lang/invoke/MethodHandle" ∧ yX1_moveOne.cls ≠ "java/lang/invoke/VarHandle" ∧ (parseMethodDescriptor yX1_moveOne.desc).map (fun d => d.parameters.length) = some 3 := by decide +kernel
set_option maxRecDepth 100000
theorem gwX2_20 : GoodIn lw_all (wsV RX2 20 RX2 yX2_kindOf (ws_ yX2_kindOf cX2_kindOf 2 (some .int))) := lw_V q228 q230 qs11 q18 q231
theorem hdX2_kindOf : yX2_kindOf.cls = RX2 ∧ yX2_kindOf.cls ≠ "java/lang/invoke/MethodHandle" ∧ yX2_kindOf.cls ≠ "java/lang/invoke/VarHandle" ∧ (parseMethodDescriptor yX2_kindOf.desc).map (fun d => d.parameters.length) = some 1 := by decide +kernel
theorem gwX2_24 : GoodIn lw_all (wsV RX2 24 RX2 yX2_alive (ws_ yX2_alive cX2_alive 4 (some .int))) := lw_V q236 q238 qs13 q18 q239
theorem hdX2_alive : yX2_alive.cls = RX2 ∧ yX2_alive.cls ≠ "java/lang/invoke/MethodHandle" ∧ yX2_alive.cls ≠ "java/lang/invoke/VarHandle" ∧ (parseMethodDescriptor yX2_alive.desc).map (fun d => d.parameters.length) = some 1 := by decide +kernel
theorem gwX2_27 : GoodIn lw_all (wsV RX2 27 RX2 yX2_leastFree (ws_ yX2_leastFree cX2_leastFree 2 (some .int))) := lw_V q224 q226 qs10 q18 q227
theorem hdX2_leastFree : yX2_leastFree.cls = RX2 ∧ yX2_leastFree.cls ≠ "java/lang/invoke/MethodHandle" ∧ yX2_leastFree.cls ≠ "java/lang/invoke/VarHandle" ∧ (parseMethodDescriptor yX2_leastFree.desc).map (fun d => d.parameters.length) = some 0 := by decide +kernel
theorem gwX2_31 : GoodIn lw_all (wsV RX2 31 RX2 yX2_needs (ws_ yX2_needs cX2_needs 9 (some .int))) := lw_V q232 q234 qs12 q18 q235
theorem hdX2_needs : yX2_needs.cls = RX2 ∧ yX2_needs.cls ≠ "java/lang/invoke/MethodHandle" ∧ yX2_needs.cls ≠ "java/lang/invoke/VarHandle" ∧ (parseMethodDescriptor yX2_needs.desc).map (fun d => d.parameters.length) = some 4 := by decide +kernel
theorem gwX2_35 : GoodIn lw_all (wsV RX2 35 RX2 yX2_wipe (ws_ yX2_wipe cX2_wipe 3 none)) := lw_V q240 q242 qs14 q18 q243
theorem hdX2_wipe : yX2_wipe.cls = RX2 ∧ yX2_wipe.cls ≠ "java/lang/invoke/MethodHandle" ∧ yX2_wipe.cls ≠ "java/lang/invoke/VarHandle" ∧ (parseMethodDescriptor yX2_wipe.desc).map (fun d => d.parameters.length) = some 1 := by decide +kernel
theorem gwX2_39 : GoodIn lw_all (wsV RX2 39 RX2 yX2_bad (ws_ yX2_bad cX2_bad 2 (some .boolean))) := lw_V q248 q250 qs15 q18 q251
theorem hdX2_bad : yX2_bad.cls = RX2 ∧ yX2_bad.cls ≠ "java/lang/invoke/MethodHandle" ∧ yX2_bad.cls ≠ "java/lang/invoke/VarHandle" ∧ (parseMethodDescriptor yX2_bad.desc).map (fun d => d.parameters.length) = some 1 := by decide +kernel
theorem gwX2_43 : GoodIn lw_all (wsV RX2 43 RX2 yX2_allocate (ws_ yX2_allocate cX2_allocate 4 (some .int))) := lw_V q260 q221 q222 q18 q223
theorem hdX2_allocate : yX2_allocate.cls = RX2 ∧ yX2_allocate.cls ≠ "java/lang/invoke/MethodHandle" ∧ yX2_allocate.cls ≠ "java/lang/invoke/VarHandle" ∧ (parseMethodDescriptor yX2_allocate.desc).map (fun d => d.parameters.length) = some 1 := by decide +kernel
end
section
set_option maxRecDepth 100000
def X1_pages (σ : St) (K : Int32 → St → Prop) : Prop :=
  K (σ 10 0) σ
def X1_isSize (x1 : Int32) (σ : St) (K : Int32 → St → Prop) : Prop :=
  (x1 < 1 → (K 0 σ)) ∧ (¬ x1 < 1 → ((16 < x1 → (K 0 σ)) ∧ (¬ 16 < x1 → (K 1 σ))))
def X1_isKind (x1 : Int32) (σ : St) (K : Int32 → St → Prop) : Prop :=
  (x1 < 0 → (K 0 σ)) ∧ (¬ x1 < 0 → ((3 < x1 → (K 0 σ)) ∧ (¬ 3 < x1 → (K 1 σ))))
def X1_kindOf (x1 : Int32) (σ : St) (K : Int32 → St → Prop) : Prop :=
  (2 < x1 → ((4 < x1 → ((8 < x1 → (K 3 σ)) ∧ (¬ 8 < x1 → (K 2 σ)))) ∧ (¬ 4 < x1 → (K 1 σ)))) ∧ (¬ 2 < x1 → (K 0 σ))
def X1_capacity (x1 : Int32) (σ : St) (K : Int32 → St → Prop) : Prop :=
  K (8 >>> (x1 &&& 31)) σ
def X1_isGood (x1 : Int32) (σ : St) (K : Int32 → St → Prop) : Prop :=
  (x1 < 0 → (K 0 σ)) ∧ (¬ x1 < 0 → ((64 ≤ x1 → (K 0 σ)) ∧ (¬ 64 ≤ x1 → (∃ j4 : Nat, x1 = nI j4 ∧ j4 < 64 ∧ (((σ 6 j4) ≤ 0 → (K 0 σ)) ∧ (¬ (σ 6 j4) ≤ 0 → (K 1 σ)))))))
def X1_baseOf (x1 : Int32) (σ : St) (K : Int32 → St → Prop) : Prop :=
  ∃ j2 : Nat, x1 = nI j2 ∧ j2 < 64 ∧ (∃ j3 : Nat, x1 = nI j3 ∧ j3 < 64 ∧ (∃ j4 : Nat, x1 = nI j4 ∧ j4 < 64 ∧ (∃ j5 : Nat, (σ 4 j4) = nI j5 ∧ j5 < 12 ∧ (K ((16 * (σ 4 j2)) + ((σ 5 j3) <<< (((σ 1 j5) + 1) &&& 31))) σ))))
def X1_word (x1 x2 : Int32) (σ : St) (K : Int32 → St → Prop) : Prop :=
  X1_baseOf x1 σ (fun r4 σ3 => ∃ j5 : Nat, (r4 + x2) = nI j5 ∧ j5 < 192 ∧ (K (σ3 0 j5) σ3))
def X1_wipe_L10 (K : St → Prop) : Nat → Int32 → Int32 → Int32 → St → Prop
  | 0, _, _, _, _ => False
  | n + 1, y3, y4, y5, σ => (y3 ≤ y5 → (K σ)) ∧ (¬ y3 ≤ y5 → (∃ j7 : Nat, (y4 + y5) = nI j7 ∧ j7 < 192 ∧ ∀ σ8 : St, σ8 = up σ 0 j7 0 → (∀ x9 : Int32, x9 = y5 + 1 → (X1_wipe_L10 K n y3 y4 x9 σ8))))
def X1_wipe (x1 x2 x3 : Int32) (σ : St) (K : St → Prop) : Prop :=
  X1_baseOf x1 σ (fun r5 σ4 => ∃ n10 : Nat, X1_wipe_L10 K n10 x3 r5 x2 σ4)
def X1_leastFree_L2 (K : Int32 → St → Prop) : Nat → Int32 → St → Prop
  | 0, _, _ => False
  | n + 1, y1, σ => (64 ≤ y1 → (K 0 σ)) ∧ (¬ 64 ≤ y1 → (∃ j2 : Nat, y1 = nI j2 ∧ j2 < 64 ∧ (((σ 6 j2) = 0 → (K y1 σ)) ∧ (¬ (σ 6 j2) = 0 → (∀ x4 : Int32, x4 = y1 + 1 → (X1_leastFree_L2 K n x4 σ))))))
def X1_leastFree (σ : St) (K : Int32 → St → Prop) : Prop :=
  ∃ n5 : Nat, X1_leastFree_L2 K n5 0 σ
def X1_neededAfter_B58 (K : Int32 → St → Prop) (y2 y4 y5 : Int32) (σ : St) : Prop :=
  ∃ j11 : Nat, y2 = nI j11 ∧ j11 < 4 ∧ (((σ 7 j11) = (-1) → (∀ x13 : Int32, x13 = y5 + 1 → (K x13 σ))) ∧ (¬ (σ 7 j11) = (-1) → (∃ j14 : Nat, y2 = nI j14 ∧ j14 < 4 ∧ (∃ j15 : Nat, (σ 7 j14) = nI j15 ∧ j15 < 12 ∧ (((σ 2 j15) = y4 → (∀ x17 : Int32, x17 = y5 + 1 → (K x17 σ))) ∧ (¬ (σ 2 j15) = y4 → (K y5 σ)))))))
def X1_neededAfter_B55 (K : Int32 → St → Prop) (y2 y4 y5 : Int32) (σ : St) : Prop :=
  ∀ x18 : Int32, x18 = y5 + (-1) → (X1_neededAfter_B58 K y2 y4 x18 σ)
def X1_neededAfter (x1 x2 : Int32) (σ : St) (K : Int32 → St → Prop) : Prop :=
  X1_capacity x1 σ (fun r4 σ3 => X1_capacity x2 σ3 (fun r6 σ5 => ∀ x7 : Int32, x7 = ((σ5 10 0) - (σ5 10 1)) → (∃ j8 : Nat, x1 = nI j8 ∧ j8 < 4 ∧ (((σ5 7 j8) = (-1) → ((r4 = 1 → (X1_neededAfter_B55 K x2 r6 x7 σ5)) ∧ (¬ r4 = 1 → (X1_neededAfter_B58 K x2 r6 x7 σ5)))) ∧ (¬ (σ5 7 j8) = (-1) → (∃ j19 : Nat, x1 = nI j19 ∧ j19 < 4 ∧ (∃ j20 : Nat, (σ5 7 j19) = nI j20 ∧ j20 < 12 ∧ (((σ5 2 j20) = 1 → (X1_neededAfter_B55 K x2 r6 x7 σ5)) ∧ (¬ (σ5 2 j20) = 1 → (X1_neededAfter_B58 K x2 r6 x7 σ5))))))))))
def X1_placeObject_B107 (K : St → Prop) (y1 y2 y3 y4 y5 : Int32) (σ : St) : Prop :=
  ∃ j9 : Nat, ((8 * y3) + y5) = nI j9 ∧ j9 < 96 ∧ ∀ σ10 : St, σ10 = up σ 3 j9 y1 → (∃ j11 : Nat, y1 = nI j11 ∧ j11 < 64 ∧ ∀ σ12 : St, σ12 = up σ10 4 j11 y3 → (∃ j13 : Nat, y1 = nI j13 ∧ j13 < 64 ∧ ∀ σ14 : St, σ14 = up σ12 5 j13 y5 → (∃ j15 : Nat, y3 = nI j15 ∧ j15 < 12 ∧ (∃ j16 : Nat, y3 = nI j16 ∧ j16 < 12 ∧ ∀ σ17 : St, σ17 = up σ14 2 j16 ((σ14 2 j15) + 1) → (∃ j18 : Nat, y2 = nI j18 ∧ j18 < 4 ∧ (∃ j19 : Nat, y2 = nI j19 ∧ j19 < 4 ∧ ∀ σ20 : St, σ20 = up σ17 8 j19 ((σ17 8 j18) + 1) → (∀ σ21 : St, σ21 = up σ20 10 2 ((σ20 10 2) + 1) → (∃ j22 : Nat, y3 = nI j22 ∧ j22 < 12 ∧ (((σ21 2 j22) = y4 → (∃ j24 : Nat, y2 = nI j24 ∧ j24 < 4 ∧ ∀ σ25 : St, σ25 = up σ21 7 j24 (-1) → (K σ25))) ∧ (¬ (σ21 2 j22) = y4 → (K σ21)))))))))))
def X1_placeObject_L76 (K : St → Prop) : Nat → Int32 → Int32 → Int32 → Int32 → Int32 → St → Prop
  | 0, _, _, _, _, _, _ => False
  | n + 1, y1, y2, y3, y4, y5, σ => ((y4 - 1) ≤ y5 → (X1_placeObject_B107 K y1 y2 y3 y4 y5 σ)) ∧ (¬ (y4 - 1) ≤ y5 → (∃ j26 : Nat, ((8 * y3) + y5) = nI j26 ∧ j26 < 96 ∧ (((σ 3 j26) = (-1) → (X1_placeObject_B107 K y1 y2 y3 y4 y5 σ)) ∧ (¬ (σ 3 j26) = (-1) → (∀ x28 : Int32, x28 = y5 + 1 → (X1_placeObject_L76 K n y1 y2 y3 y4 x28 σ))))))
def X1_placeObject_B67 (K : St → Prop) (y1 y2 y3 : Int32) (σ : St) : Prop :=
  X1_capacity y2 σ (fun r7 σ6 => ∃ n29 : Nat, X1_placeObject_L76 K n29 y1 y2 y3 r7 0 σ6)
def X1_placeObject_B36 (K : St → Prop) (y1 y2 y3 : Int32) (σ : St) : Prop :=
  ∃ j31 : Nat, y3 = nI j31 ∧ j31 < 12 ∧ ∀ σ32 : St, σ32 = up σ 1 j31 y2 → (∃ j33 : Nat, y3 = nI j33 ∧ j33 < 12 ∧ ∀ σ34 : St, σ34 = up σ32 2 j33 0 → (∀ σ35 : St, σ35 = up σ34 10 1 ((σ34 10 1) - 1) → (∃ j36 : Nat, y2 = nI j36 ∧ j36 < 4 ∧ ∀ σ37 : St, σ37 = up σ35 7 j36 y3 → (X1_placeObject_B67 K y1 y2 y3 σ37))))
def X1_placeObject_L14 (K : St → Prop) : Nat → Int32 → Int32 → Int32 → St → Prop
  | 0, _, _, _, _ => False
  | n + 1, y1, y2, y3, σ => (11 ≤ y3 → (X1_placeObject_B36 K y1 y2 y3 σ)) ∧ (¬ 11 ≤ y3 → (∃ j38 : Nat, y3 = nI j38 ∧ j38 < 12 ∧ (((σ 1 j38) = (-1) → (X1_placeObject_B36 K y1 y2 y3 σ)) ∧ (¬ (σ 1 j38) = (-1) → (∀ x40 : Int32, x40 = y3 + 1 → (X1_placeObject_L14 K n y1 y2 x40 σ))))))
def X1_placeObject (x1 x2 : Int32) (σ : St) (K : St → Prop) : Prop :=
  ∃ j3 : Nat, x2 = nI j3 ∧ j3 < 4 ∧ (∀ x4 : Int32, x4 = (σ 7 j3) → ((x4 = (-1) → (∃ n41 : Nat, X1_placeObject_L14 K n41 x1 x2 0 σ)) ∧ (¬ x4 = (-1) → (X1_placeObject_B67 K x1 x2 x4 σ))))
def X1_moveOne_L58 (K : St → Prop) : Nat → Int32 → Int32 → Int32 → Int32 → Int32 → Int32 → Int32 → St → Prop
  | 0, _, _, _, _, _, _, _, _ => False
  | n + 1, y1, y2, y3, y4, y5, y6, y7, σ => (y6 ≤ y7 → (∃ j10 : Nat, ((8 * y1) + y4) = nI j10 ∧ j10 < 96 ∧ ∀ σ11 : St, σ11 = up σ 3 j10 (-1) → (∃ j12 : Nat, ((8 * y2) + y3) = nI j12 ∧ j12 < 96 ∧ ∀ σ13 : St, σ13 = up σ11 3 j12 y5 → (∃ j14 : Nat, y5 = nI j14 ∧ j14 < 64 ∧ ∀ σ15 : St, σ15 = up σ13 4 j14 y2 → (∃ j16 : Nat, y5 = nI j16 ∧ j16 < 64 ∧ ∀ σ17 : St, σ17 = up σ15 5 j16 y3 → (∃ j18 : Nat, y1 = nI j18 ∧ j18 < 12 ∧ (∃ j19 : Nat, y1 = nI j19 ∧ j19 < 12 ∧ ∀ σ20 : St, σ20 = up σ17 2 j19 ((σ17 2 j18) - 1) → (∃ j21 : Nat, y2 = nI j21 ∧ j21 < 12 ∧ (∃ j22 : Nat, y2 = nI j22 ∧ j22 < 12 ∧ ∀ σ23 : St, σ23 = up σ20 2 j22 ((σ20 2 j21) + 1) → (K σ23)))))))))) ∧ (¬ y6 ≤ y7 → (∃ j24 : Nat, (((16 * y1) + (y4 * y6)) + y7) = nI j24 ∧ j24 < 192 ∧ (∃ j25 : Nat, (((16 * y2) + (y3 * y6)) + y7) = nI j25 ∧ j25 < 192 ∧ ∀ σ26 : St, σ26 = up σ 0 j25 (σ 0 j24) → (∀ x27 : Int32, x27 = y7 + 1 → (X1_moveOne_L58 K n y1 y2 y3 y4 y5 y6 x27 σ26)))))
def X1_moveOne_B31 (K : St → Prop) (y1 y2 y3 y4 : Int32) (σ : St) : Prop :=
  ∃ j5 : Nat, ((8 * y1) + y4) = nI j5 ∧ j5 < 96 ∧ (∀ x6 : Int32, x6 = (σ 3 j5) → (∃ j7 : Nat, y2 = nI j7 ∧ j7 < 12 ∧ (∀ x8 : Int32, x8 = (2 <<< ((σ 1 j7) &&& 31)) → (∃ n28 : Nat, X1_moveOne_L58 K n28 y1 y2 y3 y4 x6 x8 0 σ))))
def X1_moveOne_L4 (K : St → Prop) : Nat → Int32 → Int32 → Int32 → Int32 → St → Prop
  | 0, _, _, _, _, _ => False
  | n + 1, y1, y2, y3, y4, σ => (y4 ≤ 0 → (X1_moveOne_B31 K y1 y2 y3 y4 σ)) ∧ (¬ y4 ≤ 0 → (∃ j29 : Nat, ((8 * y1) + y4) = nI j29 ∧ j29 < 96 ∧ (((σ 3 j29) = (-1) → (∀ x31 : Int32, x31 = y4 + (-1) → (X1_moveOne_L4 K n y1 y2 y3 x31 σ))) ∧ (¬ (σ 3 j29) = (-1) → (X1_moveOne_B31 K y1 y2 y3 y4 σ)))))
def X1_moveOne (x1 x2 x3 : Int32) (σ : St) (K : St → Prop) : Prop :=
  ∃ n32 : Nat, X1_moveOne_L4 K n32 x1 x2 x3 7 σ
def X1_removeObject_B108 (K : St → Prop) (y4 y5 : Int32) (σ : St) : Prop :=
  ∃ j21 : Nat, y5 = nI j21 ∧ j21 < 12 ∧ (((σ 2 j21) = 0 → (∃ j23 : Nat, y5 = nI j23 ∧ j23 < 12 ∧ ∀ σ24 : St, σ24 = up σ 1 j23 (-1) → (∃ j25 : Nat, y4 = nI j25 ∧ j25 < 4 ∧ ∀ σ26 : St, σ26 = up σ24 7 j25 (-1) → (∀ σ27 : St, σ27 = up σ26 10 1 ((σ26 10 1) + 1) → (K σ27))))) ∧ (¬ (σ 2 j21) = 0 → (K σ)))
def X1_removeObject (x1 : Int32) (σ : St) (K : St → Prop) : Prop :=
  ∃ j2 : Nat, x1 = nI j2 ∧ j2 < 64 ∧ (∀ x3 : Int32, x3 = (σ 4 j2) → (∃ j4 : Nat, x1 = nI j4 ∧ j4 < 64 ∧ (∀ x5 : Int32, x5 = (σ 5 j4) → (∃ j6 : Nat, x3 = nI j6 ∧ j6 < 12 ∧ (∀ x7 : Int32, x7 = (σ 1 j6) → (∃ j8 : Nat, ((8 * x3) + x5) = nI j8 ∧ j8 < 96 ∧ ∀ σ9 : St, σ9 = up σ 3 j8 (-1) → (∃ j10 : Nat, x3 = nI j10 ∧ j10 < 12 ∧ (∃ j11 : Nat, x3 = nI j11 ∧ j11 < 12 ∧ ∀ σ12 : St, σ12 = up σ9 2 j11 ((σ9 2 j10) - 1) → (∃ j13 : Nat, x7 = nI j13 ∧ j13 < 4 ∧ (∃ j14 : Nat, x7 = nI j14 ∧ j14 < 4 ∧ ∀ σ15 : St, σ15 = up σ12 8 j14 ((σ12 8 j13) - 1) → (∀ σ16 : St, σ16 = up σ15 10 2 ((σ15 10 2) - 1) → (∃ j17 : Nat, x7 = nI j17 ∧ j17 < 4 ∧ (∀ x18 : Int32, x18 = (σ16 7 j17) → ((x18 = (-1) → (∃ j29 : Nat, x7 = nI j29 ∧ j29 < 4 ∧ ∀ σ30 : St, σ30 = up σ16 7 j29 x3 → (X1_removeObject_B108 K x7 x3 σ30))) ∧ (¬ x18 = (-1) → ((x18 = x3 → (X1_removeObject_B108 K x7 x18 σ16)) ∧ (¬ x18 = x3 → (X1_moveOne x18 x3 x5 σ16 (fun σ28 => X1_removeObject_B108 K x7 x18 σ28)))))))))))))))))))
def X1_strangers_L4 (K : Int32 → St → Prop) : Nat → Int32 → Int32 → Int32 → St → Prop
  | 0, _, _, _, _ => False
  | n + 1, y1, y2, y3, σ => (8 ≤ y3 → (K y2 σ)) ∧ (¬ 8 ≤ y3 → (∃ j3 : Nat, ((8 * y1) + y3) = nI j3 ∧ j3 < 96 ∧ (∀ x4 : Int32, x4 = (σ 3 j3) → ((x4 = (-1) → (∀ x6 : Int32, x6 = y3 + 1 → (X1_strangers_L4 K n y1 y2 x6 σ))) ∧ (¬ x4 = (-1) → (∃ j7 : Nat, x4 = nI j7 ∧ j7 < 64 ∧ (((σ 4 j7) = y1 → (∃ j11 : Nat, x4 = nI j11 ∧ j11 < 64 ∧ (((σ 5 j11) = y3 → (∃ j15 : Nat, x4 = nI j15 ∧ j15 < 64 ∧ (X1_kindOf (σ 6 j15) σ (fun r17 σ16 => ∃ j18 : Nat, y1 = nI j18 ∧ j18 < 12 ∧ ((r17 = (σ16 1 j18) → (∀ x20 : Int32, x20 = y3 + 1 → (X1_strangers_L4 K n y1 y2 x20 σ16))) ∧ (¬ r17 = (σ16 1 j18) → (∀ x21 : Int32, x21 = y2 + 1 → (∀ x22 : Int32, x22 = y3 + 1 → (X1_strangers_L4 K n y1 x21 x22 σ16))))))))) ∧ (¬ (σ 5 j11) = y3 → (∀ x13 : Int32, x13 = y2 + 1 → (∀ x14 : Int32, x14 = y3 + 1 → (X1_strangers_L4 K n y1 x13 x14 σ))))))) ∧ (¬ (σ 4 j7) = y1 → (∀ x9 : Int32, x9 = y2 + 1 → (∀ x10 : Int32, x10 = y3 + 1 → (X1_strangers_L4 K n y1 x9 x10 σ)))))))))))
def X1_strangers (x1 : Int32) (σ : St) (K : Int32 → St → Prop) : Prop :=
  ∃ n23 : Nat, X1_strangers_L4 K n23 x1 0 0 σ
def X1_allocate_B46 (K : Int32 → St → Prop) (y1 y2 : Int32) (σ : St) : Prop :=
  X1_leastFree σ (fun r11 σ10 => ∃ j12 : Nat, r11 = nI j12 ∧ j12 < 64 ∧ ∀ σ13 : St, σ13 = up σ10 6 j12 y1 → (X1_placeObject r11 y2 σ13 (fun σ14 => X1_wipe r11 0 y1 σ14 (fun σ15 => K r11 σ15))))
def X1_allocate (x1 : Int32) (σ : St) (K : Int32 → St → Prop) : Prop :=
  X1_isSize x1 σ (fun r3 σ2 => (r3 = 0 → (K (-1) σ2)) ∧ (¬ r3 = 0 → (((σ2 10 2) = 64 → (K (-2) σ2)) ∧ (¬ (σ2 10 2) = 64 → (X1_kindOf x1 σ2 (fun r7 σ6 => ∃ j8 : Nat, r7 = nI j8 ∧ j8 < 4 ∧ (((σ6 7 j8) = (-1) → (((σ6 10 1) = 0 → (K (-3) σ6)) ∧ (¬ (σ6 10 1) = 0 → (X1_allocate_B46 K x1 r7 σ6)))) ∧ (¬ (σ6 7 j8) = (-1) → (X1_allocate_B46 K x1 r7 σ6)))))))))
def X1_free (x1 : Int32) (σ : St) (K : Int32 → St → Prop) : Prop :=
  X1_isGood x1 σ (fun r3 σ2 => (r3 = 0 → (K (-1) σ2)) ∧ (¬ r3 = 0 → (∃ j5 : Nat, x1 = nI j5 ∧ j5 < 64 ∧ (∀ x6 : Int32, x6 = (σ2 6 j5) → (X1_removeObject x1 σ2 (fun σ7 => ∃ j8 : Nat, x1 = nI j8 ∧ j8 < 64 ∧ ∀ σ9 : St, σ9 = up σ7 6 j8 0 → (K x6 σ9)))))))
def X1_resize_L133 (K : Int32 → St → Prop) : Nat → Int32 → Int32 → Int32 → Int32 → St → Prop
  | 0, _, _, _, _, _ => False
  | n + 1, y2, y3, y6, y7, σ => (y2 ≤ y7 → (K y3 σ)) ∧ (¬ y2 ≤ y7 → (∃ j30 : Nat, y7 = nI j30 ∧ j30 < 16 ∧ (∃ j31 : Nat, (y6 + y7) = nI j31 ∧ j31 < 192 ∧ ∀ σ32 : St, σ32 = up σ 0 j31 (σ 9 j30) → (∀ x33 : Int32, x33 = y7 + 1 → (X1_resize_L133 K n y2 y3 y6 x33 σ32)))))
def X1_resize_L67 (K : Int32 → St → Prop) : Nat → Int32 → Int32 → Int32 → Int32 → Int32 → St → Prop
  | 0, _, _, _, _, _, _ => False
  | n + 1, y1, y2, y3, y5, y6, σ => (16 ≤ y6 → (X1_removeObject y1 σ (fun σ23 => ∃ j24 : Nat, y1 = nI j24 ∧ j24 < 64 ∧ ∀ σ25 : St, σ25 = up σ23 6 j24 y2 → (X1_placeObject y1 y5 σ25 (fun σ26 => X1_baseOf y1 σ26 (fun r28 σ27 => ∃ n34 : Nat, X1_resize_L133 K n34 y2 y3 r28 0 σ27)))))) ∧ (¬ 16 ≤ y6 → ((y3 ≤ y6 → (∃ j36 : Nat, y6 = nI j36 ∧ j36 < 16 ∧ ∀ σ37 : St, σ37 = up σ 9 j36 0 → (∀ x38 : Int32, x38 = y6 + 1 → (X1_resize_L67 K n y1 y2 y3 y5 x38 σ37)))) ∧ (¬ y3 ≤ y6 → (X1_word y1 y6 σ (fun r40 σ39 => ∃ j41 : Nat, y6 = nI j41 ∧ j41 < 16 ∧ ∀ σ42 : St, σ42 = up σ39 9 j41 r40 → (∀ x43 : Int32, x43 = y6 + 1 → (X1_resize_L67 K n y1 y2 y3 y5 x43 σ42)))))))
def X1_resize (x1 x2 : Int32) (σ : St) (K : Int32 → St → Prop) : Prop :=
  X1_isGood x1 σ (fun r4 σ3 => (r4 = 0 → (K (-1) σ3)) ∧ (¬ r4 = 0 → (X1_isSize x2 σ3 (fun r7 σ6 => (r7 = 0 → (K (-2) σ6)) ∧ (¬ r7 = 0 → (∃ j9 : Nat, x1 = nI j9 ∧ j9 < 64 ∧ (∀ x10 : Int32, x10 = (σ6 6 j9) → (X1_kindOf x10 σ6 (fun r12 σ11 => X1_kindOf x2 σ11 (fun r14 σ13 => (r12 = r14 → (∃ j16 : Nat, x1 = nI j16 ∧ j16 < 64 ∧ ∀ σ17 : St, σ17 = up σ13 6 j16 x2 → (X1_wipe x1 x10 x2 σ17 (fun σ18 => K x10 σ18)))) ∧ (¬ r12 = r14 → (X1_neededAfter r12 r14 σ13 (fun r20 σ19 => (r20 ≤ (σ19 10 0) → (∃ n44 : Nat, X1_resize_L67 K n44 x1 x2 x10 r14 0 σ19)) ∧ (¬ r20 ≤ (σ19 10 0) → (K (-3) σ19)))))))))))))))
def X1_copy_L46 (K : Int32 → St → Prop) : Nat → Int32 → Int32 → Int32 → Int32 → Int32 → St → Prop
  | 0, _, _, _, _, _, _ => False
  | n + 1, y2, y3, y4, y5, y6, σ => (y2 ≤ y6 → (K y3 σ)) ∧ (¬ y2 ≤ y6 → (∃ j15 : Nat, (y4 + y6) = nI j15 ∧ j15 < 192 ∧ (∃ j16 : Nat, (y5 + y6) = nI j16 ∧ j16 < 192 ∧ ∀ σ17 : St, σ17 = up σ 0 j16 (σ 0 j15) → (∀ x18 : Int32, x18 = y6 + 1 → (X1_copy_L46 K n y2 y3 y4 y5 x18 σ17)))))
def X1_copy (x1 : Int32) (σ : St) (K : Int32 → St → Prop) : Prop :=
  X1_isGood x1 σ (fun r3 σ2 => (r3 = 0 → (K (-1) σ2)) ∧ (¬ r3 = 0 → (∃ j5 : Nat, x1 = nI j5 ∧ j5 < 64 ∧ (∀ x6 : Int32, x6 = (σ2 6 j5) → (X1_allocate x6 σ2 (fun r8 σ7 => (0 ≤ r8 → (X1_baseOf x1 σ7 (fun r11 σ10 => X1_baseOf r8 σ10 (fun r13 σ12 => ∃ n19 : Nat, X1_copy_L46 K n19 x6 r8 r11 r13 0 σ12)))) ∧ (¬ 0 ≤ r8 → (K r8 σ7))))))))
def X1_freeClass_L13 (K : Int32 → St → Prop) : Nat → Int32 → Int32 → Int32 → St → Prop
  | 0, _, _, _, _ => False
  | n + 1, y1, y2, y3, σ => (64 ≤ y3 → (K y2 σ)) ∧ (¬ 64 ≤ y3 → (∃ j6 : Nat, y3 = nI j6 ∧ j6 < 64 ∧ (((σ 6 j6) ≤ 0 → (∀ x8 : Int32, x8 = y3 + 1 → (X1_freeClass_L13 K n y1 y2 x8 σ))) ∧ (¬ (σ 6 j6) ≤ 0 → (∃ j9 : Nat, y3 = nI j9 ∧ j9 < 64 ∧ (∃ j10 : Nat, (σ 4 j9) = nI j10 ∧ j10 < 12 ∧ (((σ 1 j10) = y1 → (X1_removeObject y3 σ (fun σ13 => ∃ j14 : Nat, y3 = nI j14 ∧ j14 < 64 ∧ ∀ σ15 : St, σ15 = up σ13 6 j14 0 → (∀ x16 : Int32, x16 = y2 + 1 → (∀ x17 : Int32, x17 = y3 + 1 → (X1_freeClass_L13 K n y1 x16 x17 σ15)))))) ∧ (¬ (σ 1 j10) = y1 → (∀ x12 : Int32, x12 = y3 + 1 → (X1_freeClass_L13 K n y1 y2 x12 σ))))))))))
def X1_freeClass (x1 : Int32) (σ : St) (K : Int32 → St → Prop) : Prop :=
  X1_isKind x1 σ (fun r3 σ2 => (r3 = 0 → (K (-1) σ2)) ∧ (¬ r3 = 0 → (∃ n18 : Nat, X1_freeClass_L13 K n18 x1 0 0 σ2)))
def X1_read (x1 x2 : Int32) (σ : St) (K : Int32 → St → Prop) : Prop :=
  X1_isGood x1 σ (fun r4 σ3 => (r4 = 0 → (K 0 σ3)) ∧ (¬ r4 = 0 → ((x2 < 0 → (K 0 σ3)) ∧ (¬ x2 < 0 → (∃ j7 : Nat, x1 = nI j7 ∧ j7 < 64 ∧ (((σ3 6 j7) ≤ x2 → (K 0 σ3)) ∧ (¬ (σ3 6 j7) ≤ x2 → (X1_word x1 x2 σ3 (fun r10 σ9 => K r10 σ9)))))))))
def X1_write (x1 x2 x3 : Int32) (σ : St) (K : Int32 → St → Prop) : Prop :=
  X1_isGood x1 σ (fun r5 σ4 => (r5 = 0 → (K (-1) σ4)) ∧ (¬ r5 = 0 → ((x2 < 0 → (K (-2) σ4)) ∧ (¬ x2 < 0 → (∃ j8 : Nat, x1 = nI j8 ∧ j8 < 64 ∧ ((x2 < (σ4 6 j8) → (X1_baseOf x1 σ4 (fun r11 σ10 => ∃ j12 : Nat, (r11 + x2) = nI j12 ∧ j12 < 192 ∧ ∀ σ13 : St, σ13 = up σ10 0 j12 x3 → (K 0 σ13)))) ∧ (¬ x2 < (σ4 6 j8) → (K (-2) σ4))))))))
def X1_fill_L20 (K : Int32 → St → Prop) : Nat → Int32 → Int32 → Int32 → Int32 → Int32 → St → Prop
  | 0, _, _, _, _, _, _ => False
  | n + 1, y1, y2, y3, y4, y5, σ => ∃ j9 : Nat, y1 = nI j9 ∧ j9 < 64 ∧ (((σ 6 j9) ≤ y5 → (∃ j11 : Nat, y1 = nI j11 ∧ j11 < 64 ∧ (K (σ 6 j11) σ))) ∧ (¬ (σ 6 j9) ≤ y5 → (∃ j12 : Nat, (y4 + y5) = nI j12 ∧ j12 < 192 ∧ ∀ σ13 : St, σ13 = up σ 0 j12 (y2 + (y5 * y3)) → (∀ x14 : Int32, x14 = y5 + 1 → (X1_fill_L20 K n y1 y2 y3 y4 x14 σ13)))))
def X1_fill (x1 x2 x3 : Int32) (σ : St) (K : Int32 → St → Prop) : Prop :=
  X1_isGood x1 σ (fun r5 σ4 => (r5 = 0 → (K (-1) σ4)) ∧ (¬ r5 = 0 → (X1_baseOf x1 σ4 (fun r8 σ7 => ∃ n15 : Nat, X1_fill_L20 K n15 x1 x2 x3 r8 0 σ7))))
def X1_exchange (x1 x2 : Int32) (σ : St) (K : Int32 → St → Prop) : Prop :=
  X1_isGood x1 σ (fun r4 σ3 => (r4 = 0 → (K (-1) σ3)) ∧ (¬ r4 = 0 → (X1_isGood x2 σ3 (fun r7 σ6 => (r7 = 0 → (K (-1) σ6)) ∧ (¬ r7 = 0 → (∃ j9 : Nat, x1 = nI j9 ∧ j9 < 64 ∧ (∀ x10 : Int32, x10 = (σ6 4 j9) → (∃ j11 : Nat, x1 = nI j11 ∧ j11 < 64 ∧ (∀ x12 : Int32, x12 = (σ6 5 j11) → (∃ j13 : Nat, x1 = nI j13 ∧ j13 < 64 ∧ (∀ x14 : Int32, x14 = (σ6 6 j13) → (∃ j15 : Nat, x2 = nI j15 ∧ j15 < 64 ∧ (∃ j16 : Nat, x1 = nI j16 ∧ j16 < 64 ∧ ∀ σ17 : St, σ17 = up σ6 4 j16 (σ6 4 j15) → (∃ j18 : Nat, x2 = nI j18 ∧ j18 < 64 ∧ (∃ j19 : Nat, x1 = nI j19 ∧ j19 < 64 ∧ ∀ σ20 : St, σ20 = up σ17 5 j19 (σ17 5 j18) → (∃ j21 : Nat, x2 = nI j21 ∧ j21 < 64 ∧ (∃ j22 : Nat, x1 = nI j22 ∧ j22 < 64 ∧ ∀ σ23 : St, σ23 = up σ20 6 j22 (σ20 6 j21) → (∃ j24 : Nat, x2 = nI j24 ∧ j24 < 64 ∧ ∀ σ25 : St, σ25 = up σ23 4 j24 x10 → (∃ j26 : Nat, x2 = nI j26 ∧ j26 < 64 ∧ ∀ σ27 : St, σ27 = up σ25 5 j26 x12 → (∃ j28 : Nat, x2 = nI j28 ∧ j28 < 64 ∧ ∀ σ29 : St, σ29 = up σ27 6 j28 x14 → (∃ j30 : Nat, x1 = nI j30 ∧ j30 < 64 ∧ (∃ j31 : Nat, x1 = nI j31 ∧ j31 < 64 ∧ (∃ j32 : Nat, ((8 * (σ29 4 j30)) + (σ29 5 j31)) = nI j32 ∧ j32 < 96 ∧ ∀ σ33 : St, σ33 = up σ29 3 j32 x1 → (∃ j34 : Nat, x2 = nI j34 ∧ j34 < 64 ∧ (∃ j35 : Nat, x2 = nI j35 ∧ j35 < 64 ∧ (∃ j36 : Nat, ((8 * (σ33 4 j34)) + (σ33 5 j35)) = nI j36 ∧ j36 < 96 ∧ ∀ σ37 : St, σ37 = up σ33 3 j36 x2 → (K 0 σ37)))))))))))))))))))))))))))
def X1_size (x1 : Int32) (σ : St) (K : Int32 → St → Prop) : Prop :=
  X1_isGood x1 σ (fun r3 σ2 => (r3 = 0 → (K 0 σ2)) ∧ (¬ r3 = 0 → (∃ j5 : Nat, x1 = nI j5 ∧ j5 < 64 ∧ (K (σ2 6 j5) σ2))))
def X1_live (σ : St) (K : Int32 → St → Prop) : Prop :=
  K (σ 10 2) σ
def X1_liveIn (x1 : Int32) (σ : St) (K : Int32 → St → Prop) : Prop :=
  X1_isKind x1 σ (fun r3 σ2 => (r3 = 0 → (K (-1) σ2)) ∧ (¬ r3 = 0 → (∃ j5 : Nat, x1 = nI j5 ∧ j5 < 4 ∧ (K (σ2 8 j5) σ2))))
def X1_needed (σ : St) (K : Int32 → St → Prop) : Prop :=
  K ((σ 10 0) - (σ 10 1)) σ
def X1_roomFor (x1 : Int32) (σ : St) (K : Int32 → St → Prop) : Prop :=
  X1_isKind x1 σ (fun r3 σ2 => (r3 = 0 → (K (-1) σ2)) ∧ (¬ r3 = 0 → (X1_capacity x1 σ2 (fun r6 σ5 => ∀ x7 : Int32, x7 = ((σ5 10 1) * r6) → (∃ j8 : Nat, x1 = nI j8 ∧ j8 < 4 ∧ (((σ5 7 j8) = (-1) → (K x7 σ5)) ∧ (¬ (σ5 7 j8) = (-1) → (∃ j10 : Nat, x1 = nI j10 ∧ j10 < 4 ∧ (∃ j11 : Nat, (σ5 7 j10) = nI j11 ∧ j11 < 12 ∧ (∀ x12 : Int32, x12 = (x7 + (r6 - (σ5 2 j11))) → (K x12 σ5)))))))))))
def X1_sum_L14 (K : Int32 → St → Prop) : Nat → Int32 → Int32 → Int32 → St → Prop
  | 0, _, _, _, _ => False
  | n + 1, y1, y2, y3, σ => ∃ j5 : Nat, y1 = nI j5 ∧ j5 < 64 ∧ (((σ 6 j5) ≤ y3 → (K y2 σ)) ∧ (¬ (σ 6 j5) ≤ y3 → (X1_word y1 y3 σ (fun r8 σ7 => ∀ x9 : Int32, x9 = (y2 + r8) → (∀ x10 : Int32, x10 = y3 + 1 → (X1_sum_L14 K n y1 x9 x10 σ7))))))
def X1_sum (x1 : Int32) (σ : St) (K : Int32 → St → Prop) : Prop :=
  X1_isGood x1 σ (fun r3 σ2 => (r3 = 0 → (K 0 σ2)) ∧ (¬ r3 = 0 → (∃ n11 : Nat, X1_sum_L14 K n11 x1 0 0 σ2)))
def X1_next_L10 (K : Int32 → St → Prop) : Nat → Int32 → St → Prop
  | 0, _, _ => False
  | n + 1, y2, σ => (64 ≤ y2 → (K (-1) σ)) ∧ (¬ 64 ≤ y2 → (∃ j4 : Nat, y2 = nI j4 ∧ j4 < 64 ∧ (((σ 6 j4) ≤ 0 → (∀ x6 : Int32, x6 = y2 + 1 → (X1_next_L10 K n x6 σ))) ∧ (¬ (σ 6 j4) ≤ 0 → (K y2 σ)))))
def X1_next (x1 : Int32) (σ : St) (K : Int32 → St → Prop) : Prop :=
  (0 ≤ x1 → (∃ n7 : Nat, X1_next_L10 K n7 x1 σ)) ∧ (¬ 0 ≤ x1 → (∃ n8 : Nat, X1_next_L10 K n8 0 σ))
def X1_count_L13 (X : Int32 → Int32 → Int32 → St → Prop) : Nat → Int32 → Int32 → Int32 → Int32 → St → Prop
  | 0, _, _, _, _, _ => False
  | n + 1, y1, y2, y3, y4, σ => ∃ j3 : Nat, y3 = nI j3 ∧ j3 < 64 ∧ (((σ 6 j3) ≤ y4 → (X y1 y2 y3 σ)) ∧ (¬ (σ 6 j3) ≤ y4 → (X1_word y3 y4 σ (fun r6 σ5 => (r6 = y1 → (∀ x9 : Int32, x9 = y2 + 1 → (∀ x10 : Int32, x10 = y4 + 1 → (X1_count_L13 X n y1 x9 y3 x10 σ5)))) ∧ (¬ r6 = y1 → (∀ x8 : Int32, x8 = y4 + 1 → (X1_count_L13 X n y1 y2 y3 x8 σ5)))))))
def X1_count_L4 (K : Int32 → St → Prop) : Nat → Int32 → Int32 → Int32 → St → Prop
  | 0, _, _, _, _ => False
  | n + 1, y1, y2, y3, σ => (64 ≤ y3 → (K y2 σ)) ∧ (¬ 64 ≤ y3 → (∃ n11 : Nat, X1_count_L13 (fun x12 x13 x14 σ15 => ∀ x16 : Int32, x16 = x14 + 1 → (X1_count_L4 K n x12 x13 x16 σ15)) n11 y1 y2 y3 0 σ))
def X1_count (x1 : Int32) (σ : St) (K : Int32 → St → Prop) : Prop :=
  ∃ n17 : Nat, X1_count_L4 K n17 x1 0 0 σ
def X1_faults_L4 (K : Int32 → St → Prop) : Nat → Int32 → Int32 → St → Prop
  | 0, _, _, _ => False
  | n + 1, y1, y2, σ => ((σ 10 0) ≤ y2 → (K y1 σ)) ∧ (¬ (σ 10 0) ≤ y2 → (∃ j2 : Nat, y2 = nI j2 ∧ j2 < 12 ∧ (((σ 1 j2) = (-1) → (∀ x4 : Int32, x4 = y2 + 1 → (X1_faults_L4 K n y1 x4 σ))) ∧ (¬ (σ 1 j2) = (-1) → (∃ j5 : Nat, y2 = nI j5 ∧ j5 < 12 ∧ (X1_capacity (σ 1 j5) σ (fun r7 σ6 => ∃ j8 : Nat, y2 = nI j8 ∧ j8 < 12 ∧ ((r7 ≤ (σ6 2 j8) → (∃ j10 : Nat, y2 = nI j10 ∧ j10 < 12 ∧ (((σ6 2 j10) = 0 → (∀ x12 : Int32, x12 = y1 + 1 → (∀ x13 : Int32, x13 = y2 + 1 → (X1_faults_L4 K n x12 x13 σ6)))) ∧ (¬ (σ6 2 j10) = 0 → (((0 : Int32) = 0 → (X1_strangers y2 σ6 (fun r18 σ17 => (r18 ≤ 0 → (∀ x20 : Int32, x20 = y2 + 1 → (X1_faults_L4 K n y1 x20 σ17))) ∧ (¬ r18 ≤ 0 → (∀ x21 : Int32, x21 = y1 + 1 → (∀ x22 : Int32, x22 = y2 + 1 → (X1_faults_L4 K n x21 x22 σ17))))))) ∧ (¬ (0 : Int32) = 0 → (∀ x15 : Int32, x15 = y1 + 1 → (∀ x16 : Int32, x16 = y2 + 1 → (X1_faults_L4 K n x15 x16 σ6))))))))) ∧ (¬ r7 ≤ (σ6 2 j8) → (∃ j23 : Nat, y2 = nI j23 ∧ j23 < 12 ∧ (∃ j24 : Nat, (σ6 1 j23) = nI j24 ∧ j24 < 4 ∧ (((σ6 7 j24) = y2 → (∃ j26 : Nat, y2 = nI j26 ∧ j26 < 12 ∧ (((σ6 2 j26) = 0 → (∀ x28 : Int32, x28 = y1 + 1 → (∀ x29 : Int32, x29 = y2 + 1 → (X1_faults_L4 K n x28 x29 σ6)))) ∧ (¬ (σ6 2 j26) = 0 → (((0 : Int32) = 0 → (X1_strangers y2 σ6 (fun r34 σ33 => (r34 ≤ 0 → (∀ x36 : Int32, x36 = y2 + 1 → (X1_faults_L4 K n y1 x36 σ33))) ∧ (¬ r34 ≤ 0 → (∀ x37 : Int32, x37 = y1 + 1 → (∀ x38 : Int32, x38 = y2 + 1 → (X1_faults_L4 K n x37 x38 σ33))))))) ∧ (¬ (0 : Int32) = 0 → (∀ x31 : Int32, x31 = y1 + 1 → (∀ x32 : Int32, x32 = y2 + 1 → (X1_faults_L4 K n x31 x32 σ6))))))))) ∧ (¬ (σ6 7 j24) = y2 → (∃ j39 : Nat, y2 = nI j39 ∧ j39 < 12 ∧ (((σ6 2 j39) = 0 → (∀ x41 : Int32, x41 = y1 + 1 → (∀ x42 : Int32, x42 = y2 + 1 → (X1_faults_L4 K n x41 x42 σ6)))) ∧ (¬ (σ6 2 j39) = 0 → (((1 : Int32) = 0 → (X1_strangers y2 σ6 (fun r47 σ46 => (r47 ≤ 0 → (∀ x49 : Int32, x49 = y2 + 1 → (X1_faults_L4 K n y1 x49 σ46))) ∧ (¬ r47 ≤ 0 → (∀ x50 : Int32, x50 = y1 + 1 → (∀ x51 : Int32, x51 = y2 + 1 → (X1_faults_L4 K n x50 x51 σ46))))))) ∧ (¬ (1 : Int32) = 0 → (∀ x44 : Int32, x44 = y1 + 1 → (∀ x45 : Int32, x45 = y2 + 1 → (X1_faults_L4 K n x44 x45 σ6)))))))))))))))))))))
def X1_faults (σ : St) (K : Int32 → St → Prop) : Prop :=
  ∃ n52 : Nat, X1_faults_L4 K n52 0 0 σ
def X2_pages (σ : St) (K : Int32 → St → Prop) : Prop :=
  K (σ 10 0) σ
def X2_bad (x1 : Int32) (σ : St) (K : Int32 → St → Prop) : Prop :=
  (x1 < 0 → (K 1 σ)) ∧ (¬ x1 < 0 → ((63 < x1 → (K 1 σ)) ∧ (¬ 63 < x1 → (∃ j4 : Nat, x1 = nI j4 ∧ j4 < 64 ∧ (((σ 0 j4) = 0 → (K 1 σ)) ∧ (¬ (σ 0 j4) = 0 → (K 0 σ)))))))
def X2_kindOf (x1 : Int32) (σ : St) (K : Int32 → St → Prop) : Prop :=
  (3 ≤ x1 → ((5 ≤ x1 → ((9 ≤ x1 → (K 3 σ)) ∧ (¬ 9 ≤ x1 → (K 2 σ)))) ∧ (¬ 5 ≤ x1 → (K 1 σ)))) ∧ (¬ 3 ≤ x1 → (K 0 σ))
def X2_alive_L4 (K : Int32 → St → Prop) : Nat → Int32 → Int32 → Int32 → St → Prop
  | 0, _, _, _, _ => False
  | n + 1, y1, y2, y3, σ => (64 ≤ y3 → (K y2 σ)) ∧ (¬ 64 ≤ y3 → (∃ j3 : Nat, y3 = nI j3 ∧ j3 < 64 ∧ (((σ 0 j3) ≤ 0 → (∀ x5 : Int32, x5 = y3 + 1 → (X2_alive_L4 K n y1 y2 x5 σ))) ∧ (¬ (σ 0 j3) ≤ 0 → (∃ j6 : Nat, y3 = nI j6 ∧ j6 < 64 ∧ (X2_kindOf (σ 0 j6) σ (fun r8 σ7 => (r8 = y1 → (∀ x11 : Int32, x11 = y2 + 1 → (∀ x12 : Int32, x12 = y3 + 1 → (X2_alive_L4 K n y1 x11 x12 σ7)))) ∧ (¬ r8 = y1 → (∀ x10 : Int32, x10 = y3 + 1 → (X2_alive_L4 K n y1 y2 x10 σ7))))))))))
def X2_alive (x1 : Int32) (σ : St) (K : Int32 → St → Prop) : Prop :=
  ∃ n13 : Nat, X2_alive_L4 K n13 x1 0 0 σ
def X2_needs_L6 (K : Int32 → St → Prop) : Nat → Int32 → Int32 → Int32 → Int32 → Int32 → Int32 → St → Prop
  | 0, _, _, _, _, _, _, _ => False
  | n + 1, y1, y2, y3, y4, y5, y6, σ => (4 ≤ y6 → (K y5 σ)) ∧ (¬ 4 ≤ y6 → (X2_alive y6 σ (fun r7 σ6 => (y6 = y1 → (∀ x27 : Int32, x27 = (r7 + y2) → ((y6 = y3 → (∀ x37 : Int32, x37 = (x27 - y4) → (∀ x38 : Int32, x38 = (8 >>> (y6 &&& 31)) → ((1 ≤ x38 → ((¬ (x38 : Int32) = 0) ∧ (∀ x41 : Int32, x41 = (y5 + (((x37 + x38) - 1) / x38)) → (∀ x42 : Int32, x42 = y6 + 1 → (X2_needs_L6 K n y1 y2 y3 y4 x41 x42 σ6))))) ∧ (¬ 1 ≤ x38 → ((¬ (1 : Int32) = 0) ∧ (∀ x44 : Int32, x44 = (y5 + (((x37 + 1) - 1) / 1)) → (∀ x45 : Int32, x45 = y6 + 1 → (X2_needs_L6 K n y1 y2 y3 y4 x44 x45 σ6))))))))) ∧ (¬ y6 = y3 → (∀ x29 : Int32, x29 = (8 >>> (y6 &&& 31)) → ((1 ≤ x29 → ((¬ (x29 : Int32) = 0) ∧ (∀ x32 : Int32, x32 = (y5 + (((x27 + x29) - 1) / x29)) → (∀ x33 : Int32, x33 = y6 + 1 → (X2_needs_L6 K n y1 y2 y3 y4 x32 x33 σ6))))) ∧ (¬ 1 ≤ x29 → ((¬ (1 : Int32) = 0) ∧ (∀ x35 : Int32, x35 = (y5 + (((x27 + 1) - 1) / 1)) → (∀ x36 : Int32, x36 = y6 + 1 → (X2_needs_L6 K n y1 y2 y3 y4 x35 x36 σ6))))))))))) ∧ (¬ y6 = y1 → ((y6 = y3 → (∀ x18 : Int32, x18 = (r7 - y4) → (∀ x19 : Int32, x19 = (8 >>> (y6 &&& 31)) → ((1 ≤ x19 → ((¬ (x19 : Int32) = 0) ∧ (∀ x22 : Int32, x22 = (y5 + (((x18 + x19) - 1) / x19)) → (∀ x23 : Int32, x23 = y6 + 1 → (X2_needs_L6 K n y1 y2 y3 y4 x22 x23 σ6))))) ∧ (¬ 1 ≤ x19 → ((¬ (1 : Int32) = 0) ∧ (∀ x25 : Int32, x25 = (y5 + (((x18 + 1) - 1) / 1)) → (∀ x26 : Int32, x26 = y6 + 1 → (X2_needs_L6 K n y1 y2 y3 y4 x25 x26 σ6))))))))) ∧ (¬ y6 = y3 → (∀ x10 : Int32, x10 = (8 >>> (y6 &&& 31)) → ((1 ≤ x10 → ((¬ (x10 : Int32) = 0) ∧ (∀ x13 : Int32, x13 = (y5 + (((r7 + x10) - 1) / x10)) → (∀ x14 : Int32, x14 = y6 + 1 → (X2_needs_L6 K n y1 y2 y3 y4 x13 x14 σ6))))) ∧ (¬ 1 ≤ x10 → ((¬ (1 : Int32) = 0) ∧ (∀ x16 : Int32, x16 = (y5 + (((r7 + 1) - 1) / 1)) → (∀ x17 : Int32, x17 = y6 + 1 → (X2_needs_L6 K n y1 y2 y3 y4 x16 x17 σ6)))))))))))))
def X2_needs (x1 x2 x3 x4 : Int32) (σ : St) (K : Int32 → St → Prop) : Prop :=
  ∃ n46 : Nat, X2_needs_L6 K n46 x1 x2 x3 x4 0 0 σ
def X2_leastFree_L2 (K : Int32 → St → Prop) : Nat → Int32 → St → Prop
  | 0, _, _ => False
  | n + 1, y1, σ => (64 ≤ y1 → (K (-1) σ)) ∧ (¬ 64 ≤ y1 → (∃ j2 : Nat, y1 = nI j2 ∧ j2 < 64 ∧ (((σ 0 j2) = 0 → (K y1 σ)) ∧ (¬ (σ 0 j2) = 0 → (∀ x4 : Int32, x4 = y1 + 1 → (X2_leastFree_L2 K n x4 σ))))))
def X2_leastFree (σ : St) (K : Int32 → St → Prop) : Prop :=
  ∃ n5 : Nat, X2_leastFree_L2 K n5 0 σ
def X2_wipe_L9 (K : St → Prop) : Nat → Int32 → Int32 → St → Prop
  | 0, _, _, _ => False
  | n + 1, y1, y2, σ => (16 ≤ y2 → (K σ)) ∧ (¬ 16 ≤ y2 → (∃ j5 : Nat, ((16 * y1) + y2) = nI j5 ∧ j5 < 1024 ∧ ∀ σ6 : St, σ6 = up σ 1 j5 0 → (∀ x7 : Int32, x7 = y2 + 1 → (X2_wipe_L9 K n y1 x7 σ6))))
def X2_wipe (x1 : Int32) (σ : St) (K : St → Prop) : Prop :=
  ∃ j2 : Nat, x1 = nI j2 ∧ j2 < 64 ∧ ∀ σ3 : St, σ3 = up σ 0 j2 0 → (∃ n8 : Nat, X2_wipe_L9 K n8 x1 0 σ3)
def X2_allocate (x1 : Int32) (σ : St) (K : Int32 → St → Prop) : Prop :=
  (x1 < 1 → (K (-1) σ)) ∧ (¬ x1 < 1 → ((x1 ≤ 16 → (X2_leastFree σ (fun r5 σ4 => (0 ≤ r5 → (X2_kindOf x1 σ4 (fun r8 σ7 => X2_needs r8 1 (-1) 0 σ7 (fun r10 σ9 => (r10 ≤ (σ9 10 0) → (X2_wipe r5 σ9 (fun σ12 => ∃ j13 : Nat, r5 = nI j13 ∧ j13 < 64 ∧ ∀ σ14 : St, σ14 = up σ12 0 j13 x1 → (K r5 σ14)))) ∧ (¬ r10 ≤ (σ9 10 0) → (K (-3) σ9)))))) ∧ (¬ 0 ≤ r5 → (K (-2) σ4))))) ∧ (¬ x1 ≤ 16 → (K (-1) σ))))
def X2_free (x1 : Int32) (σ : St) (K : Int32 → St → Prop) : Prop :=
  X2_bad x1 σ (fun r3 σ2 => (r3 = 0 → (∃ j5 : Nat, x1 = nI j5 ∧ j5 < 64 ∧ (∀ x6 : Int32, x6 = (σ2 0 j5) → (X2_wipe x1 σ2 (fun σ7 => K x6 σ7))))) ∧ (¬ r3 = 0 → (K (-1) σ2)))
def X2_resize_L72 (K : Int32 → St → Prop) : Nat → Int32 → Int32 → Int32 → Int32 → St → Prop
  | 0, _, _, _, _, _ => False
  | n + 1, y1, y2, y5, y6, σ => (16 ≤ y6 → (∃ j19 : Nat, y1 = nI j19 ∧ j19 < 64 ∧ ∀ σ20 : St, σ20 = up σ 0 j19 y2 → (K y5 σ20))) ∧ (¬ 16 ≤ y6 → (∃ j21 : Nat, ((16 * y1) + y6) = nI j21 ∧ j21 < 1024 ∧ ∀ σ22 : St, σ22 = up σ 1 j21 0 → (∀ x23 : Int32, x23 = y6 + 1 → (X2_resize_L72 K n y1 y2 y5 x23 σ22))))
def X2_resize (x1 x2 : Int32) (σ : St) (K : Int32 → St → Prop) : Prop :=
  X2_bad x1 σ (fun r4 σ3 => (r4 = 0 → ((x2 < 1 → (K (-2) σ3)) ∧ (¬ x2 < 1 → ((x2 ≤ 16 → (X2_kindOf x2 σ3 (fun r9 σ8 => ∃ j10 : Nat, x1 = nI j10 ∧ j10 < 64 ∧ (X2_kindOf (σ8 0 j10) σ8 (fun r12 σ11 => X2_needs r9 1 r12 1 σ11 (fun r14 σ13 => (r14 ≤ (σ13 10 0) → (∃ j16 : Nat, x1 = nI j16 ∧ j16 < 64 ∧ (∀ x17 : Int32, x17 = (σ13 0 j16) → (∃ n24 : Nat, X2_resize_L72 K n24 x1 x2 x17 x2 σ13)))) ∧ (¬ r14 ≤ (σ13 10 0) → (K (-3) σ13)))))))) ∧ (¬ x2 ≤ 16 → (K (-2) σ3)))))) ∧ (¬ r4 = 0 → (K (-1) σ3)))
def X2_copy_L29 (K : Int32 → St → Prop) : Nat → Int32 → Int32 → Int32 → St → Prop
  | 0, _, _, _, _ => False
  | n + 1, y1, y2, y3, σ => (16 ≤ y3 → (K y2 σ)) ∧ (¬ 16 ≤ y3 → (∃ j10 : Nat, ((16 * y1) + y3) = nI j10 ∧ j10 < 1024 ∧ (∃ j11 : Nat, ((16 * y2) + y3) = nI j11 ∧ j11 < 1024 ∧ ∀ σ12 : St, σ12 = up σ 1 j11 (σ 1 j10) → (∀ x13 : Int32, x13 = y3 + 1 → (X2_copy_L29 K n y1 y2 x13 σ12)))))
def X2_copy (x1 : Int32) (σ : St) (K : Int32 → St → Prop) : Prop :=
  X2_bad x1 σ (fun r3 σ2 => (r3 = 0 → (∃ j5 : Nat, x1 = nI j5 ∧ j5 < 64 ∧ (X2_allocate (σ2 0 j5) σ2 (fun r7 σ6 => (0 ≤ r7 → (∃ n14 : Nat, X2_copy_L29 K n14 x1 r7 0 σ6)) ∧ (¬ 0 ≤ r7 → (K r7 σ6)))))) ∧ (¬ r3 = 0 → (K (-1) σ2)))
def X2_freeClass_L15 (K : Int32 → St → Prop) : Nat → Int32 → Int32 → Int32 → St → Prop
  | 0, _, _, _, _ => False
  | n + 1, y1, y2, y3, σ => (64 ≤ y3 → (K y2 σ)) ∧ (¬ 64 ≤ y3 → (∃ j5 : Nat, y3 = nI j5 ∧ j5 < 64 ∧ (((σ 0 j5) ≤ 0 → (∀ x7 : Int32, x7 = y3 + 1 → (X2_freeClass_L15 K n y1 y2 x7 σ))) ∧ (¬ (σ 0 j5) ≤ 0 → (∃ j8 : Nat, y3 = nI j8 ∧ j8 < 64 ∧ (X2_kindOf (σ 0 j8) σ (fun r10 σ9 => (r10 = y1 → (X2_wipe y3 σ9 (fun σ13 => ∀ x14 : Int32, x14 = y2 + 1 → (∀ x15 : Int32, x15 = y3 + 1 → (X2_freeClass_L15 K n y1 x14 x15 σ13))))) ∧ (¬ r10 = y1 → (∀ x12 : Int32, x12 = y3 + 1 → (X2_freeClass_L15 K n y1 y2 x12 σ9))))))))))
def X2_freeClass (x1 : Int32) (σ : St) (K : Int32 → St → Prop) : Prop :=
  (x1 < 0 → (K (-1) σ)) ∧ (¬ x1 < 0 → ((x1 ≤ 3 → (∃ n16 : Nat, X2_freeClass_L15 K n16 x1 0 0 σ)) ∧ (¬ x1 ≤ 3 → (K (-1) σ))))
def X2_read (x1 x2 : Int32) (σ : St) (K : Int32 → St → Prop) : Prop :=
  X2_bad x1 σ (fun r4 σ3 => (r4 = 0 → ((x2 < 0 → (K 0 σ3)) ∧ (¬ x2 < 0 → (∃ j7 : Nat, x1 = nI j7 ∧ j7 < 64 ∧ ((x2 < (σ3 0 j7) → (∃ j9 : Nat, ((16 * x1) + x2) = nI j9 ∧ j9 < 1024 ∧ (K (σ3 1 j9) σ3))) ∧ (¬ x2 < (σ3 0 j7) → (K 0 σ3))))))) ∧ (¬ r4 = 0 → (K 0 σ3)))
def X2_write (x1 x2 x3 : Int32) (σ : St) (K : Int32 → St → Prop) : Prop :=
  X2_bad x1 σ (fun r5 σ4 => (r5 = 0 → ((x2 < 0 → (K (-2) σ4)) ∧ (¬ x2 < 0 → (∃ j8 : Nat, x1 = nI j8 ∧ j8 < 64 ∧ ((x2 < (σ4 0 j8) → (∃ j10 : Nat, ((16 * x1) + x2) = nI j10 ∧ j10 < 1024 ∧ ∀ σ11 : St, σ11 = up σ4 1 j10 x3 → (K 0 σ11))) ∧ (¬ x2 < (σ4 0 j8) → (K (-2) σ4))))))) ∧ (¬ r5 = 0 → (K (-1) σ4)))
def X2_fill_L13 (K : Int32 → St → Prop) : Nat → Int32 → Int32 → Int32 → Int32 → St → Prop
  | 0, _, _, _, _, _ => False
  | n + 1, y1, y2, y3, y4, σ => ∃ j7 : Nat, y1 = nI j7 ∧ j7 < 64 ∧ (((σ 0 j7) ≤ y4 → (∃ j9 : Nat, y1 = nI j9 ∧ j9 < 64 ∧ (K (σ 0 j9) σ))) ∧ (¬ (σ 0 j7) ≤ y4 → ((16 ≤ y4 → (∃ j11 : Nat, y1 = nI j11 ∧ j11 < 64 ∧ (K (σ 0 j11) σ))) ∧ (¬ 16 ≤ y4 → (∃ j12 : Nat, ((16 * y1) + y4) = nI j12 ∧ j12 < 1024 ∧ ∀ σ13 : St, σ13 = up σ 1 j12 (y2 + (y4 * y3)) → (∀ x14 : Int32, x14 = y4 + 1 → (X2_fill_L13 K n y1 y2 y3 x14 σ13)))))))
def X2_fill (x1 x2 x3 : Int32) (σ : St) (K : Int32 → St → Prop) : Prop :=
  X2_bad x1 σ (fun r5 σ4 => (r5 = 0 → (∃ n15 : Nat, X2_fill_L13 K n15 x1 x2 x3 0 σ4)) ∧ (¬ r5 = 0 → (K (-1) σ4)))
def X2_exchange_L47 (K : Int32 → St → Prop) : Nat → Int32 → Int32 → Int32 → St → Prop
  | 0, _, _, _, _ => False
  | n + 1, y1, y2, y4, σ => (16 ≤ y4 → (K 0 σ)) ∧ (¬ 16 ≤ y4 → (∃ j17 : Nat, ((16 * y1) + y4) = nI j17 ∧ j17 < 1024 ∧ (∀ x18 : Int32, x18 = (σ 1 j17) → (∃ j19 : Nat, ((16 * y2) + y4) = nI j19 ∧ j19 < 1024 ∧ (∃ j20 : Nat, ((16 * y1) + y4) = nI j20 ∧ j20 < 1024 ∧ ∀ σ21 : St, σ21 = up σ 1 j20 (σ 1 j19) → (∃ j22 : Nat, ((16 * y2) + y4) = nI j22 ∧ j22 < 1024 ∧ ∀ σ23 : St, σ23 = up σ21 1 j22 x18 → (∀ x24 : Int32, x24 = y4 + 1 → (X2_exchange_L47 K n y1 y2 x24 σ23))))))))
def X2_exchange (x1 x2 : Int32) (σ : St) (K : Int32 → St → Prop) : Prop :=
  X2_bad x1 σ (fun r4 σ3 => (r4 = 0 → (X2_bad x2 σ3 (fun r7 σ6 => (r7 = 0 → (∃ j9 : Nat, x1 = nI j9 ∧ j9 < 64 ∧ (∀ x10 : Int32, x10 = (σ6 0 j9) → (∃ j11 : Nat, x2 = nI j11 ∧ j11 < 64 ∧ (∃ j12 : Nat, x1 = nI j12 ∧ j12 < 64 ∧ ∀ σ13 : St, σ13 = up σ6 0 j12 (σ6 0 j11) → (∃ j14 : Nat, x2 = nI j14 ∧ j14 < 64 ∧ ∀ σ15 : St, σ15 = up σ13 0 j14 x10 → (∃ n25 : Nat, X2_exchange_L47 K n25 x1 x2 0 σ15))))))) ∧ (¬ r7 = 0 → (K (-1) σ6))))) ∧ (¬ r4 = 0 → (K (-1) σ3)))
def X2_size (x1 : Int32) (σ : St) (K : Int32 → St → Prop) : Prop :=
  X2_bad x1 σ (fun r3 σ2 => (r3 = 0 → (∃ j5 : Nat, x1 = nI j5 ∧ j5 < 64 ∧ (K (σ2 0 j5) σ2))) ∧ (¬ r3 = 0 → (K 0 σ2)))
def X2_live_L4 (K : Int32 → St → Prop) : Nat → Int32 → Int32 → St → Prop
  | 0, _, _, _ => False
  | n + 1, y1, y2, σ => (64 ≤ y2 → (K y1 σ)) ∧ (¬ 64 ≤ y2 → (∃ j2 : Nat, y2 = nI j2 ∧ j2 < 64 ∧ (((σ 0 j2) ≤ 0 → (∀ x4 : Int32, x4 = y2 + 1 → (X2_live_L4 K n y1 x4 σ))) ∧ (¬ (σ 0 j2) ≤ 0 → (∀ x5 : Int32, x5 = y1 + 1 → (∀ x6 : Int32, x6 = y2 + 1 → (X2_live_L4 K n x5 x6 σ)))))))
def X2_live (σ : St) (K : Int32 → St → Prop) : Prop :=
  ∃ n7 : Nat, X2_live_L4 K n7 0 0 σ
def X2_liveIn (x1 : Int32) (σ : St) (K : Int32 → St → Prop) : Prop :=
  (x1 < 0 → (K (-1) σ)) ∧ (¬ x1 < 0 → ((x1 ≤ 3 → (X2_alive x1 σ (fun r5 σ4 => K r5 σ4))) ∧ (¬ x1 ≤ 3 → (K (-1) σ))))
def X2_needed (σ : St) (K : Int32 → St → Prop) : Prop :=
  X2_needs (-1) 0 (-1) 0 σ (fun r2 σ1 => K r2 σ1)
def X2_roomFor_L15 (K : Int32 → St → Prop) : Nat → Int32 → Int32 → Int32 → St → Prop
  | 0, _, _, _, _ => False
  | n + 1, y1, y2, y3, σ => (96 < y3 → (K y2 σ)) ∧ (¬ 96 < y3 → (X2_needs y1 y3 (-1) 0 σ (fun r6 σ5 => ((σ5 10 0) < r6 → (∀ x8 : Int32, x8 = y3 + 1 → (X2_roomFor_L15 K n y1 y2 x8 σ5))) ∧ (¬ (σ5 10 0) < r6 → (∀ x9 : Int32, x9 = y3 + 1 → (X2_roomFor_L15 K n y1 y3 x9 σ5))))))
def X2_roomFor (x1 : Int32) (σ : St) (K : Int32 → St → Prop) : Prop :=
  (x1 < 0 → (K (-1) σ)) ∧ (¬ x1 < 0 → ((x1 ≤ 3 → (∃ n10 : Nat, X2_roomFor_L15 K n10 x1 0 1 σ)) ∧ (¬ x1 ≤ 3 → (K (-1) σ))))
def X2_sum_L14 (K : Int32 → St → Prop) : Nat → Int32 → Int32 → Int32 → St → Prop
  | 0, _, _, _, _ => False
  | n + 1, y1, y2, y3, σ => (16 ≤ y3 → (K y2 σ)) ∧ (¬ 16 ≤ y3 → (∃ j6 : Nat, ((16 * y1) + y3) = nI j6 ∧ j6 < 1024 ∧ (∀ x7 : Int32, x7 = (y2 + (σ 1 j6)) → (∀ x8 : Int32, x8 = y3 + 1 → (X2_sum_L14 K n y1 x7 x8 σ)))))
def X2_sum (x1 : Int32) (σ : St) (K : Int32 → St → Prop) : Prop :=
  X2_bad x1 σ (fun r3 σ2 => (r3 = 0 → (∃ n9 : Nat, X2_sum_L14 K n9 x1 0 0 σ2)) ∧ (¬ r3 = 0 → (K 0 σ2)))
def X2_next_L2 (K : Int32 → St → Prop) : Nat → Int32 → Int32 → St → Prop
  | 0, _, _, _ => False
  | n + 1, y1, y2, σ => (64 ≤ y2 → (K (-1) σ)) ∧ (¬ 64 ≤ y2 → ((y2 < y1 → (∀ x4 : Int32, x4 = y2 + 1 → (X2_next_L2 K n y1 x4 σ))) ∧ (¬ y2 < y1 → (∃ j5 : Nat, y2 = nI j5 ∧ j5 < 64 ∧ (((σ 0 j5) ≤ 0 → (∀ x7 : Int32, x7 = y2 + 1 → (X2_next_L2 K n y1 x7 σ))) ∧ (¬ (σ 0 j5) ≤ 0 → (K y2 σ)))))))
def X2_next (x1 : Int32) (σ : St) (K : Int32 → St → Prop) : Prop :=
  ∃ n8 : Nat, X2_next_L2 K n8 x1 0 σ
def X2_count_L13 (X : Int32 → Int32 → Int32 → St → Prop) : Nat → Int32 → Int32 → Int32 → Int32 → St → Prop
  | 0, _, _, _, _, _ => False
  | n + 1, y1, y2, y3, y4, σ => ∃ j3 : Nat, y3 = nI j3 ∧ j3 < 64 ∧ (((σ 0 j3) ≤ y4 → (X y1 y2 y3 σ)) ∧ (¬ (σ 0 j3) ≤ y4 → ((16 ≤ y4 → (X y1 y2 y3 σ)) ∧ (¬ 16 ≤ y4 → (∃ j6 : Nat, ((16 * y3) + y4) = nI j6 ∧ j6 < 1024 ∧ (((σ 1 j6) = y1 → (∀ x9 : Int32, x9 = y2 + 1 → (∀ x10 : Int32, x10 = y4 + 1 → (X2_count_L13 X n y1 x9 y3 x10 σ)))) ∧ (¬ (σ 1 j6) = y1 → (∀ x8 : Int32, x8 = y4 + 1 → (X2_count_L13 X n y1 y2 y3 x8 σ)))))))))
def X2_count_L4 (K : Int32 → St → Prop) : Nat → Int32 → Int32 → Int32 → St → Prop
  | 0, _, _, _, _ => False
  | n + 1, y1, y2, y3, σ => (64 ≤ y3 → (K y2 σ)) ∧ (¬ 64 ≤ y3 → (∃ n11 : Nat, X2_count_L13 (fun x12 x13 x14 σ15 => ∀ x16 : Int32, x16 = x14 + 1 → (X2_count_L4 K n x12 x13 x16 σ15)) n11 y1 y2 y3 0 σ))
def X2_count (x1 : Int32) (σ : St) (K : Int32 → St → Prop) : Prop :=
  ∃ n17 : Nat, X2_count_L4 K n17 x1 0 0 σ
def X2_faults (σ : St) (K : Int32 → St → Prop) : Prop :=
  K 0 σ
def X1_init_L164 (K : St → Prop) : Nat → Int32 → St → Prop
  | 0, _, _ => False
  | n + 1, y2, σ => (4 ≤ y2 → (K σ)) ∧ (¬ 4 ≤ y2 → (∃ j9 : Nat, y2 = nI j9 ∧ j9 < 4 ∧ ∀ σ10 : St, σ10 = up σ 7 j9 (-1) → (∀ x11 : Int32, x11 = y2 + 1 → (X1_init_L164 K n x11 σ10))))
def X1_init_L143 (K : St → Prop) : Nat → Int32 → St → Prop
  | 0, _, _ => False
  | n + 1, y2, σ => (96 ≤ y2 → (∃ n12 : Nat, X1_init_L164 K n12 0 σ)) ∧ (¬ 96 ≤ y2 → (∃ j13 : Nat, y2 = nI j13 ∧ j13 < 96 ∧ ∀ σ14 : St, σ14 = up σ 3 j13 (-1) → (∀ x15 : Int32, x15 = y2 + 1 → (X1_init_L143 K n x15 σ14))))
def X1_init_L122 (K : St → Prop) : Nat → Int32 → St → Prop
  | 0, _, _ => False
  | n + 1, y2, σ => (12 ≤ y2 → (∃ n16 : Nat, X1_init_L143 K n16 0 σ)) ∧ (¬ 12 ≤ y2 → (∃ j17 : Nat, y2 = nI j17 ∧ j17 < 12 ∧ ∀ σ18 : St, σ18 = up σ 1 j17 (-1) → (∀ x19 : Int32, x19 = y2 + 1 → (X1_init_L122 K n x19 σ18))))
def X1_init_B112 (K : St → Prop) (σ : St) : Prop :=
  ∀ σ5 : St, σ5 = up σ 10 1 (σ 10 0) → (∃ n20 : Nat, X1_init_L122 K n20 0 σ5)
def X1_init (x1 : Int32) (σ : St) (K : St → Prop) : Prop :=
  (2 ≤ x1 → (∀ σ3 : St, σ3 = up σ 10 0 x1 → (((σ3 10 0) ≤ 12 → (X1_init_B112 K σ3)) ∧ (¬ (σ3 10 0) ≤ 12 → (∀ σ21 : St, σ21 = up σ3 10 0 12 → (X1_init_B112 K σ21)))))) ∧ (¬ 2 ≤ x1 → (∀ σ22 : St, σ22 = up σ 10 0 2 → (((σ22 10 0) ≤ 12 → (X1_init_B112 K σ22)) ∧ (¬ (σ22 10 0) ≤ 12 → (∀ σ24 : St, σ24 = up σ22 10 0 12 → (X1_init_B112 K σ24))))))
def X2_init (x1 : Int32) (σ : St) (K : St → Prop) : Prop :=
  (2 ≤ x1 → ((x1 ≤ 12 → (∀ σ4 : St, σ4 = up σ 10 0 x1 → (K σ4))) ∧ (¬ x1 ≤ 12 → (∀ σ5 : St, σ5 = up σ 10 0 12 → (K σ5))))) ∧ (¬ 2 ≤ x1 → (∀ σ6 : St, σ6 = up σ 10 0 2 → (K σ6)))
end
section
set_option maxRecDepth 100000
set_option maxHeartbeats 4000000 in
theorem tX1_pages (l : Launch) (D : va_G) (a : Nat → Nat) (d : ClassId) : CTi l yX1_pages cX1_pages 1 (some .int) ({ frames := 0, cells := 0, slots := 0, locals := 0 }) (wX a d) D d [.ref (a 10)] (X1_pages) := by
  refine msI (by decide) (Nat.le_of_ble_eq_true rfl) ?_
  intro p e s m below meth c A σ K ls S hr hlk hH hw hl
  obtain ⟨hx, hb, hml, hown, hts⟩ := id S
  unfold X1_pages at hw
  have hl : lv_has ls 1 [(0, .ref (a 10))] := hl
  refine lv_aload_n hx hb dX1_pages_0 rfl (lv_at hl 0 rfl) ?_
  refine gX 10 S hH (by decide) q37 rfl dX1_pages_1 ?_
  exact riI S hr hlk hH hw dX1_pages_4
set_option maxHeartbeats 4000000 in
theorem tX1_isSize (l : Launch) (D : va_G) (a : Nat → Nat) (d : ClassId) (x1 : Int32) : CTi l yX1_isSize cX1_isSize 1 (some .boolean) ({ frames := 0, cells := 0, slots := 0, locals := 0 }) (wX a d) D d [.int x1] (X1_isSize x1) := by
  refine msI (by decide) (Nat.le_of_ble_eq_true rfl) ?_
  intro p e s m below meth c A σ K ls S hr hlk hH hw hl
  obtain ⟨hx, hb, hml, hown, hts⟩ := id S
  unfold X1_isSize at hw
  have hl : lv_has ls 1 [(0, .int x1)] := hl
  refine lv_iload_n hx hb dX1_isSize_0 rfl (lv_at hl 0 rfl) ?_
  refine lv_iconst (v := 1) hx hb dX1_isSize_1 (by decide) ?_
  refine lv_icmp_lt (tgt := 15) hx hb dX1_isSize_2 (by decide) (fun c2 => ?_) (fun c2 => ?_)
  · have hw := hw.1 c2
    refine lv_iconst (v := 0) hx hb dX1_isSize_15 (by decide) ?_
    exact riZ S hr rfl hlk hH hw dX1_isSize_16
  · have hw := hw.2 c2
    refine lv_iload_n hx hb dX1_isSize_5 rfl (lv_at hl 0 rfl) ?_
    refine lv_bipush (v := 16) hx hb dX1_isSize_6 (by decide) ?_
    refine lv_icmp_gt (tgt := 15) hx hb dX1_isSize_8 (by decide) (fun c3 => ?_) (fun c3 => ?_)
    · have hw := hw.1 c3
      refine lv_iconst (v := 0) hx hb dX1_isSize_15 (by decide) ?_
      exact riZ S hr rfl hlk hH hw dX1_isSize_16
    · have hw := hw.2 c3
      refine lv_iconst (v := 1) hx hb dX1_isSize_11 (by decide) ?_
      refine lv_goto (tgt := 16) hx hb dX1_isSize_12 (by decide) ?_
      exact riZ S hr rfl hlk hH hw dX1_isSize_16
set_option maxHeartbeats 4000000 in
theorem tX1_isKind (l : Launch) (D : va_G) (a : Nat → Nat) (d : ClassId) (x1 : Int32) : CTi l yX1_isKind cX1_isKind 1 (some .boolean) ({ frames := 0, cells := 0, slots := 0, locals := 0 }) (wX a d) D d [.int x1] (X1_isKind x1) := by
  refine msI (by decide) (Nat.le_of_ble_eq_true rfl) ?_
  intro p e s m below meth c A σ K ls S hr hlk hH hw hl
  obtain ⟨hx, hb, hml, hown, hts⟩ := id S
  unfold X1_isKind at hw
  have hl : lv_has ls 1 [(0, .int x1)] := hl
  refine lv_iload_n hx hb dX1_isKind_0 rfl (lv_at hl 0 rfl) ?_
  refine lv_if_lt (tgt := 13) hx hb dX1_isKind_1 (by decide) (fun c2 => ?_) (fun c2 => ?_)
  · have hw := hw.1 c2
    refine lv_iconst (v := 0) hx hb dX1_isKind_13 (by decide) ?_
    exact riZ S hr rfl hlk hH hw dX1_isKind_14
  · have hw := hw.2 c2
    refine lv_iload_n hx hb dX1_isKind_4 rfl (lv_at hl 0 rfl) ?_
    refine lv_iconst (v := 3) hx hb dX1_isKind_5 (by decide) ?_
    refine lv_icmp_gt (tgt := 13) hx hb dX1_isKind_6 (by decide) (fun c3 => ?_) (fun c3 => ?_)
    · have hw := hw.1 c3
      refine lv_iconst (v := 0) hx hb dX1_isKind_13 (by decide) ?_
      exact riZ S hr rfl hlk hH hw dX1_isKind_14
    · have hw := hw.2 c3
      refine lv_iconst (v := 1) hx hb dX1_isKind_9 (by decide) ?_
      refine lv_goto (tgt := 14) hx hb dX1_isKind_10 (by decide) ?_
      exact riZ S hr rfl hlk hH hw dX1_isKind_14
set_option maxHeartbeats 4000000 in
theorem tX1_kindOf (l : Launch) (D : va_G) (a : Nat → Nat) (d : ClassId) (x1 : Int32) : CTi l yX1_kindOf cX1_kindOf 1 (some .int) ({ frames := 0, cells := 0, slots := 0, locals := 0 }) (wX a d) D d [.int x1] (X1_kindOf x1) := by
  refine msI (by decide) (Nat.le_of_ble_eq_true rfl) ?_
  intro p e s m below meth c A σ K ls S hr hlk hH hw hl
  obtain ⟨hx, hb, hml, hown, hts⟩ := id S
  unfold X1_kindOf at hw
  have hl : lv_has ls 1 [(0, .int x1)] := hl
  refine lv_iload_n hx hb dX1_kindOf_0 rfl (lv_at hl 0 rfl) ?_
  refine lv_iconst (v := 2) hx hb dX1_kindOf_1 (by decide) ?_
  refine lv_icmp_gt (tgt := 7) hx hb dX1_kindOf_2 (by decide) (fun c2 => ?_) (fun c2 => ?_)
  · have hw := hw.1 c2
    refine lv_iload_n hx hb dX1_kindOf_7 rfl (lv_at hl 0 rfl) ?_
    refine lv_iconst (v := 4) hx hb dX1_kindOf_8 (by decide) ?_
    refine lv_icmp_gt (tgt := 14) hx hb dX1_kindOf_9 (by decide) (fun c3 => ?_) (fun c3 => ?_)
    · have hw := hw.1 c3
      refine lv_iload_n hx hb dX1_kindOf_14 rfl (lv_at hl 0 rfl) ?_
      refine lv_bipush (v := 8) hx hb dX1_kindOf_15 (by decide) ?_
      refine lv_icmp_gt (tgt := 24) hx hb dX1_kindOf_17 (by decide) (fun c4 => ?_) (fun c4 => ?_)
      · have hw := hw.1 c4
        refine lv_iconst (v := 3) hx hb dX1_kindOf_24 (by decide) ?_
        exact riI S hr hlk hH hw dX1_kindOf_25
      · have hw := hw.2 c4
        refine lv_iconst (v := 2) hx hb dX1_kindOf_20 (by decide) ?_
        refine lv_goto (tgt := 25) hx hb dX1_kindOf_21 (by decide) ?_
        exact riI S hr hlk hH hw dX1_kindOf_25
    · have hw := hw.2 c3
      refine lv_iconst (v := 1) hx hb dX1_kindOf_12 (by decide) ?_
      exact riI S hr hlk hH hw dX1_kindOf_13
  · have hw := hw.2 c2
    refine lv_iconst (v := 0) hx hb dX1_kindOf_5 (by decide) ?_
    exact riI S hr hlk hH hw dX1_kindOf_6
set_option maxHeartbeats 4000000 in
theorem tX1_capacity (l : Launch) (D : va_G) (a : Nat → Nat) (d : ClassId) (x1 : Int32) : CTi l yX1_capacity cX1_capacity 1 (some .int) ({ frames := 0, cells := 0, slots := 0, locals := 0 }) (wX a d) D d [.int x1] (X1_capacity x1) := by
  refine msI (by decide) (Nat.le_of_ble_eq_true rfl) ?_
  intro p e s m below meth c A σ K ls S hr hlk hH hw hl
  obtain ⟨hx, hb, hml, hown, hts⟩ := id S
  unfold X1_capacity at hw
  have hl : lv_has ls 1 [(0, .int x1)] := hl
  refine lv_bipush (v := 8) hx hb dX1_capacity_0 (by decide) ?_
  refine lv_iload_n hx hb dX1_capacity_2 rfl (lv_at hl 0 rfl) ?_
  refine lv_ishr hx hb dX1_capacity_3 ?_
  exact riI S hr hlk hH hw dX1_capacity_4
set_option maxHeartbeats 4000000 in
theorem tX1_isGood (l : Launch) (D : va_G) (a : Nat → Nat) (d : ClassId) (x1 : Int32) : CTi l yX1_isGood cX1_isGood 2 (some .boolean) ({ frames := 0, cells := 0, slots := 0, locals := 0 }) (wX a d) D d [.ref (a 10), .int x1] (X1_isGood x1) := by
  refine msI (by decide) (Nat.le_of_ble_eq_true rfl) ?_
  intro p e s m below meth c A σ K ls S hr hlk hH hw hl
  obtain ⟨hx, hb, hml, hown, hts⟩ := id S
  unfold X1_isGood at hw
  have hl : lv_has ls 2 [(0, .ref (a 10)), (1, .int x1)] := hl
  refine lv_iload_n hx hb dX1_isGood_0 rfl (lv_at hl 1 rfl) ?_
  refine lv_if_lt (tgt := 23) hx hb dX1_isGood_1 (by decide) (fun c2 => ?_) (fun c2 => ?_)
  · have hw := hw.1 c2
    refine lv_iconst (v := 0) hx hb dX1_isGood_23 (by decide) ?_
    exact riZ S hr rfl hlk hH hw dX1_isGood_24
  · have hw := hw.2 c2
    refine lv_iload_n hx hb dX1_isGood_4 rfl (lv_at hl 1 rfl) ?_
    refine lv_bipush (v := 64) hx hb dX1_isGood_5 (by decide) ?_
    refine lv_icmp_ge (tgt := 23) hx hb dX1_isGood_7 (by decide) (fun c3 => ?_) (fun c3 => ?_)
    · have hw := hw.1 c3
      refine lv_iconst (v := 0) hx hb dX1_isGood_23 (by decide) ?_
      exact riZ S hr rfl hlk hH hw dX1_isGood_24
    · have hw := hw.2 c3
      refine lv_aload_n hx hb dX1_isGood_10 rfl (lv_at hl 0 rfl) ?_
      refine gX 6 S hH (by decide) q33 rfl dX1_isGood_11 ?_
      refine lv_iload_n hx hb dX1_isGood_14 rfl (lv_at hl 1 rfl) ?_
      obtain ⟨j4, hij4, hjj4, hw⟩ := hw
      refine lA (q0 := 7) (k := 6) S hH rfl hij4 hjj4 (by decide) dX1_isGood_15 ?_
      refine lv_if_le (tgt := 23) hx hb dX1_isGood_16 (by decide) (fun c5 => ?_) (fun c5 => ?_)
      · have hw := hw.1 c5
        refine lv_iconst (v := 0) hx hb dX1_isGood_23 (by decide) ?_
        exact riZ S hr rfl hlk hH hw dX1_isGood_24
      · have hw := hw.2 c5
        refine lv_iconst (v := 1) hx hb dX1_isGood_19 (by decide) ?_
        refine lv_goto (tgt := 24) hx hb dX1_isGood_20 (by decide) ?_
        exact riZ S hr rfl hlk hH hw dX1_isGood_24
set_option maxHeartbeats 4000000 in
theorem tX1_baseOf (l : Launch) (D : va_G) (a : Nat → Nat) (d : ClassId) (x1 : Int32) : CTi l yX1_baseOf cX1_baseOf 2 (some .int) ({ frames := 0, cells := 0, slots := 0, locals := 0 }) (wX a d) D d [.ref (a 10), .int x1] (X1_baseOf x1) := by
  refine msI (by decide) (Nat.le_of_ble_eq_true rfl) ?_
  intro p e s m below meth c A σ K ls S hr hlk hH hw hl
  obtain ⟨hx, hb, hml, hown, hts⟩ := id S
  unfold X1_baseOf at hw
  have hl : lv_has ls 2 [(0, .ref (a 10)), (1, .int x1)] := hl
  refine lv_bipush (v := 16) hx hb dX1_baseOf_0 (by decide) ?_
  refine lv_aload_n hx hb dX1_baseOf_2 rfl (lv_at hl 0 rfl) ?_
  refine gX 4 S hH (by decide) q31 rfl dX1_baseOf_3 ?_
  refine lv_iload_n hx hb dX1_baseOf_6 rfl (lv_at hl 1 rfl) ?_
  obtain ⟨j2, hij2, hjj2, hw⟩ := hw
  refine lA (q0 := 5) (k := 4) S hH rfl hij2 hjj2 (by decide) dX1_baseOf_7 ?_
  refine lv_imul hx hb dX1_baseOf_8 ?_
  refine lv_aload_n hx hb dX1_baseOf_9 rfl (lv_at hl 0 rfl) ?_
  refine gX 5 S hH (by decide) q32 rfl dX1_baseOf_10 ?_
  refine lv_iload_n hx hb dX1_baseOf_13 rfl (lv_at hl 1 rfl) ?_
  obtain ⟨j3, hij3, hjj3, hw⟩ := hw
  refine lA (q0 := 6) (k := 5) S hH rfl hij3 hjj3 (by decide) dX1_baseOf_14 ?_
  refine lv_aload_n hx hb dX1_baseOf_15 rfl (lv_at hl 0 rfl) ?_
  refine gX 1 S hH (by decide) q28 rfl dX1_baseOf_16 ?_
  refine lv_aload_n hx hb dX1_baseOf_19 rfl (lv_at hl 0 rfl) ?_
  refine gX 4 S hH (by decide) q31 rfl dX1_baseOf_20 ?_
  refine lv_iload_n hx hb dX1_baseOf_23 rfl (lv_at hl 1 rfl) ?_
  obtain ⟨j4, hij4, hjj4, hw⟩ := hw
  refine lA (q0 := 5) (k := 4) S hH rfl hij4 hjj4 (by decide) dX1_baseOf_24 ?_
  obtain ⟨j5, hij5, hjj5, hw⟩ := hw
  refine lA (q0 := 2) (k := 1) S hH rfl hij5 hjj5 (by decide) dX1_baseOf_25 ?_
  refine lv_iconst (v := 1) hx hb dX1_baseOf_26 (by decide) ?_
  refine lv_iadd hx hb dX1_baseOf_27 ?_
  refine lv_ishl hx hb dX1_baseOf_28 ?_
  refine lv_iadd hx hb dX1_baseOf_29 ?_
  exact riI S hr hlk hH hw dX1_baseOf_30
set_option maxHeartbeats 4000000 in
theorem tX1_word (l : Launch) (D : va_G) (a : Nat → Nat) (d : ClassId) (x1 x2 : Int32) : CTi l yX1_word cX1_word 4 (some .int) ({ frames := 1, cells := 0, slots := 0, locals := 21 }) (wX a d) D d [.ref (a 10), .int x1, .int x2] (X1_word x1 x2) := by
  refine msI (by decide) (Nat.le_of_ble_eq_true rfl) ?_
  intro p e s m below meth c A σ K ls S hr hlk hH hw hl
  obtain ⟨hx, hb, hml, hown, hts⟩ := id S
  unfold X1_word at hw
  have hl : lv_has ls 4 [(0, .ref (a 10)), (1, .int x1), (2, .int x2)] := hl
  refine lv_aload_n hx hb dX1_word_0 rfl (lv_at hl 0 rfl) ?_
  refine lv_iload_n hx hb dX1_word_1 rfl (lv_at hl 1 rfl) ?_
  refine cVi (q := (RX1, TX1, 13)) S hH (tX1_baseOf l D a d x1) (cwV 1 hts gwX1_84 rfl rfl rfl hdX1_baseOf ⟨Nat.le_of_ble_eq_true rfl, Nat.le_of_ble_eq_true rfl⟩) rfl rfl hw rfl hl.1 rfl (Nat.le_of_ble_eq_true rfl) dX1_word_2 ⟨Nat.zero_le _, Nat.zero_le _⟩ (fun r4 σ3 H locs hw hH => ?_)
  refine lv_istore_n (lv' := [(3, .int r4), (0, .ref (a 10)), (1, .int x1), (2, .int x2)]) hx hb dX1_word_5 rfl hl (by decide) rfl (fun ls hl => ?_)
  refine lv_aload_n hx hb dX1_word_6 rfl (lv_at hl 1 rfl) ?_
  refine gX 0 S hH (by decide) q27 rfl dX1_word_7 ?_
  refine lv_iload_n hx hb dX1_word_10 rfl (lv_at hl 0 rfl) ?_
  refine lv_iload_n hx hb dX1_word_11 rfl (lv_at hl 3 rfl) ?_
  refine lv_iadd hx hb dX1_word_12 ?_
  obtain ⟨j5, hij5, hjj5, hw⟩ := hw
  refine lA (q0 := 1) (k := 0) S hH rfl hij5 hjj5 (by decide) dX1_word_13 ?_
  exact riI S hr hlk hH hw dX1_word_14
set_option maxHeartbeats 4000000 in
theorem X1_wipe_L10_ok {p : Program} {l : Launch} {e : Env} {s : State} {m : MethodId} {args : Array Value} {below : List Frame} {meth : Method} {c : Code} {D : va_G} {a : Nat → Nat} {d : ClassId} {A : Nat → Prop} {K : St → Prop} (S : CallFix p m c cX1_wipe 6 s args lw_all RX1) (hr : meth.sig.returnType = none) (hlk : meth.locks = false) : ∀ (n : Nat) (y3 y4 y5 : Int32) (σ : St) (H : Heap) (locs : List Loc) (ls : Array Slot), X1_wipe_L10 K n y3 y4 y5 σ → HH D (wX a d) d A s σ H locs → lv_has ls 6 [(0, .ref (a 10)), (3, .int y3), (4, .int y4), (5, .int y5)] → W p l e ({ frames := 1, cells := 0, slots := 0, locals := 21 }) s m args below meth c H locs 0 0 (MQ below (va_Qv K (wO D (wX a d) d A) A) args s 0 0 A) (F0 m 10 ls []) := by
  obtain ⟨hx, hb, hml, hown, hts⟩ := id S
  intro n
  induction n with
  | zero => intro y3 y4 y5 σ H locs ls hw; exact False.elim hw
  | succ n ih =>
    intro y3 y4 y5 σ H locs ls hw hH hl
    rw [X1_wipe_L10] at hw
    refine lv_iload hx hb dX1_wipe_10 (lv_at hl 3 rfl) ?_
    refine lv_iload_n hx hb dX1_wipe_12 rfl (lv_at hl 1 rfl) ?_
    refine lv_icmp_ge (tgt := 33) hx hb dX1_wipe_13 (by decide) (fun c6 => ?_) (fun c6 => ?_)
    · have hw := hw.1 c6
      exact riV S hr hlk hH hw dX1_wipe_33
    · have hw := hw.2 c6
      refine lv_aload_n hx hb dX1_wipe_16 rfl (lv_at hl 0 rfl) ?_
      refine gX 0 S hH (by decide) q27 rfl dX1_wipe_17 ?_
      refine lv_iload hx hb dX1_wipe_20 (lv_at hl 2 rfl) ?_
      refine lv_iload hx hb dX1_wipe_22 (lv_at hl 3 rfl) ?_
      refine lv_iadd hx hb dX1_wipe_24 ?_
      refine lv_iconst (v := 0) hx hb dX1_wipe_25 (by decide) ?_
      obtain ⟨j7, hij7, hjj7, hw⟩ := hw
      refine sA (q0 := 1) (k := 0) S hH rfl (wX_set_0 σ a d j7 _) hij7 hjj7 (by decide) dX1_wipe_26 (fun H locs hH => ?_)
      obtain ⟨σ8, eσ8⟩ : ∃ z : St, z = up σ 0 j7 0 := ⟨_, rfl⟩
      rw [← eσ8] at hH
      have hw := hw σ8 eσ8
      obtain ⟨x9, ex9⟩ : ∃ y : Int32, y = y5 + 1 := ⟨_, rfl⟩
      have hw := hw x9 ex9
      refine lv_iinc (v := x9) (lv' := [(5, .int x9), (0, .ref (a 10)), (3, .int y3), (4, .int y4)]) hx hb dX1_wipe_27 hl (k := 3) rfl (by rw [ex9]; rfl) (by decide) rfl (fun ls hl => ?_)
      refine lv_goto (tgt := 10) hx hb dX1_wipe_30 (by decide) ?_
      exact ih _ _ _ _ _ _ _ hw hH (lv_sub hl [1, 2, 3, 0] rfl)
set_option maxHeartbeats 4000000 in
theorem tX1_wipe (l : Launch) (D : va_G) (a : Nat → Nat) (d : ClassId) (x1 x2 x3 : Int32) : CTv l yX1_wipe cX1_wipe 6 none ({ frames := 1, cells := 0, slots := 0, locals := 21 }) (wX a d) D d [.ref (a 10), .int x1, .int x2, .int x3] (X1_wipe x1 x2 x3) := by
  refine msV (by decide) (Nat.le_of_ble_eq_true rfl) ?_
  intro p e s m below meth c A σ K ls S hr hlk hH hw hl
  obtain ⟨hx, hb, hml, hown, hts⟩ := id S
  unfold X1_wipe at hw
  have hl : lv_has ls 6 [(0, .ref (a 10)), (1, .int x1), (2, .int x2), (3, .int x3)] := hl
  refine lv_aload_n hx hb dX1_wipe_0 rfl (lv_at hl 0 rfl) ?_
  refine lv_iload_n hx hb dX1_wipe_1 rfl (lv_at hl 1 rfl) ?_
  refine cVi (q := (RX1, TX1, 13)) S hH (tX1_baseOf l D a d x1) (cwV 1 hts gwX1_84 rfl rfl rfl hdX1_baseOf ⟨Nat.le_of_ble_eq_true rfl, Nat.le_of_ble_eq_true rfl⟩) rfl rfl hw rfl hl.1 rfl (Nat.le_of_ble_eq_true rfl) dX1_wipe_2 ⟨Nat.zero_le _, Nat.zero_le _⟩ (fun r5 σ4 H locs hw hH => ?_)
  refine lv_istore (lv' := [(4, .int r5), (0, .ref (a 10)), (1, .int x1), (2, .int x2), (3, .int x3)]) hx hb dX1_wipe_5 hl (by decide) rfl (fun ls hl => ?_)
  refine lv_iload_n hx hb dX1_wipe_7 rfl (lv_at hl 3 rfl) ?_
  refine lv_istore (lv' := [(5, .int x2), (4, .int r5), (0, .ref (a 10)), (1, .int x1), (2, .int x2), (3, .int x3)]) hx hb dX1_wipe_8 hl (by decide) rfl (fun ls hl => ?_)
  obtain ⟨n10, hw⟩ := hw
  exact X1_wipe_L10_ok S hr hlk n10 _ _ _ _ _ _ _ hw hH (lv_sub hl [2, 5, 1, 0] rfl)
set_option maxHeartbeats 4000000 in
theorem X1_leastFree_L2_ok {p : Program} {l : Launch} {e : Env} {s : State} {m : MethodId} {args : Array Value} {below : List Frame} {meth : Method} {c : Code} {D : va_G} {a : Nat → Nat} {d : ClassId} {A : Nat → Prop} {K : Int32 → St → Prop} (S : CallFix p m c cX1_leastFree 2 s args lw_all RX1) (hr : meth.sig.returnType = (some .int)) (hlk : meth.locks = false) : ∀ (n : Nat) (y1 : Int32) (σ : St) (H : Heap) (locs : List Loc) (ls : Array Slot), X1_leastFree_L2 K n y1 σ → HH D (wX a d) d A s σ H locs → lv_has ls 2 [(0, .ref (a 10)), (1, .int y1)] → W p l e ({ frames := 0, cells := 0, slots := 0, locals := 0 }) s m args below meth c H locs 0 0 (MQ below (va_Qi K (wO D (wX a d) d A) A) args s 0 0 A) (F0 m 2 ls []) := by
  obtain ⟨hx, hb, hml, hown, hts⟩ := id S
  intro n
  induction n with
  | zero => intro y1 σ H locs ls hw; exact False.elim hw
  | succ n ih =>
    intro y1 σ H locs ls hw hH hl
    rw [X1_leastFree_L2] at hw
    refine lv_iload_n hx hb dX1_leastFree_2 rfl (lv_at hl 1 rfl) ?_
    refine lv_bipush (v := 64) hx hb dX1_leastFree_3 (by decide) ?_
    refine lv_icmp_ge (tgt := 25) hx hb dX1_leastFree_5 (by decide) (fun c1 => ?_) (fun c1 => ?_)
    · have hw := hw.1 c1
      refine lv_iconst (v := 0) hx hb dX1_leastFree_25 (by decide) ?_
      exact riI S hr hlk hH hw dX1_leastFree_26
    · have hw := hw.2 c1
      refine lv_aload_n hx hb dX1_leastFree_8 rfl (lv_at hl 0 rfl) ?_
      refine gX 6 S hH (by decide) q33 rfl dX1_leastFree_9 ?_
      refine lv_iload_n hx hb dX1_leastFree_12 rfl (lv_at hl 1 rfl) ?_
      obtain ⟨j2, hij2, hjj2, hw⟩ := hw
      refine lA (q0 := 7) (k := 6) S hH rfl hij2 hjj2 (by decide) dX1_leastFree_13 ?_
      refine lv_if_ne (tgt := 19) hx hb dX1_leastFree_14 (by decide) (fun c3 => ?_) (fun c3 => ?_)
      · have hw := hw.2 c3
        obtain ⟨x4, ex4⟩ : ∃ y : Int32, y = y1 + 1 := ⟨_, rfl⟩
        have hw := hw x4 ex4
        refine lv_iinc (v := x4) (lv' := [(1, .int x4), (0, .ref (a 10))]) hx hb dX1_leastFree_19 hl (k := 1) rfl (by rw [ex4]; rfl) (by decide) rfl (fun ls hl => ?_)
        refine lv_goto (tgt := 2) hx hb dX1_leastFree_22 (by decide) ?_
        exact ih _ _ _ _ _ hw hH (lv_sub hl [1, 0] rfl)
      · have hw := hw.1 c3
        refine lv_iload_n hx hb dX1_leastFree_17 rfl (lv_at hl 1 rfl) ?_
        exact riI S hr hlk hH hw dX1_leastFree_18
set_option maxHeartbeats 4000000 in
theorem tX1_leastFree (l : Launch) (D : va_G) (a : Nat → Nat) (d : ClassId) : CTi l yX1_leastFree cX1_leastFree 2 (some .int) ({ frames := 0, cells := 0, slots := 0, locals := 0 }) (wX a d) D d [.ref (a 10)] (X1_leastFree) := by
  refine msI (by decide) (Nat.le_of_ble_eq_true rfl) ?_
  intro p e s m below meth c A σ K ls S hr hlk hH hw hl
  obtain ⟨hx, hb, hml, hown, hts⟩ := id S
  unfold X1_leastFree at hw
  have hl : lv_has ls 2 [(0, .ref (a 10))] := hl
  refine lv_iconst (v := 0) hx hb dX1_leastFree_0 (by decide) ?_
  refine lv_istore_n (lv' := [(1, .int 0), (0, .ref (a 10))]) hx hb dX1_leastFree_1 rfl hl (by decide) rfl (fun ls hl => ?_)
  obtain ⟨n5, hw⟩ := hw
  exact X1_leastFree_L2_ok S hr hlk n5 _ _ _ _ _ hw hH (lv_sub hl [1, 0] rfl)
set_option maxHeartbeats 4000000 in
theorem X1_neededAfter_B58_ok {p : Program} {l : Launch} {e : Env} {s : State} {m : MethodId} {args : Array Value} {below : List Frame} {meth : Method} {c : Code} {D : va_G} {a : Nat → Nat} {d : ClassId} {A : Nat → Prop} {K : Int32 → St → Prop} (S : CallFix p m c cX1_neededAfter 6 s args lw_all RX1) (hr : meth.sig.returnType = (some .int)) (hlk : meth.locks = false) (y2 y4 y5 : Int32) (σ : St) (H : Heap) (locs : List Loc) (ls : Array Slot) (hw : X1_neededAfter_B58 K y2 y4 y5 σ) (hH : HH D (wX a d) d A s σ H locs) (hl : lv_has ls 6 [(0, .ref (a 10)), (2, .int y2), (4, .int y4), (5, .int y5)]) : W p l e ({ frames := 1, cells := 0, slots := 0, locals := 20 }) s m args below meth c H locs 0 0 (MQ below (va_Qi K (wO D (wX a d) d A) A) args s 0 0 A) (F0 m 58 ls []) := by
  obtain ⟨hx, hb, hml, hown, hts⟩ := id S
  unfold X1_neededAfter_B58 at hw
  refine lv_aload_n hx hb dX1_neededAfter_58 rfl (lv_at hl 0 rfl) ?_
  refine gX 7 S hH (by decide) q34 rfl dX1_neededAfter_59 ?_
  refine lv_iload_n hx hb dX1_neededAfter_62 rfl (lv_at hl 1 rfl) ?_
  obtain ⟨j11, hij11, hjj11, hw⟩ := hw
  refine lA (q0 := 8) (k := 7) S hH rfl hij11 hjj11 (by decide) dX1_neededAfter_63 ?_
  refine lv_iconst (v := (-1)) hx hb dX1_neededAfter_64 (by decide) ?_
  refine lv_icmp_eq (tgt := 84) hx hb dX1_neededAfter_65 (by decide) (fun c12 => ?_) (fun c12 => ?_)
  · have hw := hw.1 c12
    obtain ⟨x13, ex13⟩ : ∃ y : Int32, y = y5 + 1 := ⟨_, rfl⟩
    have hw := hw x13 ex13
    refine lv_iinc (v := x13) (lv' := [(5, .int x13), (0, .ref (a 10)), (2, .int y2), (4, .int y4)]) hx hb dX1_neededAfter_84 hl (k := 3) rfl (by rw [ex13]; rfl) (by decide) rfl (fun ls hl => ?_)
    refine lv_iload hx hb dX1_neededAfter_87 (lv_at hl 0 rfl) ?_
    exact riI S hr hlk hH hw dX1_neededAfter_89
  · have hw := hw.2 c12
    refine lv_aload_n hx hb dX1_neededAfter_68 rfl (lv_at hl 0 rfl) ?_
    refine gX 2 S hH (by decide) q29 rfl dX1_neededAfter_69 ?_
    refine lv_aload_n hx hb dX1_neededAfter_72 rfl (lv_at hl 0 rfl) ?_
    refine gX 7 S hH (by decide) q34 rfl dX1_neededAfter_73 ?_
    refine lv_iload_n hx hb dX1_neededAfter_76 rfl (lv_at hl 1 rfl) ?_
    obtain ⟨j14, hij14, hjj14, hw⟩ := hw
    refine lA (q0 := 8) (k := 7) S hH rfl hij14 hjj14 (by decide) dX1_neededAfter_77 ?_
    obtain ⟨j15, hij15, hjj15, hw⟩ := hw
    refine lA (q0 := 3) (k := 2) S hH rfl hij15 hjj15 (by decide) dX1_neededAfter_78 ?_
    refine lv_iload hx hb dX1_neededAfter_79 (lv_at hl 2 rfl) ?_
    refine lv_icmp_ne (tgt := 87) hx hb dX1_neededAfter_81 (by decide) (fun c16 => ?_) (fun c16 => ?_)
    · have hw := hw.2 c16
      refine lv_iload hx hb dX1_neededAfter_87 (lv_at hl 3 rfl) ?_
      exact riI S hr hlk hH hw dX1_neededAfter_89
    · have hw := hw.1 c16
      obtain ⟨x17, ex17⟩ : ∃ y : Int32, y = y5 + 1 := ⟨_, rfl⟩
      have hw := hw x17 ex17
      refine lv_iinc (v := x17) (lv' := [(5, .int x17), (0, .ref (a 10)), (2, .int y2), (4, .int y4)]) hx hb dX1_neededAfter_84 hl (k := 3) rfl (by rw [ex17]; rfl) (by decide) rfl (fun ls hl => ?_)
      refine lv_iload hx hb dX1_neededAfter_87 (lv_at hl 0 rfl) ?_
      exact riI S hr hlk hH hw dX1_neededAfter_89
set_option maxHeartbeats 4000000 in
theorem X1_neededAfter_B55_ok {p : Program} {l : Launch} {e : Env} {s : State} {m : MethodId} {args : Array Value} {below : List Frame} {meth : Method} {c : Code} {D : va_G} {a : Nat → Nat} {d : ClassId} {A : Nat → Prop} {K : Int32 → St → Prop} (S : CallFix p m c cX1_neededAfter 6 s args lw_all RX1) (hr : meth.sig.returnType = (some .int)) (hlk : meth.locks = false) (y2 y4 y5 : Int32) (σ : St) (H : Heap) (locs : List Loc) (ls : Array Slot) (hw : X1_neededAfter_B55 K y2 y4 y5 σ) (hH : HH D (wX a d) d A s σ H locs) (hl : lv_has ls 6 [(0, .ref (a 10)), (2, .int y2), (4, .int y4), (5, .int y5)]) : W p l e ({ frames := 1, cells := 0, slots := 0, locals := 20 }) s m args below meth c H locs 0 0 (MQ below (va_Qi K (wO D (wX a d) d A) A) args s 0 0 A) (F0 m 55 ls []) := by
  obtain ⟨hx, hb, hml, hown, hts⟩ := id S
  unfold X1_neededAfter_B55 at hw
  obtain ⟨x18, ex18⟩ : ∃ y : Int32, y = y5 + (-1) := ⟨_, rfl⟩
  have hw := hw x18 ex18
  refine lv_iinc (v := x18) (lv' := [(5, .int x18), (0, .ref (a 10)), (2, .int y2), (4, .int y4)]) hx hb dX1_neededAfter_55 hl (k := 3) rfl (by rw [ex18]; rfl) (by decide) rfl (fun ls hl => ?_)
  exact X1_neededAfter_B58_ok S hr hlk _ _ _ _ _ _ _ hw hH (lv_sub hl [1, 2, 3, 0] rfl)
set_option maxHeartbeats 4000000 in
theorem tX1_neededAfter (l : Launch) (D : va_G) (a : Nat → Nat) (d : ClassId) (x1 x2 : Int32) : CTi l yX1_neededAfter cX1_neededAfter 6 (some .int) ({ frames := 1, cells := 0, slots := 0, locals := 20 }) (wX a d) D d [.ref (a 10), .int x1, .int x2] (X1_neededAfter x1 x2) := by
  refine msI (by decide) (Nat.le_of_ble_eq_true rfl) ?_
  intro p e s m below meth c A σ K ls S hr hlk hH hw hl
  obtain ⟨hx, hb, hml, hown, hts⟩ := id S
  unfold X1_neededAfter at hw
  have hl : lv_has ls 6 [(0, .ref (a 10)), (1, .int x1), (2, .int x2)] := hl
  refine lv_iload_n hx hb dX1_neededAfter_0 rfl (lv_at hl 1 rfl) ?_
  refine cSi S hH (tX1_capacity l D a d x1) (va_cwS 1 hts gwX1_93 rfl rfl rfl hdX1_capacity ⟨Nat.le_of_ble_eq_true rfl, Nat.le_of_ble_eq_true rfl⟩) hw rfl hl.1 rfl (Nat.le_of_ble_eq_true rfl) dX1_neededAfter_1 ⟨Nat.zero_le _, Nat.zero_le _⟩ (fun r4 σ3 H locs hw hH => ?_)
  refine lv_istore_n (lv' := [(3, .int r4), (0, .ref (a 10)), (1, .int x1), (2, .int x2)]) hx hb dX1_neededAfter_4 rfl hl (by decide) rfl (fun ls hl => ?_)
  refine lv_iload_n hx hb dX1_neededAfter_5 rfl (lv_at hl 3 rfl) ?_
  refine cSi S hH (tX1_capacity l D a d x2) (va_cwS 1 hts gwX1_93 rfl rfl rfl hdX1_capacity ⟨Nat.le_of_ble_eq_true rfl, Nat.le_of_ble_eq_true rfl⟩) hw rfl hl.1 rfl (Nat.le_of_ble_eq_true rfl) dX1_neededAfter_6 ⟨Nat.zero_le _, Nat.zero_le _⟩ (fun r6 σ5 H locs hw hH => ?_)
  refine lv_istore (lv' := [(4, .int r6), (3, .int r4), (0, .ref (a 10)), (1, .int x1), (2, .int x2)]) hx hb dX1_neededAfter_9 hl (by decide) rfl (fun ls hl => ?_)
  refine lv_aload_n hx hb dX1_neededAfter_11 rfl (lv_at hl 2 rfl) ?_
  refine gX 10 S hH (by decide) q37 rfl dX1_neededAfter_12 ?_
  refine lv_aload_n hx hb dX1_neededAfter_15 rfl (lv_at hl 2 rfl) ?_
  refine gX 11 S hH (by decide) q38 rfl dX1_neededAfter_16 ?_
  refine lv_isub hx hb dX1_neededAfter_19 ?_
  refine lv_topi (fun x7 ex7 => ?_)
  have hw := hw x7 ex7
  refine lv_istore (lv' := [(5, .int x7), (4, .int r6), (3, .int r4), (0, .ref (a 10)), (1, .int x1), (2, .int x2)]) hx hb dX1_neededAfter_20 hl (by decide) rfl (fun ls hl => ?_)
  refine lv_aload_n hx hb dX1_neededAfter_22 rfl (lv_at hl 3 rfl) ?_
  refine gX 7 S hH (by decide) q34 rfl dX1_neededAfter_23 ?_
  refine lv_iload_n hx hb dX1_neededAfter_26 rfl (lv_at hl 4 rfl) ?_
  obtain ⟨j8, hij8, hjj8, hw⟩ := hw
  refine lA (q0 := 8) (k := 7) S hH rfl hij8 hjj8 (by decide) dX1_neededAfter_27 ?_
  refine lv_iconst (v := (-1)) hx hb dX1_neededAfter_28 (by decide) ?_
  refine lv_icmp_eq (tgt := 50) hx hb dX1_neededAfter_29 (by decide) (fun c9 => ?_) (fun c9 => ?_)
  · have hw := hw.1 c9
    refine lv_iload_n hx hb dX1_neededAfter_50 rfl (lv_at hl 2 rfl) ?_
    refine lv_iconst (v := 1) hx hb dX1_neededAfter_51 (by decide) ?_
    refine lv_icmp_ne (tgt := 58) hx hb dX1_neededAfter_52 (by decide) (fun c10 => ?_) (fun c10 => ?_)
    · have hw := hw.2 c10
      exact X1_neededAfter_B58_ok S hr hlk _ _ _ _ _ _ _ hw hH (lv_sub hl [3, 5, 1, 0] rfl)
    · have hw := hw.1 c10
      exact X1_neededAfter_B55_ok S hr hlk _ _ _ _ _ _ _ hw hH (lv_sub hl [3, 5, 1, 0] rfl)
  · have hw := hw.2 c9
    refine lv_aload_n hx hb dX1_neededAfter_32 rfl (lv_at hl 3 rfl) ?_
    refine gX 2 S hH (by decide) q29 rfl dX1_neededAfter_33 ?_
    refine lv_aload_n hx hb dX1_neededAfter_36 rfl (lv_at hl 3 rfl) ?_
    refine gX 7 S hH (by decide) q34 rfl dX1_neededAfter_37 ?_
    refine lv_iload_n hx hb dX1_neededAfter_40 rfl (lv_at hl 4 rfl) ?_
    obtain ⟨j19, hij19, hjj19, hw⟩ := hw
    refine lA (q0 := 8) (k := 7) S hH rfl hij19 hjj19 (by decide) dX1_neededAfter_41 ?_
    obtain ⟨j20, hij20, hjj20, hw⟩ := hw
    refine lA (q0 := 3) (k := 2) S hH rfl hij20 hjj20 (by decide) dX1_neededAfter_42 ?_
    refine lv_iconst (v := 1) hx hb dX1_neededAfter_43 (by decide) ?_
    refine lv_icmp_ne (tgt := 58) hx hb dX1_neededAfter_44 (by decide) (fun c21 => ?_) (fun c21 => ?_)
    · have hw := hw.2 c21
      exact X1_neededAfter_B58_ok S hr hlk _ _ _ _ _ _ _ hw hH (lv_sub hl [3, 5, 1, 0] rfl)
    · have hw := hw.1 c21
      refine lv_goto (tgt := 55) hx hb dX1_neededAfter_47 (by decide) ?_
      exact X1_neededAfter_B55_ok S hr hlk _ _ _ _ _ _ _ hw hH (lv_sub hl [3, 5, 1, 0] rfl)
end
section
set_option maxRecDepth 100000
set_option maxHeartbeats 4000000 in
theorem X1_placeObject_B107_ok {p : Program} {l : Launch} {e : Env} {s : State} {m : MethodId} {args : Array Value} {below : List Frame} {meth : Method} {c : Code} {D : va_G} {a : Nat → Nat} {d : ClassId} {A : Nat → Prop} {K : St → Prop} (S : CallFix p m c cX1_placeObject 6 s args lw_all RX1) (hr : meth.sig.returnType = none) (hlk : meth.locks = false) (y1 y2 y3 y4 y5 : Int32) (σ : St) (H : Heap) (locs : List Loc) (ls : Array Slot) (hw : X1_placeObject_B107 K y1 y2 y3 y4 y5 σ) (hH : HH D (wX a d) d A s σ H locs) (hl : lv_has ls 6 [(0, .ref (a 10)), (1, .int y1), (2, .int y2), (3, .int y3), (4, .int y4), (5, .int y5)]) : W p l e ({ frames := 1, cells := 0, slots := 0, locals := 20 }) s m args below meth c H locs 0 0 (MQ below (va_Qv K (wO D (wX a d) d A) A) args s 0 0 A) (F0 m 107 ls []) := by
  obtain ⟨hx, hb, hml, hown, hts⟩ := id S
  unfold X1_placeObject_B107 at hw
  refine lv_aload_n hx hb dX1_placeObject_107 rfl (lv_at hl 0 rfl) ?_
  refine gX 3 S hH (by decide) q30 rfl dX1_placeObject_108 ?_
  refine lv_bipush (v := 8) hx hb dX1_placeObject_111 (by decide) ?_
  refine lv_iload_n hx hb dX1_placeObject_113 rfl (lv_at hl 3 rfl) ?_
  refine lv_imul hx hb dX1_placeObject_114 ?_
  refine lv_iload hx hb dX1_placeObject_115 (lv_at hl 5 rfl) ?_
  refine lv_iadd hx hb dX1_placeObject_117 ?_
  refine lv_iload_n hx hb dX1_placeObject_118 rfl (lv_at hl 1 rfl) ?_
  obtain ⟨j9, hij9, hjj9, hw⟩ := hw
  refine sA (q0 := 4) (k := 3) S hH rfl (wX_set_3 σ a d j9 _) hij9 hjj9 (by decide) dX1_placeObject_119 (fun H locs hH => ?_)
  obtain ⟨σ10, eσ10⟩ : ∃ z : St, z = up σ 3 j9 y1 := ⟨_, rfl⟩
  rw [← eσ10] at hH
  have hw := hw σ10 eσ10
  refine lv_aload_n hx hb dX1_placeObject_120 rfl (lv_at hl 0 rfl) ?_
  refine gX 4 S hH (by decide) q31 rfl dX1_placeObject_121 ?_
  refine lv_iload_n hx hb dX1_placeObject_124 rfl (lv_at hl 1 rfl) ?_
  refine lv_iload_n hx hb dX1_placeObject_125 rfl (lv_at hl 3 rfl) ?_
  obtain ⟨j11, hij11, hjj11, hw⟩ := hw
  refine sA (q0 := 5) (k := 4) S hH rfl (wX_set_4 σ10 a d j11 _) hij11 hjj11 (by decide) dX1_placeObject_126 (fun H locs hH => ?_)
  obtain ⟨σ12, eσ12⟩ : ∃ z : St, z = up σ10 4 j11 y3 := ⟨_, rfl⟩
  rw [← eσ12] at hH
  have hw := hw σ12 eσ12
  refine lv_aload_n hx hb dX1_placeObject_127 rfl (lv_at hl 0 rfl) ?_
  refine gX 5 S hH (by decide) q32 rfl dX1_placeObject_128 ?_
  refine lv_iload_n hx hb dX1_placeObject_131 rfl (lv_at hl 1 rfl) ?_
  refine lv_iload hx hb dX1_placeObject_132 (lv_at hl 5 rfl) ?_
  obtain ⟨j13, hij13, hjj13, hw⟩ := hw
  refine sA (q0 := 6) (k := 5) S hH rfl (wX_set_5 σ12 a d j13 _) hij13 hjj13 (by decide) dX1_placeObject_134 (fun H locs hH => ?_)
  obtain ⟨σ14, eσ14⟩ : ∃ z : St, z = up σ12 5 j13 y5 := ⟨_, rfl⟩
  rw [← eσ14] at hH
  have hw := hw σ14 eσ14
  refine lv_aload_n hx hb dX1_placeObject_135 rfl (lv_at hl 0 rfl) ?_
  refine gX 2 S hH (by decide) q29 rfl dX1_placeObject_136 ?_
  refine lv_iload_n hx hb dX1_placeObject_139 rfl (lv_at hl 3 rfl) ?_
  refine lv_dup2_11 hx hb dX1_placeObject_140 rfl rfl ?_
  obtain ⟨j15, hij15, hjj15, hw⟩ := hw
  refine lA (q0 := 3) (k := 2) S hH rfl hij15 hjj15 (by decide) dX1_placeObject_141 ?_
  refine lv_iconst (v := 1) hx hb dX1_placeObject_142 (by decide) ?_
  refine lv_iadd hx hb dX1_placeObject_143 ?_
  obtain ⟨j16, hij16, hjj16, hw⟩ := hw
  refine sA (q0 := 3) (k := 2) S hH rfl (wX_set_2 σ14 a d j16 _) hij16 hjj16 (by decide) dX1_placeObject_144 (fun H locs hH => ?_)
  obtain ⟨σ17, eσ17⟩ : ∃ z : St, z = up σ14 2 j16 ((σ14 2 j15) + 1) := ⟨_, rfl⟩
  rw [← eσ17] at hH
  have hw := hw σ17 eσ17
  refine lv_aload_n hx hb dX1_placeObject_145 rfl (lv_at hl 0 rfl) ?_
  refine gX 8 S hH (by decide) q35 rfl dX1_placeObject_146 ?_
  refine lv_iload_n hx hb dX1_placeObject_149 rfl (lv_at hl 2 rfl) ?_
  refine lv_dup2_11 hx hb dX1_placeObject_150 rfl rfl ?_
  obtain ⟨j18, hij18, hjj18, hw⟩ := hw
  refine lA (q0 := 9) (k := 8) S hH rfl hij18 hjj18 (by decide) dX1_placeObject_151 ?_
  refine lv_iconst (v := 1) hx hb dX1_placeObject_152 (by decide) ?_
  refine lv_iadd hx hb dX1_placeObject_153 ?_
  obtain ⟨j19, hij19, hjj19, hw⟩ := hw
  refine sA (q0 := 9) (k := 8) S hH rfl (wX_set_8 σ17 a d j19 _) hij19 hjj19 (by decide) dX1_placeObject_154 (fun H locs hH => ?_)
  obtain ⟨σ20, eσ20⟩ : ∃ z : St, z = up σ17 8 j19 ((σ17 8 j18) + 1) := ⟨_, rfl⟩
  rw [← eσ20] at hH
  have hw := hw σ20 eσ20
  refine lv_aload_n hx hb dX1_placeObject_155 rfl (lv_at hl 0 rfl) ?_
  refine lv_dup hx hb dX1_placeObject_156 rfl ?_
  refine gX 12 S hH (by decide) q39 rfl dX1_placeObject_157 ?_
  refine lv_iconst (v := 1) hx hb dX1_placeObject_160 (by decide) ?_
  refine lv_iadd hx hb dX1_placeObject_161 ?_
  refine pX 2 S hH (by decide) q39 dX1_placeObject_162 (fun H locs hH => ?_)
  obtain ⟨σ21, eσ21⟩ : ∃ z : St, z = up σ20 10 2 ((σ20 10 2) + 1) := ⟨_, rfl⟩
  rw [← eσ21] at hH
  have hw := hw σ21 eσ21
  refine lv_aload_n hx hb dX1_placeObject_165 rfl (lv_at hl 0 rfl) ?_
  refine gX 2 S hH (by decide) q29 rfl dX1_placeObject_166 ?_
  refine lv_iload_n hx hb dX1_placeObject_169 rfl (lv_at hl 3 rfl) ?_
  obtain ⟨j22, hij22, hjj22, hw⟩ := hw
  refine lA (q0 := 3) (k := 2) S hH rfl hij22 hjj22 (by decide) dX1_placeObject_170 ?_
  refine lv_iload hx hb dX1_placeObject_171 (lv_at hl 4 rfl) ?_
  refine lv_icmp_ne (tgt := 183) hx hb dX1_placeObject_173 (by decide) (fun c23 => ?_) (fun c23 => ?_)
  · have hw := hw.2 c23
    exact riV S hr hlk hH hw dX1_placeObject_183
  · have hw := hw.1 c23
    refine lv_aload_n hx hb dX1_placeObject_176 rfl (lv_at hl 0 rfl) ?_
    refine gX 7 S hH (by decide) q34 rfl dX1_placeObject_177 ?_
    refine lv_iload_n hx hb dX1_placeObject_180 rfl (lv_at hl 2 rfl) ?_
    refine lv_iconst (v := (-1)) hx hb dX1_placeObject_181 (by decide) ?_
    obtain ⟨j24, hij24, hjj24, hw⟩ := hw
    refine sA (q0 := 8) (k := 7) S hH rfl (wX_set_7 σ21 a d j24 _) hij24 hjj24 (by decide) dX1_placeObject_182 (fun H locs hH => ?_)
    obtain ⟨σ25, eσ25⟩ : ∃ z : St, z = up σ21 7 j24 (-1) := ⟨_, rfl⟩
    rw [← eσ25] at hH
    have hw := hw σ25 eσ25
    exact riV S hr hlk hH hw dX1_placeObject_183
set_option maxHeartbeats 4000000 in
theorem X1_placeObject_L76_ok {p : Program} {l : Launch} {e : Env} {s : State} {m : MethodId} {args : Array Value} {below : List Frame} {meth : Method} {c : Code} {D : va_G} {a : Nat → Nat} {d : ClassId} {A : Nat → Prop} {K : St → Prop} (S : CallFix p m c cX1_placeObject 6 s args lw_all RX1) (hr : meth.sig.returnType = none) (hlk : meth.locks = false) : ∀ (n : Nat) (y1 y2 y3 y4 y5 : Int32) (σ : St) (H : Heap) (locs : List Loc) (ls : Array Slot), X1_placeObject_L76 K n y1 y2 y3 y4 y5 σ → HH D (wX a d) d A s σ H locs → lv_has ls 6 [(0, .ref (a 10)), (1, .int y1), (2, .int y2), (3, .int y3), (4, .int y4), (5, .int y5)] → W p l e ({ frames := 1, cells := 0, slots := 0, locals := 20 }) s m args below meth c H locs 0 0 (MQ below (va_Qv K (wO D (wX a d) d A) A) args s 0 0 A) (F0 m 76 ls []) := by
  obtain ⟨hx, hb, hml, hown, hts⟩ := id S
  intro n
  induction n with
  | zero => intro y1 y2 y3 y4 y5 σ H locs ls hw; exact False.elim hw
  | succ n ih =>
    intro y1 y2 y3 y4 y5 σ H locs ls hw hH hl
    rw [X1_placeObject_L76] at hw
    refine lv_iload hx hb dX1_placeObject_76 (lv_at hl 5 rfl) ?_
    refine lv_iload hx hb dX1_placeObject_78 (lv_at hl 4 rfl) ?_
    refine lv_iconst (v := 1) hx hb dX1_placeObject_80 (by decide) ?_
    refine lv_isub hx hb dX1_placeObject_81 ?_
    refine lv_icmp_ge (tgt := 107) hx hb dX1_placeObject_82 (by decide) (fun c8 => ?_) (fun c8 => ?_)
    · have hw := hw.1 c8
      exact X1_placeObject_B107_ok S hr hlk _ _ _ _ _ _ _ _ _ hw hH (lv_sub hl [0, 1, 2, 3, 4, 5] rfl)
    · have hw := hw.2 c8
      refine lv_aload_n hx hb dX1_placeObject_85 rfl (lv_at hl 0 rfl) ?_
      refine gX 3 S hH (by decide) q30 rfl dX1_placeObject_86 ?_
      refine lv_bipush (v := 8) hx hb dX1_placeObject_89 (by decide) ?_
      refine lv_iload_n hx hb dX1_placeObject_91 rfl (lv_at hl 3 rfl) ?_
      refine lv_imul hx hb dX1_placeObject_92 ?_
      refine lv_iload hx hb dX1_placeObject_93 (lv_at hl 5 rfl) ?_
      refine lv_iadd hx hb dX1_placeObject_95 ?_
      obtain ⟨j26, hij26, hjj26, hw⟩ := hw
      refine lA (q0 := 4) (k := 3) S hH rfl hij26 hjj26 (by decide) dX1_placeObject_96 ?_
      refine lv_iconst (v := (-1)) hx hb dX1_placeObject_97 (by decide) ?_
      refine lv_icmp_eq (tgt := 107) hx hb dX1_placeObject_98 (by decide) (fun c27 => ?_) (fun c27 => ?_)
      · have hw := hw.1 c27
        exact X1_placeObject_B107_ok S hr hlk _ _ _ _ _ _ _ _ _ hw hH (lv_sub hl [0, 1, 2, 3, 4, 5] rfl)
      · have hw := hw.2 c27
        obtain ⟨x28, ex28⟩ : ∃ y : Int32, y = y5 + 1 := ⟨_, rfl⟩
        have hw := hw x28 ex28
        refine lv_iinc (v := x28) (lv' := [(5, .int x28), (0, .ref (a 10)), (1, .int y1), (2, .int y2), (3, .int y3), (4, .int y4)]) hx hb dX1_placeObject_101 hl (k := 5) rfl (by rw [ex28]; rfl) (by decide) rfl (fun ls hl => ?_)
        refine lv_goto (tgt := 76) hx hb dX1_placeObject_104 (by decide) ?_
        exact ih _ _ _ _ _ _ _ _ _ hw hH (lv_sub hl [1, 2, 3, 4, 5, 0] rfl)
set_option maxHeartbeats 4000000 in
theorem X1_placeObject_B67_ok {p : Program} {l : Launch} {e : Env} {s : State} {m : MethodId} {args : Array Value} {below : List Frame} {meth : Method} {c : Code} {D : va_G} {a : Nat → Nat} {d : ClassId} {A : Nat → Prop} {K : St → Prop} (S : CallFix p m c cX1_placeObject 6 s args lw_all RX1) (hr : meth.sig.returnType = none) (hlk : meth.locks = false) (y1 y2 y3 : Int32) (σ : St) (H : Heap) (locs : List Loc) (ls : Array Slot) (hw : X1_placeObject_B67 K y1 y2 y3 σ) (hH : HH D (wX a d) d A s σ H locs) (hl : lv_has ls 6 [(0, .ref (a 10)), (1, .int y1), (2, .int y2), (3, .int y3)]) : W p l e ({ frames := 1, cells := 0, slots := 0, locals := 20 }) s m args below meth c H locs 0 0 (MQ below (va_Qv K (wO D (wX a d) d A) A) args s 0 0 A) (F0 m 67 ls []) := by
  obtain ⟨hx, hb, hml, hown, hts⟩ := id S
  unfold X1_placeObject_B67 at hw
  refine lv_iload_n hx hb dX1_placeObject_67 rfl (lv_at hl 2 rfl) ?_
  refine cSi S hH (tX1_capacity l D a d y2) (va_cwS 1 hts gwX1_93 rfl rfl rfl hdX1_capacity ⟨Nat.le_of_ble_eq_true rfl, Nat.le_of_ble_eq_true rfl⟩) hw rfl hl.1 rfl (Nat.le_of_ble_eq_true rfl) dX1_placeObject_68 ⟨Nat.zero_le _, Nat.zero_le _⟩ (fun r7 σ6 H locs hw hH => ?_)
  refine lv_istore (lv' := [(4, .int r7), (0, .ref (a 10)), (1, .int y1), (2, .int y2), (3, .int y3)]) hx hb dX1_placeObject_71 hl (by decide) rfl (fun ls hl => ?_)
  refine lv_iconst (v := 0) hx hb dX1_placeObject_73 (by decide) ?_
  refine lv_istore (lv' := [(5, .int 0), (4, .int r7), (0, .ref (a 10)), (1, .int y1), (2, .int y2), (3, .int y3)]) hx hb dX1_placeObject_74 hl (by decide) rfl (fun ls hl => ?_)
  obtain ⟨n29, hw⟩ := hw
  exact X1_placeObject_L76_ok S hr hlk n29 _ _ _ _ _ _ _ _ _ hw hH (lv_sub hl [2, 3, 4, 5, 1, 0] rfl)
set_option maxHeartbeats 4000000 in
theorem X1_placeObject_B36_ok {p : Program} {l : Launch} {e : Env} {s : State} {m : MethodId} {args : Array Value} {below : List Frame} {meth : Method} {c : Code} {D : va_G} {a : Nat → Nat} {d : ClassId} {A : Nat → Prop} {K : St → Prop} (S : CallFix p m c cX1_placeObject 6 s args lw_all RX1) (hr : meth.sig.returnType = none) (hlk : meth.locks = false) (y1 y2 y3 : Int32) (σ : St) (H : Heap) (locs : List Loc) (ls : Array Slot) (hw : X1_placeObject_B36 K y1 y2 y3 σ) (hH : HH D (wX a d) d A s σ H locs) (hl : lv_has ls 6 [(0, .ref (a 10)), (1, .int y1), (2, .int y2), (3, .int y3)]) : W p l e ({ frames := 1, cells := 0, slots := 0, locals := 20 }) s m args below meth c H locs 0 0 (MQ below (va_Qv K (wO D (wX a d) d A) A) args s 0 0 A) (F0 m 36 ls []) := by
  obtain ⟨hx, hb, hml, hown, hts⟩ := id S
  unfold X1_placeObject_B36 at hw
  refine lv_aload_n hx hb dX1_placeObject_36 rfl (lv_at hl 0 rfl) ?_
  refine gX 1 S hH (by decide) q28 rfl dX1_placeObject_37 ?_
  refine lv_iload_n hx hb dX1_placeObject_40 rfl (lv_at hl 3 rfl) ?_
  refine lv_iload_n hx hb dX1_placeObject_41 rfl (lv_at hl 2 rfl) ?_
  obtain ⟨j31, hij31, hjj31, hw⟩ := hw
  refine sA (q0 := 2) (k := 1) S hH rfl (wX_set_1 σ a d j31 _) hij31 hjj31 (by decide) dX1_placeObject_42 (fun H locs hH => ?_)
  obtain ⟨σ32, eσ32⟩ : ∃ z : St, z = up σ 1 j31 y2 := ⟨_, rfl⟩
  rw [← eσ32] at hH
  have hw := hw σ32 eσ32
  refine lv_aload_n hx hb dX1_placeObject_43 rfl (lv_at hl 0 rfl) ?_
  refine gX 2 S hH (by decide) q29 rfl dX1_placeObject_44 ?_
  refine lv_iload_n hx hb dX1_placeObject_47 rfl (lv_at hl 3 rfl) ?_
  refine lv_iconst (v := 0) hx hb dX1_placeObject_48 (by decide) ?_
  obtain ⟨j33, hij33, hjj33, hw⟩ := hw
  refine sA (q0 := 3) (k := 2) S hH rfl (wX_set_2 σ32 a d j33 _) hij33 hjj33 (by decide) dX1_placeObject_49 (fun H locs hH => ?_)
  obtain ⟨σ34, eσ34⟩ : ∃ z : St, z = up σ32 2 j33 0 := ⟨_, rfl⟩
  rw [← eσ34] at hH
  have hw := hw σ34 eσ34
  refine lv_aload_n hx hb dX1_placeObject_50 rfl (lv_at hl 0 rfl) ?_
  refine lv_dup hx hb dX1_placeObject_51 rfl ?_
  refine gX 11 S hH (by decide) q38 rfl dX1_placeObject_52 ?_
  refine lv_iconst (v := 1) hx hb dX1_placeObject_55 (by decide) ?_
  refine lv_isub hx hb dX1_placeObject_56 ?_
  refine pX 1 S hH (by decide) q38 dX1_placeObject_57 (fun H locs hH => ?_)
  obtain ⟨σ35, eσ35⟩ : ∃ z : St, z = up σ34 10 1 ((σ34 10 1) - 1) := ⟨_, rfl⟩
  rw [← eσ35] at hH
  have hw := hw σ35 eσ35
  refine lv_aload_n hx hb dX1_placeObject_60 rfl (lv_at hl 0 rfl) ?_
  refine gX 7 S hH (by decide) q34 rfl dX1_placeObject_61 ?_
  refine lv_iload_n hx hb dX1_placeObject_64 rfl (lv_at hl 2 rfl) ?_
  refine lv_iload_n hx hb dX1_placeObject_65 rfl (lv_at hl 3 rfl) ?_
  obtain ⟨j36, hij36, hjj36, hw⟩ := hw
  refine sA (q0 := 8) (k := 7) S hH rfl (wX_set_7 σ35 a d j36 _) hij36 hjj36 (by decide) dX1_placeObject_66 (fun H locs hH => ?_)
  obtain ⟨σ37, eσ37⟩ : ∃ z : St, z = up σ35 7 j36 y3 := ⟨_, rfl⟩
  rw [← eσ37] at hH
  have hw := hw σ37 eσ37
  exact X1_placeObject_B67_ok S hr hlk _ _ _ _ _ _ _ hw hH (lv_sub hl [0, 1, 2, 3] rfl)
set_option maxHeartbeats 4000000 in
theorem X1_placeObject_L14_ok {p : Program} {l : Launch} {e : Env} {s : State} {m : MethodId} {args : Array Value} {below : List Frame} {meth : Method} {c : Code} {D : va_G} {a : Nat → Nat} {d : ClassId} {A : Nat → Prop} {K : St → Prop} (S : CallFix p m c cX1_placeObject 6 s args lw_all RX1) (hr : meth.sig.returnType = none) (hlk : meth.locks = false) : ∀ (n : Nat) (y1 y2 y3 : Int32) (σ : St) (H : Heap) (locs : List Loc) (ls : Array Slot), X1_placeObject_L14 K n y1 y2 y3 σ → HH D (wX a d) d A s σ H locs → lv_has ls 6 [(0, .ref (a 10)), (1, .int y1), (2, .int y2), (3, .int y3)] → W p l e ({ frames := 1, cells := 0, slots := 0, locals := 20 }) s m args below meth c H locs 0 0 (MQ below (va_Qv K (wO D (wX a d) d A) A) args s 0 0 A) (F0 m 14 ls []) := by
  obtain ⟨hx, hb, hml, hown, hts⟩ := id S
  intro n
  induction n with
  | zero => intro y1 y2 y3 σ H locs ls hw; exact False.elim hw
  | succ n ih =>
    intro y1 y2 y3 σ H locs ls hw hH hl
    rw [X1_placeObject_L14] at hw
    refine lv_iload_n hx hb dX1_placeObject_14 rfl (lv_at hl 3 rfl) ?_
    refine lv_bipush (v := 11) hx hb dX1_placeObject_15 (by decide) ?_
    refine lv_icmp_ge (tgt := 36) hx hb dX1_placeObject_17 (by decide) (fun c30 => ?_) (fun c30 => ?_)
    · have hw := hw.1 c30
      exact X1_placeObject_B36_ok S hr hlk _ _ _ _ _ _ _ hw hH (lv_sub hl [0, 1, 2, 3] rfl)
    · have hw := hw.2 c30
      refine lv_aload_n hx hb dX1_placeObject_20 rfl (lv_at hl 0 rfl) ?_
      refine gX 1 S hH (by decide) q28 rfl dX1_placeObject_21 ?_
      refine lv_iload_n hx hb dX1_placeObject_24 rfl (lv_at hl 3 rfl) ?_
      obtain ⟨j38, hij38, hjj38, hw⟩ := hw
      refine lA (q0 := 2) (k := 1) S hH rfl hij38 hjj38 (by decide) dX1_placeObject_25 ?_
      refine lv_iconst (v := (-1)) hx hb dX1_placeObject_26 (by decide) ?_
      refine lv_icmp_eq (tgt := 36) hx hb dX1_placeObject_27 (by decide) (fun c39 => ?_) (fun c39 => ?_)
      · have hw := hw.1 c39
        exact X1_placeObject_B36_ok S hr hlk _ _ _ _ _ _ _ hw hH (lv_sub hl [0, 1, 2, 3] rfl)
      · have hw := hw.2 c39
        obtain ⟨x40, ex40⟩ : ∃ y : Int32, y = y3 + 1 := ⟨_, rfl⟩
        have hw := hw x40 ex40
        refine lv_iinc (v := x40) (lv' := [(3, .int x40), (0, .ref (a 10)), (1, .int y1), (2, .int y2)]) hx hb dX1_placeObject_30 hl (k := 3) rfl (by rw [ex40]; rfl) (by decide) rfl (fun ls hl => ?_)
        refine lv_goto (tgt := 14) hx hb dX1_placeObject_33 (by decide) ?_
        exact ih _ _ _ _ _ _ _ hw hH (lv_sub hl [1, 2, 3, 0] rfl)
set_option maxHeartbeats 4000000 in
theorem tX1_placeObject (l : Launch) (D : va_G) (a : Nat → Nat) (d : ClassId) (x1 x2 : Int32) : CTv l yX1_placeObject cX1_placeObject 6 none ({ frames := 1, cells := 0, slots := 0, locals := 20 }) (wX a d) D d [.ref (a 10), .int x1, .int x2] (X1_placeObject x1 x2) := by
  refine msV (by decide) (Nat.le_of_ble_eq_true rfl) ?_
  intro p e s m below meth c A σ K ls S hr hlk hH hw hl
  obtain ⟨hx, hb, hml, hown, hts⟩ := id S
  unfold X1_placeObject at hw
  have hl : lv_has ls 6 [(0, .ref (a 10)), (1, .int x1), (2, .int x2)] := hl
  refine lv_aload_n hx hb dX1_placeObject_0 rfl (lv_at hl 0 rfl) ?_
  refine gX 7 S hH (by decide) q34 rfl dX1_placeObject_1 ?_
  refine lv_iload_n hx hb dX1_placeObject_4 rfl (lv_at hl 2 rfl) ?_
  obtain ⟨j3, hij3, hjj3, hw⟩ := hw
  refine lA (q0 := 8) (k := 7) S hH rfl hij3 hjj3 (by decide) dX1_placeObject_5 ?_
  refine lv_topi (fun x4 ex4 => ?_)
  have hw := hw x4 ex4
  refine lv_istore_n (lv' := [(3, .int x4), (0, .ref (a 10)), (1, .int x1), (2, .int x2)]) hx hb dX1_placeObject_6 rfl hl (by decide) rfl (fun ls hl => ?_)
  refine lv_iload_n hx hb dX1_placeObject_7 rfl (lv_at hl 0 rfl) ?_
  refine lv_iconst (v := (-1)) hx hb dX1_placeObject_8 (by decide) ?_
  refine lv_icmp_ne (tgt := 67) hx hb dX1_placeObject_9 (by decide) (fun c5 => ?_) (fun c5 => ?_)
  · have hw := hw.2 c5
    exact X1_placeObject_B67_ok S hr hlk _ _ _ _ _ _ _ hw hH (lv_sub hl [1, 2, 3, 0] rfl)
  · have hw := hw.1 c5
    refine lv_iconst (v := 0) hx hb dX1_placeObject_12 (by decide) ?_
    refine lv_istore_n (lv' := [(3, .int 0), (0, .ref (a 10)), (1, .int x1), (2, .int x2)]) hx hb dX1_placeObject_13 rfl hl (by decide) rfl (fun ls hl => ?_)
    obtain ⟨n41, hw⟩ := hw
    exact X1_placeObject_L14_ok S hr hlk n41 _ _ _ _ _ _ _ hw hH (lv_sub hl [1, 2, 3, 0] rfl)
set_option maxHeartbeats 4000000 in
theorem X1_moveOne_L58_ok {p : Program} {l : Launch} {e : Env} {s : State} {m : MethodId} {args : Array Value} {below : List Frame} {meth : Method} {c : Code} {D : va_G} {a : Nat → Nat} {d : ClassId} {A : Nat → Prop} {K : St → Prop} (S : CallFix p m c cX1_moveOne 8 s args lw_all RX1) (hr : meth.sig.returnType = none) (hlk : meth.locks = false) : ∀ (n : Nat) (y1 y2 y3 y4 y5 y6 y7 : Int32) (σ : St) (H : Heap) (locs : List Loc) (ls : Array Slot), X1_moveOne_L58 K n y1 y2 y3 y4 y5 y6 y7 σ → HH D (wX a d) d A s σ H locs → lv_has ls 8 [(0, .ref (a 10)), (1, .int y1), (2, .int y2), (3, .int y3), (4, .int y4), (5, .int y5), (6, .int y6), (7, .int y7)] → W p l e ({ frames := 0, cells := 0, slots := 0, locals := 0 }) s m args below meth c H locs 0 0 (MQ below (va_Qv K (wO D (wX a d) d A) A) args s 0 0 A) (F0 m 58 ls []) := by
  obtain ⟨hx, hb, hml, hown, hts⟩ := id S
  intro n
  induction n with
  | zero => intro y1 y2 y3 y4 y5 y6 y7 σ H locs ls hw; exact False.elim hw
  | succ n ih =>
    intro y1 y2 y3 y4 y5 y6 y7 σ H locs ls hw hH hl
    rw [X1_moveOne_L58] at hw
    refine lv_iload hx hb dX1_moveOne_58 (lv_at hl 7 rfl) ?_
    refine lv_iload hx hb dX1_moveOne_60 (lv_at hl 6 rfl) ?_
    refine lv_icmp_ge (tgt := 106) hx hb dX1_moveOne_62 (by decide) (fun c9 => ?_) (fun c9 => ?_)
    · have hw := hw.1 c9
      refine lv_aload_n hx hb dX1_moveOne_106 rfl (lv_at hl 0 rfl) ?_
      refine gX 3 S hH (by decide) q30 rfl dX1_moveOne_107 ?_
      refine lv_bipush (v := 8) hx hb dX1_moveOne_110 (by decide) ?_
      refine lv_iload_n hx hb dX1_moveOne_112 rfl (lv_at hl 1 rfl) ?_
      refine lv_imul hx hb dX1_moveOne_113 ?_
      refine lv_iload hx hb dX1_moveOne_114 (lv_at hl 4 rfl) ?_
      refine lv_iadd hx hb dX1_moveOne_116 ?_
      refine lv_iconst (v := (-1)) hx hb dX1_moveOne_117 (by decide) ?_
      obtain ⟨j10, hij10, hjj10, hw⟩ := hw
      refine sA (q0 := 4) (k := 3) S hH rfl (wX_set_3 σ a d j10 _) hij10 hjj10 (by decide) dX1_moveOne_118 (fun H locs hH => ?_)
      obtain ⟨σ11, eσ11⟩ : ∃ z : St, z = up σ 3 j10 (-1) := ⟨_, rfl⟩
      rw [← eσ11] at hH
      have hw := hw σ11 eσ11
      refine lv_aload_n hx hb dX1_moveOne_119 rfl (lv_at hl 0 rfl) ?_
      refine gX 3 S hH (by decide) q30 rfl dX1_moveOne_120 ?_
      refine lv_bipush (v := 8) hx hb dX1_moveOne_123 (by decide) ?_
      refine lv_iload_n hx hb dX1_moveOne_125 rfl (lv_at hl 2 rfl) ?_
      refine lv_imul hx hb dX1_moveOne_126 ?_
      refine lv_iload_n hx hb dX1_moveOne_127 rfl (lv_at hl 3 rfl) ?_
      refine lv_iadd hx hb dX1_moveOne_128 ?_
      refine lv_iload hx hb dX1_moveOne_129 (lv_at hl 5 rfl) ?_
      obtain ⟨j12, hij12, hjj12, hw⟩ := hw
      refine sA (q0 := 4) (k := 3) S hH rfl (wX_set_3 σ11 a d j12 _) hij12 hjj12 (by decide) dX1_moveOne_131 (fun H locs hH => ?_)
      obtain ⟨σ13, eσ13⟩ : ∃ z : St, z = up σ11 3 j12 y5 := ⟨_, rfl⟩
      rw [← eσ13] at hH
      have hw := hw σ13 eσ13
      refine lv_aload_n hx hb dX1_moveOne_132 rfl (lv_at hl 0 rfl) ?_
      refine gX 4 S hH (by decide) q31 rfl dX1_moveOne_133 ?_
      refine lv_iload hx hb dX1_moveOne_136 (lv_at hl 5 rfl) ?_
      refine lv_iload_n hx hb dX1_moveOne_138 rfl (lv_at hl 2 rfl) ?_
      obtain ⟨j14, hij14, hjj14, hw⟩ := hw
      refine sA (q0 := 5) (k := 4) S hH rfl (wX_set_4 σ13 a d j14 _) hij14 hjj14 (by decide) dX1_moveOne_139 (fun H locs hH => ?_)
      obtain ⟨σ15, eσ15⟩ : ∃ z : St, z = up σ13 4 j14 y2 := ⟨_, rfl⟩
      rw [← eσ15] at hH
      have hw := hw σ15 eσ15
      refine lv_aload_n hx hb dX1_moveOne_140 rfl (lv_at hl 0 rfl) ?_
      refine gX 5 S hH (by decide) q32 rfl dX1_moveOne_141 ?_
      refine lv_iload hx hb dX1_moveOne_144 (lv_at hl 5 rfl) ?_
      refine lv_iload_n hx hb dX1_moveOne_146 rfl (lv_at hl 3 rfl) ?_
      obtain ⟨j16, hij16, hjj16, hw⟩ := hw
      refine sA (q0 := 6) (k := 5) S hH rfl (wX_set_5 σ15 a d j16 _) hij16 hjj16 (by decide) dX1_moveOne_147 (fun H locs hH => ?_)
      obtain ⟨σ17, eσ17⟩ : ∃ z : St, z = up σ15 5 j16 y3 := ⟨_, rfl⟩
      rw [← eσ17] at hH
      have hw := hw σ17 eσ17
      refine lv_aload_n hx hb dX1_moveOne_148 rfl (lv_at hl 0 rfl) ?_
      refine gX 2 S hH (by decide) q29 rfl dX1_moveOne_149 ?_
      refine lv_iload_n hx hb dX1_moveOne_152 rfl (lv_at hl 1 rfl) ?_
      refine lv_dup2_11 hx hb dX1_moveOne_153 rfl rfl ?_
      obtain ⟨j18, hij18, hjj18, hw⟩ := hw
      refine lA (q0 := 3) (k := 2) S hH rfl hij18 hjj18 (by decide) dX1_moveOne_154 ?_
      refine lv_iconst (v := 1) hx hb dX1_moveOne_155 (by decide) ?_
      refine lv_isub hx hb dX1_moveOne_156 ?_
      obtain ⟨j19, hij19, hjj19, hw⟩ := hw
      refine sA (q0 := 3) (k := 2) S hH rfl (wX_set_2 σ17 a d j19 _) hij19 hjj19 (by decide) dX1_moveOne_157 (fun H locs hH => ?_)
      obtain ⟨σ20, eσ20⟩ : ∃ z : St, z = up σ17 2 j19 ((σ17 2 j18) - 1) := ⟨_, rfl⟩
      rw [← eσ20] at hH
      have hw := hw σ20 eσ20
      refine lv_aload_n hx hb dX1_moveOne_158 rfl (lv_at hl 0 rfl) ?_
      refine gX 2 S hH (by decide) q29 rfl dX1_moveOne_159 ?_
      refine lv_iload_n hx hb dX1_moveOne_162 rfl (lv_at hl 2 rfl) ?_
      refine lv_dup2_11 hx hb dX1_moveOne_163 rfl rfl ?_
      obtain ⟨j21, hij21, hjj21, hw⟩ := hw
      refine lA (q0 := 3) (k := 2) S hH rfl hij21 hjj21 (by decide) dX1_moveOne_164 ?_
      refine lv_iconst (v := 1) hx hb dX1_moveOne_165 (by decide) ?_
      refine lv_iadd hx hb dX1_moveOne_166 ?_
      obtain ⟨j22, hij22, hjj22, hw⟩ := hw
      refine sA (q0 := 3) (k := 2) S hH rfl (wX_set_2 σ20 a d j22 _) hij22 hjj22 (by decide) dX1_moveOne_167 (fun H locs hH => ?_)
      obtain ⟨σ23, eσ23⟩ : ∃ z : St, z = up σ20 2 j22 ((σ20 2 j21) + 1) := ⟨_, rfl⟩
      rw [← eσ23] at hH
      have hw := hw σ23 eσ23
      exact riV S hr hlk hH hw dX1_moveOne_168
    · have hw := hw.2 c9
      refine lv_aload_n hx hb dX1_moveOne_65 rfl (lv_at hl 0 rfl) ?_
      refine gX 0 S hH (by decide) q27 rfl dX1_moveOne_66 ?_
      refine lv_bipush (v := 16) hx hb dX1_moveOne_69 (by decide) ?_
      refine lv_iload_n hx hb dX1_moveOne_71 rfl (lv_at hl 2 rfl) ?_
      refine lv_imul hx hb dX1_moveOne_72 ?_
      refine lv_iload_n hx hb dX1_moveOne_73 rfl (lv_at hl 3 rfl) ?_
      refine lv_iload hx hb dX1_moveOne_74 (lv_at hl 6 rfl) ?_
      refine lv_imul hx hb dX1_moveOne_76 ?_
      refine lv_iadd hx hb dX1_moveOne_77 ?_
      refine lv_iload hx hb dX1_moveOne_78 (lv_at hl 7 rfl) ?_
      refine lv_iadd hx hb dX1_moveOne_80 ?_
      refine lv_aload_n hx hb dX1_moveOne_81 rfl (lv_at hl 0 rfl) ?_
      refine gX 0 S hH (by decide) q27 rfl dX1_moveOne_82 ?_
      refine lv_bipush (v := 16) hx hb dX1_moveOne_85 (by decide) ?_
      refine lv_iload_n hx hb dX1_moveOne_87 rfl (lv_at hl 1 rfl) ?_
      refine lv_imul hx hb dX1_moveOne_88 ?_
      refine lv_iload hx hb dX1_moveOne_89 (lv_at hl 4 rfl) ?_
      refine lv_iload hx hb dX1_moveOne_91 (lv_at hl 6 rfl) ?_
      refine lv_imul hx hb dX1_moveOne_93 ?_
      refine lv_iadd hx hb dX1_moveOne_94 ?_
      refine lv_iload hx hb dX1_moveOne_95 (lv_at hl 7 rfl) ?_
      refine lv_iadd hx hb dX1_moveOne_97 ?_
      obtain ⟨j24, hij24, hjj24, hw⟩ := hw
      refine lA (q0 := 1) (k := 0) S hH rfl hij24 hjj24 (by decide) dX1_moveOne_98 ?_
      obtain ⟨j25, hij25, hjj25, hw⟩ := hw
      refine sA (q0 := 1) (k := 0) S hH rfl (wX_set_0 σ a d j25 _) hij25 hjj25 (by decide) dX1_moveOne_99 (fun H locs hH => ?_)
      obtain ⟨σ26, eσ26⟩ : ∃ z : St, z = up σ 0 j25 (σ 0 j24) := ⟨_, rfl⟩
      rw [← eσ26] at hH
      have hw := hw σ26 eσ26
      obtain ⟨x27, ex27⟩ : ∃ y : Int32, y = y7 + 1 := ⟨_, rfl⟩
      have hw := hw x27 ex27
      refine lv_iinc (v := x27) (lv' := [(7, .int x27), (0, .ref (a 10)), (1, .int y1), (2, .int y2), (3, .int y3), (4, .int y4), (5, .int y5), (6, .int y6)]) hx hb dX1_moveOne_100 hl (k := 7) rfl (by rw [ex27]; rfl) (by decide) rfl (fun ls hl => ?_)
      refine lv_goto (tgt := 58) hx hb dX1_moveOne_103 (by decide) ?_
      exact ih _ _ _ _ _ _ _ _ _ _ _ hw hH (lv_sub hl [1, 2, 3, 4, 5, 6, 7, 0] rfl)
set_option maxHeartbeats 4000000 in
theorem X1_moveOne_B31_ok {p : Program} {l : Launch} {e : Env} {s : State} {m : MethodId} {args : Array Value} {below : List Frame} {meth : Method} {c : Code} {D : va_G} {a : Nat → Nat} {d : ClassId} {A : Nat → Prop} {K : St → Prop} (S : CallFix p m c cX1_moveOne 8 s args lw_all RX1) (hr : meth.sig.returnType = none) (hlk : meth.locks = false) (y1 y2 y3 y4 : Int32) (σ : St) (H : Heap) (locs : List Loc) (ls : Array Slot) (hw : X1_moveOne_B31 K y1 y2 y3 y4 σ) (hH : HH D (wX a d) d A s σ H locs) (hl : lv_has ls 8 [(0, .ref (a 10)), (1, .int y1), (2, .int y2), (3, .int y3), (4, .int y4)]) : W p l e ({ frames := 0, cells := 0, slots := 0, locals := 0 }) s m args below meth c H locs 0 0 (MQ below (va_Qv K (wO D (wX a d) d A) A) args s 0 0 A) (F0 m 31 ls []) := by
  obtain ⟨hx, hb, hml, hown, hts⟩ := id S
  unfold X1_moveOne_B31 at hw
  refine lv_aload_n hx hb dX1_moveOne_31 rfl (lv_at hl 0 rfl) ?_
  refine gX 3 S hH (by decide) q30 rfl dX1_moveOne_32 ?_
  refine lv_bipush (v := 8) hx hb dX1_moveOne_35 (by decide) ?_
  refine lv_iload_n hx hb dX1_moveOne_37 rfl (lv_at hl 1 rfl) ?_
  refine lv_imul hx hb dX1_moveOne_38 ?_
  refine lv_iload hx hb dX1_moveOne_39 (lv_at hl 4 rfl) ?_
  refine lv_iadd hx hb dX1_moveOne_41 ?_
  obtain ⟨j5, hij5, hjj5, hw⟩ := hw
  refine lA (q0 := 4) (k := 3) S hH rfl hij5 hjj5 (by decide) dX1_moveOne_42 ?_
  refine lv_topi (fun x6 ex6 => ?_)
  have hw := hw x6 ex6
  refine lv_istore (lv' := [(5, .int x6), (0, .ref (a 10)), (1, .int y1), (2, .int y2), (3, .int y3), (4, .int y4)]) hx hb dX1_moveOne_43 hl (by decide) rfl (fun ls hl => ?_)
  refine lv_iconst (v := 2) hx hb dX1_moveOne_45 (by decide) ?_
  refine lv_aload_n hx hb dX1_moveOne_46 rfl (lv_at hl 1 rfl) ?_
  refine gX 1 S hH (by decide) q28 rfl dX1_moveOne_47 ?_
  refine lv_iload_n hx hb dX1_moveOne_50 rfl (lv_at hl 3 rfl) ?_
  obtain ⟨j7, hij7, hjj7, hw⟩ := hw
  refine lA (q0 := 2) (k := 1) S hH rfl hij7 hjj7 (by decide) dX1_moveOne_51 ?_
  refine lv_ishl hx hb dX1_moveOne_52 ?_
  refine lv_topi (fun x8 ex8 => ?_)
  have hw := hw x8 ex8
  refine lv_istore (lv' := [(6, .int x8), (5, .int x6), (0, .ref (a 10)), (1, .int y1), (2, .int y2), (3, .int y3), (4, .int y4)]) hx hb dX1_moveOne_53 hl (by decide) rfl (fun ls hl => ?_)
  refine lv_iconst (v := 0) hx hb dX1_moveOne_55 (by decide) ?_
  refine lv_istore (lv' := [(7, .int 0), (6, .int x8), (5, .int x6), (0, .ref (a 10)), (1, .int y1), (2, .int y2), (3, .int y3), (4, .int y4)]) hx hb dX1_moveOne_56 hl (by decide) rfl (fun ls hl => ?_)
  obtain ⟨n28, hw⟩ := hw
  exact X1_moveOne_L58_ok S hr hlk n28 _ _ _ _ _ _ _ _ _ _ _ hw hH (lv_sub hl [3, 4, 5, 6, 7, 2, 1, 0] rfl)
set_option maxHeartbeats 4000000 in
theorem X1_moveOne_L4_ok {p : Program} {l : Launch} {e : Env} {s : State} {m : MethodId} {args : Array Value} {below : List Frame} {meth : Method} {c : Code} {D : va_G} {a : Nat → Nat} {d : ClassId} {A : Nat → Prop} {K : St → Prop} (S : CallFix p m c cX1_moveOne 8 s args lw_all RX1) (hr : meth.sig.returnType = none) (hlk : meth.locks = false) : ∀ (n : Nat) (y1 y2 y3 y4 : Int32) (σ : St) (H : Heap) (locs : List Loc) (ls : Array Slot), X1_moveOne_L4 K n y1 y2 y3 y4 σ → HH D (wX a d) d A s σ H locs → lv_has ls 8 [(0, .ref (a 10)), (1, .int y1), (2, .int y2), (3, .int y3), (4, .int y4)] → W p l e ({ frames := 0, cells := 0, slots := 0, locals := 0 }) s m args below meth c H locs 0 0 (MQ below (va_Qv K (wO D (wX a d) d A) A) args s 0 0 A) (F0 m 4 ls []) := by
  obtain ⟨hx, hb, hml, hown, hts⟩ := id S
  intro n
  induction n with
  | zero => intro y1 y2 y3 y4 σ H locs ls hw; exact False.elim hw
  | succ n ih =>
    intro y1 y2 y3 y4 σ H locs ls hw hH hl
    rw [X1_moveOne_L4] at hw
    refine lv_iload hx hb dX1_moveOne_4 (lv_at hl 4 rfl) ?_
    refine lv_if_le (tgt := 31) hx hb dX1_moveOne_6 (by decide) (fun c4 => ?_) (fun c4 => ?_)
    · have hw := hw.1 c4
      exact X1_moveOne_B31_ok S hr hlk _ _ _ _ _ _ _ _ hw hH (lv_sub hl [0, 1, 2, 3, 4] rfl)
    · have hw := hw.2 c4
      refine lv_aload_n hx hb dX1_moveOne_9 rfl (lv_at hl 0 rfl) ?_
      refine gX 3 S hH (by decide) q30 rfl dX1_moveOne_10 ?_
      refine lv_bipush (v := 8) hx hb dX1_moveOne_13 (by decide) ?_
      refine lv_iload_n hx hb dX1_moveOne_15 rfl (lv_at hl 1 rfl) ?_
      refine lv_imul hx hb dX1_moveOne_16 ?_
      refine lv_iload hx hb dX1_moveOne_17 (lv_at hl 4 rfl) ?_
      refine lv_iadd hx hb dX1_moveOne_19 ?_
      obtain ⟨j29, hij29, hjj29, hw⟩ := hw
      refine lA (q0 := 4) (k := 3) S hH rfl hij29 hjj29 (by decide) dX1_moveOne_20 ?_
      refine lv_iconst (v := (-1)) hx hb dX1_moveOne_21 (by decide) ?_
      refine lv_icmp_ne (tgt := 31) hx hb dX1_moveOne_22 (by decide) (fun c30 => ?_) (fun c30 => ?_)
      · have hw := hw.2 c30
        exact X1_moveOne_B31_ok S hr hlk _ _ _ _ _ _ _ _ hw hH (lv_sub hl [0, 1, 2, 3, 4] rfl)
      · have hw := hw.1 c30
        obtain ⟨x31, ex31⟩ : ∃ y : Int32, y = y4 + (-1) := ⟨_, rfl⟩
        have hw := hw x31 ex31
        refine lv_iinc (v := x31) (lv' := [(4, .int x31), (0, .ref (a 10)), (1, .int y1), (2, .int y2), (3, .int y3)]) hx hb dX1_moveOne_25 hl (k := 4) rfl (by rw [ex31]; rfl) (by decide) rfl (fun ls hl => ?_)
        refine lv_goto (tgt := 4) hx hb dX1_moveOne_28 (by decide) ?_
        exact ih _ _ _ _ _ _ _ _ hw hH (lv_sub hl [1, 2, 3, 4, 0] rfl)
set_option maxHeartbeats 4000000 in
theorem tX1_moveOne (l : Launch) (D : va_G) (a : Nat → Nat) (d : ClassId) (x1 x2 x3 : Int32) : CTv l yX1_moveOne cX1_moveOne 8 none ({ frames := 0, cells := 0, slots := 0, locals := 0 }) (wX a d) D d [.ref (a 10), .int x1, .int x2, .int x3] (X1_moveOne x1 x2 x3) := by
  refine msV (by decide) (Nat.le_of_ble_eq_true rfl) ?_
  intro p e s m below meth c A σ K ls S hr hlk hH hw hl
  obtain ⟨hx, hb, hml, hown, hts⟩ := id S
  unfold X1_moveOne at hw
  have hl : lv_has ls 8 [(0, .ref (a 10)), (1, .int x1), (2, .int x2), (3, .int x3)] := hl
  refine lv_bipush (v := 7) hx hb dX1_moveOne_0 (by decide) ?_
  refine lv_istore (lv' := [(4, .int 7), (0, .ref (a 10)), (1, .int x1), (2, .int x2), (3, .int x3)]) hx hb dX1_moveOne_2 hl (by decide) rfl (fun ls hl => ?_)
  obtain ⟨n32, hw⟩ := hw
  exact X1_moveOne_L4_ok S hr hlk n32 _ _ _ _ _ _ _ _ hw hH (lv_sub hl [1, 2, 3, 4, 0] rfl)
set_option maxHeartbeats 4000000 in
theorem X1_removeObject_B108_ok {p : Program} {l : Launch} {e : Env} {s : State} {m : MethodId} {args : Array Value} {below : List Frame} {meth : Method} {c : Code} {D : va_G} {a : Nat → Nat} {d : ClassId} {A : Nat → Prop} {K : St → Prop} (S : CallFix p m c cX1_removeObject 6 s args lw_all RX1) (hr : meth.sig.returnType = none) (hlk : meth.locks = false) (y4 y5 : Int32) (σ : St) (H : Heap) (locs : List Loc) (ls : Array Slot) (hw : X1_removeObject_B108 K y4 y5 σ) (hH : HH D (wX a d) d A s σ H locs) (hl : lv_has ls 6 [(0, .ref (a 10)), (4, .int y4), (5, .int y5)]) : W p l e ({ frames := 1, cells := 0, slots := 0, locals := 27 }) s m args below meth c H locs 0 0 (MQ below (va_Qv K (wO D (wX a d) d A) A) args s 0 0 A) (F0 m 108 ls []) := by
  obtain ⟨hx, hb, hml, hown, hts⟩ := id S
  unfold X1_removeObject_B108 at hw
  refine lv_aload_n hx hb dX1_removeObject_108 rfl (lv_at hl 0 rfl) ?_
  refine gX 2 S hH (by decide) q29 rfl dX1_removeObject_109 ?_
  refine lv_iload hx hb dX1_removeObject_112 (lv_at hl 2 rfl) ?_
  obtain ⟨j21, hij21, hjj21, hw⟩ := hw
  refine lA (q0 := 3) (k := 2) S hH rfl hij21 hjj21 (by decide) dX1_removeObject_114 ?_
  refine lv_if_ne (tgt := 144) hx hb dX1_removeObject_115 (by decide) (fun c22 => ?_) (fun c22 => ?_)
  · have hw := hw.2 c22
    exact riV S hr hlk hH hw dX1_removeObject_144
  · have hw := hw.1 c22
    refine lv_aload_n hx hb dX1_removeObject_118 rfl (lv_at hl 0 rfl) ?_
    refine gX 1 S hH (by decide) q28 rfl dX1_removeObject_119 ?_
    refine lv_iload hx hb dX1_removeObject_122 (lv_at hl 2 rfl) ?_
    refine lv_iconst (v := (-1)) hx hb dX1_removeObject_124 (by decide) ?_
    obtain ⟨j23, hij23, hjj23, hw⟩ := hw
    refine sA (q0 := 2) (k := 1) S hH rfl (wX_set_1 σ a d j23 _) hij23 hjj23 (by decide) dX1_removeObject_125 (fun H locs hH => ?_)
    obtain ⟨σ24, eσ24⟩ : ∃ z : St, z = up σ 1 j23 (-1) := ⟨_, rfl⟩
    rw [← eσ24] at hH
    have hw := hw σ24 eσ24
    refine lv_aload_n hx hb dX1_removeObject_126 rfl (lv_at hl 0 rfl) ?_
    refine gX 7 S hH (by decide) q34 rfl dX1_removeObject_127 ?_
    refine lv_iload hx hb dX1_removeObject_130 (lv_at hl 1 rfl) ?_
    refine lv_iconst (v := (-1)) hx hb dX1_removeObject_132 (by decide) ?_
    obtain ⟨j25, hij25, hjj25, hw⟩ := hw
    refine sA (q0 := 8) (k := 7) S hH rfl (wX_set_7 σ24 a d j25 _) hij25 hjj25 (by decide) dX1_removeObject_133 (fun H locs hH => ?_)
    obtain ⟨σ26, eσ26⟩ : ∃ z : St, z = up σ24 7 j25 (-1) := ⟨_, rfl⟩
    rw [← eσ26] at hH
    have hw := hw σ26 eσ26
    refine lv_aload_n hx hb dX1_removeObject_134 rfl (lv_at hl 0 rfl) ?_
    refine lv_dup hx hb dX1_removeObject_135 rfl ?_
    refine gX 11 S hH (by decide) q38 rfl dX1_removeObject_136 ?_
    refine lv_iconst (v := 1) hx hb dX1_removeObject_139 (by decide) ?_
    refine lv_iadd hx hb dX1_removeObject_140 ?_
    refine pX 1 S hH (by decide) q38 dX1_removeObject_141 (fun H locs hH => ?_)
    obtain ⟨σ27, eσ27⟩ : ∃ z : St, z = up σ26 10 1 ((σ26 10 1) + 1) := ⟨_, rfl⟩
    rw [← eσ27] at hH
    have hw := hw σ27 eσ27
    exact riV S hr hlk hH hw dX1_removeObject_144
set_option maxHeartbeats 4000000 in
theorem tX1_removeObject (l : Launch) (D : va_G) (a : Nat → Nat) (d : ClassId) (x1 : Int32) : CTv l yX1_removeObject cX1_removeObject 6 none ({ frames := 1, cells := 0, slots := 0, locals := 27 }) (wX a d) D d [.ref (a 10), .int x1] (X1_removeObject x1) := by
  refine msV (by decide) (Nat.le_of_ble_eq_true rfl) ?_
  intro p e s m below meth c A σ K ls S hr hlk hH hw hl
  obtain ⟨hx, hb, hml, hown, hts⟩ := id S
  unfold X1_removeObject at hw
  have hl : lv_has ls 6 [(0, .ref (a 10)), (1, .int x1)] := hl
  refine lv_aload_n hx hb dX1_removeObject_0 rfl (lv_at hl 0 rfl) ?_
  refine gX 4 S hH (by decide) q31 rfl dX1_removeObject_1 ?_
  refine lv_iload_n hx hb dX1_removeObject_4 rfl (lv_at hl 1 rfl) ?_
  obtain ⟨j2, hij2, hjj2, hw⟩ := hw
  refine lA (q0 := 5) (k := 4) S hH rfl hij2 hjj2 (by decide) dX1_removeObject_5 ?_
  refine lv_topi (fun x3 ex3 => ?_)
  have hw := hw x3 ex3
  refine lv_istore_n (lv' := [(2, .int x3), (0, .ref (a 10)), (1, .int x1)]) hx hb dX1_removeObject_6 rfl hl (by decide) rfl (fun ls hl => ?_)
  refine lv_aload_n hx hb dX1_removeObject_7 rfl (lv_at hl 1 rfl) ?_
  refine gX 5 S hH (by decide) q32 rfl dX1_removeObject_8 ?_
  refine lv_iload_n hx hb dX1_removeObject_11 rfl (lv_at hl 2 rfl) ?_
  obtain ⟨j4, hij4, hjj4, hw⟩ := hw
  refine lA (q0 := 6) (k := 5) S hH rfl hij4 hjj4 (by decide) dX1_removeObject_12 ?_
  refine lv_topi (fun x5 ex5 => ?_)
  have hw := hw x5 ex5
  refine lv_istore_n (lv' := [(3, .int x5), (2, .int x3), (0, .ref (a 10)), (1, .int x1)]) hx hb dX1_removeObject_13 rfl hl (by decide) rfl (fun ls hl => ?_)
  refine lv_aload_n hx hb dX1_removeObject_14 rfl (lv_at hl 2 rfl) ?_
  refine gX 1 S hH (by decide) q28 rfl dX1_removeObject_15 ?_
  refine lv_iload_n hx hb dX1_removeObject_18 rfl (lv_at hl 1 rfl) ?_
  obtain ⟨j6, hij6, hjj6, hw⟩ := hw
  refine lA (q0 := 2) (k := 1) S hH rfl hij6 hjj6 (by decide) dX1_removeObject_19 ?_
  refine lv_topi (fun x7 ex7 => ?_)
  have hw := hw x7 ex7
  refine lv_istore (lv' := [(4, .int x7), (3, .int x5), (2, .int x3), (0, .ref (a 10)), (1, .int x1)]) hx hb dX1_removeObject_20 hl (by decide) rfl (fun ls hl => ?_)
  refine lv_aload_n hx hb dX1_removeObject_22 rfl (lv_at hl 3 rfl) ?_
  refine gX 3 S hH (by decide) q30 rfl dX1_removeObject_23 ?_
  refine lv_bipush (v := 8) hx hb dX1_removeObject_26 (by decide) ?_
  refine lv_iload_n hx hb dX1_removeObject_28 rfl (lv_at hl 2 rfl) ?_
  refine lv_imul hx hb dX1_removeObject_29 ?_
  refine lv_iload_n hx hb dX1_removeObject_30 rfl (lv_at hl 1 rfl) ?_
  refine lv_iadd hx hb dX1_removeObject_31 ?_
  refine lv_iconst (v := (-1)) hx hb dX1_removeObject_32 (by decide) ?_
  obtain ⟨j8, hij8, hjj8, hw⟩ := hw
  refine sA (q0 := 4) (k := 3) S hH rfl (wX_set_3 σ a d j8 _) hij8 hjj8 (by decide) dX1_removeObject_33 (fun H locs hH => ?_)
  obtain ⟨σ9, eσ9⟩ : ∃ z : St, z = up σ 3 j8 (-1) := ⟨_, rfl⟩
  rw [← eσ9] at hH
  have hw := hw σ9 eσ9
  refine lv_aload_n hx hb dX1_removeObject_34 rfl (lv_at hl 3 rfl) ?_
  refine gX 2 S hH (by decide) q29 rfl dX1_removeObject_35 ?_
  refine lv_iload_n hx hb dX1_removeObject_38 rfl (lv_at hl 2 rfl) ?_
  refine lv_dup2_11 hx hb dX1_removeObject_39 rfl rfl ?_
  obtain ⟨j10, hij10, hjj10, hw⟩ := hw
  refine lA (q0 := 3) (k := 2) S hH rfl hij10 hjj10 (by decide) dX1_removeObject_40 ?_
  refine lv_iconst (v := 1) hx hb dX1_removeObject_41 (by decide) ?_
  refine lv_isub hx hb dX1_removeObject_42 ?_
  obtain ⟨j11, hij11, hjj11, hw⟩ := hw
  refine sA (q0 := 3) (k := 2) S hH rfl (wX_set_2 σ9 a d j11 _) hij11 hjj11 (by decide) dX1_removeObject_43 (fun H locs hH => ?_)
  obtain ⟨σ12, eσ12⟩ : ∃ z : St, z = up σ9 2 j11 ((σ9 2 j10) - 1) := ⟨_, rfl⟩
  rw [← eσ12] at hH
  have hw := hw σ12 eσ12
  refine lv_aload_n hx hb dX1_removeObject_44 rfl (lv_at hl 3 rfl) ?_
  refine gX 8 S hH (by decide) q35 rfl dX1_removeObject_45 ?_
  refine lv_iload hx hb dX1_removeObject_48 (lv_at hl 0 rfl) ?_
  refine lv_dup2_11 hx hb dX1_removeObject_50 rfl rfl ?_
  obtain ⟨j13, hij13, hjj13, hw⟩ := hw
  refine lA (q0 := 9) (k := 8) S hH rfl hij13 hjj13 (by decide) dX1_removeObject_51 ?_
  refine lv_iconst (v := 1) hx hb dX1_removeObject_52 (by decide) ?_
  refine lv_isub hx hb dX1_removeObject_53 ?_
  obtain ⟨j14, hij14, hjj14, hw⟩ := hw
  refine sA (q0 := 9) (k := 8) S hH rfl (wX_set_8 σ12 a d j14 _) hij14 hjj14 (by decide) dX1_removeObject_54 (fun H locs hH => ?_)
  obtain ⟨σ15, eσ15⟩ : ∃ z : St, z = up σ12 8 j14 ((σ12 8 j13) - 1) := ⟨_, rfl⟩
  rw [← eσ15] at hH
  have hw := hw σ15 eσ15
  refine lv_aload_n hx hb dX1_removeObject_55 rfl (lv_at hl 3 rfl) ?_
  refine lv_dup hx hb dX1_removeObject_56 rfl ?_
  refine gX 12 S hH (by decide) q39 rfl dX1_removeObject_57 ?_
  refine lv_iconst (v := 1) hx hb dX1_removeObject_60 (by decide) ?_
  refine lv_isub hx hb dX1_removeObject_61 ?_
  refine pX 2 S hH (by decide) q39 dX1_removeObject_62 (fun H locs hH => ?_)
  obtain ⟨σ16, eσ16⟩ : ∃ z : St, z = up σ15 10 2 ((σ15 10 2) - 1) := ⟨_, rfl⟩
  rw [← eσ16] at hH
  have hw := hw σ16 eσ16
  refine lv_aload_n hx hb dX1_removeObject_65 rfl (lv_at hl 3 rfl) ?_
  refine gX 7 S hH (by decide) q34 rfl dX1_removeObject_66 ?_
  refine lv_iload hx hb dX1_removeObject_69 (lv_at hl 0 rfl) ?_
  obtain ⟨j17, hij17, hjj17, hw⟩ := hw
  refine lA (q0 := 8) (k := 7) S hH rfl hij17 hjj17 (by decide) dX1_removeObject_71 ?_
  refine lv_topi (fun x18 ex18 => ?_)
  have hw := hw x18 ex18
  refine lv_istore (lv' := [(5, .int x18), (4, .int x7), (3, .int x5), (2, .int x3), (0, .ref (a 10)), (1, .int x1)]) hx hb dX1_removeObject_72 hl (by decide) rfl (fun ls hl => ?_)
  refine lv_iload hx hb dX1_removeObject_74 (lv_at hl 0 rfl) ?_
  refine lv_iconst (v := (-1)) hx hb dX1_removeObject_76 (by decide) ?_
  refine lv_icmp_ne (tgt := 94) hx hb dX1_removeObject_77 (by decide) (fun c19 => ?_) (fun c19 => ?_)
  · have hw := hw.2 c19
    refine lv_iload hx hb dX1_removeObject_94 (lv_at hl 0 rfl) ?_
    refine lv_iload_n hx hb dX1_removeObject_96 rfl (lv_at hl 3 rfl) ?_
    refine lv_icmp_eq (tgt := 108) hx hb dX1_removeObject_97 (by decide) (fun c20 => ?_) (fun c20 => ?_)
    · have hw := hw.1 c20
      exact X1_removeObject_B108_ok S hr hlk _ _ _ _ _ _ hw hH (lv_sub hl [4, 1, 0] rfl)
    · have hw := hw.2 c20
      refine lv_aload_n hx hb dX1_removeObject_100 rfl (lv_at hl 4 rfl) ?_
      refine lv_iload hx hb dX1_removeObject_101 (lv_at hl 0 rfl) ?_
      refine lv_iload_n hx hb dX1_removeObject_103 rfl (lv_at hl 3 rfl) ?_
      refine lv_iload_n hx hb dX1_removeObject_104 rfl (lv_at hl 2 rfl) ?_
      refine cVv (q := (RX1, TX1, 13)) S hH (tX1_moveOne l D a d x18 x3 x5) (cwV 3 hts gwX1_99 rfl rfl rfl hdX1_moveOne ⟨Nat.le_of_ble_eq_true rfl, Nat.le_of_ble_eq_true rfl⟩) rfl rfl hw rfl hl.1 rfl (Nat.le_of_ble_eq_true rfl) dX1_removeObject_105 ⟨Nat.zero_le _, Nat.zero_le _⟩ (fun σ28 H locs hw hH => ?_)
      exact X1_removeObject_B108_ok S hr hlk _ _ _ _ _ _ hw hH (lv_sub hl [4, 1, 0] rfl)
  · have hw := hw.1 c19
    refine lv_aload_n hx hb dX1_removeObject_80 rfl (lv_at hl 4 rfl) ?_
    refine gX 7 S hH (by decide) q34 rfl dX1_removeObject_81 ?_
    refine lv_iload hx hb dX1_removeObject_84 (lv_at hl 1 rfl) ?_
    refine lv_iload_n hx hb dX1_removeObject_86 rfl (lv_at hl 3 rfl) ?_
    obtain ⟨j29, hij29, hjj29, hw⟩ := hw
    refine sA (q0 := 8) (k := 7) S hH rfl (wX_set_7 σ16 a d j29 _) hij29 hjj29 (by decide) dX1_removeObject_87 (fun H locs hH => ?_)
    obtain ⟨σ30, eσ30⟩ : ∃ z : St, z = up σ16 7 j29 x3 := ⟨_, rfl⟩
    rw [← eσ30] at hH
    have hw := hw σ30 eσ30
    refine lv_iload_n hx hb dX1_removeObject_88 rfl (lv_at hl 3 rfl) ?_
    refine lv_istore (lv' := [(5, .int x3), (4, .int x7), (3, .int x5), (2, .int x3), (0, .ref (a 10)), (1, .int x1)]) hx hb dX1_removeObject_89 hl (by decide) rfl (fun ls hl => ?_)
    refine lv_goto (tgt := 108) hx hb dX1_removeObject_91 (by decide) ?_
    exact X1_removeObject_B108_ok S hr hlk _ _ _ _ _ _ hw hH (lv_sub hl [4, 1, 0] rfl)
set_option maxHeartbeats 4000000 in
theorem X1_strangers_L4_ok {p : Program} {l : Launch} {e : Env} {s : State} {m : MethodId} {args : Array Value} {below : List Frame} {meth : Method} {c : Code} {D : va_G} {a : Nat → Nat} {d : ClassId} {A : Nat → Prop} {K : Int32 → St → Prop} (S : CallFix p m c cX1_strangers 5 s args lw_all RX1) (hr : meth.sig.returnType = (some .int)) (hlk : meth.locks = false) : ∀ (n : Nat) (y1 y2 y3 : Int32) (σ : St) (H : Heap) (locs : List Loc) (ls : Array Slot), X1_strangers_L4 K n y1 y2 y3 σ → HH D (wX a d) d A s σ H locs → lv_has ls 5 [(0, .ref (a 10)), (1, .int y1), (2, .int y2), (3, .int y3)] → W p l e ({ frames := 1, cells := 0, slots := 0, locals := 20 }) s m args below meth c H locs 0 0 (MQ below (va_Qi K (wO D (wX a d) d A) A) args s 0 0 A) (F0 m 4 ls []) := by
  obtain ⟨hx, hb, hml, hown, hts⟩ := id S
  intro n
  induction n with
  | zero => intro y1 y2 y3 σ H locs ls hw; exact False.elim hw
  | succ n ih =>
    intro y1 y2 y3 σ H locs ls hw hH hl
    rw [X1_strangers_L4] at hw
    refine lv_iload_n hx hb dX1_strangers_4 rfl (lv_at hl 3 rfl) ?_
    refine lv_bipush (v := 8) hx hb dX1_strangers_5 (by decide) ?_
    refine lv_icmp_ge (tgt := 79) hx hb dX1_strangers_7 (by decide) (fun c2 => ?_) (fun c2 => ?_)
    · have hw := hw.1 c2
      refine lv_iload_n hx hb dX1_strangers_79 rfl (lv_at hl 2 rfl) ?_
      exact riI S hr hlk hH hw dX1_strangers_80
    · have hw := hw.2 c2
      refine lv_aload_n hx hb dX1_strangers_10 rfl (lv_at hl 0 rfl) ?_
      refine gX 3 S hH (by decide) q30 rfl dX1_strangers_11 ?_
      refine lv_bipush (v := 8) hx hb dX1_strangers_14 (by decide) ?_
      refine lv_iload_n hx hb dX1_strangers_16 rfl (lv_at hl 1 rfl) ?_
      refine lv_imul hx hb dX1_strangers_17 ?_
      refine lv_iload_n hx hb dX1_strangers_18 rfl (lv_at hl 3 rfl) ?_
      refine lv_iadd hx hb dX1_strangers_19 ?_
      obtain ⟨j3, hij3, hjj3, hw⟩ := hw
      refine lA (q0 := 4) (k := 3) S hH rfl hij3 hjj3 (by decide) dX1_strangers_20 ?_
      refine lv_topi (fun x4 ex4 => ?_)
      have hw := hw x4 ex4
      refine lv_istore (lv' := [(4, .int x4), (0, .ref (a 10)), (1, .int y1), (2, .int y2), (3, .int y3)]) hx hb dX1_strangers_21 hl (by decide) rfl (fun ls hl => ?_)
      refine lv_iload hx hb dX1_strangers_23 (lv_at hl 0 rfl) ?_
      refine lv_iconst (v := (-1)) hx hb dX1_strangers_25 (by decide) ?_
      refine lv_icmp_eq (tgt := 73) hx hb dX1_strangers_26 (by decide) (fun c5 => ?_) (fun c5 => ?_)
      · have hw := hw.1 c5
        obtain ⟨x6, ex6⟩ : ∃ y : Int32, y = y3 + 1 := ⟨_, rfl⟩
        have hw := hw x6 ex6
        refine lv_iinc (v := x6) (lv' := [(3, .int x6), (4, .int x4), (0, .ref (a 10)), (1, .int y1), (2, .int y2)]) hx hb dX1_strangers_73 hl (k := 4) rfl (by rw [ex6]; rfl) (by decide) rfl (fun ls hl => ?_)
        refine lv_goto (tgt := 4) hx hb dX1_strangers_76 (by decide) ?_
        exact ih _ _ _ _ _ _ _ hw hH (lv_sub hl [2, 3, 4, 0] rfl)
      · have hw := hw.2 c5
        refine lv_aload_n hx hb dX1_strangers_29 rfl (lv_at hl 1 rfl) ?_
        refine gX 4 S hH (by decide) q31 rfl dX1_strangers_30 ?_
        refine lv_iload hx hb dX1_strangers_33 (lv_at hl 0 rfl) ?_
        obtain ⟨j7, hij7, hjj7, hw⟩ := hw
        refine lA (q0 := 5) (k := 4) S hH rfl hij7 hjj7 (by decide) dX1_strangers_35 ?_
        refine lv_iload_n hx hb dX1_strangers_36 rfl (lv_at hl 2 rfl) ?_
        refine lv_icmp_ne (tgt := 70) hx hb dX1_strangers_37 (by decide) (fun c8 => ?_) (fun c8 => ?_)
        · have hw := hw.2 c8
          obtain ⟨x9, ex9⟩ : ∃ y : Int32, y = y2 + 1 := ⟨_, rfl⟩
          have hw := hw x9 ex9
          refine lv_iinc (v := x9) (lv' := [(2, .int x9), (4, .int x4), (0, .ref (a 10)), (1, .int y1), (3, .int y3)]) hx hb dX1_strangers_70 hl (k := 3) rfl (by rw [ex9]; rfl) (by decide) rfl (fun ls hl => ?_)
          obtain ⟨x10, ex10⟩ : ∃ y : Int32, y = y3 + 1 := ⟨_, rfl⟩
          have hw := hw x10 ex10
          refine lv_iinc (v := x10) (lv' := [(3, .int x10), (2, .int x9), (4, .int x4), (0, .ref (a 10)), (1, .int y1)]) hx hb dX1_strangers_73 hl (k := 4) rfl (by rw [ex10]; rfl) (by decide) rfl (fun ls hl => ?_)
          refine lv_goto (tgt := 4) hx hb dX1_strangers_76 (by decide) ?_
          exact ih _ _ _ _ _ _ _ hw hH (lv_sub hl [3, 4, 1, 0] rfl)
        · have hw := hw.1 c8
          refine lv_aload_n hx hb dX1_strangers_40 rfl (lv_at hl 1 rfl) ?_
          refine gX 5 S hH (by decide) q32 rfl dX1_strangers_41 ?_
          refine lv_iload hx hb dX1_strangers_44 (lv_at hl 0 rfl) ?_
          obtain ⟨j11, hij11, hjj11, hw⟩ := hw
          refine lA (q0 := 6) (k := 5) S hH rfl hij11 hjj11 (by decide) dX1_strangers_46 ?_
          refine lv_iload_n hx hb dX1_strangers_47 rfl (lv_at hl 4 rfl) ?_
          refine lv_icmp_ne (tgt := 70) hx hb dX1_strangers_48 (by decide) (fun c12 => ?_) (fun c12 => ?_)
          · have hw := hw.2 c12
            obtain ⟨x13, ex13⟩ : ∃ y : Int32, y = y2 + 1 := ⟨_, rfl⟩
            have hw := hw x13 ex13
            refine lv_iinc (v := x13) (lv' := [(2, .int x13), (4, .int x4), (0, .ref (a 10)), (1, .int y1), (3, .int y3)]) hx hb dX1_strangers_70 hl (k := 3) rfl (by rw [ex13]; rfl) (by decide) rfl (fun ls hl => ?_)
            obtain ⟨x14, ex14⟩ : ∃ y : Int32, y = y3 + 1 := ⟨_, rfl⟩
            have hw := hw x14 ex14
            refine lv_iinc (v := x14) (lv' := [(3, .int x14), (2, .int x13), (4, .int x4), (0, .ref (a 10)), (1, .int y1)]) hx hb dX1_strangers_73 hl (k := 4) rfl (by rw [ex14]; rfl) (by decide) rfl (fun ls hl => ?_)
            refine lv_goto (tgt := 4) hx hb dX1_strangers_76 (by decide) ?_
            exact ih _ _ _ _ _ _ _ hw hH (lv_sub hl [3, 4, 1, 0] rfl)
          · have hw := hw.1 c12
            refine lv_aload_n hx hb dX1_strangers_51 rfl (lv_at hl 1 rfl) ?_
            refine gX 6 S hH (by decide) q33 rfl dX1_strangers_52 ?_
            refine lv_iload hx hb dX1_strangers_55 (lv_at hl 0 rfl) ?_
            obtain ⟨j15, hij15, hjj15, hw⟩ := hw
            refine lA (q0 := 7) (k := 6) S hH rfl hij15 hjj15 (by decide) dX1_strangers_57 ?_
            refine cSi S hH (tX1_kindOf l D a d (σ 6 j15)) (va_cwS 1 hts gwX1_54 rfl rfl rfl hdX1_kindOf ⟨Nat.le_of_ble_eq_true rfl, Nat.le_of_ble_eq_true rfl⟩) hw rfl hl.1 rfl (Nat.le_of_ble_eq_true rfl) dX1_strangers_58 ⟨Nat.zero_le _, Nat.zero_le _⟩ (fun r17 σ16 H locs hw hH => ?_)
            refine lv_aload_n hx hb dX1_strangers_61 rfl (lv_at hl 1 rfl) ?_
            refine gX 1 S hH (by decide) q28 rfl dX1_strangers_62 ?_
            refine lv_iload_n hx hb dX1_strangers_65 rfl (lv_at hl 2 rfl) ?_
            obtain ⟨j18, hij18, hjj18, hw⟩ := hw
            refine lA (q0 := 2) (k := 1) S hH rfl hij18 hjj18 (by decide) dX1_strangers_66 ?_
            refine lv_icmp_eq (tgt := 73) hx hb dX1_strangers_67 (by decide) (fun c19 => ?_) (fun c19 => ?_)
            · have hw := hw.1 c19
              obtain ⟨x20, ex20⟩ : ∃ y : Int32, y = y3 + 1 := ⟨_, rfl⟩
              have hw := hw x20 ex20
              refine lv_iinc (v := x20) (lv' := [(3, .int x20), (4, .int x4), (0, .ref (a 10)), (1, .int y1), (2, .int y2)]) hx hb dX1_strangers_73 hl (k := 4) rfl (by rw [ex20]; rfl) (by decide) rfl (fun ls hl => ?_)
              refine lv_goto (tgt := 4) hx hb dX1_strangers_76 (by decide) ?_
              exact ih _ _ _ _ _ _ _ hw hH (lv_sub hl [2, 3, 4, 0] rfl)
            · have hw := hw.2 c19
              obtain ⟨x21, ex21⟩ : ∃ y : Int32, y = y2 + 1 := ⟨_, rfl⟩
              have hw := hw x21 ex21
              refine lv_iinc (v := x21) (lv' := [(2, .int x21), (4, .int x4), (0, .ref (a 10)), (1, .int y1), (3, .int y3)]) hx hb dX1_strangers_70 hl (k := 3) rfl (by rw [ex21]; rfl) (by decide) rfl (fun ls hl => ?_)
              obtain ⟨x22, ex22⟩ : ∃ y : Int32, y = y3 + 1 := ⟨_, rfl⟩
              have hw := hw x22 ex22
              refine lv_iinc (v := x22) (lv' := [(3, .int x22), (2, .int x21), (4, .int x4), (0, .ref (a 10)), (1, .int y1)]) hx hb dX1_strangers_73 hl (k := 4) rfl (by rw [ex22]; rfl) (by decide) rfl (fun ls hl => ?_)
              refine lv_goto (tgt := 4) hx hb dX1_strangers_76 (by decide) ?_
              exact ih _ _ _ _ _ _ _ hw hH (lv_sub hl [3, 4, 1, 0] rfl)
set_option maxHeartbeats 4000000 in
theorem tX1_strangers (l : Launch) (D : va_G) (a : Nat → Nat) (d : ClassId) (x1 : Int32) : CTi l yX1_strangers cX1_strangers 5 (some .int) ({ frames := 1, cells := 0, slots := 0, locals := 20 }) (wX a d) D d [.ref (a 10), .int x1] (X1_strangers x1) := by
  refine msI (by decide) (Nat.le_of_ble_eq_true rfl) ?_
  intro p e s m below meth c A σ K ls S hr hlk hH hw hl
  obtain ⟨hx, hb, hml, hown, hts⟩ := id S
  unfold X1_strangers at hw
  have hl : lv_has ls 5 [(0, .ref (a 10)), (1, .int x1)] := hl
  refine lv_iconst (v := 0) hx hb dX1_strangers_0 (by decide) ?_
  refine lv_istore_n (lv' := [(2, .int 0), (0, .ref (a 10)), (1, .int x1)]) hx hb dX1_strangers_1 rfl hl (by decide) rfl (fun ls hl => ?_)
  refine lv_iconst (v := 0) hx hb dX1_strangers_2 (by decide) ?_
  refine lv_istore_n (lv' := [(3, .int 0), (2, .int 0), (0, .ref (a 10)), (1, .int x1)]) hx hb dX1_strangers_3 rfl hl (by decide) rfl (fun ls hl => ?_)
  obtain ⟨n23, hw⟩ := hw
  exact X1_strangers_L4_ok S hr hlk n23 _ _ _ _ _ _ _ hw hH (lv_sub hl [2, 3, 1, 0] rfl)
end
section
set_option maxRecDepth 100000
set_option maxHeartbeats 4000000 in
theorem X1_allocate_B46_ok {p : Program} {l : Launch} {e : Env} {s : State} {m : MethodId} {args : Array Value} {below : List Frame} {meth : Method} {c : Code} {D : va_G} {a : Nat → Nat} {d : ClassId} {A : Nat → Prop} {K : Int32 → St → Prop} (S : CallFix p m c cX1_allocate 4 s args lw_all RX1) (hr : meth.sig.returnType = (some .int)) (hlk : meth.locks = false) (y1 y2 : Int32) (σ : St) (H : Heap) (locs : List Loc) (ls : Array Slot) (hw : X1_allocate_B46 K y1 y2 σ) (hH : HH D (wX a d) d A s σ H locs) (hl : lv_has ls 4 [(0, .ref (a 10)), (1, .int y1), (2, .int y2)]) : W p l e ({ frames := 2, cells := 0, slots := 0, locals := 46 }) s m args below meth c H locs 0 0 (MQ below (va_Qi K (wO D (wX a d) d A) A) args s 0 0 A) (F0 m 46 ls []) := by
  obtain ⟨hx, hb, hml, hown, hts⟩ := id S
  unfold X1_allocate_B46 at hw
  refine lv_aload_n hx hb dX1_allocate_46 rfl (lv_at hl 0 rfl) ?_
  refine cVi (q := (RX1, TX1, 13)) S hH (tX1_leastFree l D a d ) (cwV 0 hts gwX1_58 rfl rfl rfl hdX1_leastFree ⟨Nat.le_of_ble_eq_true rfl, Nat.le_of_ble_eq_true rfl⟩) rfl rfl hw rfl hl.1 rfl (Nat.le_of_ble_eq_true rfl) dX1_allocate_47 ⟨Nat.zero_le _, Nat.zero_le _⟩ (fun r11 σ10 H locs hw hH => ?_)
  refine lv_istore_n (lv' := [(3, .int r11), (0, .ref (a 10)), (1, .int y1), (2, .int y2)]) hx hb dX1_allocate_50 rfl hl (by decide) rfl (fun ls hl => ?_)
  refine lv_aload_n hx hb dX1_allocate_51 rfl (lv_at hl 1 rfl) ?_
  refine gX 6 S hH (by decide) q33 rfl dX1_allocate_52 ?_
  refine lv_iload_n hx hb dX1_allocate_55 rfl (lv_at hl 0 rfl) ?_
  refine lv_iload_n hx hb dX1_allocate_56 rfl (lv_at hl 2 rfl) ?_
  obtain ⟨j12, hij12, hjj12, hw⟩ := hw
  refine sA (q0 := 7) (k := 6) S hH rfl (wX_set_6 σ10 a d j12 _) hij12 hjj12 (by decide) dX1_allocate_57 (fun H locs hH => ?_)
  obtain ⟨σ13, eσ13⟩ : ∃ z : St, z = up σ10 6 j12 y1 := ⟨_, rfl⟩
  rw [← eσ13] at hH
  have hw := hw σ13 eσ13
  refine lv_aload_n hx hb dX1_allocate_58 rfl (lv_at hl 1 rfl) ?_
  refine lv_iload_n hx hb dX1_allocate_59 rfl (lv_at hl 0 rfl) ?_
  refine lv_iload_n hx hb dX1_allocate_60 rfl (lv_at hl 3 rfl) ?_
  refine cVv (q := (RX1, TX1, 13)) S hH (tX1_placeObject l D a d r11 y2) (cwV 2 hts gwX1_62 rfl rfl rfl hdX1_placeObject ⟨Nat.le_of_ble_eq_true rfl, Nat.le_of_ble_eq_true rfl⟩) rfl rfl hw rfl hl.1 rfl (Nat.le_of_ble_eq_true rfl) dX1_allocate_61 ⟨Nat.zero_le _, Nat.zero_le _⟩ (fun σ14 H locs hw hH => ?_)
  refine lv_aload_n hx hb dX1_allocate_64 rfl (lv_at hl 1 rfl) ?_
  refine lv_iload_n hx hb dX1_allocate_65 rfl (lv_at hl 0 rfl) ?_
  refine lv_iconst (v := 0) hx hb dX1_allocate_66 (by decide) ?_
  refine lv_iload_n hx hb dX1_allocate_67 rfl (lv_at hl 2 rfl) ?_
  refine cVv (q := (RX1, TX1, 13)) S hH (tX1_wipe l D a d r11 0 y1) (cwV 3 hts gwX1_66 rfl rfl rfl hdX1_wipe ⟨Nat.le_of_ble_eq_true rfl, Nat.le_of_ble_eq_true rfl⟩) rfl rfl hw rfl hl.1 rfl (Nat.le_of_ble_eq_true rfl) dX1_allocate_68 ⟨Nat.zero_le _, Nat.zero_le _⟩ (fun σ15 H locs hw hH => ?_)
  refine lv_iload_n hx hb dX1_allocate_71 rfl (lv_at hl 0 rfl) ?_
  exact riI S hr hlk hH hw dX1_allocate_72
set_option maxHeartbeats 4000000 in
theorem tX1_allocate (l : Launch) (D : va_G) (a : Nat → Nat) (d : ClassId) (x1 : Int32) : CTi l yX1_allocate cX1_allocate 4 (some .int) ({ frames := 2, cells := 0, slots := 0, locals := 46 }) (wX a d) D d [.ref (a 10), .int x1] (X1_allocate x1) := by
  refine msI (by decide) (Nat.le_of_ble_eq_true rfl) ?_
  intro p e s m below meth c A σ K ls S hr hlk hH hw hl
  obtain ⟨hx, hb, hml, hown, hts⟩ := id S
  unfold X1_allocate at hw
  have hl : lv_has ls 4 [(0, .ref (a 10)), (1, .int x1)] := hl
  refine lv_iload_n hx hb dX1_allocate_0 rfl (lv_at hl 1 rfl) ?_
  refine cSi S hH (tX1_isSize l D a d x1) (va_cwS 1 hts gwX1_47 rfl rfl rfl hdX1_isSize ⟨Nat.le_of_ble_eq_true rfl, Nat.le_of_ble_eq_true rfl⟩) hw rfl hl.1 rfl (Nat.le_of_ble_eq_true rfl) dX1_allocate_1 ⟨Nat.zero_le _, Nat.zero_le _⟩ (fun r3 σ2 H locs hw hH => ?_)
  refine lv_if_ne (tgt := 9) hx hb dX1_allocate_4 (by decide) (fun c4 => ?_) (fun c4 => ?_)
  · have hw := hw.2 c4
    refine lv_aload_n hx hb dX1_allocate_9 rfl (lv_at hl 0 rfl) ?_
    refine gX 12 S hH (by decide) q39 rfl dX1_allocate_10 ?_
    refine lv_bipush (v := 64) hx hb dX1_allocate_13 (by decide) ?_
    refine lv_icmp_ne (tgt := 21) hx hb dX1_allocate_15 (by decide) (fun c5 => ?_) (fun c5 => ?_)
    · have hw := hw.2 c5
      refine lv_iload_n hx hb dX1_allocate_21 rfl (lv_at hl 1 rfl) ?_
      refine cSi S hH (tX1_kindOf l D a d x1) (va_cwS 1 hts gwX1_54 rfl rfl rfl hdX1_kindOf ⟨Nat.le_of_ble_eq_true rfl, Nat.le_of_ble_eq_true rfl⟩) hw rfl hl.1 rfl (Nat.le_of_ble_eq_true rfl) dX1_allocate_22 ⟨Nat.zero_le _, Nat.zero_le _⟩ (fun r7 σ6 H locs hw hH => ?_)
      refine lv_istore_n (lv' := [(2, .int r7), (0, .ref (a 10)), (1, .int x1)]) hx hb dX1_allocate_25 rfl hl (by decide) rfl (fun ls hl => ?_)
      refine lv_aload_n hx hb dX1_allocate_26 rfl (lv_at hl 1 rfl) ?_
      refine gX 7 S hH (by decide) q34 rfl dX1_allocate_27 ?_
      refine lv_iload_n hx hb dX1_allocate_30 rfl (lv_at hl 0 rfl) ?_
      obtain ⟨j8, hij8, hjj8, hw⟩ := hw
      refine lA (q0 := 8) (k := 7) S hH rfl hij8 hjj8 (by decide) dX1_allocate_31 ?_
      refine lv_iconst (v := (-1)) hx hb dX1_allocate_32 (by decide) ?_
      refine lv_icmp_ne (tgt := 46) hx hb dX1_allocate_33 (by decide) (fun c9 => ?_) (fun c9 => ?_)
      · have hw := hw.2 c9
        exact X1_allocate_B46_ok S hr hlk _ _ _ _ _ _ hw hH (lv_sub hl [1, 2, 0] rfl)
      · have hw := hw.1 c9
        refine lv_aload_n hx hb dX1_allocate_36 rfl (lv_at hl 1 rfl) ?_
        refine gX 11 S hH (by decide) q38 rfl dX1_allocate_37 ?_
        refine lv_if_ne (tgt := 46) hx hb dX1_allocate_40 (by decide) (fun c16 => ?_) (fun c16 => ?_)
        · have hw := hw.2 c16
          exact X1_allocate_B46_ok S hr hlk _ _ _ _ _ _ hw hH (lv_sub hl [1, 2, 0] rfl)
        · have hw := hw.1 c16
          refine lv_bipush (v := (-3)) hx hb dX1_allocate_43 (by decide) ?_
          exact riI S hr hlk hH hw dX1_allocate_45
    · have hw := hw.1 c5
      refine lv_bipush (v := (-2)) hx hb dX1_allocate_18 (by decide) ?_
      exact riI S hr hlk hH hw dX1_allocate_20
  · have hw := hw.1 c4
    refine lv_iconst (v := (-1)) hx hb dX1_allocate_7 (by decide) ?_
    exact riI S hr hlk hH hw dX1_allocate_8
set_option maxHeartbeats 4000000 in
theorem tX1_free (l : Launch) (D : va_G) (a : Nat → Nat) (d : ClassId) (x1 : Int32) : CTi l yX1_free cX1_free 3 (some .int) ({ frames := 2, cells := 0, slots := 0, locals := 52 }) (wX a d) D d [.ref (a 10), .int x1] (X1_free x1) := by
  refine msI (by decide) (Nat.le_of_ble_eq_true rfl) ?_
  intro p e s m below meth c A σ K ls S hr hlk hH hw hl
  obtain ⟨hx, hb, hml, hown, hts⟩ := id S
  unfold X1_free at hw
  have hl : lv_has ls 3 [(0, .ref (a 10)), (1, .int x1)] := hl
  refine lv_aload_n hx hb dX1_free_0 rfl (lv_at hl 0 rfl) ?_
  refine lv_iload_n hx hb dX1_free_1 rfl (lv_at hl 1 rfl) ?_
  refine cVi (q := (RX1, TX1, 13)) S hH (tX1_isGood l D a d x1) (cwV 1 hts gwX1_70 rfl rfl rfl hdX1_isGood ⟨Nat.le_of_ble_eq_true rfl, Nat.le_of_ble_eq_true rfl⟩) rfl rfl hw rfl hl.1 rfl (Nat.le_of_ble_eq_true rfl) dX1_free_2 ⟨Nat.zero_le _, Nat.zero_le _⟩ (fun r3 σ2 H locs hw hH => ?_)
  refine lv_if_ne (tgt := 10) hx hb dX1_free_5 (by decide) (fun c4 => ?_) (fun c4 => ?_)
  · have hw := hw.2 c4
    refine lv_aload_n hx hb dX1_free_10 rfl (lv_at hl 0 rfl) ?_
    refine gX 6 S hH (by decide) q33 rfl dX1_free_11 ?_
    refine lv_iload_n hx hb dX1_free_14 rfl (lv_at hl 1 rfl) ?_
    obtain ⟨j5, hij5, hjj5, hw⟩ := hw
    refine lA (q0 := 7) (k := 6) S hH rfl hij5 hjj5 (by decide) dX1_free_15 ?_
    refine lv_topi (fun x6 ex6 => ?_)
    have hw := hw x6 ex6
    refine lv_istore_n (lv' := [(2, .int x6), (0, .ref (a 10)), (1, .int x1)]) hx hb dX1_free_16 rfl hl (by decide) rfl (fun ls hl => ?_)
    refine lv_aload_n hx hb dX1_free_17 rfl (lv_at hl 1 rfl) ?_
    refine lv_iload_n hx hb dX1_free_18 rfl (lv_at hl 2 rfl) ?_
    refine cVv (q := (RX1, TX1, 13)) S hH (tX1_removeObject l D a d x1) (cwV 1 hts gwX1_73 rfl rfl rfl hdX1_removeObject ⟨Nat.le_of_ble_eq_true rfl, Nat.le_of_ble_eq_true rfl⟩) rfl rfl hw rfl hl.1 rfl (Nat.le_of_ble_eq_true rfl) dX1_free_19 ⟨Nat.zero_le _, Nat.zero_le _⟩ (fun σ7 H locs hw hH => ?_)
    refine lv_aload_n hx hb dX1_free_22 rfl (lv_at hl 1 rfl) ?_
    refine gX 6 S hH (by decide) q33 rfl dX1_free_23 ?_
    refine lv_iload_n hx hb dX1_free_26 rfl (lv_at hl 2 rfl) ?_
    refine lv_iconst (v := 0) hx hb dX1_free_27 (by decide) ?_
    obtain ⟨j8, hij8, hjj8, hw⟩ := hw
    refine sA (q0 := 7) (k := 6) S hH rfl (wX_set_6 σ7 a d j8 _) hij8 hjj8 (by decide) dX1_free_28 (fun H locs hH => ?_)
    obtain ⟨σ9, eσ9⟩ : ∃ z : St, z = up σ7 6 j8 0 := ⟨_, rfl⟩
    rw [← eσ9] at hH
    have hw := hw σ9 eσ9
    refine lv_iload_n hx hb dX1_free_29 rfl (lv_at hl 0 rfl) ?_
    exact riI S hr hlk hH hw dX1_free_30
  · have hw := hw.1 c4
    refine lv_iconst (v := (-1)) hx hb dX1_free_8 (by decide) ?_
    exact riI S hr hlk hH hw dX1_free_9
set_option maxHeartbeats 4000000 in
theorem X1_resize_L133_ok {p : Program} {l : Launch} {e : Env} {s : State} {m : MethodId} {args : Array Value} {below : List Frame} {meth : Method} {c : Code} {D : va_G} {a : Nat → Nat} {d : ClassId} {A : Nat → Prop} {K : Int32 → St → Prop} (S : CallFix p m c cX1_resize 8 s args lw_all RX1) (hr : meth.sig.returnType = (some .int)) (hlk : meth.locks = false) : ∀ (n : Nat) (y2 y3 y6 y7 : Int32) (σ : St) (H : Heap) (locs : List Loc) (ls : Array Slot), X1_resize_L133 K n y2 y3 y6 y7 σ → HH D (wX a d) d A s σ H locs → lv_has ls 8 [(0, .ref (a 10)), (2, .int y2), (3, .int y3), (6, .int y6), (7, .int y7)] → W p l e ({ frames := 2, cells := 0, slots := 0, locals := 52 }) s m args below meth c H locs 0 0 (MQ below (va_Qi K (wO D (wX a d) d A) A) args s 0 0 A) (F0 m 133 ls []) := by
  obtain ⟨hx, hb, hml, hown, hts⟩ := id S
  intro n
  induction n with
  | zero => intro y2 y3 y6 y7 σ H locs ls hw; exact False.elim hw
  | succ n ih =>
    intro y2 y3 y6 y7 σ H locs ls hw hH hl
    rw [X1_resize_L133] at hw
    refine lv_iload hx hb dX1_resize_133 (lv_at hl 4 rfl) ?_
    refine lv_iload_n hx hb dX1_resize_135 rfl (lv_at hl 1 rfl) ?_
    refine lv_icmp_ge (tgt := 162) hx hb dX1_resize_136 (by decide) (fun c29 => ?_) (fun c29 => ?_)
    · have hw := hw.1 c29
      refine lv_goto (tgt := 179) hx hb dX1_resize_162 (by decide) ?_
      refine lv_iload_n hx hb dX1_resize_179 rfl (lv_at hl 2 rfl) ?_
      exact riI S hr hlk hH hw dX1_resize_180
    · have hw := hw.2 c29
      refine lv_aload_n hx hb dX1_resize_139 rfl (lv_at hl 0 rfl) ?_
      refine gX 0 S hH (by decide) q27 rfl dX1_resize_140 ?_
      refine lv_iload hx hb dX1_resize_143 (lv_at hl 3 rfl) ?_
      refine lv_iload hx hb dX1_resize_145 (lv_at hl 4 rfl) ?_
      refine lv_iadd hx hb dX1_resize_147 ?_
      refine lv_aload_n hx hb dX1_resize_148 rfl (lv_at hl 0 rfl) ?_
      refine gX 9 S hH (by decide) q36 rfl dX1_resize_149 ?_
      refine lv_iload hx hb dX1_resize_152 (lv_at hl 4 rfl) ?_
      obtain ⟨j30, hij30, hjj30, hw⟩ := hw
      refine lA (q0 := 10) (k := 9) S hH rfl hij30 hjj30 (by decide) dX1_resize_154 ?_
      obtain ⟨j31, hij31, hjj31, hw⟩ := hw
      refine sA (q0 := 1) (k := 0) S hH rfl (wX_set_0 σ a d j31 _) hij31 hjj31 (by decide) dX1_resize_155 (fun H locs hH => ?_)
      obtain ⟨σ32, eσ32⟩ : ∃ z : St, z = up σ 0 j31 (σ 9 j30) := ⟨_, rfl⟩
      rw [← eσ32] at hH
      have hw := hw σ32 eσ32
      obtain ⟨x33, ex33⟩ : ∃ y : Int32, y = y7 + 1 := ⟨_, rfl⟩
      have hw := hw x33 ex33
      refine lv_iinc (v := x33) (lv' := [(7, .int x33), (0, .ref (a 10)), (2, .int y2), (3, .int y3), (6, .int y6)]) hx hb dX1_resize_156 hl (k := 4) rfl (by rw [ex33]; rfl) (by decide) rfl (fun ls hl => ?_)
      refine lv_goto (tgt := 133) hx hb dX1_resize_159 (by decide) ?_
      exact ih _ _ _ _ _ _ _ _ hw hH (lv_sub hl [1, 2, 3, 4, 0] rfl)
set_option maxHeartbeats 4000000 in
theorem X1_resize_L67_ok {p : Program} {l : Launch} {e : Env} {s : State} {m : MethodId} {args : Array Value} {below : List Frame} {meth : Method} {c : Code} {D : va_G} {a : Nat → Nat} {d : ClassId} {A : Nat → Prop} {K : Int32 → St → Prop} (S : CallFix p m c cX1_resize 8 s args lw_all RX1) (hr : meth.sig.returnType = (some .int)) (hlk : meth.locks = false) : ∀ (n : Nat) (y1 y2 y3 y5 y6 : Int32) (σ : St) (H : Heap) (locs : List Loc) (ls : Array Slot), X1_resize_L67 K n y1 y2 y3 y5 y6 σ → HH D (wX a d) d A s σ H locs → lv_has ls 8 [(0, .ref (a 10)), (1, .int y1), (2, .int y2), (3, .int y3), (5, .int y5), (6, .int y6)] → W p l e ({ frames := 2, cells := 0, slots := 0, locals := 52 }) s m args below meth c H locs 0 0 (MQ below (va_Qi K (wO D (wX a d) d A) A) args s 0 0 A) (F0 m 67 ls []) := by
  obtain ⟨hx, hb, hml, hown, hts⟩ := id S
  intro n
  induction n with
  | zero => intro y1 y2 y3 y5 y6 σ H locs ls hw; exact False.elim hw
  | succ n ih =>
    intro y1 y2 y3 y5 y6 σ H locs ls hw hH hl
    rw [X1_resize_L67] at hw
    refine lv_iload hx hb dX1_resize_67 (lv_at hl 5 rfl) ?_
    refine lv_bipush (v := 16) hx hb dX1_resize_69 (by decide) ?_
    refine lv_icmp_ge (tgt := 104) hx hb dX1_resize_71 (by decide) (fun c22 => ?_) (fun c22 => ?_)
    · have hw := hw.1 c22
      refine lv_aload_n hx hb dX1_resize_104 rfl (lv_at hl 0 rfl) ?_
      refine lv_iload_n hx hb dX1_resize_105 rfl (lv_at hl 1 rfl) ?_
      refine cVv (q := (RX1, TX1, 13)) S hH (tX1_removeObject l D a d y1) (cwV 1 hts gwX1_73 rfl rfl rfl hdX1_removeObject ⟨Nat.le_of_ble_eq_true rfl, Nat.le_of_ble_eq_true rfl⟩) rfl rfl hw rfl hl.1 rfl (Nat.le_of_ble_eq_true rfl) dX1_resize_106 ⟨Nat.zero_le _, Nat.zero_le _⟩ (fun σ23 H locs hw hH => ?_)
      refine lv_aload_n hx hb dX1_resize_109 rfl (lv_at hl 0 rfl) ?_
      refine gX 6 S hH (by decide) q33 rfl dX1_resize_110 ?_
      refine lv_iload_n hx hb dX1_resize_113 rfl (lv_at hl 1 rfl) ?_
      refine lv_iload_n hx hb dX1_resize_114 rfl (lv_at hl 2 rfl) ?_
      obtain ⟨j24, hij24, hjj24, hw⟩ := hw
      refine sA (q0 := 7) (k := 6) S hH rfl (wX_set_6 σ23 a d j24 _) hij24 hjj24 (by decide) dX1_resize_115 (fun H locs hH => ?_)
      obtain ⟨σ25, eσ25⟩ : ∃ z : St, z = up σ23 6 j24 y2 := ⟨_, rfl⟩
      rw [← eσ25] at hH
      have hw := hw σ25 eσ25
      refine lv_aload_n hx hb dX1_resize_116 rfl (lv_at hl 0 rfl) ?_
      refine lv_iload_n hx hb dX1_resize_117 rfl (lv_at hl 1 rfl) ?_
      refine lv_iload hx hb dX1_resize_118 (lv_at hl 4 rfl) ?_
      refine cVv (q := (RX1, TX1, 13)) S hH (tX1_placeObject l D a d y1 y5) (cwV 2 hts gwX1_62 rfl rfl rfl hdX1_placeObject ⟨Nat.le_of_ble_eq_true rfl, Nat.le_of_ble_eq_true rfl⟩) rfl rfl hw rfl hl.1 rfl (Nat.le_of_ble_eq_true rfl) dX1_resize_120 ⟨Nat.zero_le _, Nat.zero_le _⟩ (fun σ26 H locs hw hH => ?_)
      refine lv_aload_n hx hb dX1_resize_123 rfl (lv_at hl 0 rfl) ?_
      refine lv_iload_n hx hb dX1_resize_124 rfl (lv_at hl 1 rfl) ?_
      refine cVi (q := (RX1, TX1, 13)) S hH (tX1_baseOf l D a d y1) (cwV 1 hts gwX1_84 rfl rfl rfl hdX1_baseOf ⟨Nat.le_of_ble_eq_true rfl, Nat.le_of_ble_eq_true rfl⟩) rfl rfl hw rfl hl.1 rfl (Nat.le_of_ble_eq_true rfl) dX1_resize_125 ⟨Nat.zero_le _, Nat.zero_le _⟩ (fun r28 σ27 H locs hw hH => ?_)
      refine lv_istore (lv' := [(6, .int r28), (0, .ref (a 10)), (1, .int y1), (2, .int y2), (3, .int y3), (5, .int y5)]) hx hb dX1_resize_128 hl (by decide) rfl (fun ls hl => ?_)
      refine lv_iconst (v := 0) hx hb dX1_resize_130 (by decide) ?_
      refine lv_istore (lv' := [(7, .int 0), (6, .int r28), (0, .ref (a 10)), (1, .int y1), (2, .int y2), (3, .int y3), (5, .int y5)]) hx hb dX1_resize_131 hl (by decide) rfl (fun ls hl => ?_)
      obtain ⟨n34, hw⟩ := hw
      exact X1_resize_L133_ok S hr hlk n34 _ _ _ _ _ _ _ _ hw hH (lv_sub hl [2, 4, 5, 1, 0] rfl)
    · have hw := hw.2 c22
      refine lv_aload_n hx hb dX1_resize_74 rfl (lv_at hl 0 rfl) ?_
      refine gX 9 S hH (by decide) q36 rfl dX1_resize_75 ?_
      refine lv_iload hx hb dX1_resize_78 (lv_at hl 5 rfl) ?_
      refine lv_iload hx hb dX1_resize_80 (lv_at hl 5 rfl) ?_
      refine lv_iload_n hx hb dX1_resize_82 rfl (lv_at hl 3 rfl) ?_
      refine lv_icmp_ge (tgt := 96) hx hb dX1_resize_83 (by decide) (fun c35 => ?_) (fun c35 => ?_)
      · have hw := hw.1 c35
        refine lv_iconst (v := 0) hx hb dX1_resize_96 (by decide) ?_
        obtain ⟨j36, hij36, hjj36, hw⟩ := hw
        refine sA (q0 := 10) (k := 9) S hH rfl (wX_set_9 σ a d j36 _) hij36 hjj36 (by decide) dX1_resize_97 (fun H locs hH => ?_)
        obtain ⟨σ37, eσ37⟩ : ∃ z : St, z = up σ 9 j36 0 := ⟨_, rfl⟩
        rw [← eσ37] at hH
        have hw := hw σ37 eσ37
        obtain ⟨x38, ex38⟩ : ∃ y : Int32, y = y6 + 1 := ⟨_, rfl⟩
        have hw := hw x38 ex38
        refine lv_iinc (v := x38) (lv' := [(6, .int x38), (0, .ref (a 10)), (1, .int y1), (2, .int y2), (3, .int y3), (5, .int y5)]) hx hb dX1_resize_98 hl (k := 5) rfl (by rw [ex38]; rfl) (by decide) rfl (fun ls hl => ?_)
        refine lv_goto (tgt := 67) hx hb dX1_resize_101 (by decide) ?_
        exact ih _ _ _ _ _ _ _ _ _ hw hH (lv_sub hl [1, 2, 3, 4, 5, 0] rfl)
      · have hw := hw.2 c35
        refine lv_aload_n hx hb dX1_resize_86 rfl (lv_at hl 0 rfl) ?_
        refine lv_iload_n hx hb dX1_resize_87 rfl (lv_at hl 1 rfl) ?_
        refine lv_iload hx hb dX1_resize_88 (lv_at hl 5 rfl) ?_
        refine cVi (q := (RX1, TX1, 13)) S hH (tX1_word l D a d y1 y6) (cwV 2 hts gwX1_81 rfl rfl rfl hdX1_word ⟨Nat.le_of_ble_eq_true rfl, Nat.le_of_ble_eq_true rfl⟩) rfl rfl hw rfl hl.1 rfl (Nat.le_of_ble_eq_true rfl) dX1_resize_90 ⟨Nat.zero_le _, Nat.zero_le _⟩ (fun r40 σ39 H locs hw hH => ?_)
        refine lv_goto (tgt := 97) hx hb dX1_resize_93 (by decide) ?_
        obtain ⟨j41, hij41, hjj41, hw⟩ := hw
        refine sA (q0 := 10) (k := 9) S hH rfl (wX_set_9 σ39 a d j41 _) hij41 hjj41 (by decide) dX1_resize_97 (fun H locs hH => ?_)
        obtain ⟨σ42, eσ42⟩ : ∃ z : St, z = up σ39 9 j41 r40 := ⟨_, rfl⟩
        rw [← eσ42] at hH
        have hw := hw σ42 eσ42
        obtain ⟨x43, ex43⟩ : ∃ y : Int32, y = y6 + 1 := ⟨_, rfl⟩
        have hw := hw x43 ex43
        refine lv_iinc (v := x43) (lv' := [(6, .int x43), (0, .ref (a 10)), (1, .int y1), (2, .int y2), (3, .int y3), (5, .int y5)]) hx hb dX1_resize_98 hl (k := 5) rfl (by rw [ex43]; rfl) (by decide) rfl (fun ls hl => ?_)
        refine lv_goto (tgt := 67) hx hb dX1_resize_101 (by decide) ?_
        exact ih _ _ _ _ _ _ _ _ _ hw hH (lv_sub hl [1, 2, 3, 4, 5, 0] rfl)
set_option maxHeartbeats 4000000 in
theorem tX1_resize (l : Launch) (D : va_G) (a : Nat → Nat) (d : ClassId) (x1 x2 : Int32) : CTi l yX1_resize cX1_resize 8 (some .int) ({ frames := 2, cells := 0, slots := 0, locals := 52 }) (wX a d) D d [.ref (a 10), .int x1, .int x2] (X1_resize x1 x2) := by
  refine msI (by decide) (Nat.le_of_ble_eq_true rfl) ?_
  intro p e s m below meth c A σ K ls S hr hlk hH hw hl
  obtain ⟨hx, hb, hml, hown, hts⟩ := id S
  unfold X1_resize at hw
  have hl : lv_has ls 8 [(0, .ref (a 10)), (1, .int x1), (2, .int x2)] := hl
  refine lv_aload_n hx hb dX1_resize_0 rfl (lv_at hl 0 rfl) ?_
  refine lv_iload_n hx hb dX1_resize_1 rfl (lv_at hl 1 rfl) ?_
  refine cVi (q := (RX1, TX1, 13)) S hH (tX1_isGood l D a d x1) (cwV 1 hts gwX1_70 rfl rfl rfl hdX1_isGood ⟨Nat.le_of_ble_eq_true rfl, Nat.le_of_ble_eq_true rfl⟩) rfl rfl hw rfl hl.1 rfl (Nat.le_of_ble_eq_true rfl) dX1_resize_2 ⟨Nat.zero_le _, Nat.zero_le _⟩ (fun r4 σ3 H locs hw hH => ?_)
  refine lv_if_ne (tgt := 10) hx hb dX1_resize_5 (by decide) (fun c5 => ?_) (fun c5 => ?_)
  · have hw := hw.2 c5
    refine lv_iload_n hx hb dX1_resize_10 rfl (lv_at hl 2 rfl) ?_
    refine cSi S hH (tX1_isSize l D a d x2) (va_cwS 1 hts gwX1_47 rfl rfl rfl hdX1_isSize ⟨Nat.le_of_ble_eq_true rfl, Nat.le_of_ble_eq_true rfl⟩) hw rfl hl.1 rfl (Nat.le_of_ble_eq_true rfl) dX1_resize_11 ⟨Nat.zero_le _, Nat.zero_le _⟩ (fun r7 σ6 H locs hw hH => ?_)
    refine lv_if_ne (tgt := 20) hx hb dX1_resize_14 (by decide) (fun c8 => ?_) (fun c8 => ?_)
    · have hw := hw.2 c8
      refine lv_aload_n hx hb dX1_resize_20 rfl (lv_at hl 0 rfl) ?_
      refine gX 6 S hH (by decide) q33 rfl dX1_resize_21 ?_
      refine lv_iload_n hx hb dX1_resize_24 rfl (lv_at hl 1 rfl) ?_
      obtain ⟨j9, hij9, hjj9, hw⟩ := hw
      refine lA (q0 := 7) (k := 6) S hH rfl hij9 hjj9 (by decide) dX1_resize_25 ?_
      refine lv_topi (fun x10 ex10 => ?_)
      have hw := hw x10 ex10
      refine lv_istore_n (lv' := [(3, .int x10), (0, .ref (a 10)), (1, .int x1), (2, .int x2)]) hx hb dX1_resize_26 rfl hl (by decide) rfl (fun ls hl => ?_)
      refine lv_iload_n hx hb dX1_resize_27 rfl (lv_at hl 0 rfl) ?_
      refine cSi S hH (tX1_kindOf l D a d x10) (va_cwS 1 hts gwX1_54 rfl rfl rfl hdX1_kindOf ⟨Nat.le_of_ble_eq_true rfl, Nat.le_of_ble_eq_true rfl⟩) hw rfl hl.1 rfl (Nat.le_of_ble_eq_true rfl) dX1_resize_28 ⟨Nat.zero_le _, Nat.zero_le _⟩ (fun r12 σ11 H locs hw hH => ?_)
      refine lv_istore (lv' := [(4, .int r12), (3, .int x10), (0, .ref (a 10)), (1, .int x1), (2, .int x2)]) hx hb dX1_resize_31 hl (by decide) rfl (fun ls hl => ?_)
      refine lv_iload_n hx hb dX1_resize_33 rfl (lv_at hl 4 rfl) ?_
      refine cSi S hH (tX1_kindOf l D a d x2) (va_cwS 1 hts gwX1_54 rfl rfl rfl hdX1_kindOf ⟨Nat.le_of_ble_eq_true rfl, Nat.le_of_ble_eq_true rfl⟩) hw rfl hl.1 rfl (Nat.le_of_ble_eq_true rfl) dX1_resize_34 ⟨Nat.zero_le _, Nat.zero_le _⟩ (fun r14 σ13 H locs hw hH => ?_)
      refine lv_istore (lv' := [(5, .int r14), (4, .int r12), (3, .int x10), (0, .ref (a 10)), (1, .int x1), (2, .int x2)]) hx hb dX1_resize_37 hl (by decide) rfl (fun ls hl => ?_)
      refine lv_iload hx hb dX1_resize_39 (lv_at hl 1 rfl) ?_
      refine lv_iload hx hb dX1_resize_41 (lv_at hl 0 rfl) ?_
      refine lv_icmp_eq (tgt := 165) hx hb dX1_resize_43 (by decide) (fun c15 => ?_) (fun c15 => ?_)
      · have hw := hw.1 c15
        refine lv_aload_n hx hb dX1_resize_165 rfl (lv_at hl 3 rfl) ?_
        refine gX 6 S hH (by decide) q33 rfl dX1_resize_166 ?_
        refine lv_iload_n hx hb dX1_resize_169 rfl (lv_at hl 4 rfl) ?_
        refine lv_iload_n hx hb dX1_resize_170 rfl (lv_at hl 5 rfl) ?_
        obtain ⟨j16, hij16, hjj16, hw⟩ := hw
        refine sA (q0 := 7) (k := 6) S hH rfl (wX_set_6 σ13 a d j16 _) hij16 hjj16 (by decide) dX1_resize_171 (fun H locs hH => ?_)
        obtain ⟨σ17, eσ17⟩ : ∃ z : St, z = up σ13 6 j16 x2 := ⟨_, rfl⟩
        rw [← eσ17] at hH
        have hw := hw σ17 eσ17
        refine lv_aload_n hx hb dX1_resize_172 rfl (lv_at hl 3 rfl) ?_
        refine lv_iload_n hx hb dX1_resize_173 rfl (lv_at hl 4 rfl) ?_
        refine lv_iload_n hx hb dX1_resize_174 rfl (lv_at hl 2 rfl) ?_
        refine lv_iload_n hx hb dX1_resize_175 rfl (lv_at hl 5 rfl) ?_
        refine cVv (q := (RX1, TX1, 13)) S hH (tX1_wipe l D a d x1 x10 x2) (cwV 3 hts gwX1_66 rfl rfl rfl hdX1_wipe ⟨Nat.le_of_ble_eq_true rfl, Nat.le_of_ble_eq_true rfl⟩) rfl rfl hw rfl hl.1 rfl (Nat.le_of_ble_eq_true rfl) dX1_resize_176 ⟨Nat.zero_le _, Nat.zero_le _⟩ (fun σ18 H locs hw hH => ?_)
        refine lv_iload_n hx hb dX1_resize_179 rfl (lv_at hl 2 rfl) ?_
        exact riI S hr hlk hH hw dX1_resize_180
      · have hw := hw.2 c15
        refine lv_aload_n hx hb dX1_resize_46 rfl (lv_at hl 3 rfl) ?_
        refine lv_iload hx hb dX1_resize_47 (lv_at hl 1 rfl) ?_
        refine lv_iload hx hb dX1_resize_49 (lv_at hl 0 rfl) ?_
        refine cVi (q := (RX1, TX1, 13)) S hH (tX1_neededAfter l D a d r12 r14) (cwV 2 hts gwX1_77 rfl rfl rfl hdX1_neededAfter ⟨Nat.le_of_ble_eq_true rfl, Nat.le_of_ble_eq_true rfl⟩) rfl rfl hw rfl hl.1 rfl (Nat.le_of_ble_eq_true rfl) dX1_resize_51 ⟨Nat.zero_le _, Nat.zero_le _⟩ (fun r20 σ19 H locs hw hH => ?_)
        refine lv_aload_n hx hb dX1_resize_54 rfl (lv_at hl 3 rfl) ?_
        refine gX 10 S hH (by decide) q37 rfl dX1_resize_55 ?_
        refine lv_icmp_le (tgt := 64) hx hb dX1_resize_58 (by decide) (fun c21 => ?_) (fun c21 => ?_)
        · have hw := hw.1 c21
          refine lv_iconst (v := 0) hx hb dX1_resize_64 (by decide) ?_
          refine lv_istore (lv' := [(6, .int 0), (5, .int r14), (4, .int r12), (3, .int x10), (0, .ref (a 10)), (1, .int x1), (2, .int x2)]) hx hb dX1_resize_65 hl (by decide) rfl (fun ls hl => ?_)
          obtain ⟨n44, hw⟩ := hw
          exact X1_resize_L67_ok S hr hlk n44 _ _ _ _ _ _ _ _ _ hw hH (lv_sub hl [4, 5, 6, 3, 1, 0] rfl)
        · have hw := hw.2 c21
          refine lv_bipush (v := (-3)) hx hb dX1_resize_61 (by decide) ?_
          exact riI S hr hlk hH hw dX1_resize_63
    · have hw := hw.1 c8
      refine lv_bipush (v := (-2)) hx hb dX1_resize_17 (by decide) ?_
      exact riI S hr hlk hH hw dX1_resize_19
  · have hw := hw.1 c5
    refine lv_iconst (v := (-1)) hx hb dX1_resize_8 (by decide) ?_
    exact riI S hr hlk hH hw dX1_resize_9
set_option maxHeartbeats 4000000 in
theorem X1_copy_L46_ok {p : Program} {l : Launch} {e : Env} {s : State} {m : MethodId} {args : Array Value} {below : List Frame} {meth : Method} {c : Code} {D : va_G} {a : Nat → Nat} {d : ClassId} {A : Nat → Prop} {K : Int32 → St → Prop} (S : CallFix p m c cX1_copy 7 s args lw_all RX1) (hr : meth.sig.returnType = (some .int)) (hlk : meth.locks = false) : ∀ (n : Nat) (y2 y3 y4 y5 y6 : Int32) (σ : St) (H : Heap) (locs : List Loc) (ls : Array Slot), X1_copy_L46 K n y2 y3 y4 y5 y6 σ → HH D (wX a d) d A s σ H locs → lv_has ls 7 [(0, .ref (a 10)), (2, .int y2), (3, .int y3), (4, .int y4), (5, .int y5), (6, .int y6)] → W p l e ({ frames := 3, cells := 0, slots := 0, locals := 69 }) s m args below meth c H locs 0 0 (MQ below (va_Qi K (wO D (wX a d) d A) A) args s 0 0 A) (F0 m 46 ls []) := by
  obtain ⟨hx, hb, hml, hown, hts⟩ := id S
  intro n
  induction n with
  | zero => intro y2 y3 y4 y5 y6 σ H locs ls hw; exact False.elim hw
  | succ n ih =>
    intro y2 y3 y4 y5 y6 σ H locs ls hw hH hl
    rw [X1_copy_L46] at hw
    refine lv_iload hx hb dX1_copy_46 (lv_at hl 5 rfl) ?_
    refine lv_iload_n hx hb dX1_copy_48 rfl (lv_at hl 1 rfl) ?_
    refine lv_icmp_ge (tgt := 78) hx hb dX1_copy_49 (by decide) (fun c14 => ?_) (fun c14 => ?_)
    · have hw := hw.1 c14
      refine lv_iload_n hx hb dX1_copy_78 rfl (lv_at hl 2 rfl) ?_
      exact riI S hr hlk hH hw dX1_copy_79
    · have hw := hw.2 c14
      refine lv_aload_n hx hb dX1_copy_52 rfl (lv_at hl 0 rfl) ?_
      refine gX 0 S hH (by decide) q27 rfl dX1_copy_53 ?_
      refine lv_iload hx hb dX1_copy_56 (lv_at hl 4 rfl) ?_
      refine lv_iload hx hb dX1_copy_58 (lv_at hl 5 rfl) ?_
      refine lv_iadd hx hb dX1_copy_60 ?_
      refine lv_aload_n hx hb dX1_copy_61 rfl (lv_at hl 0 rfl) ?_
      refine gX 0 S hH (by decide) q27 rfl dX1_copy_62 ?_
      refine lv_iload hx hb dX1_copy_65 (lv_at hl 3 rfl) ?_
      refine lv_iload hx hb dX1_copy_67 (lv_at hl 5 rfl) ?_
      refine lv_iadd hx hb dX1_copy_69 ?_
      obtain ⟨j15, hij15, hjj15, hw⟩ := hw
      refine lA (q0 := 1) (k := 0) S hH rfl hij15 hjj15 (by decide) dX1_copy_70 ?_
      obtain ⟨j16, hij16, hjj16, hw⟩ := hw
      refine sA (q0 := 1) (k := 0) S hH rfl (wX_set_0 σ a d j16 _) hij16 hjj16 (by decide) dX1_copy_71 (fun H locs hH => ?_)
      obtain ⟨σ17, eσ17⟩ : ∃ z : St, z = up σ 0 j16 (σ 0 j15) := ⟨_, rfl⟩
      rw [← eσ17] at hH
      have hw := hw σ17 eσ17
      obtain ⟨x18, ex18⟩ : ∃ y : Int32, y = y6 + 1 := ⟨_, rfl⟩
      have hw := hw x18 ex18
      refine lv_iinc (v := x18) (lv' := [(6, .int x18), (0, .ref (a 10)), (2, .int y2), (3, .int y3), (4, .int y4), (5, .int y5)]) hx hb dX1_copy_72 hl (k := 5) rfl (by rw [ex18]; rfl) (by decide) rfl (fun ls hl => ?_)
      refine lv_goto (tgt := 46) hx hb dX1_copy_75 (by decide) ?_
      exact ih _ _ _ _ _ _ _ _ _ hw hH (lv_sub hl [1, 2, 3, 4, 5, 0] rfl)
set_option maxHeartbeats 4000000 in
theorem tX1_copy (l : Launch) (D : va_G) (a : Nat → Nat) (d : ClassId) (x1 : Int32) : CTi l yX1_copy cX1_copy 7 (some .int) ({ frames := 3, cells := 0, slots := 0, locals := 69 }) (wX a d) D d [.ref (a 10), .int x1] (X1_copy x1) := by
  refine msI (by decide) (Nat.le_of_ble_eq_true rfl) ?_
  intro p e s m below meth c A σ K ls S hr hlk hH hw hl
  obtain ⟨hx, hb, hml, hown, hts⟩ := id S
  unfold X1_copy at hw
  have hl : lv_has ls 7 [(0, .ref (a 10)), (1, .int x1)] := hl
  refine lv_aload_n hx hb dX1_copy_0 rfl (lv_at hl 0 rfl) ?_
  refine lv_iload_n hx hb dX1_copy_1 rfl (lv_at hl 1 rfl) ?_
  refine cVi (q := (RX1, TX1, 13)) S hH (tX1_isGood l D a d x1) (cwV 1 hts gwX1_70 rfl rfl rfl hdX1_isGood ⟨Nat.le_of_ble_eq_true rfl, Nat.le_of_ble_eq_true rfl⟩) rfl rfl hw rfl hl.1 rfl (Nat.le_of_ble_eq_true rfl) dX1_copy_2 ⟨Nat.zero_le _, Nat.zero_le _⟩ (fun r3 σ2 H locs hw hH => ?_)
  refine lv_if_ne (tgt := 10) hx hb dX1_copy_5 (by decide) (fun c4 => ?_) (fun c4 => ?_)
  · have hw := hw.2 c4
    refine lv_aload_n hx hb dX1_copy_10 rfl (lv_at hl 0 rfl) ?_
    refine gX 6 S hH (by decide) q33 rfl dX1_copy_11 ?_
    refine lv_iload_n hx hb dX1_copy_14 rfl (lv_at hl 1 rfl) ?_
    obtain ⟨j5, hij5, hjj5, hw⟩ := hw
    refine lA (q0 := 7) (k := 6) S hH rfl hij5 hjj5 (by decide) dX1_copy_15 ?_
    refine lv_topi (fun x6 ex6 => ?_)
    have hw := hw x6 ex6
    refine lv_istore_n (lv' := [(2, .int x6), (0, .ref (a 10)), (1, .int x1)]) hx hb dX1_copy_16 rfl hl (by decide) rfl (fun ls hl => ?_)
    refine lv_aload_n hx hb dX1_copy_17 rfl (lv_at hl 1 rfl) ?_
    refine lv_iload_n hx hb dX1_copy_18 rfl (lv_at hl 0 rfl) ?_
    refine cVi (q := (RX1, TX1, 13)) S hH (tX1_allocate l D a d x6) (cwV 1 hts gwX1_87 rfl rfl rfl hdX1_allocate ⟨Nat.le_of_ble_eq_true rfl, Nat.le_of_ble_eq_true rfl⟩) rfl rfl hw rfl hl.1 rfl (Nat.le_of_ble_eq_true rfl) dX1_copy_19 ⟨Nat.zero_le _, Nat.zero_le _⟩ (fun r8 σ7 H locs hw hH => ?_)
    refine lv_istore_n (lv' := [(3, .int r8), (2, .int x6), (0, .ref (a 10)), (1, .int x1)]) hx hb dX1_copy_22 rfl hl (by decide) rfl (fun ls hl => ?_)
    refine lv_iload_n hx hb dX1_copy_23 rfl (lv_at hl 0 rfl) ?_
    refine lv_if_ge (tgt := 29) hx hb dX1_copy_24 (by decide) (fun c9 => ?_) (fun c9 => ?_)
    · have hw := hw.1 c9
      refine lv_aload_n hx hb dX1_copy_29 rfl (lv_at hl 2 rfl) ?_
      refine lv_iload_n hx hb dX1_copy_30 rfl (lv_at hl 3 rfl) ?_
      refine cVi (q := (RX1, TX1, 13)) S hH (tX1_baseOf l D a d x1) (cwV 1 hts gwX1_84 rfl rfl rfl hdX1_baseOf ⟨Nat.le_of_ble_eq_true rfl, Nat.le_of_ble_eq_true rfl⟩) rfl rfl hw rfl hl.1 rfl (Nat.le_of_ble_eq_true rfl) dX1_copy_31 ⟨Nat.zero_le _, Nat.zero_le _⟩ (fun r11 σ10 H locs hw hH => ?_)
      refine lv_istore (lv' := [(4, .int r11), (3, .int r8), (2, .int x6), (0, .ref (a 10)), (1, .int x1)]) hx hb dX1_copy_34 hl (by decide) rfl (fun ls hl => ?_)
      refine lv_aload_n hx hb dX1_copy_36 rfl (lv_at hl 3 rfl) ?_
      refine lv_iload_n hx hb dX1_copy_37 rfl (lv_at hl 1 rfl) ?_
      refine cVi (q := (RX1, TX1, 13)) S hH (tX1_baseOf l D a d r8) (cwV 1 hts gwX1_84 rfl rfl rfl hdX1_baseOf ⟨Nat.le_of_ble_eq_true rfl, Nat.le_of_ble_eq_true rfl⟩) rfl rfl hw rfl hl.1 rfl (Nat.le_of_ble_eq_true rfl) dX1_copy_38 ⟨Nat.zero_le _, Nat.zero_le _⟩ (fun r13 σ12 H locs hw hH => ?_)
      refine lv_istore (lv' := [(5, .int r13), (4, .int r11), (3, .int r8), (2, .int x6), (0, .ref (a 10)), (1, .int x1)]) hx hb dX1_copy_41 hl (by decide) rfl (fun ls hl => ?_)
      refine lv_iconst (v := 0) hx hb dX1_copy_43 (by decide) ?_
      refine lv_istore (lv' := [(6, .int 0), (5, .int r13), (4, .int r11), (3, .int r8), (2, .int x6), (0, .ref (a 10)), (1, .int x1)]) hx hb dX1_copy_44 hl (by decide) rfl (fun ls hl => ?_)
      obtain ⟨n19, hw⟩ := hw
      exact X1_copy_L46_ok S hr hlk n19 _ _ _ _ _ _ _ _ _ hw hH (lv_sub hl [5, 4, 3, 2, 1, 0] rfl)
    · have hw := hw.2 c9
      refine lv_iload_n hx hb dX1_copy_27 rfl (lv_at hl 0 rfl) ?_
      exact riI S hr hlk hH hw dX1_copy_28
  · have hw := hw.1 c4
    refine lv_iconst (v := (-1)) hx hb dX1_copy_8 (by decide) ?_
    exact riI S hr hlk hH hw dX1_copy_9
set_option maxHeartbeats 4000000 in
theorem X1_freeClass_L13_ok {p : Program} {l : Launch} {e : Env} {s : State} {m : MethodId} {args : Array Value} {below : List Frame} {meth : Method} {c : Code} {D : va_G} {a : Nat → Nat} {d : ClassId} {A : Nat → Prop} {K : Int32 → St → Prop} (S : CallFix p m c cX1_freeClass 4 s args lw_all RX1) (hr : meth.sig.returnType = (some .int)) (hlk : meth.locks = false) : ∀ (n : Nat) (y1 y2 y3 : Int32) (σ : St) (H : Heap) (locs : List Loc) (ls : Array Slot), X1_freeClass_L13 K n y1 y2 y3 σ → HH D (wX a d) d A s σ H locs → lv_has ls 4 [(0, .ref (a 10)), (1, .int y1), (2, .int y2), (3, .int y3)] → W p l e ({ frames := 2, cells := 0, slots := 0, locals := 52 }) s m args below meth c H locs 0 0 (MQ below (va_Qi K (wO D (wX a d) d A) A) args s 0 0 A) (F0 m 13 ls []) := by
  obtain ⟨hx, hb, hml, hown, hts⟩ := id S
  intro n
  induction n with
  | zero => intro y1 y2 y3 σ H locs ls hw; exact False.elim hw
  | succ n ih =>
    intro y1 y2 y3 σ H locs ls hw hH hl
    rw [X1_freeClass_L13] at hw
    refine lv_iload_n hx hb dX1_freeClass_13 rfl (lv_at hl 3 rfl) ?_
    refine lv_bipush (v := 64) hx hb dX1_freeClass_14 (by decide) ?_
    refine lv_icmp_ge (tgt := 64) hx hb dX1_freeClass_16 (by decide) (fun c5 => ?_) (fun c5 => ?_)
    · have hw := hw.1 c5
      refine lv_iload_n hx hb dX1_freeClass_64 rfl (lv_at hl 2 rfl) ?_
      exact riI S hr hlk hH hw dX1_freeClass_65
    · have hw := hw.2 c5
      refine lv_aload_n hx hb dX1_freeClass_19 rfl (lv_at hl 0 rfl) ?_
      refine gX 6 S hH (by decide) q33 rfl dX1_freeClass_20 ?_
      refine lv_iload_n hx hb dX1_freeClass_23 rfl (lv_at hl 3 rfl) ?_
      obtain ⟨j6, hij6, hjj6, hw⟩ := hw
      refine lA (q0 := 7) (k := 6) S hH rfl hij6 hjj6 (by decide) dX1_freeClass_24 ?_
      refine lv_if_le (tgt := 58) hx hb dX1_freeClass_25 (by decide) (fun c7 => ?_) (fun c7 => ?_)
      · have hw := hw.1 c7
        obtain ⟨x8, ex8⟩ : ∃ y : Int32, y = y3 + 1 := ⟨_, rfl⟩
        have hw := hw x8 ex8
        refine lv_iinc (v := x8) (lv' := [(3, .int x8), (0, .ref (a 10)), (1, .int y1), (2, .int y2)]) hx hb dX1_freeClass_58 hl (k := 3) rfl (by rw [ex8]; rfl) (by decide) rfl (fun ls hl => ?_)
        refine lv_goto (tgt := 13) hx hb dX1_freeClass_61 (by decide) ?_
        exact ih _ _ _ _ _ _ _ hw hH (lv_sub hl [1, 2, 3, 0] rfl)
      · have hw := hw.2 c7
        refine lv_aload_n hx hb dX1_freeClass_28 rfl (lv_at hl 0 rfl) ?_
        refine gX 1 S hH (by decide) q28 rfl dX1_freeClass_29 ?_
        refine lv_aload_n hx hb dX1_freeClass_32 rfl (lv_at hl 0 rfl) ?_
        refine gX 4 S hH (by decide) q31 rfl dX1_freeClass_33 ?_
        refine lv_iload_n hx hb dX1_freeClass_36 rfl (lv_at hl 3 rfl) ?_
        obtain ⟨j9, hij9, hjj9, hw⟩ := hw
        refine lA (q0 := 5) (k := 4) S hH rfl hij9 hjj9 (by decide) dX1_freeClass_37 ?_
        obtain ⟨j10, hij10, hjj10, hw⟩ := hw
        refine lA (q0 := 2) (k := 1) S hH rfl hij10 hjj10 (by decide) dX1_freeClass_38 ?_
        refine lv_iload_n hx hb dX1_freeClass_39 rfl (lv_at hl 1 rfl) ?_
        refine lv_icmp_ne (tgt := 58) hx hb dX1_freeClass_40 (by decide) (fun c11 => ?_) (fun c11 => ?_)
        · have hw := hw.2 c11
          obtain ⟨x12, ex12⟩ : ∃ y : Int32, y = y3 + 1 := ⟨_, rfl⟩
          have hw := hw x12 ex12
          refine lv_iinc (v := x12) (lv' := [(3, .int x12), (0, .ref (a 10)), (1, .int y1), (2, .int y2)]) hx hb dX1_freeClass_58 hl (k := 3) rfl (by rw [ex12]; rfl) (by decide) rfl (fun ls hl => ?_)
          refine lv_goto (tgt := 13) hx hb dX1_freeClass_61 (by decide) ?_
          exact ih _ _ _ _ _ _ _ hw hH (lv_sub hl [1, 2, 3, 0] rfl)
        · have hw := hw.1 c11
          refine lv_aload_n hx hb dX1_freeClass_43 rfl (lv_at hl 0 rfl) ?_
          refine lv_iload_n hx hb dX1_freeClass_44 rfl (lv_at hl 3 rfl) ?_
          refine cVv (q := (RX1, TX1, 13)) S hH (tX1_removeObject l D a d y3) (cwV 1 hts gwX1_73 rfl rfl rfl hdX1_removeObject ⟨Nat.le_of_ble_eq_true rfl, Nat.le_of_ble_eq_true rfl⟩) rfl rfl hw rfl hl.1 rfl (Nat.le_of_ble_eq_true rfl) dX1_freeClass_45 ⟨Nat.zero_le _, Nat.zero_le _⟩ (fun σ13 H locs hw hH => ?_)
          refine lv_aload_n hx hb dX1_freeClass_48 rfl (lv_at hl 0 rfl) ?_
          refine gX 6 S hH (by decide) q33 rfl dX1_freeClass_49 ?_
          refine lv_iload_n hx hb dX1_freeClass_52 rfl (lv_at hl 3 rfl) ?_
          refine lv_iconst (v := 0) hx hb dX1_freeClass_53 (by decide) ?_
          obtain ⟨j14, hij14, hjj14, hw⟩ := hw
          refine sA (q0 := 7) (k := 6) S hH rfl (wX_set_6 σ13 a d j14 _) hij14 hjj14 (by decide) dX1_freeClass_54 (fun H locs hH => ?_)
          obtain ⟨σ15, eσ15⟩ : ∃ z : St, z = up σ13 6 j14 0 := ⟨_, rfl⟩
          rw [← eσ15] at hH
          have hw := hw σ15 eσ15
          obtain ⟨x16, ex16⟩ : ∃ y : Int32, y = y2 + 1 := ⟨_, rfl⟩
          have hw := hw x16 ex16
          refine lv_iinc (v := x16) (lv' := [(2, .int x16), (0, .ref (a 10)), (1, .int y1), (3, .int y3)]) hx hb dX1_freeClass_55 hl (k := 2) rfl (by rw [ex16]; rfl) (by decide) rfl (fun ls hl => ?_)
          obtain ⟨x17, ex17⟩ : ∃ y : Int32, y = y3 + 1 := ⟨_, rfl⟩
          have hw := hw x17 ex17
          refine lv_iinc (v := x17) (lv' := [(3, .int x17), (2, .int x16), (0, .ref (a 10)), (1, .int y1)]) hx hb dX1_freeClass_58 hl (k := 3) rfl (by rw [ex17]; rfl) (by decide) rfl (fun ls hl => ?_)
          refine lv_goto (tgt := 13) hx hb dX1_freeClass_61 (by decide) ?_
          exact ih _ _ _ _ _ _ _ hw hH (lv_sub hl [2, 3, 1, 0] rfl)
set_option maxHeartbeats 4000000 in
theorem tX1_freeClass (l : Launch) (D : va_G) (a : Nat → Nat) (d : ClassId) (x1 : Int32) : CTi l yX1_freeClass cX1_freeClass 4 (some .int) ({ frames := 2, cells := 0, slots := 0, locals := 52 }) (wX a d) D d [.ref (a 10), .int x1] (X1_freeClass x1) := by
  refine msI (by decide) (Nat.le_of_ble_eq_true rfl) ?_
  intro p e s m below meth c A σ K ls S hr hlk hH hw hl
  obtain ⟨hx, hb, hml, hown, hts⟩ := id S
  unfold X1_freeClass at hw
  have hl : lv_has ls 4 [(0, .ref (a 10)), (1, .int x1)] := hl
  refine lv_iload_n hx hb dX1_freeClass_0 rfl (lv_at hl 1 rfl) ?_
  refine cSi S hH (tX1_isKind l D a d x1) (va_cwS 1 hts gwX1_90 rfl rfl rfl hdX1_isKind ⟨Nat.le_of_ble_eq_true rfl, Nat.le_of_ble_eq_true rfl⟩) hw rfl hl.1 rfl (Nat.le_of_ble_eq_true rfl) dX1_freeClass_1 ⟨Nat.zero_le _, Nat.zero_le _⟩ (fun r3 σ2 H locs hw hH => ?_)
  refine lv_if_ne (tgt := 9) hx hb dX1_freeClass_4 (by decide) (fun c4 => ?_) (fun c4 => ?_)
  · have hw := hw.2 c4
    refine lv_iconst (v := 0) hx hb dX1_freeClass_9 (by decide) ?_
    refine lv_istore_n (lv' := [(2, .int 0), (0, .ref (a 10)), (1, .int x1)]) hx hb dX1_freeClass_10 rfl hl (by decide) rfl (fun ls hl => ?_)
    refine lv_iconst (v := 0) hx hb dX1_freeClass_11 (by decide) ?_
    refine lv_istore_n (lv' := [(3, .int 0), (2, .int 0), (0, .ref (a 10)), (1, .int x1)]) hx hb dX1_freeClass_12 rfl hl (by decide) rfl (fun ls hl => ?_)
    obtain ⟨n18, hw⟩ := hw
    exact X1_freeClass_L13_ok S hr hlk n18 _ _ _ _ _ _ _ hw hH (lv_sub hl [2, 3, 1, 0] rfl)
  · have hw := hw.1 c4
    refine lv_iconst (v := (-1)) hx hb dX1_freeClass_7 (by decide) ?_
    exact riI S hr hlk hH hw dX1_freeClass_8
set_option maxHeartbeats 4000000 in
theorem tX1_read (l : Launch) (D : va_G) (a : Nat → Nat) (d : ClassId) (x1 x2 : Int32) : CTi l yX1_read cX1_read 3 (some .int) ({ frames := 2, cells := 0, slots := 0, locals := 44 }) (wX a d) D d [.ref (a 10), .int x1, .int x2] (X1_read x1 x2) := by
  refine msI (by decide) (Nat.le_of_ble_eq_true rfl) ?_
  intro p e s m below meth c A σ K ls S hr hlk hH hw hl
  obtain ⟨hx, hb, hml, hown, hts⟩ := id S
  unfold X1_read at hw
  have hl : lv_has ls 3 [(0, .ref (a 10)), (1, .int x1), (2, .int x2)] := hl
  refine lv_aload_n hx hb dX1_read_0 rfl (lv_at hl 0 rfl) ?_
  refine lv_iload_n hx hb dX1_read_1 rfl (lv_at hl 1 rfl) ?_
  refine cVi (q := (RX1, TX1, 13)) S hH (tX1_isGood l D a d x1) (cwV 1 hts gwX1_70 rfl rfl rfl hdX1_isGood ⟨Nat.le_of_ble_eq_true rfl, Nat.le_of_ble_eq_true rfl⟩) rfl rfl hw rfl hl.1 rfl (Nat.le_of_ble_eq_true rfl) dX1_read_2 ⟨Nat.zero_le _, Nat.zero_le _⟩ (fun r4 σ3 H locs hw hH => ?_)
  refine lv_if_eq (tgt := 31) hx hb dX1_read_5 (by decide) (fun c5 => ?_) (fun c5 => ?_)
  · have hw := hw.1 c5
    refine lv_iconst (v := 0) hx hb dX1_read_31 (by decide) ?_
    exact riI S hr hlk hH hw dX1_read_32
  · have hw := hw.2 c5
    refine lv_iload_n hx hb dX1_read_8 rfl (lv_at hl 2 rfl) ?_
    refine lv_if_lt (tgt := 31) hx hb dX1_read_9 (by decide) (fun c6 => ?_) (fun c6 => ?_)
    · have hw := hw.1 c6
      refine lv_iconst (v := 0) hx hb dX1_read_31 (by decide) ?_
      exact riI S hr hlk hH hw dX1_read_32
    · have hw := hw.2 c6
      refine lv_iload_n hx hb dX1_read_12 rfl (lv_at hl 2 rfl) ?_
      refine lv_aload_n hx hb dX1_read_13 rfl (lv_at hl 0 rfl) ?_
      refine gX 6 S hH (by decide) q33 rfl dX1_read_14 ?_
      refine lv_iload_n hx hb dX1_read_17 rfl (lv_at hl 1 rfl) ?_
      obtain ⟨j7, hij7, hjj7, hw⟩ := hw
      refine lA (q0 := 7) (k := 6) S hH rfl hij7 hjj7 (by decide) dX1_read_18 ?_
      refine lv_icmp_ge (tgt := 31) hx hb dX1_read_19 (by decide) (fun c8 => ?_) (fun c8 => ?_)
      · have hw := hw.1 c8
        refine lv_iconst (v := 0) hx hb dX1_read_31 (by decide) ?_
        exact riI S hr hlk hH hw dX1_read_32
      · have hw := hw.2 c8
        refine lv_aload_n hx hb dX1_read_22 rfl (lv_at hl 0 rfl) ?_
        refine lv_iload_n hx hb dX1_read_23 rfl (lv_at hl 1 rfl) ?_
        refine lv_iload_n hx hb dX1_read_24 rfl (lv_at hl 2 rfl) ?_
        refine cVi (q := (RX1, TX1, 13)) S hH (tX1_word l D a d x1 x2) (cwV 2 hts gwX1_81 rfl rfl rfl hdX1_word ⟨Nat.le_of_ble_eq_true rfl, Nat.le_of_ble_eq_true rfl⟩) rfl rfl hw rfl hl.1 rfl (Nat.le_of_ble_eq_true rfl) dX1_read_25 ⟨Nat.zero_le _, Nat.zero_le _⟩ (fun r10 σ9 H locs hw hH => ?_)
        refine lv_goto (tgt := 32) hx hb dX1_read_28 (by decide) ?_
        exact riI S hr hlk hH hw dX1_read_32
set_option maxHeartbeats 4000000 in
theorem tX1_write (l : Launch) (D : va_G) (a : Nat → Nat) (d : ClassId) (x1 x2 x3 : Int32) : CTi l yX1_write cX1_write 5 (some .int) ({ frames := 1, cells := 0, slots := 0, locals := 21 }) (wX a d) D d [.ref (a 10), .int x1, .int x2, .int x3] (X1_write x1 x2 x3) := by
  refine msI (by decide) (Nat.le_of_ble_eq_true rfl) ?_
  intro p e s m below meth c A σ K ls S hr hlk hH hw hl
  obtain ⟨hx, hb, hml, hown, hts⟩ := id S
  unfold X1_write at hw
  have hl : lv_has ls 5 [(0, .ref (a 10)), (1, .int x1), (2, .int x2), (3, .int x3)] := hl
  refine lv_aload_n hx hb dX1_write_0 rfl (lv_at hl 0 rfl) ?_
  refine lv_iload_n hx hb dX1_write_1 rfl (lv_at hl 1 rfl) ?_
  refine cVi (q := (RX1, TX1, 13)) S hH (tX1_isGood l D a d x1) (cwV 1 hts gwX1_70 rfl rfl rfl hdX1_isGood ⟨Nat.le_of_ble_eq_true rfl, Nat.le_of_ble_eq_true rfl⟩) rfl rfl hw rfl hl.1 rfl (Nat.le_of_ble_eq_true rfl) dX1_write_2 ⟨Nat.zero_le _, Nat.zero_le _⟩ (fun r5 σ4 H locs hw hH => ?_)
  refine lv_if_ne (tgt := 10) hx hb dX1_write_5 (by decide) (fun c6 => ?_) (fun c6 => ?_)
  · have hw := hw.2 c6
    refine lv_iload_n hx hb dX1_write_10 rfl (lv_at hl 2 rfl) ?_
    refine lv_if_lt (tgt := 24) hx hb dX1_write_11 (by decide) (fun c7 => ?_) (fun c7 => ?_)
    · have hw := hw.1 c7
      refine lv_bipush (v := (-2)) hx hb dX1_write_24 (by decide) ?_
      exact riI S hr hlk hH hw dX1_write_26
    · have hw := hw.2 c7
      refine lv_iload_n hx hb dX1_write_14 rfl (lv_at hl 2 rfl) ?_
      refine lv_aload_n hx hb dX1_write_15 rfl (lv_at hl 0 rfl) ?_
      refine gX 6 S hH (by decide) q33 rfl dX1_write_16 ?_
      refine lv_iload_n hx hb dX1_write_19 rfl (lv_at hl 1 rfl) ?_
      obtain ⟨j8, hij8, hjj8, hw⟩ := hw
      refine lA (q0 := 7) (k := 6) S hH rfl hij8 hjj8 (by decide) dX1_write_20 ?_
      refine lv_icmp_lt (tgt := 27) hx hb dX1_write_21 (by decide) (fun c9 => ?_) (fun c9 => ?_)
      · have hw := hw.1 c9
        refine lv_aload_n hx hb dX1_write_27 rfl (lv_at hl 0 rfl) ?_
        refine lv_iload_n hx hb dX1_write_28 rfl (lv_at hl 1 rfl) ?_
        refine cVi (q := (RX1, TX1, 13)) S hH (tX1_baseOf l D a d x1) (cwV 1 hts gwX1_84 rfl rfl rfl hdX1_baseOf ⟨Nat.le_of_ble_eq_true rfl, Nat.le_of_ble_eq_true rfl⟩) rfl rfl hw rfl hl.1 rfl (Nat.le_of_ble_eq_true rfl) dX1_write_29 ⟨Nat.zero_le _, Nat.zero_le _⟩ (fun r11 σ10 H locs hw hH => ?_)
        refine lv_istore (lv' := [(4, .int r11), (0, .ref (a 10)), (1, .int x1), (2, .int x2), (3, .int x3)]) hx hb dX1_write_32 hl (by decide) rfl (fun ls hl => ?_)
        refine lv_aload_n hx hb dX1_write_34 rfl (lv_at hl 1 rfl) ?_
        refine gX 0 S hH (by decide) q27 rfl dX1_write_35 ?_
        refine lv_iload hx hb dX1_write_38 (lv_at hl 0 rfl) ?_
        refine lv_iload_n hx hb dX1_write_40 rfl (lv_at hl 3 rfl) ?_
        refine lv_iadd hx hb dX1_write_41 ?_
        refine lv_iload_n hx hb dX1_write_42 rfl (lv_at hl 4 rfl) ?_
        obtain ⟨j12, hij12, hjj12, hw⟩ := hw
        refine sA (q0 := 1) (k := 0) S hH rfl (wX_set_0 σ10 a d j12 _) hij12 hjj12 (by decide) dX1_write_43 (fun H locs hH => ?_)
        obtain ⟨σ13, eσ13⟩ : ∃ z : St, z = up σ10 0 j12 x3 := ⟨_, rfl⟩
        rw [← eσ13] at hH
        have hw := hw σ13 eσ13
        refine lv_iconst (v := 0) hx hb dX1_write_44 (by decide) ?_
        exact riI S hr hlk hH hw dX1_write_45
      · have hw := hw.2 c9
        refine lv_bipush (v := (-2)) hx hb dX1_write_24 (by decide) ?_
        exact riI S hr hlk hH hw dX1_write_26
  · have hw := hw.1 c6
    refine lv_iconst (v := (-1)) hx hb dX1_write_8 (by decide) ?_
    exact riI S hr hlk hH hw dX1_write_9
set_option maxHeartbeats 4000000 in
theorem X1_fill_L20_ok {p : Program} {l : Launch} {e : Env} {s : State} {m : MethodId} {args : Array Value} {below : List Frame} {meth : Method} {c : Code} {D : va_G} {a : Nat → Nat} {d : ClassId} {A : Nat → Prop} {K : Int32 → St → Prop} (S : CallFix p m c cX1_fill 6 s args lw_all RX1) (hr : meth.sig.returnType = (some .int)) (hlk : meth.locks = false) : ∀ (n : Nat) (y1 y2 y3 y4 y5 : Int32) (σ : St) (H : Heap) (locs : List Loc) (ls : Array Slot), X1_fill_L20 K n y1 y2 y3 y4 y5 σ → HH D (wX a d) d A s σ H locs → lv_has ls 6 [(0, .ref (a 10)), (1, .int y1), (2, .int y2), (3, .int y3), (4, .int y4), (5, .int y5)] → W p l e ({ frames := 1, cells := 0, slots := 0, locals := 21 }) s m args below meth c H locs 0 0 (MQ below (va_Qi K (wO D (wX a d) d A) A) args s 0 0 A) (F0 m 20 ls []) := by
  obtain ⟨hx, hb, hml, hown, hts⟩ := id S
  intro n
  induction n with
  | zero => intro y1 y2 y3 y4 y5 σ H locs ls hw; exact False.elim hw
  | succ n ih =>
    intro y1 y2 y3 y4 y5 σ H locs ls hw hH hl
    rw [X1_fill_L20] at hw
    refine lv_iload hx hb dX1_fill_20 (lv_at hl 5 rfl) ?_
    refine lv_aload_n hx hb dX1_fill_22 rfl (lv_at hl 0 rfl) ?_
    refine gX 6 S hH (by decide) q33 rfl dX1_fill_23 ?_
    refine lv_iload_n hx hb dX1_fill_26 rfl (lv_at hl 1 rfl) ?_
    obtain ⟨j9, hij9, hjj9, hw⟩ := hw
    refine lA (q0 := 7) (k := 6) S hH rfl hij9 hjj9 (by decide) dX1_fill_27 ?_
    refine lv_icmp_ge (tgt := 53) hx hb dX1_fill_28 (by decide) (fun c10 => ?_) (fun c10 => ?_)
    · have hw := hw.1 c10
      refine lv_aload_n hx hb dX1_fill_53 rfl (lv_at hl 0 rfl) ?_
      refine gX 6 S hH (by decide) q33 rfl dX1_fill_54 ?_
      refine lv_iload_n hx hb dX1_fill_57 rfl (lv_at hl 1 rfl) ?_
      obtain ⟨j11, hij11, hjj11, hw⟩ := hw
      refine lA (q0 := 7) (k := 6) S hH rfl hij11 hjj11 (by decide) dX1_fill_58 ?_
      exact riI S hr hlk hH hw dX1_fill_59
    · have hw := hw.2 c10
      refine lv_aload_n hx hb dX1_fill_31 rfl (lv_at hl 0 rfl) ?_
      refine gX 0 S hH (by decide) q27 rfl dX1_fill_32 ?_
      refine lv_iload hx hb dX1_fill_35 (lv_at hl 4 rfl) ?_
      refine lv_iload hx hb dX1_fill_37 (lv_at hl 5 rfl) ?_
      refine lv_iadd hx hb dX1_fill_39 ?_
      refine lv_iload_n hx hb dX1_fill_40 rfl (lv_at hl 2 rfl) ?_
      refine lv_iload hx hb dX1_fill_41 (lv_at hl 5 rfl) ?_
      refine lv_iload_n hx hb dX1_fill_43 rfl (lv_at hl 3 rfl) ?_
      refine lv_imul hx hb dX1_fill_44 ?_
      refine lv_iadd hx hb dX1_fill_45 ?_
      obtain ⟨j12, hij12, hjj12, hw⟩ := hw
      refine sA (q0 := 1) (k := 0) S hH rfl (wX_set_0 σ a d j12 _) hij12 hjj12 (by decide) dX1_fill_46 (fun H locs hH => ?_)
      obtain ⟨σ13, eσ13⟩ : ∃ z : St, z = up σ 0 j12 (y2 + (y5 * y3)) := ⟨_, rfl⟩
      rw [← eσ13] at hH
      have hw := hw σ13 eσ13
      obtain ⟨x14, ex14⟩ : ∃ y : Int32, y = y5 + 1 := ⟨_, rfl⟩
      have hw := hw x14 ex14
      refine lv_iinc (v := x14) (lv' := [(5, .int x14), (0, .ref (a 10)), (1, .int y1), (2, .int y2), (3, .int y3), (4, .int y4)]) hx hb dX1_fill_47 hl (k := 5) rfl (by rw [ex14]; rfl) (by decide) rfl (fun ls hl => ?_)
      refine lv_goto (tgt := 20) hx hb dX1_fill_50 (by decide) ?_
      exact ih _ _ _ _ _ _ _ _ _ hw hH (lv_sub hl [1, 2, 3, 4, 5, 0] rfl)
set_option maxHeartbeats 4000000 in
theorem tX1_fill (l : Launch) (D : va_G) (a : Nat → Nat) (d : ClassId) (x1 x2 x3 : Int32) : CTi l yX1_fill cX1_fill 6 (some .int) ({ frames := 1, cells := 0, slots := 0, locals := 21 }) (wX a d) D d [.ref (a 10), .int x1, .int x2, .int x3] (X1_fill x1 x2 x3) := by
  refine msI (by decide) (Nat.le_of_ble_eq_true rfl) ?_
  intro p e s m below meth c A σ K ls S hr hlk hH hw hl
  obtain ⟨hx, hb, hml, hown, hts⟩ := id S
  unfold X1_fill at hw
  have hl : lv_has ls 6 [(0, .ref (a 10)), (1, .int x1), (2, .int x2), (3, .int x3)] := hl
  refine lv_aload_n hx hb dX1_fill_0 rfl (lv_at hl 0 rfl) ?_
  refine lv_iload_n hx hb dX1_fill_1 rfl (lv_at hl 1 rfl) ?_
  refine cVi (q := (RX1, TX1, 13)) S hH (tX1_isGood l D a d x1) (cwV 1 hts gwX1_70 rfl rfl rfl hdX1_isGood ⟨Nat.le_of_ble_eq_true rfl, Nat.le_of_ble_eq_true rfl⟩) rfl rfl hw rfl hl.1 rfl (Nat.le_of_ble_eq_true rfl) dX1_fill_2 ⟨Nat.zero_le _, Nat.zero_le _⟩ (fun r5 σ4 H locs hw hH => ?_)
  refine lv_if_ne (tgt := 10) hx hb dX1_fill_5 (by decide) (fun c6 => ?_) (fun c6 => ?_)
  · have hw := hw.2 c6
    refine lv_aload_n hx hb dX1_fill_10 rfl (lv_at hl 0 rfl) ?_
    refine lv_iload_n hx hb dX1_fill_11 rfl (lv_at hl 1 rfl) ?_
    refine cVi (q := (RX1, TX1, 13)) S hH (tX1_baseOf l D a d x1) (cwV 1 hts gwX1_84 rfl rfl rfl hdX1_baseOf ⟨Nat.le_of_ble_eq_true rfl, Nat.le_of_ble_eq_true rfl⟩) rfl rfl hw rfl hl.1 rfl (Nat.le_of_ble_eq_true rfl) dX1_fill_12 ⟨Nat.zero_le _, Nat.zero_le _⟩ (fun r8 σ7 H locs hw hH => ?_)
    refine lv_istore (lv' := [(4, .int r8), (0, .ref (a 10)), (1, .int x1), (2, .int x2), (3, .int x3)]) hx hb dX1_fill_15 hl (by decide) rfl (fun ls hl => ?_)
    refine lv_iconst (v := 0) hx hb dX1_fill_17 (by decide) ?_
    refine lv_istore (lv' := [(5, .int 0), (4, .int r8), (0, .ref (a 10)), (1, .int x1), (2, .int x2), (3, .int x3)]) hx hb dX1_fill_18 hl (by decide) rfl (fun ls hl => ?_)
    obtain ⟨n15, hw⟩ := hw
    exact X1_fill_L20_ok S hr hlk n15 _ _ _ _ _ _ _ _ _ hw hH (lv_sub hl [2, 3, 4, 5, 1, 0] rfl)
  · have hw := hw.1 c6
    refine lv_iconst (v := (-1)) hx hb dX1_fill_8 (by decide) ?_
    exact riI S hr hlk hH hw dX1_fill_9
set_option maxHeartbeats 4000000 in
theorem tX1_exchange (l : Launch) (D : va_G) (a : Nat → Nat) (d : ClassId) (x1 x2 : Int32) : CTi l yX1_exchange cX1_exchange 6 (some .int) ({ frames := 1, cells := 0, slots := 0, locals := 21 }) (wX a d) D d [.ref (a 10), .int x1, .int x2] (X1_exchange x1 x2) := by
  refine msI (by decide) (Nat.le_of_ble_eq_true rfl) ?_
  intro p e s m below meth c A σ K ls S hr hlk hH hw hl
  obtain ⟨hx, hb, hml, hown, hts⟩ := id S
  unfold X1_exchange at hw
  have hl : lv_has ls 6 [(0, .ref (a 10)), (1, .int x1), (2, .int x2)] := hl
  refine lv_aload_n hx hb dX1_exchange_0 rfl (lv_at hl 0 rfl) ?_
  refine lv_iload_n hx hb dX1_exchange_1 rfl (lv_at hl 1 rfl) ?_
  refine cVi (q := (RX1, TX1, 13)) S hH (tX1_isGood l D a d x1) (cwV 1 hts gwX1_70 rfl rfl rfl hdX1_isGood ⟨Nat.le_of_ble_eq_true rfl, Nat.le_of_ble_eq_true rfl⟩) rfl rfl hw rfl hl.1 rfl (Nat.le_of_ble_eq_true rfl) dX1_exchange_2 ⟨Nat.zero_le _, Nat.zero_le _⟩ (fun r4 σ3 H locs hw hH => ?_)
  refine lv_if_eq (tgt := 16) hx hb dX1_exchange_5 (by decide) (fun c5 => ?_) (fun c5 => ?_)
  · have hw := hw.1 c5
    refine lv_iconst (v := (-1)) hx hb dX1_exchange_16 (by decide) ?_
    exact riI S hr hlk hH hw dX1_exchange_17
  · have hw := hw.2 c5
    refine lv_aload_n hx hb dX1_exchange_8 rfl (lv_at hl 0 rfl) ?_
    refine lv_iload_n hx hb dX1_exchange_9 rfl (lv_at hl 2 rfl) ?_
    refine cVi (q := (RX1, TX1, 13)) S hH (tX1_isGood l D a d x2) (cwV 1 hts gwX1_70 rfl rfl rfl hdX1_isGood ⟨Nat.le_of_ble_eq_true rfl, Nat.le_of_ble_eq_true rfl⟩) rfl rfl hw rfl hl.1 rfl (Nat.le_of_ble_eq_true rfl) dX1_exchange_10 ⟨Nat.zero_le _, Nat.zero_le _⟩ (fun r7 σ6 H locs hw hH => ?_)
    refine lv_if_ne (tgt := 18) hx hb dX1_exchange_13 (by decide) (fun c8 => ?_) (fun c8 => ?_)
    · have hw := hw.2 c8
      refine lv_aload_n hx hb dX1_exchange_18 rfl (lv_at hl 0 rfl) ?_
      refine gX 4 S hH (by decide) q31 rfl dX1_exchange_19 ?_
      refine lv_iload_n hx hb dX1_exchange_22 rfl (lv_at hl 1 rfl) ?_
      obtain ⟨j9, hij9, hjj9, hw⟩ := hw
      refine lA (q0 := 5) (k := 4) S hH rfl hij9 hjj9 (by decide) dX1_exchange_23 ?_
      refine lv_topi (fun x10 ex10 => ?_)
      have hw := hw x10 ex10
      refine lv_istore_n (lv' := [(3, .int x10), (0, .ref (a 10)), (1, .int x1), (2, .int x2)]) hx hb dX1_exchange_24 rfl hl (by decide) rfl (fun ls hl => ?_)
      refine lv_aload_n hx hb dX1_exchange_25 rfl (lv_at hl 1 rfl) ?_
      refine gX 5 S hH (by decide) q32 rfl dX1_exchange_26 ?_
      refine lv_iload_n hx hb dX1_exchange_29 rfl (lv_at hl 2 rfl) ?_
      obtain ⟨j11, hij11, hjj11, hw⟩ := hw
      refine lA (q0 := 6) (k := 5) S hH rfl hij11 hjj11 (by decide) dX1_exchange_30 ?_
      refine lv_topi (fun x12 ex12 => ?_)
      have hw := hw x12 ex12
      refine lv_istore (lv' := [(4, .int x12), (3, .int x10), (0, .ref (a 10)), (1, .int x1), (2, .int x2)]) hx hb dX1_exchange_31 hl (by decide) rfl (fun ls hl => ?_)
      refine lv_aload_n hx hb dX1_exchange_33 rfl (lv_at hl 2 rfl) ?_
      refine gX 6 S hH (by decide) q33 rfl dX1_exchange_34 ?_
      refine lv_iload_n hx hb dX1_exchange_37 rfl (lv_at hl 3 rfl) ?_
      obtain ⟨j13, hij13, hjj13, hw⟩ := hw
      refine lA (q0 := 7) (k := 6) S hH rfl hij13 hjj13 (by decide) dX1_exchange_38 ?_
      refine lv_topi (fun x14 ex14 => ?_)
      have hw := hw x14 ex14
      refine lv_istore (lv' := [(5, .int x14), (4, .int x12), (3, .int x10), (0, .ref (a 10)), (1, .int x1), (2, .int x2)]) hx hb dX1_exchange_39 hl (by decide) rfl (fun ls hl => ?_)
      refine lv_aload_n hx hb dX1_exchange_41 rfl (lv_at hl 3 rfl) ?_
      refine gX 4 S hH (by decide) q31 rfl dX1_exchange_42 ?_
      refine lv_iload_n hx hb dX1_exchange_45 rfl (lv_at hl 4 rfl) ?_
      refine lv_aload_n hx hb dX1_exchange_46 rfl (lv_at hl 3 rfl) ?_
      refine gX 4 S hH (by decide) q31 rfl dX1_exchange_47 ?_
      refine lv_iload_n hx hb dX1_exchange_50 rfl (lv_at hl 5 rfl) ?_
      obtain ⟨j15, hij15, hjj15, hw⟩ := hw
      refine lA (q0 := 5) (k := 4) S hH rfl hij15 hjj15 (by decide) dX1_exchange_51 ?_
      obtain ⟨j16, hij16, hjj16, hw⟩ := hw
      refine sA (q0 := 5) (k := 4) S hH rfl (wX_set_4 σ6 a d j16 _) hij16 hjj16 (by decide) dX1_exchange_52 (fun H locs hH => ?_)
      obtain ⟨σ17, eσ17⟩ : ∃ z : St, z = up σ6 4 j16 (σ6 4 j15) := ⟨_, rfl⟩
      rw [← eσ17] at hH
      have hw := hw σ17 eσ17
      refine lv_aload_n hx hb dX1_exchange_53 rfl (lv_at hl 3 rfl) ?_
      refine gX 5 S hH (by decide) q32 rfl dX1_exchange_54 ?_
      refine lv_iload_n hx hb dX1_exchange_57 rfl (lv_at hl 4 rfl) ?_
      refine lv_aload_n hx hb dX1_exchange_58 rfl (lv_at hl 3 rfl) ?_
      refine gX 5 S hH (by decide) q32 rfl dX1_exchange_59 ?_
      refine lv_iload_n hx hb dX1_exchange_62 rfl (lv_at hl 5 rfl) ?_
      obtain ⟨j18, hij18, hjj18, hw⟩ := hw
      refine lA (q0 := 6) (k := 5) S hH rfl hij18 hjj18 (by decide) dX1_exchange_63 ?_
      obtain ⟨j19, hij19, hjj19, hw⟩ := hw
      refine sA (q0 := 6) (k := 5) S hH rfl (wX_set_5 σ17 a d j19 _) hij19 hjj19 (by decide) dX1_exchange_64 (fun H locs hH => ?_)
      obtain ⟨σ20, eσ20⟩ : ∃ z : St, z = up σ17 5 j19 (σ17 5 j18) := ⟨_, rfl⟩
      rw [← eσ20] at hH
      have hw := hw σ20 eσ20
      refine lv_aload_n hx hb dX1_exchange_65 rfl (lv_at hl 3 rfl) ?_
      refine gX 6 S hH (by decide) q33 rfl dX1_exchange_66 ?_
      refine lv_iload_n hx hb dX1_exchange_69 rfl (lv_at hl 4 rfl) ?_
      refine lv_aload_n hx hb dX1_exchange_70 rfl (lv_at hl 3 rfl) ?_
      refine gX 6 S hH (by decide) q33 rfl dX1_exchange_71 ?_
      refine lv_iload_n hx hb dX1_exchange_74 rfl (lv_at hl 5 rfl) ?_
      obtain ⟨j21, hij21, hjj21, hw⟩ := hw
      refine lA (q0 := 7) (k := 6) S hH rfl hij21 hjj21 (by decide) dX1_exchange_75 ?_
      obtain ⟨j22, hij22, hjj22, hw⟩ := hw
      refine sA (q0 := 7) (k := 6) S hH rfl (wX_set_6 σ20 a d j22 _) hij22 hjj22 (by decide) dX1_exchange_76 (fun H locs hH => ?_)
      obtain ⟨σ23, eσ23⟩ : ∃ z : St, z = up σ20 6 j22 (σ20 6 j21) := ⟨_, rfl⟩
      rw [← eσ23] at hH
      have hw := hw σ23 eσ23
      refine lv_aload_n hx hb dX1_exchange_77 rfl (lv_at hl 3 rfl) ?_
      refine gX 4 S hH (by decide) q31 rfl dX1_exchange_78 ?_
      refine lv_iload_n hx hb dX1_exchange_81 rfl (lv_at hl 5 rfl) ?_
      refine lv_iload_n hx hb dX1_exchange_82 rfl (lv_at hl 2 rfl) ?_
      obtain ⟨j24, hij24, hjj24, hw⟩ := hw
      refine sA (q0 := 5) (k := 4) S hH rfl (wX_set_4 σ23 a d j24 _) hij24 hjj24 (by decide) dX1_exchange_83 (fun H locs hH => ?_)
      obtain ⟨σ25, eσ25⟩ : ∃ z : St, z = up σ23 4 j24 x10 := ⟨_, rfl⟩
      rw [← eσ25] at hH
      have hw := hw σ25 eσ25
      refine lv_aload_n hx hb dX1_exchange_84 rfl (lv_at hl 3 rfl) ?_
      refine gX 5 S hH (by decide) q32 rfl dX1_exchange_85 ?_
      refine lv_iload_n hx hb dX1_exchange_88 rfl (lv_at hl 5 rfl) ?_
      refine lv_iload hx hb dX1_exchange_89 (lv_at hl 1 rfl) ?_
      obtain ⟨j26, hij26, hjj26, hw⟩ := hw
      refine sA (q0 := 6) (k := 5) S hH rfl (wX_set_5 σ25 a d j26 _) hij26 hjj26 (by decide) dX1_exchange_91 (fun H locs hH => ?_)
      obtain ⟨σ27, eσ27⟩ : ∃ z : St, z = up σ25 5 j26 x12 := ⟨_, rfl⟩
      rw [← eσ27] at hH
      have hw := hw σ27 eσ27
      refine lv_aload_n hx hb dX1_exchange_92 rfl (lv_at hl 3 rfl) ?_
      refine gX 6 S hH (by decide) q33 rfl dX1_exchange_93 ?_
      refine lv_iload_n hx hb dX1_exchange_96 rfl (lv_at hl 5 rfl) ?_
      refine lv_iload hx hb dX1_exchange_97 (lv_at hl 0 rfl) ?_
      obtain ⟨j28, hij28, hjj28, hw⟩ := hw
      refine sA (q0 := 7) (k := 6) S hH rfl (wX_set_6 σ27 a d j28 _) hij28 hjj28 (by decide) dX1_exchange_99 (fun H locs hH => ?_)
      obtain ⟨σ29, eσ29⟩ : ∃ z : St, z = up σ27 6 j28 x14 := ⟨_, rfl⟩
      rw [← eσ29] at hH
      have hw := hw σ29 eσ29
      refine lv_aload_n hx hb dX1_exchange_100 rfl (lv_at hl 3 rfl) ?_
      refine gX 3 S hH (by decide) q30 rfl dX1_exchange_101 ?_
      refine lv_bipush (v := 8) hx hb dX1_exchange_104 (by decide) ?_
      refine lv_aload_n hx hb dX1_exchange_106 rfl (lv_at hl 3 rfl) ?_
      refine gX 4 S hH (by decide) q31 rfl dX1_exchange_107 ?_
      refine lv_iload_n hx hb dX1_exchange_110 rfl (lv_at hl 4 rfl) ?_
      obtain ⟨j30, hij30, hjj30, hw⟩ := hw
      refine lA (q0 := 5) (k := 4) S hH rfl hij30 hjj30 (by decide) dX1_exchange_111 ?_
      refine lv_imul hx hb dX1_exchange_112 ?_
      refine lv_aload_n hx hb dX1_exchange_113 rfl (lv_at hl 3 rfl) ?_
      refine gX 5 S hH (by decide) q32 rfl dX1_exchange_114 ?_
      refine lv_iload_n hx hb dX1_exchange_117 rfl (lv_at hl 4 rfl) ?_
      obtain ⟨j31, hij31, hjj31, hw⟩ := hw
      refine lA (q0 := 6) (k := 5) S hH rfl hij31 hjj31 (by decide) dX1_exchange_118 ?_
      refine lv_iadd hx hb dX1_exchange_119 ?_
      refine lv_iload_n hx hb dX1_exchange_120 rfl (lv_at hl 4 rfl) ?_
      obtain ⟨j32, hij32, hjj32, hw⟩ := hw
      refine sA (q0 := 4) (k := 3) S hH rfl (wX_set_3 σ29 a d j32 _) hij32 hjj32 (by decide) dX1_exchange_121 (fun H locs hH => ?_)
      obtain ⟨σ33, eσ33⟩ : ∃ z : St, z = up σ29 3 j32 x1 := ⟨_, rfl⟩
      rw [← eσ33] at hH
      have hw := hw σ33 eσ33
      refine lv_aload_n hx hb dX1_exchange_122 rfl (lv_at hl 3 rfl) ?_
      refine gX 3 S hH (by decide) q30 rfl dX1_exchange_123 ?_
      refine lv_bipush (v := 8) hx hb dX1_exchange_126 (by decide) ?_
      refine lv_aload_n hx hb dX1_exchange_128 rfl (lv_at hl 3 rfl) ?_
      refine gX 4 S hH (by decide) q31 rfl dX1_exchange_129 ?_
      refine lv_iload_n hx hb dX1_exchange_132 rfl (lv_at hl 5 rfl) ?_
      obtain ⟨j34, hij34, hjj34, hw⟩ := hw
      refine lA (q0 := 5) (k := 4) S hH rfl hij34 hjj34 (by decide) dX1_exchange_133 ?_
      refine lv_imul hx hb dX1_exchange_134 ?_
      refine lv_aload_n hx hb dX1_exchange_135 rfl (lv_at hl 3 rfl) ?_
      refine gX 5 S hH (by decide) q32 rfl dX1_exchange_136 ?_
      refine lv_iload_n hx hb dX1_exchange_139 rfl (lv_at hl 5 rfl) ?_
      obtain ⟨j35, hij35, hjj35, hw⟩ := hw
      refine lA (q0 := 6) (k := 5) S hH rfl hij35 hjj35 (by decide) dX1_exchange_140 ?_
      refine lv_iadd hx hb dX1_exchange_141 ?_
      refine lv_iload_n hx hb dX1_exchange_142 rfl (lv_at hl 5 rfl) ?_
      obtain ⟨j36, hij36, hjj36, hw⟩ := hw
      refine sA (q0 := 4) (k := 3) S hH rfl (wX_set_3 σ33 a d j36 _) hij36 hjj36 (by decide) dX1_exchange_143 (fun H locs hH => ?_)
      obtain ⟨σ37, eσ37⟩ : ∃ z : St, z = up σ33 3 j36 x2 := ⟨_, rfl⟩
      rw [← eσ37] at hH
      have hw := hw σ37 eσ37
      refine lv_iconst (v := 0) hx hb dX1_exchange_144 (by decide) ?_
      exact riI S hr hlk hH hw dX1_exchange_145
    · have hw := hw.1 c8
      refine lv_iconst (v := (-1)) hx hb dX1_exchange_16 (by decide) ?_
      exact riI S hr hlk hH hw dX1_exchange_17
set_option maxHeartbeats 4000000 in
theorem tX1_size (l : Launch) (D : va_G) (a : Nat → Nat) (d : ClassId) (x1 : Int32) : CTi l yX1_size cX1_size 2 (some .int) ({ frames := 1, cells := 0, slots := 0, locals := 21 }) (wX a d) D d [.ref (a 10), .int x1] (X1_size x1) := by
  refine msI (by decide) (Nat.le_of_ble_eq_true rfl) ?_
  intro p e s m below meth c A σ K ls S hr hlk hH hw hl
  obtain ⟨hx, hb, hml, hown, hts⟩ := id S
  unfold X1_size at hw
  have hl : lv_has ls 2 [(0, .ref (a 10)), (1, .int x1)] := hl
  refine lv_aload_n hx hb dX1_size_0 rfl (lv_at hl 0 rfl) ?_
  refine lv_iload_n hx hb dX1_size_1 rfl (lv_at hl 1 rfl) ?_
  refine cVi (q := (RX1, TX1, 13)) S hH (tX1_isGood l D a d x1) (cwV 1 hts gwX1_70 rfl rfl rfl hdX1_isGood ⟨Nat.le_of_ble_eq_true rfl, Nat.le_of_ble_eq_true rfl⟩) rfl rfl hw rfl hl.1 rfl (Nat.le_of_ble_eq_true rfl) dX1_size_2 ⟨Nat.zero_le _, Nat.zero_le _⟩ (fun r3 σ2 H locs hw hH => ?_)
  refine lv_if_eq (tgt := 17) hx hb dX1_size_5 (by decide) (fun c4 => ?_) (fun c4 => ?_)
  · have hw := hw.1 c4
    refine lv_iconst (v := 0) hx hb dX1_size_17 (by decide) ?_
    exact riI S hr hlk hH hw dX1_size_18
  · have hw := hw.2 c4
    refine lv_aload_n hx hb dX1_size_8 rfl (lv_at hl 0 rfl) ?_
    refine gX 6 S hH (by decide) q33 rfl dX1_size_9 ?_
    refine lv_iload_n hx hb dX1_size_12 rfl (lv_at hl 1 rfl) ?_
    obtain ⟨j5, hij5, hjj5, hw⟩ := hw
    refine lA (q0 := 7) (k := 6) S hH rfl hij5 hjj5 (by decide) dX1_size_13 ?_
    refine lv_goto (tgt := 18) hx hb dX1_size_14 (by decide) ?_
    exact riI S hr hlk hH hw dX1_size_18
set_option maxHeartbeats 4000000 in
theorem tX1_live (l : Launch) (D : va_G) (a : Nat → Nat) (d : ClassId) : CTi l yX1_live cX1_live 1 (some .int) ({ frames := 0, cells := 0, slots := 0, locals := 0 }) (wX a d) D d [.ref (a 10)] (X1_live) := by
  refine msI (by decide) (Nat.le_of_ble_eq_true rfl) ?_
  intro p e s m below meth c A σ K ls S hr hlk hH hw hl
  obtain ⟨hx, hb, hml, hown, hts⟩ := id S
  unfold X1_live at hw
  have hl : lv_has ls 1 [(0, .ref (a 10))] := hl
  refine lv_aload_n hx hb dX1_live_0 rfl (lv_at hl 0 rfl) ?_
  refine gX 12 S hH (by decide) q39 rfl dX1_live_1 ?_
  exact riI S hr hlk hH hw dX1_live_4
set_option maxHeartbeats 4000000 in
theorem tX1_liveIn (l : Launch) (D : va_G) (a : Nat → Nat) (d : ClassId) (x1 : Int32) : CTi l yX1_liveIn cX1_liveIn 2 (some .int) ({ frames := 1, cells := 0, slots := 0, locals := 20 }) (wX a d) D d [.ref (a 10), .int x1] (X1_liveIn x1) := by
  refine msI (by decide) (Nat.le_of_ble_eq_true rfl) ?_
  intro p e s m below meth c A σ K ls S hr hlk hH hw hl
  obtain ⟨hx, hb, hml, hown, hts⟩ := id S
  unfold X1_liveIn at hw
  have hl : lv_has ls 2 [(0, .ref (a 10)), (1, .int x1)] := hl
  refine lv_iload_n hx hb dX1_liveIn_0 rfl (lv_at hl 1 rfl) ?_
  refine cSi S hH (tX1_isKind l D a d x1) (va_cwS 1 hts gwX1_90 rfl rfl rfl hdX1_isKind ⟨Nat.le_of_ble_eq_true rfl, Nat.le_of_ble_eq_true rfl⟩) hw rfl hl.1 rfl (Nat.le_of_ble_eq_true rfl) dX1_liveIn_1 ⟨Nat.zero_le _, Nat.zero_le _⟩ (fun r3 σ2 H locs hw hH => ?_)
  refine lv_if_eq (tgt := 16) hx hb dX1_liveIn_4 (by decide) (fun c4 => ?_) (fun c4 => ?_)
  · have hw := hw.1 c4
    refine lv_iconst (v := (-1)) hx hb dX1_liveIn_16 (by decide) ?_
    exact riI S hr hlk hH hw dX1_liveIn_17
  · have hw := hw.2 c4
    refine lv_aload_n hx hb dX1_liveIn_7 rfl (lv_at hl 0 rfl) ?_
    refine gX 8 S hH (by decide) q35 rfl dX1_liveIn_8 ?_
    refine lv_iload_n hx hb dX1_liveIn_11 rfl (lv_at hl 1 rfl) ?_
    obtain ⟨j5, hij5, hjj5, hw⟩ := hw
    refine lA (q0 := 9) (k := 8) S hH rfl hij5 hjj5 (by decide) dX1_liveIn_12 ?_
    refine lv_goto (tgt := 17) hx hb dX1_liveIn_13 (by decide) ?_
    exact riI S hr hlk hH hw dX1_liveIn_17
set_option maxHeartbeats 4000000 in
theorem tX1_needed (l : Launch) (D : va_G) (a : Nat → Nat) (d : ClassId) : CTi l yX1_needed cX1_needed 1 (some .int) ({ frames := 0, cells := 0, slots := 0, locals := 0 }) (wX a d) D d [.ref (a 10)] (X1_needed) := by
  refine msI (by decide) (Nat.le_of_ble_eq_true rfl) ?_
  intro p e s m below meth c A σ K ls S hr hlk hH hw hl
  obtain ⟨hx, hb, hml, hown, hts⟩ := id S
  unfold X1_needed at hw
  have hl : lv_has ls 1 [(0, .ref (a 10))] := hl
  refine lv_aload_n hx hb dX1_needed_0 rfl (lv_at hl 0 rfl) ?_
  refine gX 10 S hH (by decide) q37 rfl dX1_needed_1 ?_
  refine lv_aload_n hx hb dX1_needed_4 rfl (lv_at hl 0 rfl) ?_
  refine gX 11 S hH (by decide) q38 rfl dX1_needed_5 ?_
  refine lv_isub hx hb dX1_needed_8 ?_
  exact riI S hr hlk hH hw dX1_needed_9
set_option maxHeartbeats 4000000 in
theorem tX1_roomFor (l : Launch) (D : va_G) (a : Nat → Nat) (d : ClassId) (x1 : Int32) : CTi l yX1_roomFor cX1_roomFor 4 (some .int) ({ frames := 1, cells := 0, slots := 0, locals := 20 }) (wX a d) D d [.ref (a 10), .int x1] (X1_roomFor x1) := by
  refine msI (by decide) (Nat.le_of_ble_eq_true rfl) ?_
  intro p e s m below meth c A σ K ls S hr hlk hH hw hl
  obtain ⟨hx, hb, hml, hown, hts⟩ := id S
  unfold X1_roomFor at hw
  have hl : lv_has ls 4 [(0, .ref (a 10)), (1, .int x1)] := hl
  refine lv_iload_n hx hb dX1_roomFor_0 rfl (lv_at hl 1 rfl) ?_
  refine cSi S hH (tX1_isKind l D a d x1) (va_cwS 1 hts gwX1_90 rfl rfl rfl hdX1_isKind ⟨Nat.le_of_ble_eq_true rfl, Nat.le_of_ble_eq_true rfl⟩) hw rfl hl.1 rfl (Nat.le_of_ble_eq_true rfl) dX1_roomFor_1 ⟨Nat.zero_le _, Nat.zero_le _⟩ (fun r3 σ2 H locs hw hH => ?_)
  refine lv_if_ne (tgt := 9) hx hb dX1_roomFor_4 (by decide) (fun c4 => ?_) (fun c4 => ?_)
  · have hw := hw.2 c4
    refine lv_iload_n hx hb dX1_roomFor_9 rfl (lv_at hl 1 rfl) ?_
    refine cSi S hH (tX1_capacity l D a d x1) (va_cwS 1 hts gwX1_93 rfl rfl rfl hdX1_capacity ⟨Nat.le_of_ble_eq_true rfl, Nat.le_of_ble_eq_true rfl⟩) hw rfl hl.1 rfl (Nat.le_of_ble_eq_true rfl) dX1_roomFor_10 ⟨Nat.zero_le _, Nat.zero_le _⟩ (fun r6 σ5 H locs hw hH => ?_)
    refine lv_istore_n (lv' := [(2, .int r6), (0, .ref (a 10)), (1, .int x1)]) hx hb dX1_roomFor_13 rfl hl (by decide) rfl (fun ls hl => ?_)
    refine lv_aload_n hx hb dX1_roomFor_14 rfl (lv_at hl 1 rfl) ?_
    refine gX 11 S hH (by decide) q38 rfl dX1_roomFor_15 ?_
    refine lv_iload_n hx hb dX1_roomFor_18 rfl (lv_at hl 0 rfl) ?_
    refine lv_imul hx hb dX1_roomFor_19 ?_
    refine lv_topi (fun x7 ex7 => ?_)
    have hw := hw x7 ex7
    refine lv_istore_n (lv' := [(3, .int x7), (2, .int r6), (0, .ref (a 10)), (1, .int x1)]) hx hb dX1_roomFor_20 rfl hl (by decide) rfl (fun ls hl => ?_)
    refine lv_aload_n hx hb dX1_roomFor_21 rfl (lv_at hl 2 rfl) ?_
    refine gX 7 S hH (by decide) q34 rfl dX1_roomFor_22 ?_
    refine lv_iload_n hx hb dX1_roomFor_25 rfl (lv_at hl 3 rfl) ?_
    obtain ⟨j8, hij8, hjj8, hw⟩ := hw
    refine lA (q0 := 8) (k := 7) S hH rfl hij8 hjj8 (by decide) dX1_roomFor_26 ?_
    refine lv_iconst (v := (-1)) hx hb dX1_roomFor_27 (by decide) ?_
    refine lv_icmp_eq (tgt := 47) hx hb dX1_roomFor_28 (by decide) (fun c9 => ?_) (fun c9 => ?_)
    · have hw := hw.1 c9
      refine lv_iload_n hx hb dX1_roomFor_47 rfl (lv_at hl 0 rfl) ?_
      exact riI S hr hlk hH hw dX1_roomFor_48
    · have hw := hw.2 c9
      refine lv_iload_n hx hb dX1_roomFor_31 rfl (lv_at hl 0 rfl) ?_
      refine lv_iload_n hx hb dX1_roomFor_32 rfl (lv_at hl 1 rfl) ?_
      refine lv_aload_n hx hb dX1_roomFor_33 rfl (lv_at hl 2 rfl) ?_
      refine gX 2 S hH (by decide) q29 rfl dX1_roomFor_34 ?_
      refine lv_aload_n hx hb dX1_roomFor_37 rfl (lv_at hl 2 rfl) ?_
      refine gX 7 S hH (by decide) q34 rfl dX1_roomFor_38 ?_
      refine lv_iload_n hx hb dX1_roomFor_41 rfl (lv_at hl 3 rfl) ?_
      obtain ⟨j10, hij10, hjj10, hw⟩ := hw
      refine lA (q0 := 8) (k := 7) S hH rfl hij10 hjj10 (by decide) dX1_roomFor_42 ?_
      obtain ⟨j11, hij11, hjj11, hw⟩ := hw
      refine lA (q0 := 3) (k := 2) S hH rfl hij11 hjj11 (by decide) dX1_roomFor_43 ?_
      refine lv_isub hx hb dX1_roomFor_44 ?_
      refine lv_iadd hx hb dX1_roomFor_45 ?_
      refine lv_topi (fun x12 ex12 => ?_)
      have hw := hw x12 ex12
      refine lv_istore_n (lv' := [(3, .int x12), (2, .int r6), (0, .ref (a 10)), (1, .int x1)]) hx hb dX1_roomFor_46 rfl hl (by decide) rfl (fun ls hl => ?_)
      refine lv_iload_n hx hb dX1_roomFor_47 rfl (lv_at hl 0 rfl) ?_
      exact riI S hr hlk hH hw dX1_roomFor_48
  · have hw := hw.1 c4
    refine lv_iconst (v := (-1)) hx hb dX1_roomFor_7 (by decide) ?_
    exact riI S hr hlk hH hw dX1_roomFor_8
set_option maxHeartbeats 4000000 in
theorem X1_sum_L14_ok {p : Program} {l : Launch} {e : Env} {s : State} {m : MethodId} {args : Array Value} {below : List Frame} {meth : Method} {c : Code} {D : va_G} {a : Nat → Nat} {d : ClassId} {A : Nat → Prop} {K : Int32 → St → Prop} (S : CallFix p m c cX1_sum 4 s args lw_all RX1) (hr : meth.sig.returnType = (some .int)) (hlk : meth.locks = false) : ∀ (n : Nat) (y1 y2 y3 : Int32) (σ : St) (H : Heap) (locs : List Loc) (ls : Array Slot), X1_sum_L14 K n y1 y2 y3 σ → HH D (wX a d) d A s σ H locs → lv_has ls 4 [(0, .ref (a 10)), (1, .int y1), (2, .int y2), (3, .int y3)] → W p l e ({ frames := 2, cells := 0, slots := 0, locals := 44 }) s m args below meth c H locs 0 0 (MQ below (va_Qi K (wO D (wX a d) d A) A) args s 0 0 A) (F0 m 14 ls []) := by
  obtain ⟨hx, hb, hml, hown, hts⟩ := id S
  intro n
  induction n with
  | zero => intro y1 y2 y3 σ H locs ls hw; exact False.elim hw
  | succ n ih =>
    intro y1 y2 y3 σ H locs ls hw hH hl
    rw [X1_sum_L14] at hw
    refine lv_iload_n hx hb dX1_sum_14 rfl (lv_at hl 3 rfl) ?_
    refine lv_aload_n hx hb dX1_sum_15 rfl (lv_at hl 0 rfl) ?_
    refine gX 6 S hH (by decide) q33 rfl dX1_sum_16 ?_
    refine lv_iload_n hx hb dX1_sum_19 rfl (lv_at hl 1 rfl) ?_
    obtain ⟨j5, hij5, hjj5, hw⟩ := hw
    refine lA (q0 := 7) (k := 6) S hH rfl hij5 hjj5 (by decide) dX1_sum_20 ?_
    refine lv_icmp_ge (tgt := 39) hx hb dX1_sum_21 (by decide) (fun c6 => ?_) (fun c6 => ?_)
    · have hw := hw.1 c6
      refine lv_iload_n hx hb dX1_sum_39 rfl (lv_at hl 2 rfl) ?_
      exact riI S hr hlk hH hw dX1_sum_40
    · have hw := hw.2 c6
      refine lv_iload_n hx hb dX1_sum_24 rfl (lv_at hl 2 rfl) ?_
      refine lv_aload_n hx hb dX1_sum_25 rfl (lv_at hl 0 rfl) ?_
      refine lv_iload_n hx hb dX1_sum_26 rfl (lv_at hl 1 rfl) ?_
      refine lv_iload_n hx hb dX1_sum_27 rfl (lv_at hl 3 rfl) ?_
      refine cVi (q := (RX1, TX1, 13)) S hH (tX1_word l D a d y1 y3) (cwV 2 hts gwX1_81 rfl rfl rfl hdX1_word ⟨Nat.le_of_ble_eq_true rfl, Nat.le_of_ble_eq_true rfl⟩) rfl rfl hw rfl hl.1 rfl (Nat.le_of_ble_eq_true rfl) dX1_sum_28 ⟨Nat.zero_le _, Nat.zero_le _⟩ (fun r8 σ7 H locs hw hH => ?_)
      refine lv_iadd hx hb dX1_sum_31 ?_
      refine lv_topi (fun x9 ex9 => ?_)
      have hw := hw x9 ex9
      refine lv_istore_n (lv' := [(2, .int x9), (0, .ref (a 10)), (1, .int y1), (3, .int y3)]) hx hb dX1_sum_32 rfl hl (by decide) rfl (fun ls hl => ?_)
      obtain ⟨x10, ex10⟩ : ∃ y : Int32, y = y3 + 1 := ⟨_, rfl⟩
      have hw := hw x10 ex10
      refine lv_iinc (v := x10) (lv' := [(3, .int x10), (2, .int x9), (0, .ref (a 10)), (1, .int y1)]) hx hb dX1_sum_33 hl (k := 3) rfl (by rw [ex10]; rfl) (by decide) rfl (fun ls hl => ?_)
      refine lv_goto (tgt := 14) hx hb dX1_sum_36 (by decide) ?_
      exact ih _ _ _ _ _ _ _ hw hH (lv_sub hl [2, 3, 1, 0] rfl)
set_option maxHeartbeats 4000000 in
theorem tX1_sum (l : Launch) (D : va_G) (a : Nat → Nat) (d : ClassId) (x1 : Int32) : CTi l yX1_sum cX1_sum 4 (some .int) ({ frames := 2, cells := 0, slots := 0, locals := 44 }) (wX a d) D d [.ref (a 10), .int x1] (X1_sum x1) := by
  refine msI (by decide) (Nat.le_of_ble_eq_true rfl) ?_
  intro p e s m below meth c A σ K ls S hr hlk hH hw hl
  obtain ⟨hx, hb, hml, hown, hts⟩ := id S
  unfold X1_sum at hw
  have hl : lv_has ls 4 [(0, .ref (a 10)), (1, .int x1)] := hl
  refine lv_aload_n hx hb dX1_sum_0 rfl (lv_at hl 0 rfl) ?_
  refine lv_iload_n hx hb dX1_sum_1 rfl (lv_at hl 1 rfl) ?_
  refine cVi (q := (RX1, TX1, 13)) S hH (tX1_isGood l D a d x1) (cwV 1 hts gwX1_70 rfl rfl rfl hdX1_isGood ⟨Nat.le_of_ble_eq_true rfl, Nat.le_of_ble_eq_true rfl⟩) rfl rfl hw rfl hl.1 rfl (Nat.le_of_ble_eq_true rfl) dX1_sum_2 ⟨Nat.zero_le _, Nat.zero_le _⟩ (fun r3 σ2 H locs hw hH => ?_)
  refine lv_if_ne (tgt := 10) hx hb dX1_sum_5 (by decide) (fun c4 => ?_) (fun c4 => ?_)
  · have hw := hw.2 c4
    refine lv_iconst (v := 0) hx hb dX1_sum_10 (by decide) ?_
    refine lv_istore_n (lv' := [(2, .int 0), (0, .ref (a 10)), (1, .int x1)]) hx hb dX1_sum_11 rfl hl (by decide) rfl (fun ls hl => ?_)
    refine lv_iconst (v := 0) hx hb dX1_sum_12 (by decide) ?_
    refine lv_istore_n (lv' := [(3, .int 0), (2, .int 0), (0, .ref (a 10)), (1, .int x1)]) hx hb dX1_sum_13 rfl hl (by decide) rfl (fun ls hl => ?_)
    obtain ⟨n11, hw⟩ := hw
    exact X1_sum_L14_ok S hr hlk n11 _ _ _ _ _ _ _ hw hH (lv_sub hl [2, 3, 1, 0] rfl)
  · have hw := hw.1 c4
    refine lv_iconst (v := 0) hx hb dX1_sum_8 (by decide) ?_
    exact riI S hr hlk hH hw dX1_sum_9
set_option maxHeartbeats 4000000 in
theorem X1_next_L10_ok {p : Program} {l : Launch} {e : Env} {s : State} {m : MethodId} {args : Array Value} {below : List Frame} {meth : Method} {c : Code} {D : va_G} {a : Nat → Nat} {d : ClassId} {A : Nat → Prop} {K : Int32 → St → Prop} (S : CallFix p m c cX1_next 3 s args lw_all RX1) (hr : meth.sig.returnType = (some .int)) (hlk : meth.locks = false) : ∀ (n : Nat) (y2 : Int32) (σ : St) (H : Heap) (locs : List Loc) (ls : Array Slot), X1_next_L10 K n y2 σ → HH D (wX a d) d A s σ H locs → lv_has ls 3 [(0, .ref (a 10)), (2, .int y2)] → W p l e ({ frames := 0, cells := 0, slots := 0, locals := 0 }) s m args below meth c H locs 0 0 (MQ below (va_Qi K (wO D (wX a d) d A) A) args s 0 0 A) (F0 m 10 ls []) := by
  obtain ⟨hx, hb, hml, hown, hts⟩ := id S
  intro n
  induction n with
  | zero => intro y2 σ H locs ls hw; exact False.elim hw
  | succ n ih =>
    intro y2 σ H locs ls hw hH hl
    rw [X1_next_L10] at hw
    refine lv_iload_n hx hb dX1_next_10 rfl (lv_at hl 1 rfl) ?_
    refine lv_bipush (v := 64) hx hb dX1_next_11 (by decide) ?_
    refine lv_icmp_ge (tgt := 33) hx hb dX1_next_13 (by decide) (fun c3 => ?_) (fun c3 => ?_)
    · have hw := hw.1 c3
      refine lv_iconst (v := (-1)) hx hb dX1_next_33 (by decide) ?_
      exact riI S hr hlk hH hw dX1_next_34
    · have hw := hw.2 c3
      refine lv_aload_n hx hb dX1_next_16 rfl (lv_at hl 0 rfl) ?_
      refine gX 6 S hH (by decide) q33 rfl dX1_next_17 ?_
      refine lv_iload_n hx hb dX1_next_20 rfl (lv_at hl 1 rfl) ?_
      obtain ⟨j4, hij4, hjj4, hw⟩ := hw
      refine lA (q0 := 7) (k := 6) S hH rfl hij4 hjj4 (by decide) dX1_next_21 ?_
      refine lv_if_le (tgt := 27) hx hb dX1_next_22 (by decide) (fun c5 => ?_) (fun c5 => ?_)
      · have hw := hw.1 c5
        obtain ⟨x6, ex6⟩ : ∃ y : Int32, y = y2 + 1 := ⟨_, rfl⟩
        have hw := hw x6 ex6
        refine lv_iinc (v := x6) (lv' := [(2, .int x6), (0, .ref (a 10))]) hx hb dX1_next_27 hl (k := 1) rfl (by rw [ex6]; rfl) (by decide) rfl (fun ls hl => ?_)
        refine lv_goto (tgt := 10) hx hb dX1_next_30 (by decide) ?_
        exact ih _ _ _ _ _ hw hH (lv_sub hl [1, 0] rfl)
      · have hw := hw.2 c5
        refine lv_iload_n hx hb dX1_next_25 rfl (lv_at hl 1 rfl) ?_
        exact riI S hr hlk hH hw dX1_next_26
set_option maxHeartbeats 4000000 in
theorem tX1_next (l : Launch) (D : va_G) (a : Nat → Nat) (d : ClassId) (x1 : Int32) : CTi l yX1_next cX1_next 3 (some .int) ({ frames := 0, cells := 0, slots := 0, locals := 0 }) (wX a d) D d [.ref (a 10), .int x1] (X1_next x1) := by
  refine msI (by decide) (Nat.le_of_ble_eq_true rfl) ?_
  intro p e s m below meth c A σ K ls S hr hlk hH hw hl
  obtain ⟨hx, hb, hml, hown, hts⟩ := id S
  unfold X1_next at hw
  have hl : lv_has ls 3 [(0, .ref (a 10)), (1, .int x1)] := hl
  refine lv_iload_n hx hb dX1_next_0 rfl (lv_at hl 1 rfl) ?_
  refine lv_if_ge (tgt := 8) hx hb dX1_next_1 (by decide) (fun c2 => ?_) (fun c2 => ?_)
  · have hw := hw.1 c2
    refine lv_iload_n hx hb dX1_next_8 rfl (lv_at hl 1 rfl) ?_
    refine lv_istore_n (lv' := [(2, .int x1), (0, .ref (a 10)), (1, .int x1)]) hx hb dX1_next_9 rfl hl (by decide) rfl (fun ls hl => ?_)
    obtain ⟨n7, hw⟩ := hw
    exact X1_next_L10_ok S hr hlk n7 _ _ _ _ _ hw hH (lv_sub hl [1, 0] rfl)
  · have hw := hw.2 c2
    refine lv_iconst (v := 0) hx hb dX1_next_4 (by decide) ?_
    refine lv_goto (tgt := 9) hx hb dX1_next_5 (by decide) ?_
    refine lv_istore_n (lv' := [(2, .int 0), (0, .ref (a 10)), (1, .int x1)]) hx hb dX1_next_9 rfl hl (by decide) rfl (fun ls hl => ?_)
    obtain ⟨n8, hw⟩ := hw
    exact X1_next_L10_ok S hr hlk n8 _ _ _ _ _ hw hH (lv_sub hl [1, 0] rfl)
set_option maxHeartbeats 4000000 in
theorem X1_count_L13_ok {p : Program} {l : Launch} {e : Env} {s : State} {m : MethodId} {args : Array Value} {below : List Frame} {meth : Method} {c : Code} {D : va_G} {a : Nat → Nat} {d : ClassId} {A : Nat → Prop} {K : Int32 → St → Prop} (S : CallFix p m c cX1_count 5 s args lw_all RX1) (hr : meth.sig.returnType = (some .int)) (hlk : meth.locks = false) {X : Int32 → Int32 → Int32 → St → Prop} (hX : ∀ (y1 y2 y3 : Int32) (σ : St) (H : Heap) (locs : List Loc) (ls : Array Slot), X y1 y2 y3 σ → HH D (wX a d) d A s σ H locs → lv_has ls 5 [(0, .ref (a 10)), (1, .int y1), (2, .int y2), (3, .int y3)] → W p l e ({ frames := 2, cells := 0, slots := 0, locals := 44 }) s m args below meth c H locs 0 0 (MQ below (va_Qi K (wO D (wX a d) d A) A) args s 0 0 A) (F0 m 44 ls [])) : ∀ (n : Nat) (y1 y2 y3 y4 : Int32) (σ : St) (H : Heap) (locs : List Loc) (ls : Array Slot), X1_count_L13 X n y1 y2 y3 y4 σ → HH D (wX a d) d A s σ H locs → lv_has ls 5 [(0, .ref (a 10)), (1, .int y1), (2, .int y2), (3, .int y3), (4, .int y4)] → W p l e ({ frames := 2, cells := 0, slots := 0, locals := 44 }) s m args below meth c H locs 0 0 (MQ below (va_Qi K (wO D (wX a d) d A) A) args s 0 0 A) (F0 m 13 ls []) := by
  obtain ⟨hx, hb, hml, hown, hts⟩ := id S
  intro n
  induction n with
  | zero => intro y1 y2 y3 y4 σ H locs ls hw; exact False.elim hw
  | succ n ih =>
    intro y1 y2 y3 y4 σ H locs ls hw hH hl
    rw [X1_count_L13] at hw
    refine lv_iload hx hb dX1_count_13 (lv_at hl 4 rfl) ?_
    refine lv_aload_n hx hb dX1_count_15 rfl (lv_at hl 0 rfl) ?_
    refine gX 6 S hH (by decide) q33 rfl dX1_count_16 ?_
    refine lv_iload_n hx hb dX1_count_19 rfl (lv_at hl 3 rfl) ?_
    obtain ⟨j3, hij3, hjj3, hw⟩ := hw
    refine lA (q0 := 7) (k := 6) S hH rfl hij3 hjj3 (by decide) dX1_count_20 ?_
    refine lv_icmp_ge (tgt := 44) hx hb dX1_count_21 (by decide) (fun c4 => ?_) (fun c4 => ?_)
    · have hw := hw.1 c4
      exact hX _ _ _ _ _ _ _ hw hH (lv_sub hl [0, 1, 2, 3] rfl)
    · have hw := hw.2 c4
      refine lv_aload_n hx hb dX1_count_24 rfl (lv_at hl 0 rfl) ?_
      refine lv_iload_n hx hb dX1_count_25 rfl (lv_at hl 3 rfl) ?_
      refine lv_iload hx hb dX1_count_26 (lv_at hl 4 rfl) ?_
      refine cVi (q := (RX1, TX1, 13)) S hH (tX1_word l D a d y3 y4) (cwV 2 hts gwX1_81 rfl rfl rfl hdX1_word ⟨Nat.le_of_ble_eq_true rfl, Nat.le_of_ble_eq_true rfl⟩) rfl rfl hw rfl hl.1 rfl (Nat.le_of_ble_eq_true rfl) dX1_count_28 ⟨Nat.zero_le _, Nat.zero_le _⟩ (fun r6 σ5 H locs hw hH => ?_)
      refine lv_iload_n hx hb dX1_count_31 rfl (lv_at hl 1 rfl) ?_
      refine lv_icmp_ne (tgt := 38) hx hb dX1_count_32 (by decide) (fun c7 => ?_) (fun c7 => ?_)
      · have hw := hw.2 c7
        obtain ⟨x8, ex8⟩ : ∃ y : Int32, y = y4 + 1 := ⟨_, rfl⟩
        have hw := hw x8 ex8
        refine lv_iinc (v := x8) (lv' := [(4, .int x8), (0, .ref (a 10)), (1, .int y1), (2, .int y2), (3, .int y3)]) hx hb dX1_count_38 hl (k := 4) rfl (by rw [ex8]; rfl) (by decide) rfl (fun ls hl => ?_)
        refine lv_goto (tgt := 13) hx hb dX1_count_41 (by decide) ?_
        exact ih _ _ _ _ _ _ _ _ hw hH (lv_sub hl [1, 2, 3, 4, 0] rfl)
      · have hw := hw.1 c7
        obtain ⟨x9, ex9⟩ : ∃ y : Int32, y = y2 + 1 := ⟨_, rfl⟩
        have hw := hw x9 ex9
        refine lv_iinc (v := x9) (lv' := [(2, .int x9), (0, .ref (a 10)), (1, .int y1), (3, .int y3), (4, .int y4)]) hx hb dX1_count_35 hl (k := 2) rfl (by rw [ex9]; rfl) (by decide) rfl (fun ls hl => ?_)
        obtain ⟨x10, ex10⟩ : ∃ y : Int32, y = y4 + 1 := ⟨_, rfl⟩
        have hw := hw x10 ex10
        refine lv_iinc (v := x10) (lv' := [(4, .int x10), (2, .int x9), (0, .ref (a 10)), (1, .int y1), (3, .int y3)]) hx hb dX1_count_38 hl (k := 4) rfl (by rw [ex10]; rfl) (by decide) rfl (fun ls hl => ?_)
        refine lv_goto (tgt := 13) hx hb dX1_count_41 (by decide) ?_
        exact ih _ _ _ _ _ _ _ _ hw hH (lv_sub hl [2, 3, 1, 4, 0] rfl)
set_option maxHeartbeats 4000000 in
theorem X1_count_L4_ok {p : Program} {l : Launch} {e : Env} {s : State} {m : MethodId} {args : Array Value} {below : List Frame} {meth : Method} {c : Code} {D : va_G} {a : Nat → Nat} {d : ClassId} {A : Nat → Prop} {K : Int32 → St → Prop} (S : CallFix p m c cX1_count 5 s args lw_all RX1) (hr : meth.sig.returnType = (some .int)) (hlk : meth.locks = false) : ∀ (n : Nat) (y1 y2 y3 : Int32) (σ : St) (H : Heap) (locs : List Loc) (ls : Array Slot), X1_count_L4 K n y1 y2 y3 σ → HH D (wX a d) d A s σ H locs → lv_has ls 5 [(0, .ref (a 10)), (1, .int y1), (2, .int y2), (3, .int y3)] → W p l e ({ frames := 2, cells := 0, slots := 0, locals := 44 }) s m args below meth c H locs 0 0 (MQ below (va_Qi K (wO D (wX a d) d A) A) args s 0 0 A) (F0 m 4 ls []) := by
  obtain ⟨hx, hb, hml, hown, hts⟩ := id S
  intro n
  induction n with
  | zero => intro y1 y2 y3 σ H locs ls hw; exact False.elim hw
  | succ n ih =>
    intro y1 y2 y3 σ H locs ls hw hH hl
    rw [X1_count_L4] at hw
    refine lv_iload_n hx hb dX1_count_4 rfl (lv_at hl 3 rfl) ?_
    refine lv_bipush (v := 64) hx hb dX1_count_5 (by decide) ?_
    refine lv_icmp_ge (tgt := 50) hx hb dX1_count_7 (by decide) (fun c2 => ?_) (fun c2 => ?_)
    · have hw := hw.1 c2
      refine lv_iload_n hx hb dX1_count_50 rfl (lv_at hl 2 rfl) ?_
      exact riI S hr hlk hH hw dX1_count_51
    · have hw := hw.2 c2
      refine lv_iconst (v := 0) hx hb dX1_count_10 (by decide) ?_
      refine lv_istore (lv' := [(4, .int 0), (0, .ref (a 10)), (1, .int y1), (2, .int y2), (3, .int y3)]) hx hb dX1_count_11 hl (by decide) rfl (fun ls hl => ?_)
      obtain ⟨n11, hw⟩ := hw
      refine X1_count_L13_ok S hr hlk ?_ n11 _ _ _ _ _ _ _ _ hw hH (lv_sub hl [1, 2, 3, 4, 0] rfl)
      intro x12 x13 x14 σ15 H locs ls hw hH hl
      obtain ⟨x16, ex16⟩ : ∃ y : Int32, y = x14 + 1 := ⟨_, rfl⟩
      have hw := hw x16 ex16
      refine lv_iinc (v := x16) (lv' := [(3, .int x16), (0, .ref (a 10)), (1, .int x12), (2, .int x13)]) hx hb dX1_count_44 hl (k := 3) rfl (by rw [ex16]; rfl) (by decide) rfl (fun ls hl => ?_)
      refine lv_goto (tgt := 4) hx hb dX1_count_47 (by decide) ?_
      exact ih _ _ _ _ _ _ _ hw hH (lv_sub hl [1, 2, 3, 0] rfl)
set_option maxHeartbeats 4000000 in
theorem tX1_count (l : Launch) (D : va_G) (a : Nat → Nat) (d : ClassId) (x1 : Int32) : CTi l yX1_count cX1_count 5 (some .int) ({ frames := 2, cells := 0, slots := 0, locals := 44 }) (wX a d) D d [.ref (a 10), .int x1] (X1_count x1) := by
  refine msI (by decide) (Nat.le_of_ble_eq_true rfl) ?_
  intro p e s m below meth c A σ K ls S hr hlk hH hw hl
  obtain ⟨hx, hb, hml, hown, hts⟩ := id S
  unfold X1_count at hw
  have hl : lv_has ls 5 [(0, .ref (a 10)), (1, .int x1)] := hl
  refine lv_iconst (v := 0) hx hb dX1_count_0 (by decide) ?_
  refine lv_istore_n (lv' := [(2, .int 0), (0, .ref (a 10)), (1, .int x1)]) hx hb dX1_count_1 rfl hl (by decide) rfl (fun ls hl => ?_)
  refine lv_iconst (v := 0) hx hb dX1_count_2 (by decide) ?_
  refine lv_istore_n (lv' := [(3, .int 0), (2, .int 0), (0, .ref (a 10)), (1, .int x1)]) hx hb dX1_count_3 rfl hl (by decide) rfl (fun ls hl => ?_)
  obtain ⟨n17, hw⟩ := hw
  exact X1_count_L4_ok S hr hlk n17 _ _ _ _ _ _ _ hw hH (lv_sub hl [2, 3, 1, 0] rfl)
set_option maxHeartbeats 4000000 in
theorem X1_faults_L4_ok {p : Program} {l : Launch} {e : Env} {s : State} {m : MethodId} {args : Array Value} {below : List Frame} {meth : Method} {c : Code} {D : va_G} {a : Nat → Nat} {d : ClassId} {A : Nat → Prop} {K : Int32 → St → Prop} (S : CallFix p m c cX1_faults 5 s args lw_all RX1) (hr : meth.sig.returnType = (some .int)) (hlk : meth.locks = false) : ∀ (n : Nat) (y1 y2 : Int32) (σ : St) (H : Heap) (locs : List Loc) (ls : Array Slot), X1_faults_L4 K n y1 y2 σ → HH D (wX a d) d A s σ H locs → lv_has ls 5 [(0, .ref (a 10)), (1, .int y1), (2, .int y2)] → W p l e ({ frames := 2, cells := 0, slots := 0, locals := 44 }) s m args below meth c H locs 0 0 (MQ below (va_Qi K (wO D (wX a d) d A) A) args s 0 0 A) (F0 m 4 ls []) := by
  obtain ⟨hx, hb, hml, hown, hts⟩ := id S
  intro n
  induction n with
  | zero => intro y1 y2 σ H locs ls hw; exact False.elim hw
  | succ n ih =>
    intro y1 y2 σ H locs ls hw hH hl
    rw [X1_faults_L4] at hw
    refine lv_iload_n hx hb dX1_faults_4 rfl (lv_at hl 2 rfl) ?_
    refine lv_aload_n hx hb dX1_faults_5 rfl (lv_at hl 0 rfl) ?_
    refine gX 10 S hH (by decide) q37 rfl dX1_faults_6 ?_
    refine lv_icmp_ge (tgt := 95) hx hb dX1_faults_9 (by decide) (fun c1 => ?_) (fun c1 => ?_)
    · have hw := hw.1 c1
      refine lv_iload_n hx hb dX1_faults_95 rfl (lv_at hl 1 rfl) ?_
      exact riI S hr hlk hH hw dX1_faults_96
    · have hw := hw.2 c1
      refine lv_aload_n hx hb dX1_faults_12 rfl (lv_at hl 0 rfl) ?_
      refine gX 1 S hH (by decide) q28 rfl dX1_faults_13 ?_
      refine lv_iload_n hx hb dX1_faults_16 rfl (lv_at hl 2 rfl) ?_
      obtain ⟨j2, hij2, hjj2, hw⟩ := hw
      refine lA (q0 := 2) (k := 1) S hH rfl hij2 hjj2 (by decide) dX1_faults_17 ?_
      refine lv_iconst (v := (-1)) hx hb dX1_faults_18 (by decide) ?_
      refine lv_icmp_eq (tgt := 89) hx hb dX1_faults_19 (by decide) (fun c3 => ?_) (fun c3 => ?_)
      · have hw := hw.1 c3
        obtain ⟨x4, ex4⟩ : ∃ y : Int32, y = y2 + 1 := ⟨_, rfl⟩
        have hw := hw x4 ex4
        refine lv_iinc (v := x4) (lv' := [(2, .int x4), (0, .ref (a 10)), (1, .int y1)]) hx hb dX1_faults_89 hl (k := 2) rfl (by rw [ex4]; rfl) (by decide) rfl (fun ls hl => ?_)
        refine lv_goto (tgt := 4) hx hb dX1_faults_92 (by decide) ?_
        exact ih _ _ _ _ _ _ hw hH (lv_sub hl [1, 2, 0] rfl)
      · have hw := hw.2 c3
        refine lv_aload_n hx hb dX1_faults_22 rfl (lv_at hl 0 rfl) ?_
        refine gX 1 S hH (by decide) q28 rfl dX1_faults_23 ?_
        refine lv_iload_n hx hb dX1_faults_26 rfl (lv_at hl 2 rfl) ?_
        obtain ⟨j5, hij5, hjj5, hw⟩ := hw
        refine lA (q0 := 2) (k := 1) S hH rfl hij5 hjj5 (by decide) dX1_faults_27 ?_
        refine cSi S hH (tX1_capacity l D a d (σ 1 j5)) (va_cwS 1 hts gwX1_93 rfl rfl rfl hdX1_capacity ⟨Nat.le_of_ble_eq_true rfl, Nat.le_of_ble_eq_true rfl⟩) hw rfl hl.1 rfl (Nat.le_of_ble_eq_true rfl) dX1_faults_28 ⟨Nat.zero_le _, Nat.zero_le _⟩ (fun r7 σ6 H locs hw hH => ?_)
        refine lv_istore_n (lv' := [(3, .int r7), (0, .ref (a 10)), (1, .int y1), (2, .int y2)]) hx hb dX1_faults_31 rfl hl (by decide) rfl (fun ls hl => ?_)
        refine lv_aload_n hx hb dX1_faults_32 rfl (lv_at hl 1 rfl) ?_
        refine gX 2 S hH (by decide) q29 rfl dX1_faults_33 ?_
        refine lv_iload_n hx hb dX1_faults_36 rfl (lv_at hl 3 rfl) ?_
        obtain ⟨j8, hij8, hjj8, hw⟩ := hw
        refine lA (q0 := 3) (k := 2) S hH rfl hij8 hjj8 (by decide) dX1_faults_37 ?_
        refine lv_iload_n hx hb dX1_faults_38 rfl (lv_at hl 0 rfl) ?_
        refine lv_icmp_ge (tgt := 61) hx hb dX1_faults_39 (by decide) (fun c9 => ?_) (fun c9 => ?_)
        · have hw := hw.1 c9
          refine lv_iconst (v := 0) hx hb dX1_faults_61 (by decide) ?_
          refine lv_istore (lv' := [(4, .int 0), (3, .int r7), (0, .ref (a 10)), (1, .int y1), (2, .int y2)]) hx hb dX1_faults_62 hl (by decide) rfl (fun ls hl => ?_)
          refine lv_aload_n hx hb dX1_faults_64 rfl (lv_at hl 2 rfl) ?_
          refine gX 2 S hH (by decide) q29 rfl dX1_faults_65 ?_
          refine lv_iload_n hx hb dX1_faults_68 rfl (lv_at hl 4 rfl) ?_
          obtain ⟨j10, hij10, hjj10, hw⟩ := hw
          refine lA (q0 := 3) (k := 2) S hH rfl hij10 hjj10 (by decide) dX1_faults_69 ?_
          refine lv_if_eq (tgt := 86) hx hb dX1_faults_70 (by decide) (fun c11 => ?_) (fun c11 => ?_)
          · have hw := hw.1 c11
            obtain ⟨x12, ex12⟩ : ∃ y : Int32, y = y1 + 1 := ⟨_, rfl⟩
            have hw := hw x12 ex12
            refine lv_iinc (v := x12) (lv' := [(1, .int x12), (4, .int 0), (3, .int r7), (0, .ref (a 10)), (2, .int y2)]) hx hb dX1_faults_86 hl (k := 3) rfl (by rw [ex12]; rfl) (by decide) rfl (fun ls hl => ?_)
            obtain ⟨x13, ex13⟩ : ∃ y : Int32, y = y2 + 1 := ⟨_, rfl⟩
            have hw := hw x13 ex13
            refine lv_iinc (v := x13) (lv' := [(2, .int x13), (1, .int x12), (4, .int 0), (3, .int r7), (0, .ref (a 10))]) hx hb dX1_faults_89 hl (k := 4) rfl (by rw [ex13]; rfl) (by decide) rfl (fun ls hl => ?_)
            refine lv_goto (tgt := 4) hx hb dX1_faults_92 (by decide) ?_
            exact ih _ _ _ _ _ _ hw hH (lv_sub hl [4, 1, 0] rfl)
          · have hw := hw.2 c11
            refine lv_iload hx hb dX1_faults_73 (lv_at hl 0 rfl) ?_
            refine lv_if_ne (tgt := 86) hx hb dX1_faults_75 (by decide) (fun c14 => ?_) (fun c14 => ?_)
            · have hw := hw.2 c14
              obtain ⟨x15, ex15⟩ : ∃ y : Int32, y = y1 + 1 := ⟨_, rfl⟩
              have hw := hw x15 ex15
              refine lv_iinc (v := x15) (lv' := [(1, .int x15), (4, .int 0), (3, .int r7), (0, .ref (a 10)), (2, .int y2)]) hx hb dX1_faults_86 hl (k := 3) rfl (by rw [ex15]; rfl) (by decide) rfl (fun ls hl => ?_)
              obtain ⟨x16, ex16⟩ : ∃ y : Int32, y = y2 + 1 := ⟨_, rfl⟩
              have hw := hw x16 ex16
              refine lv_iinc (v := x16) (lv' := [(2, .int x16), (1, .int x15), (4, .int 0), (3, .int r7), (0, .ref (a 10))]) hx hb dX1_faults_89 hl (k := 4) rfl (by rw [ex16]; rfl) (by decide) rfl (fun ls hl => ?_)
              refine lv_goto (tgt := 4) hx hb dX1_faults_92 (by decide) ?_
              exact ih _ _ _ _ _ _ hw hH (lv_sub hl [4, 1, 0] rfl)
            · have hw := hw.1 c14
              refine lv_aload_n hx hb dX1_faults_78 rfl (lv_at hl 2 rfl) ?_
              refine lv_iload_n hx hb dX1_faults_79 rfl (lv_at hl 4 rfl) ?_
              refine cVi (q := (RX1, TX1, 13)) S hH (tX1_strangers l D a d y2) (cwV 1 hts gwX1_96 rfl rfl rfl hdX1_strangers ⟨Nat.le_of_ble_eq_true rfl, Nat.le_of_ble_eq_true rfl⟩) rfl rfl hw rfl hl.1 rfl (Nat.le_of_ble_eq_true rfl) dX1_faults_80 ⟨Nat.zero_le _, Nat.zero_le _⟩ (fun r18 σ17 H locs hw hH => ?_)
              refine lv_if_le (tgt := 89) hx hb dX1_faults_83 (by decide) (fun c19 => ?_) (fun c19 => ?_)
              · have hw := hw.1 c19
                obtain ⟨x20, ex20⟩ : ∃ y : Int32, y = y2 + 1 := ⟨_, rfl⟩
                have hw := hw x20 ex20
                refine lv_iinc (v := x20) (lv' := [(2, .int x20), (4, .int 0), (3, .int r7), (0, .ref (a 10)), (1, .int y1)]) hx hb dX1_faults_89 hl (k := 4) rfl (by rw [ex20]; rfl) (by decide) rfl (fun ls hl => ?_)
                refine lv_goto (tgt := 4) hx hb dX1_faults_92 (by decide) ?_
                exact ih _ _ _ _ _ _ hw hH (lv_sub hl [3, 4, 0] rfl)
              · have hw := hw.2 c19
                obtain ⟨x21, ex21⟩ : ∃ y : Int32, y = y1 + 1 := ⟨_, rfl⟩
                have hw := hw x21 ex21
                refine lv_iinc (v := x21) (lv' := [(1, .int x21), (4, .int 0), (3, .int r7), (0, .ref (a 10)), (2, .int y2)]) hx hb dX1_faults_86 hl (k := 3) rfl (by rw [ex21]; rfl) (by decide) rfl (fun ls hl => ?_)
                obtain ⟨x22, ex22⟩ : ∃ y : Int32, y = y2 + 1 := ⟨_, rfl⟩
                have hw := hw x22 ex22
                refine lv_iinc (v := x22) (lv' := [(2, .int x22), (1, .int x21), (4, .int 0), (3, .int r7), (0, .ref (a 10))]) hx hb dX1_faults_89 hl (k := 4) rfl (by rw [ex22]; rfl) (by decide) rfl (fun ls hl => ?_)
                refine lv_goto (tgt := 4) hx hb dX1_faults_92 (by decide) ?_
                exact ih _ _ _ _ _ _ hw hH (lv_sub hl [4, 1, 0] rfl)
        · have hw := hw.2 c9
          refine lv_aload_n hx hb dX1_faults_42 rfl (lv_at hl 1 rfl) ?_
          refine gX 7 S hH (by decide) q34 rfl dX1_faults_43 ?_
          refine lv_aload_n hx hb dX1_faults_46 rfl (lv_at hl 1 rfl) ?_
          refine gX 1 S hH (by decide) q28 rfl dX1_faults_47 ?_
          refine lv_iload_n hx hb dX1_faults_50 rfl (lv_at hl 3 rfl) ?_
          obtain ⟨j23, hij23, hjj23, hw⟩ := hw
          refine lA (q0 := 2) (k := 1) S hH rfl hij23 hjj23 (by decide) dX1_faults_51 ?_
          obtain ⟨j24, hij24, hjj24, hw⟩ := hw
          refine lA (q0 := 8) (k := 7) S hH rfl hij24 hjj24 (by decide) dX1_faults_52 ?_
          refine lv_iload_n hx hb dX1_faults_53 rfl (lv_at hl 3 rfl) ?_
          refine lv_icmp_eq (tgt := 61) hx hb dX1_faults_54 (by decide) (fun c25 => ?_) (fun c25 => ?_)
          · have hw := hw.1 c25
            refine lv_iconst (v := 0) hx hb dX1_faults_61 (by decide) ?_
            refine lv_istore (lv' := [(4, .int 0), (3, .int r7), (0, .ref (a 10)), (1, .int y1), (2, .int y2)]) hx hb dX1_faults_62 hl (by decide) rfl (fun ls hl => ?_)
            refine lv_aload_n hx hb dX1_faults_64 rfl (lv_at hl 2 rfl) ?_
            refine gX 2 S hH (by decide) q29 rfl dX1_faults_65 ?_
            refine lv_iload_n hx hb dX1_faults_68 rfl (lv_at hl 4 rfl) ?_
            obtain ⟨j26, hij26, hjj26, hw⟩ := hw
            refine lA (q0 := 3) (k := 2) S hH rfl hij26 hjj26 (by decide) dX1_faults_69 ?_
            refine lv_if_eq (tgt := 86) hx hb dX1_faults_70 (by decide) (fun c27 => ?_) (fun c27 => ?_)
            · have hw := hw.1 c27
              obtain ⟨x28, ex28⟩ : ∃ y : Int32, y = y1 + 1 := ⟨_, rfl⟩
              have hw := hw x28 ex28
              refine lv_iinc (v := x28) (lv' := [(1, .int x28), (4, .int 0), (3, .int r7), (0, .ref (a 10)), (2, .int y2)]) hx hb dX1_faults_86 hl (k := 3) rfl (by rw [ex28]; rfl) (by decide) rfl (fun ls hl => ?_)
              obtain ⟨x29, ex29⟩ : ∃ y : Int32, y = y2 + 1 := ⟨_, rfl⟩
              have hw := hw x29 ex29
              refine lv_iinc (v := x29) (lv' := [(2, .int x29), (1, .int x28), (4, .int 0), (3, .int r7), (0, .ref (a 10))]) hx hb dX1_faults_89 hl (k := 4) rfl (by rw [ex29]; rfl) (by decide) rfl (fun ls hl => ?_)
              refine lv_goto (tgt := 4) hx hb dX1_faults_92 (by decide) ?_
              exact ih _ _ _ _ _ _ hw hH (lv_sub hl [4, 1, 0] rfl)
            · have hw := hw.2 c27
              refine lv_iload hx hb dX1_faults_73 (lv_at hl 0 rfl) ?_
              refine lv_if_ne (tgt := 86) hx hb dX1_faults_75 (by decide) (fun c30 => ?_) (fun c30 => ?_)
              · have hw := hw.2 c30
                obtain ⟨x31, ex31⟩ : ∃ y : Int32, y = y1 + 1 := ⟨_, rfl⟩
                have hw := hw x31 ex31
                refine lv_iinc (v := x31) (lv' := [(1, .int x31), (4, .int 0), (3, .int r7), (0, .ref (a 10)), (2, .int y2)]) hx hb dX1_faults_86 hl (k := 3) rfl (by rw [ex31]; rfl) (by decide) rfl (fun ls hl => ?_)
                obtain ⟨x32, ex32⟩ : ∃ y : Int32, y = y2 + 1 := ⟨_, rfl⟩
                have hw := hw x32 ex32
                refine lv_iinc (v := x32) (lv' := [(2, .int x32), (1, .int x31), (4, .int 0), (3, .int r7), (0, .ref (a 10))]) hx hb dX1_faults_89 hl (k := 4) rfl (by rw [ex32]; rfl) (by decide) rfl (fun ls hl => ?_)
                refine lv_goto (tgt := 4) hx hb dX1_faults_92 (by decide) ?_
                exact ih _ _ _ _ _ _ hw hH (lv_sub hl [4, 1, 0] rfl)
              · have hw := hw.1 c30
                refine lv_aload_n hx hb dX1_faults_78 rfl (lv_at hl 2 rfl) ?_
                refine lv_iload_n hx hb dX1_faults_79 rfl (lv_at hl 4 rfl) ?_
                refine cVi (q := (RX1, TX1, 13)) S hH (tX1_strangers l D a d y2) (cwV 1 hts gwX1_96 rfl rfl rfl hdX1_strangers ⟨Nat.le_of_ble_eq_true rfl, Nat.le_of_ble_eq_true rfl⟩) rfl rfl hw rfl hl.1 rfl (Nat.le_of_ble_eq_true rfl) dX1_faults_80 ⟨Nat.zero_le _, Nat.zero_le _⟩ (fun r34 σ33 H locs hw hH => ?_)
                refine lv_if_le (tgt := 89) hx hb dX1_faults_83 (by decide) (fun c35 => ?_) (fun c35 => ?_)
                · have hw := hw.1 c35
                  obtain ⟨x36, ex36⟩ : ∃ y : Int32, y = y2 + 1 := ⟨_, rfl⟩
                  have hw := hw x36 ex36
                  refine lv_iinc (v := x36) (lv' := [(2, .int x36), (4, .int 0), (3, .int r7), (0, .ref (a 10)), (1, .int y1)]) hx hb dX1_faults_89 hl (k := 4) rfl (by rw [ex36]; rfl) (by decide) rfl (fun ls hl => ?_)
                  refine lv_goto (tgt := 4) hx hb dX1_faults_92 (by decide) ?_
                  exact ih _ _ _ _ _ _ hw hH (lv_sub hl [3, 4, 0] rfl)
                · have hw := hw.2 c35
                  obtain ⟨x37, ex37⟩ : ∃ y : Int32, y = y1 + 1 := ⟨_, rfl⟩
                  have hw := hw x37 ex37
                  refine lv_iinc (v := x37) (lv' := [(1, .int x37), (4, .int 0), (3, .int r7), (0, .ref (a 10)), (2, .int y2)]) hx hb dX1_faults_86 hl (k := 3) rfl (by rw [ex37]; rfl) (by decide) rfl (fun ls hl => ?_)
                  obtain ⟨x38, ex38⟩ : ∃ y : Int32, y = y2 + 1 := ⟨_, rfl⟩
                  have hw := hw x38 ex38
                  refine lv_iinc (v := x38) (lv' := [(2, .int x38), (1, .int x37), (4, .int 0), (3, .int r7), (0, .ref (a 10))]) hx hb dX1_faults_89 hl (k := 4) rfl (by rw [ex38]; rfl) (by decide) rfl (fun ls hl => ?_)
                  refine lv_goto (tgt := 4) hx hb dX1_faults_92 (by decide) ?_
                  exact ih _ _ _ _ _ _ hw hH (lv_sub hl [4, 1, 0] rfl)
          · have hw := hw.2 c25
            refine lv_iconst (v := 1) hx hb dX1_faults_57 (by decide) ?_
            refine lv_goto (tgt := 62) hx hb dX1_faults_58 (by decide) ?_
            refine lv_istore (lv' := [(4, .int 1), (3, .int r7), (0, .ref (a 10)), (1, .int y1), (2, .int y2)]) hx hb dX1_faults_62 hl (by decide) rfl (fun ls hl => ?_)
            refine lv_aload_n hx hb dX1_faults_64 rfl (lv_at hl 2 rfl) ?_
            refine gX 2 S hH (by decide) q29 rfl dX1_faults_65 ?_
            refine lv_iload_n hx hb dX1_faults_68 rfl (lv_at hl 4 rfl) ?_
            obtain ⟨j39, hij39, hjj39, hw⟩ := hw
            refine lA (q0 := 3) (k := 2) S hH rfl hij39 hjj39 (by decide) dX1_faults_69 ?_
            refine lv_if_eq (tgt := 86) hx hb dX1_faults_70 (by decide) (fun c40 => ?_) (fun c40 => ?_)
            · have hw := hw.1 c40
              obtain ⟨x41, ex41⟩ : ∃ y : Int32, y = y1 + 1 := ⟨_, rfl⟩
              have hw := hw x41 ex41
              refine lv_iinc (v := x41) (lv' := [(1, .int x41), (4, .int 1), (3, .int r7), (0, .ref (a 10)), (2, .int y2)]) hx hb dX1_faults_86 hl (k := 3) rfl (by rw [ex41]; rfl) (by decide) rfl (fun ls hl => ?_)
              obtain ⟨x42, ex42⟩ : ∃ y : Int32, y = y2 + 1 := ⟨_, rfl⟩
              have hw := hw x42 ex42
              refine lv_iinc (v := x42) (lv' := [(2, .int x42), (1, .int x41), (4, .int 1), (3, .int r7), (0, .ref (a 10))]) hx hb dX1_faults_89 hl (k := 4) rfl (by rw [ex42]; rfl) (by decide) rfl (fun ls hl => ?_)
              refine lv_goto (tgt := 4) hx hb dX1_faults_92 (by decide) ?_
              exact ih _ _ _ _ _ _ hw hH (lv_sub hl [4, 1, 0] rfl)
            · have hw := hw.2 c40
              refine lv_iload hx hb dX1_faults_73 (lv_at hl 0 rfl) ?_
              refine lv_if_ne (tgt := 86) hx hb dX1_faults_75 (by decide) (fun c43 => ?_) (fun c43 => ?_)
              · have hw := hw.2 c43
                obtain ⟨x44, ex44⟩ : ∃ y : Int32, y = y1 + 1 := ⟨_, rfl⟩
                have hw := hw x44 ex44
                refine lv_iinc (v := x44) (lv' := [(1, .int x44), (4, .int 1), (3, .int r7), (0, .ref (a 10)), (2, .int y2)]) hx hb dX1_faults_86 hl (k := 3) rfl (by rw [ex44]; rfl) (by decide) rfl (fun ls hl => ?_)
                obtain ⟨x45, ex45⟩ : ∃ y : Int32, y = y2 + 1 := ⟨_, rfl⟩
                have hw := hw x45 ex45
                refine lv_iinc (v := x45) (lv' := [(2, .int x45), (1, .int x44), (4, .int 1), (3, .int r7), (0, .ref (a 10))]) hx hb dX1_faults_89 hl (k := 4) rfl (by rw [ex45]; rfl) (by decide) rfl (fun ls hl => ?_)
                refine lv_goto (tgt := 4) hx hb dX1_faults_92 (by decide) ?_
                exact ih _ _ _ _ _ _ hw hH (lv_sub hl [4, 1, 0] rfl)
              · have hw := hw.1 c43
                refine lv_aload_n hx hb dX1_faults_78 rfl (lv_at hl 2 rfl) ?_
                refine lv_iload_n hx hb dX1_faults_79 rfl (lv_at hl 4 rfl) ?_
                refine cVi (q := (RX1, TX1, 13)) S hH (tX1_strangers l D a d y2) (cwV 1 hts gwX1_96 rfl rfl rfl hdX1_strangers ⟨Nat.le_of_ble_eq_true rfl, Nat.le_of_ble_eq_true rfl⟩) rfl rfl hw rfl hl.1 rfl (Nat.le_of_ble_eq_true rfl) dX1_faults_80 ⟨Nat.zero_le _, Nat.zero_le _⟩ (fun r47 σ46 H locs hw hH => ?_)
                refine lv_if_le (tgt := 89) hx hb dX1_faults_83 (by decide) (fun c48 => ?_) (fun c48 => ?_)
                · have hw := hw.1 c48
                  obtain ⟨x49, ex49⟩ : ∃ y : Int32, y = y2 + 1 := ⟨_, rfl⟩
                  have hw := hw x49 ex49
                  refine lv_iinc (v := x49) (lv' := [(2, .int x49), (4, .int 1), (3, .int r7), (0, .ref (a 10)), (1, .int y1)]) hx hb dX1_faults_89 hl (k := 4) rfl (by rw [ex49]; rfl) (by decide) rfl (fun ls hl => ?_)
                  refine lv_goto (tgt := 4) hx hb dX1_faults_92 (by decide) ?_
                  exact ih _ _ _ _ _ _ hw hH (lv_sub hl [3, 4, 0] rfl)
                · have hw := hw.2 c48
                  obtain ⟨x50, ex50⟩ : ∃ y : Int32, y = y1 + 1 := ⟨_, rfl⟩
                  have hw := hw x50 ex50
                  refine lv_iinc (v := x50) (lv' := [(1, .int x50), (4, .int 1), (3, .int r7), (0, .ref (a 10)), (2, .int y2)]) hx hb dX1_faults_86 hl (k := 3) rfl (by rw [ex50]; rfl) (by decide) rfl (fun ls hl => ?_)
                  obtain ⟨x51, ex51⟩ : ∃ y : Int32, y = y2 + 1 := ⟨_, rfl⟩
                  have hw := hw x51 ex51
                  refine lv_iinc (v := x51) (lv' := [(2, .int x51), (1, .int x50), (4, .int 1), (3, .int r7), (0, .ref (a 10))]) hx hb dX1_faults_89 hl (k := 4) rfl (by rw [ex51]; rfl) (by decide) rfl (fun ls hl => ?_)
                  refine lv_goto (tgt := 4) hx hb dX1_faults_92 (by decide) ?_
                  exact ih _ _ _ _ _ _ hw hH (lv_sub hl [4, 1, 0] rfl)
set_option maxHeartbeats 4000000 in
theorem tX1_faults (l : Launch) (D : va_G) (a : Nat → Nat) (d : ClassId) : CTi l yX1_faults cX1_faults 5 (some .int) ({ frames := 2, cells := 0, slots := 0, locals := 44 }) (wX a d) D d [.ref (a 10)] (X1_faults) := by
  refine msI (by decide) (Nat.le_of_ble_eq_true rfl) ?_
  intro p e s m below meth c A σ K ls S hr hlk hH hw hl
  obtain ⟨hx, hb, hml, hown, hts⟩ := id S
  unfold X1_faults at hw
  have hl : lv_has ls 5 [(0, .ref (a 10))] := hl
  refine lv_iconst (v := 0) hx hb dX1_faults_0 (by decide) ?_
  refine lv_istore_n (lv' := [(1, .int 0), (0, .ref (a 10))]) hx hb dX1_faults_1 rfl hl (by decide) rfl (fun ls hl => ?_)
  refine lv_iconst (v := 0) hx hb dX1_faults_2 (by decide) ?_
  refine lv_istore_n (lv' := [(2, .int 0), (1, .int 0), (0, .ref (a 10))]) hx hb dX1_faults_3 rfl hl (by decide) rfl (fun ls hl => ?_)
  obtain ⟨n52, hw⟩ := hw
  exact X1_faults_L4_ok S hr hlk n52 _ _ _ _ _ _ hw hH (lv_sub hl [2, 1, 0] rfl)
end
section
set_option maxRecDepth 100000
set_option maxHeartbeats 4000000 in
theorem tX2_pages (l : Launch) (D : va_G) (a : Nat → Nat) (d : ClassId) : CTi l yX2_pages cX2_pages 1 (some .int) ({ frames := 0, cells := 0, slots := 0, locals := 0 }) (wM a d) D d [.ref (a 10)] (X2_pages) := by
  refine msI (by decide) (Nat.le_of_ble_eq_true rfl) ?_
  intro p e s m below meth c A σ K ls S hr hlk hH hw hl
  obtain ⟨hx, hb, hml, hown, hts⟩ := id S
  unfold X2_pages at hw
  have hl : lv_has ls 1 [(0, .ref (a 10))] := hl
  refine lv_aload_n hx hb dX2_pages_0 rfl (lv_at hl 0 rfl) ?_
  refine gM 0 S hH (by decide) q206 rfl dX2_pages_1 ?_
  exact riI S hr hlk hH hw dX2_pages_4
set_option maxHeartbeats 4000000 in
theorem tX2_bad (l : Launch) (D : va_G) (a : Nat → Nat) (d : ClassId) (x1 : Int32) : CTi l yX2_bad cX2_bad 2 (some .boolean) ({ frames := 0, cells := 0, slots := 0, locals := 0 }) (wM a d) D d [.ref (a 10), .int x1] (X2_bad x1) := by
  refine msI (by decide) (Nat.le_of_ble_eq_true rfl) ?_
  intro p e s m below meth c A σ K ls S hr hlk hH hw hl
  obtain ⟨hx, hb, hml, hown, hts⟩ := id S
  unfold X2_bad at hw
  have hl : lv_has ls 2 [(0, .ref (a 10)), (1, .int x1)] := hl
  refine lv_iload_n hx hb dX2_bad_0 rfl (lv_at hl 1 rfl) ?_
  refine lv_if_lt (tgt := 19) hx hb dX2_bad_1 (by decide) (fun c2 => ?_) (fun c2 => ?_)
  · have hw := hw.1 c2
    refine lv_iconst (v := 1) hx hb dX2_bad_19 (by decide) ?_
    refine lv_goto (tgt := 24) hx hb dX2_bad_20 (by decide) ?_
    exact riZ S hr rfl hlk hH hw dX2_bad_24
  · have hw := hw.2 c2
    refine lv_iload_n hx hb dX2_bad_4 rfl (lv_at hl 1 rfl) ?_
    refine lv_bipush (v := 63) hx hb dX2_bad_5 (by decide) ?_
    refine lv_icmp_gt (tgt := 19) hx hb dX2_bad_7 (by decide) (fun c3 => ?_) (fun c3 => ?_)
    · have hw := hw.1 c3
      refine lv_iconst (v := 1) hx hb dX2_bad_19 (by decide) ?_
      refine lv_goto (tgt := 24) hx hb dX2_bad_20 (by decide) ?_
      exact riZ S hr rfl hlk hH hw dX2_bad_24
    · have hw := hw.2 c3
      refine lv_aload_n hx hb dX2_bad_10 rfl (lv_at hl 0 rfl) ?_
      refine gM 1 S hH (by decide) q207 rfl dX2_bad_11 ?_
      refine lv_iload_n hx hb dX2_bad_14 rfl (lv_at hl 1 rfl) ?_
      obtain ⟨j4, hij4, hjj4, hw⟩ := hw
      refine lA (q0 := 1) (k := 0) S hH rfl hij4 hjj4 (by decide) dX2_bad_15 ?_
      refine lv_if_ne (tgt := 23) hx hb dX2_bad_16 (by decide) (fun c5 => ?_) (fun c5 => ?_)
      · have hw := hw.2 c5
        refine lv_iconst (v := 0) hx hb dX2_bad_23 (by decide) ?_
        exact riZ S hr rfl hlk hH hw dX2_bad_24
      · have hw := hw.1 c5
        refine lv_iconst (v := 1) hx hb dX2_bad_19 (by decide) ?_
        refine lv_goto (tgt := 24) hx hb dX2_bad_20 (by decide) ?_
        exact riZ S hr rfl hlk hH hw dX2_bad_24
set_option maxHeartbeats 4000000 in
theorem tX2_kindOf (l : Launch) (D : va_G) (a : Nat → Nat) (d : ClassId) (x1 : Int32) : CTi l yX2_kindOf cX2_kindOf 2 (some .int) ({ frames := 0, cells := 0, slots := 0, locals := 0 }) (wM a d) D d [.ref (a 10), .int x1] (X2_kindOf x1) := by
  refine msI (by decide) (Nat.le_of_ble_eq_true rfl) ?_
  intro p e s m below meth c A σ K ls S hr hlk hH hw hl
  obtain ⟨hx, hb, hml, hown, hts⟩ := id S
  unfold X2_kindOf at hw
  have hl : lv_has ls 2 [(0, .ref (a 10)), (1, .int x1)] := hl
  refine lv_iload_n hx hb dX2_kindOf_0 rfl (lv_at hl 1 rfl) ?_
  refine lv_iconst (v := 3) hx hb dX2_kindOf_1 (by decide) ?_
  refine lv_icmp_ge (tgt := 9) hx hb dX2_kindOf_2 (by decide) (fun c2 => ?_) (fun c2 => ?_)
  · have hw := hw.1 c2
    refine lv_iload_n hx hb dX2_kindOf_9 rfl (lv_at hl 1 rfl) ?_
    refine lv_iconst (v := 5) hx hb dX2_kindOf_10 (by decide) ?_
    refine lv_icmp_ge (tgt := 18) hx hb dX2_kindOf_11 (by decide) (fun c3 => ?_) (fun c3 => ?_)
    · have hw := hw.1 c3
      refine lv_iload_n hx hb dX2_kindOf_18 rfl (lv_at hl 1 rfl) ?_
      refine lv_bipush (v := 9) hx hb dX2_kindOf_19 (by decide) ?_
      refine lv_icmp_ge (tgt := 28) hx hb dX2_kindOf_21 (by decide) (fun c4 => ?_) (fun c4 => ?_)
      · have hw := hw.1 c4
        refine lv_iconst (v := 3) hx hb dX2_kindOf_28 (by decide) ?_
        exact riI S hr hlk hH hw dX2_kindOf_29
      · have hw := hw.2 c4
        refine lv_iconst (v := 2) hx hb dX2_kindOf_24 (by decide) ?_
        refine lv_goto (tgt := 29) hx hb dX2_kindOf_25 (by decide) ?_
        exact riI S hr hlk hH hw dX2_kindOf_29
    · have hw := hw.2 c3
      refine lv_iconst (v := 1) hx hb dX2_kindOf_14 (by decide) ?_
      refine lv_goto (tgt := 29) hx hb dX2_kindOf_15 (by decide) ?_
      exact riI S hr hlk hH hw dX2_kindOf_29
  · have hw := hw.2 c2
    refine lv_iconst (v := 0) hx hb dX2_kindOf_5 (by decide) ?_
    refine lv_goto (tgt := 29) hx hb dX2_kindOf_6 (by decide) ?_
    exact riI S hr hlk hH hw dX2_kindOf_29
set_option maxHeartbeats 4000000 in
theorem X2_alive_L4_ok {p : Program} {l : Launch} {e : Env} {s : State} {m : MethodId} {args : Array Value} {below : List Frame} {meth : Method} {c : Code} {D : va_G} {a : Nat → Nat} {d : ClassId} {A : Nat → Prop} {K : Int32 → St → Prop} (S : CallFix p m c cX2_alive 4 s args lw_all RX2) (hr : meth.sig.returnType = (some .int)) (hlk : meth.locks = false) : ∀ (n : Nat) (y1 y2 y3 : Int32) (σ : St) (H : Heap) (locs : List Loc) (ls : Array Slot), X2_alive_L4 K n y1 y2 y3 σ → HH D (wM a d) d A s σ H locs → lv_has ls 4 [(0, .ref (a 10)), (1, .int y1), (2, .int y2), (3, .int y3)] → W p l e ({ frames := 1, cells := 0, slots := 0, locals := 21 }) s m args below meth c H locs 0 0 (MQ below (va_Qi K (wO D (wM a d) d A) A) args s 0 0 A) (F0 m 4 ls []) := by
  obtain ⟨hx, hb, hml, hown, hts⟩ := id S
  intro n
  induction n with
  | zero => intro y1 y2 y3 σ H locs ls hw; exact False.elim hw
  | succ n ih =>
    intro y1 y2 y3 σ H locs ls hw hH hl
    rw [X2_alive_L4] at hw
    refine lv_iload_n hx hb dX2_alive_4 rfl (lv_at hl 3 rfl) ?_
    refine lv_bipush (v := 64) hx hb dX2_alive_5 (by decide) ?_
    refine lv_icmp_ge (tgt := 42) hx hb dX2_alive_7 (by decide) (fun c2 => ?_) (fun c2 => ?_)
    · have hw := hw.1 c2
      refine lv_iload_n hx hb dX2_alive_42 rfl (lv_at hl 2 rfl) ?_
      exact riI S hr hlk hH hw dX2_alive_43
    · have hw := hw.2 c2
      refine lv_aload_n hx hb dX2_alive_10 rfl (lv_at hl 0 rfl) ?_
      refine gM 1 S hH (by decide) q207 rfl dX2_alive_11 ?_
      refine lv_iload_n hx hb dX2_alive_14 rfl (lv_at hl 3 rfl) ?_
      obtain ⟨j3, hij3, hjj3, hw⟩ := hw
      refine lA (q0 := 1) (k := 0) S hH rfl hij3 hjj3 (by decide) dX2_alive_15 ?_
      refine lv_if_le (tgt := 36) hx hb dX2_alive_16 (by decide) (fun c4 => ?_) (fun c4 => ?_)
      · have hw := hw.1 c4
        obtain ⟨x5, ex5⟩ : ∃ y : Int32, y = y3 + 1 := ⟨_, rfl⟩
        have hw := hw x5 ex5
        refine lv_iinc (v := x5) (lv' := [(3, .int x5), (0, .ref (a 10)), (1, .int y1), (2, .int y2)]) hx hb dX2_alive_36 hl (k := 3) rfl (by rw [ex5]; rfl) (by decide) rfl (fun ls hl => ?_)
        refine lv_goto (tgt := 4) hx hb dX2_alive_39 (by decide) ?_
        exact ih _ _ _ _ _ _ _ hw hH (lv_sub hl [1, 2, 3, 0] rfl)
      · have hw := hw.2 c4
        refine lv_aload_n hx hb dX2_alive_19 rfl (lv_at hl 0 rfl) ?_
        refine lv_aload_n hx hb dX2_alive_20 rfl (lv_at hl 0 rfl) ?_
        refine gM 1 S hH (by decide) q207 rfl dX2_alive_21 ?_
        refine lv_iload_n hx hb dX2_alive_24 rfl (lv_at hl 3 rfl) ?_
        obtain ⟨j6, hij6, hjj6, hw⟩ := hw
        refine lA (q0 := 1) (k := 0) S hH rfl hij6 hjj6 (by decide) dX2_alive_25 ?_
        refine cVi (q := (RX2, TX2, 3)) S hH (tX2_kindOf l D a d (σ 0 j6)) (cwV 1 hts gwX2_20 rfl rfl rfl hdX2_kindOf ⟨Nat.le_of_ble_eq_true rfl, Nat.le_of_ble_eq_true rfl⟩) rfl rfl hw rfl hl.1 rfl (Nat.le_of_ble_eq_true rfl) dX2_alive_26 ⟨Nat.zero_le _, Nat.zero_le _⟩ (fun r8 σ7 H locs hw hH => ?_)
        refine lv_iload_n hx hb dX2_alive_29 rfl (lv_at hl 1 rfl) ?_
        refine lv_icmp_ne (tgt := 36) hx hb dX2_alive_30 (by decide) (fun c9 => ?_) (fun c9 => ?_)
        · have hw := hw.2 c9
          obtain ⟨x10, ex10⟩ : ∃ y : Int32, y = y3 + 1 := ⟨_, rfl⟩
          have hw := hw x10 ex10
          refine lv_iinc (v := x10) (lv' := [(3, .int x10), (0, .ref (a 10)), (1, .int y1), (2, .int y2)]) hx hb dX2_alive_36 hl (k := 3) rfl (by rw [ex10]; rfl) (by decide) rfl (fun ls hl => ?_)
          refine lv_goto (tgt := 4) hx hb dX2_alive_39 (by decide) ?_
          exact ih _ _ _ _ _ _ _ hw hH (lv_sub hl [1, 2, 3, 0] rfl)
        · have hw := hw.1 c9
          obtain ⟨x11, ex11⟩ : ∃ y : Int32, y = y2 + 1 := ⟨_, rfl⟩
          have hw := hw x11 ex11
          refine lv_iinc (v := x11) (lv' := [(2, .int x11), (0, .ref (a 10)), (1, .int y1), (3, .int y3)]) hx hb dX2_alive_33 hl (k := 2) rfl (by rw [ex11]; rfl) (by decide) rfl (fun ls hl => ?_)
          obtain ⟨x12, ex12⟩ : ∃ y : Int32, y = y3 + 1 := ⟨_, rfl⟩
          have hw := hw x12 ex12
          refine lv_iinc (v := x12) (lv' := [(3, .int x12), (2, .int x11), (0, .ref (a 10)), (1, .int y1)]) hx hb dX2_alive_36 hl (k := 3) rfl (by rw [ex12]; rfl) (by decide) rfl (fun ls hl => ?_)
          refine lv_goto (tgt := 4) hx hb dX2_alive_39 (by decide) ?_
          exact ih _ _ _ _ _ _ _ hw hH (lv_sub hl [2, 3, 1, 0] rfl)
set_option maxHeartbeats 4000000 in
theorem tX2_alive (l : Launch) (D : va_G) (a : Nat → Nat) (d : ClassId) (x1 : Int32) : CTi l yX2_alive cX2_alive 4 (some .int) ({ frames := 1, cells := 0, slots := 0, locals := 21 }) (wM a d) D d [.ref (a 10), .int x1] (X2_alive x1) := by
  refine msI (by decide) (Nat.le_of_ble_eq_true rfl) ?_
  intro p e s m below meth c A σ K ls S hr hlk hH hw hl
  obtain ⟨hx, hb, hml, hown, hts⟩ := id S
  unfold X2_alive at hw
  have hl : lv_has ls 4 [(0, .ref (a 10)), (1, .int x1)] := hl
  refine lv_iconst (v := 0) hx hb dX2_alive_0 (by decide) ?_
  refine lv_istore_n (lv' := [(2, .int 0), (0, .ref (a 10)), (1, .int x1)]) hx hb dX2_alive_1 rfl hl (by decide) rfl (fun ls hl => ?_)
  refine lv_iconst (v := 0) hx hb dX2_alive_2 (by decide) ?_
  refine lv_istore_n (lv' := [(3, .int 0), (2, .int 0), (0, .ref (a 10)), (1, .int x1)]) hx hb dX2_alive_3 rfl hl (by decide) rfl (fun ls hl => ?_)
  obtain ⟨n13, hw⟩ := hw
  exact X2_alive_L4_ok S hr hlk n13 _ _ _ _ _ _ _ hw hH (lv_sub hl [2, 3, 1, 0] rfl)
set_option maxHeartbeats 4000000 in
theorem X2_needs_L6_ok {p : Program} {l : Launch} {e : Env} {s : State} {m : MethodId} {args : Array Value} {below : List Frame} {meth : Method} {c : Code} {D : va_G} {a : Nat → Nat} {d : ClassId} {A : Nat → Prop} {K : Int32 → St → Prop} (S : CallFix p m c cX2_needs 9 s args lw_all RX2) (hr : meth.sig.returnType = (some .int)) (hlk : meth.locks = false) : ∀ (n : Nat) (y1 y2 y3 y4 y5 y6 : Int32) (σ : St) (H : Heap) (locs : List Loc) (ls : Array Slot), X2_needs_L6 K n y1 y2 y3 y4 y5 y6 σ → HH D (wM a d) d A s σ H locs → lv_has ls 9 [(0, .ref (a 10)), (1, .int y1), (2, .int y2), (3, .int y3), (4, .int y4), (5, .int y5), (6, .int y6)] → W p l e ({ frames := 2, cells := 0, slots := 0, locals := 44 }) s m args below meth c H locs 0 0 (MQ below (va_Qi K (wO D (wM a d) d A) A) args s 0 0 A) (F0 m 6 ls []) := by
  obtain ⟨hx, hb, hml, hown, hts⟩ := id S
  intro n
  induction n with
  | zero => intro y1 y2 y3 y4 y5 y6 σ H locs ls hw; exact False.elim hw
  | succ n ih =>
    intro y1 y2 y3 y4 y5 y6 σ H locs ls hw hH hl
    rw [X2_needs_L6] at hw
    refine lv_iload hx hb dX2_needs_6 (lv_at hl 6 rfl) ?_
    refine lv_iconst (v := 4) hx hb dX2_needs_8 (by decide) ?_
    refine lv_icmp_ge (tgt := 82) hx hb dX2_needs_9 (by decide) (fun c5 => ?_) (fun c5 => ?_)
    · have hw := hw.1 c5
      refine lv_iload hx hb dX2_needs_82 (lv_at hl 5 rfl) ?_
      exact riI S hr hlk hH hw dX2_needs_84
    · have hw := hw.2 c5
      refine lv_aload_n hx hb dX2_needs_12 rfl (lv_at hl 0 rfl) ?_
      refine lv_iload hx hb dX2_needs_13 (lv_at hl 6 rfl) ?_
      refine cVi (q := (RX2, TX2, 3)) S hH (tX2_alive l D a d y6) (cwV 1 hts gwX2_24 rfl rfl rfl hdX2_alive ⟨Nat.le_of_ble_eq_true rfl, Nat.le_of_ble_eq_true rfl⟩) rfl rfl hw rfl hl.1 rfl (Nat.le_of_ble_eq_true rfl) dX2_needs_15 ⟨Nat.zero_le _, Nat.zero_le _⟩ (fun r7 σ6 H locs hw hH => ?_)
      refine lv_istore (lv' := [(7, .int r7), (0, .ref (a 10)), (1, .int y1), (2, .int y2), (3, .int y3), (4, .int y4), (5, .int y5), (6, .int y6)]) hx hb dX2_needs_18 hl (by decide) rfl (fun ls hl => ?_)
      refine lv_iload hx hb dX2_needs_20 (lv_at hl 7 rfl) ?_
      refine lv_iload_n hx hb dX2_needs_22 rfl (lv_at hl 2 rfl) ?_
      refine lv_icmp_ne (tgt := 32) hx hb dX2_needs_23 (by decide) (fun c8 => ?_) (fun c8 => ?_)
      · have hw := hw.2 c8
        refine lv_iload hx hb dX2_needs_32 (lv_at hl 7 rfl) ?_
        refine lv_iload_n hx hb dX2_needs_34 rfl (lv_at hl 4 rfl) ?_
        refine lv_icmp_ne (tgt := 45) hx hb dX2_needs_35 (by decide) (fun c9 => ?_) (fun c9 => ?_)
        · have hw := hw.2 c9
          refine lv_bipush (v := 8) hx hb dX2_needs_45 (by decide) ?_
          refine lv_iload hx hb dX2_needs_47 (lv_at hl 7 rfl) ?_
          refine lv_ishr hx hb dX2_needs_49 ?_
          refine lv_topi (fun x10 ex10 => ?_)
          have hw := hw x10 ex10
          refine lv_istore (lv' := [(8, .int x10), (7, .int r7), (0, .ref (a 10)), (1, .int y1), (2, .int y2), (3, .int y3), (4, .int y4), (5, .int y5), (6, .int y6)]) hx hb dX2_needs_50 hl (by decide) rfl (fun ls hl => ?_)
          refine lv_iload hx hb dX2_needs_52 (lv_at hl 0 rfl) ?_
          refine lv_iconst (v := 1) hx hb dX2_needs_54 (by decide) ?_
          refine lv_icmp_ge (tgt := 61) hx hb dX2_needs_55 (by decide) (fun c11 => ?_) (fun c11 => ?_)
          · have hw := hw.1 c11
            refine lv_iload hx hb dX2_needs_61 (lv_at hl 7 rfl) ?_
            refine lv_iload hx hb dX2_needs_63 (lv_at hl 1 rfl) ?_
            refine lv_iload hx hb dX2_needs_65 (lv_at hl 0 rfl) ?_
            refine lv_iadd hx hb dX2_needs_67 ?_
            refine lv_iconst (v := 1) hx hb dX2_needs_68 (by decide) ?_
            refine lv_isub hx hb dX2_needs_69 ?_
            refine lv_iload hx hb dX2_needs_70 (lv_at hl 0 rfl) ?_
            obtain ⟨hz12, hw⟩ := hw
            refine lv_idiv hx hb dX2_needs_72 hz12 ?_
            refine lv_iadd hx hb dX2_needs_73 ?_
            refine lv_topi (fun x13 ex13 => ?_)
            have hw := hw x13 ex13
            refine lv_istore (lv' := [(5, .int x13), (8, .int x10), (7, .int r7), (0, .ref (a 10)), (1, .int y1), (2, .int y2), (3, .int y3), (4, .int y4), (6, .int y6)]) hx hb dX2_needs_74 hl (by decide) rfl (fun ls hl => ?_)
            obtain ⟨x14, ex14⟩ : ∃ y : Int32, y = y6 + 1 := ⟨_, rfl⟩
            have hw := hw x14 ex14
            refine lv_iinc (v := x14) (lv' := [(6, .int x14), (5, .int x13), (8, .int x10), (7, .int r7), (0, .ref (a 10)), (1, .int y1), (2, .int y2), (3, .int y3), (4, .int y4)]) hx hb dX2_needs_76 hl (k := 8) rfl (by rw [ex14]; rfl) (by decide) rfl (fun ls hl => ?_)
            refine lv_goto (tgt := 6) hx hb dX2_needs_79 (by decide) ?_
            exact ih _ _ _ _ _ _ _ _ _ _ hw hH (lv_sub hl [4, 5, 6, 7, 8, 1, 0] rfl)
          · have hw := hw.2 c11
            refine lv_iconst (v := 1) hx hb dX2_needs_58 (by decide) ?_
            refine lv_istore (lv' := [(8, .int 1), (7, .int r7), (0, .ref (a 10)), (1, .int y1), (2, .int y2), (3, .int y3), (4, .int y4), (5, .int y5), (6, .int y6)]) hx hb dX2_needs_59 hl (by decide) rfl (fun ls hl => ?_)
            refine lv_iload hx hb dX2_needs_61 (lv_at hl 7 rfl) ?_
            refine lv_iload hx hb dX2_needs_63 (lv_at hl 1 rfl) ?_
            refine lv_iload hx hb dX2_needs_65 (lv_at hl 0 rfl) ?_
            refine lv_iadd hx hb dX2_needs_67 ?_
            refine lv_iconst (v := 1) hx hb dX2_needs_68 (by decide) ?_
            refine lv_isub hx hb dX2_needs_69 ?_
            refine lv_iload hx hb dX2_needs_70 (lv_at hl 0 rfl) ?_
            obtain ⟨hz15, hw⟩ := hw
            refine lv_idiv hx hb dX2_needs_72 hz15 ?_
            refine lv_iadd hx hb dX2_needs_73 ?_
            refine lv_topi (fun x16 ex16 => ?_)
            have hw := hw x16 ex16
            refine lv_istore (lv' := [(5, .int x16), (8, .int 1), (7, .int r7), (0, .ref (a 10)), (1, .int y1), (2, .int y2), (3, .int y3), (4, .int y4), (6, .int y6)]) hx hb dX2_needs_74 hl (by decide) rfl (fun ls hl => ?_)
            obtain ⟨x17, ex17⟩ : ∃ y : Int32, y = y6 + 1 := ⟨_, rfl⟩
            have hw := hw x17 ex17
            refine lv_iinc (v := x17) (lv' := [(6, .int x17), (5, .int x16), (8, .int 1), (7, .int r7), (0, .ref (a 10)), (1, .int y1), (2, .int y2), (3, .int y3), (4, .int y4)]) hx hb dX2_needs_76 hl (k := 8) rfl (by rw [ex17]; rfl) (by decide) rfl (fun ls hl => ?_)
            refine lv_goto (tgt := 6) hx hb dX2_needs_79 (by decide) ?_
            exact ih _ _ _ _ _ _ _ _ _ _ hw hH (lv_sub hl [4, 5, 6, 7, 8, 1, 0] rfl)
        · have hw := hw.1 c9
          refine lv_iload hx hb dX2_needs_38 (lv_at hl 0 rfl) ?_
          refine lv_iload hx hb dX2_needs_40 (lv_at hl 5 rfl) ?_
          refine lv_isub hx hb dX2_needs_42 ?_
          refine lv_topi (fun x18 ex18 => ?_)
          have hw := hw x18 ex18
          refine lv_istore (lv' := [(7, .int x18), (0, .ref (a 10)), (1, .int y1), (2, .int y2), (3, .int y3), (4, .int y4), (5, .int y5), (6, .int y6)]) hx hb dX2_needs_43 hl (by decide) rfl (fun ls hl => ?_)
          refine lv_bipush (v := 8) hx hb dX2_needs_45 (by decide) ?_
          refine lv_iload hx hb dX2_needs_47 (lv_at hl 7 rfl) ?_
          refine lv_ishr hx hb dX2_needs_49 ?_
          refine lv_topi (fun x19 ex19 => ?_)
          have hw := hw x19 ex19
          refine lv_istore (lv' := [(8, .int x19), (7, .int x18), (0, .ref (a 10)), (1, .int y1), (2, .int y2), (3, .int y3), (4, .int y4), (5, .int y5), (6, .int y6)]) hx hb dX2_needs_50 hl (by decide) rfl (fun ls hl => ?_)
          refine lv_iload hx hb dX2_needs_52 (lv_at hl 0 rfl) ?_
          refine lv_iconst (v := 1) hx hb dX2_needs_54 (by decide) ?_
          refine lv_icmp_ge (tgt := 61) hx hb dX2_needs_55 (by decide) (fun c20 => ?_) (fun c20 => ?_)
          · have hw := hw.1 c20
            refine lv_iload hx hb dX2_needs_61 (lv_at hl 7 rfl) ?_
            refine lv_iload hx hb dX2_needs_63 (lv_at hl 1 rfl) ?_
            refine lv_iload hx hb dX2_needs_65 (lv_at hl 0 rfl) ?_
            refine lv_iadd hx hb dX2_needs_67 ?_
            refine lv_iconst (v := 1) hx hb dX2_needs_68 (by decide) ?_
            refine lv_isub hx hb dX2_needs_69 ?_
            refine lv_iload hx hb dX2_needs_70 (lv_at hl 0 rfl) ?_
            obtain ⟨hz21, hw⟩ := hw
            refine lv_idiv hx hb dX2_needs_72 hz21 ?_
            refine lv_iadd hx hb dX2_needs_73 ?_
            refine lv_topi (fun x22 ex22 => ?_)
            have hw := hw x22 ex22
            refine lv_istore (lv' := [(5, .int x22), (8, .int x19), (7, .int x18), (0, .ref (a 10)), (1, .int y1), (2, .int y2), (3, .int y3), (4, .int y4), (6, .int y6)]) hx hb dX2_needs_74 hl (by decide) rfl (fun ls hl => ?_)
            obtain ⟨x23, ex23⟩ : ∃ y : Int32, y = y6 + 1 := ⟨_, rfl⟩
            have hw := hw x23 ex23
            refine lv_iinc (v := x23) (lv' := [(6, .int x23), (5, .int x22), (8, .int x19), (7, .int x18), (0, .ref (a 10)), (1, .int y1), (2, .int y2), (3, .int y3), (4, .int y4)]) hx hb dX2_needs_76 hl (k := 8) rfl (by rw [ex23]; rfl) (by decide) rfl (fun ls hl => ?_)
            refine lv_goto (tgt := 6) hx hb dX2_needs_79 (by decide) ?_
            exact ih _ _ _ _ _ _ _ _ _ _ hw hH (lv_sub hl [4, 5, 6, 7, 8, 1, 0] rfl)
          · have hw := hw.2 c20
            refine lv_iconst (v := 1) hx hb dX2_needs_58 (by decide) ?_
            refine lv_istore (lv' := [(8, .int 1), (7, .int x18), (0, .ref (a 10)), (1, .int y1), (2, .int y2), (3, .int y3), (4, .int y4), (5, .int y5), (6, .int y6)]) hx hb dX2_needs_59 hl (by decide) rfl (fun ls hl => ?_)
            refine lv_iload hx hb dX2_needs_61 (lv_at hl 7 rfl) ?_
            refine lv_iload hx hb dX2_needs_63 (lv_at hl 1 rfl) ?_
            refine lv_iload hx hb dX2_needs_65 (lv_at hl 0 rfl) ?_
            refine lv_iadd hx hb dX2_needs_67 ?_
            refine lv_iconst (v := 1) hx hb dX2_needs_68 (by decide) ?_
            refine lv_isub hx hb dX2_needs_69 ?_
            refine lv_iload hx hb dX2_needs_70 (lv_at hl 0 rfl) ?_
            obtain ⟨hz24, hw⟩ := hw
            refine lv_idiv hx hb dX2_needs_72 hz24 ?_
            refine lv_iadd hx hb dX2_needs_73 ?_
            refine lv_topi (fun x25 ex25 => ?_)
            have hw := hw x25 ex25
            refine lv_istore (lv' := [(5, .int x25), (8, .int 1), (7, .int x18), (0, .ref (a 10)), (1, .int y1), (2, .int y2), (3, .int y3), (4, .int y4), (6, .int y6)]) hx hb dX2_needs_74 hl (by decide) rfl (fun ls hl => ?_)
            obtain ⟨x26, ex26⟩ : ∃ y : Int32, y = y6 + 1 := ⟨_, rfl⟩
            have hw := hw x26 ex26
            refine lv_iinc (v := x26) (lv' := [(6, .int x26), (5, .int x25), (8, .int 1), (7, .int x18), (0, .ref (a 10)), (1, .int y1), (2, .int y2), (3, .int y3), (4, .int y4)]) hx hb dX2_needs_76 hl (k := 8) rfl (by rw [ex26]; rfl) (by decide) rfl (fun ls hl => ?_)
            refine lv_goto (tgt := 6) hx hb dX2_needs_79 (by decide) ?_
            exact ih _ _ _ _ _ _ _ _ _ _ hw hH (lv_sub hl [4, 5, 6, 7, 8, 1, 0] rfl)
      · have hw := hw.1 c8
        refine lv_iload hx hb dX2_needs_26 (lv_at hl 0 rfl) ?_
        refine lv_iload_n hx hb dX2_needs_28 rfl (lv_at hl 3 rfl) ?_
        refine lv_iadd hx hb dX2_needs_29 ?_
        refine lv_topi (fun x27 ex27 => ?_)
        have hw := hw x27 ex27
        refine lv_istore (lv' := [(7, .int x27), (0, .ref (a 10)), (1, .int y1), (2, .int y2), (3, .int y3), (4, .int y4), (5, .int y5), (6, .int y6)]) hx hb dX2_needs_30 hl (by decide) rfl (fun ls hl => ?_)
        refine lv_iload hx hb dX2_needs_32 (lv_at hl 7 rfl) ?_
        refine lv_iload_n hx hb dX2_needs_34 rfl (lv_at hl 4 rfl) ?_
        refine lv_icmp_ne (tgt := 45) hx hb dX2_needs_35 (by decide) (fun c28 => ?_) (fun c28 => ?_)
        · have hw := hw.2 c28
          refine lv_bipush (v := 8) hx hb dX2_needs_45 (by decide) ?_
          refine lv_iload hx hb dX2_needs_47 (lv_at hl 7 rfl) ?_
          refine lv_ishr hx hb dX2_needs_49 ?_
          refine lv_topi (fun x29 ex29 => ?_)
          have hw := hw x29 ex29
          refine lv_istore (lv' := [(8, .int x29), (7, .int x27), (0, .ref (a 10)), (1, .int y1), (2, .int y2), (3, .int y3), (4, .int y4), (5, .int y5), (6, .int y6)]) hx hb dX2_needs_50 hl (by decide) rfl (fun ls hl => ?_)
          refine lv_iload hx hb dX2_needs_52 (lv_at hl 0 rfl) ?_
          refine lv_iconst (v := 1) hx hb dX2_needs_54 (by decide) ?_
          refine lv_icmp_ge (tgt := 61) hx hb dX2_needs_55 (by decide) (fun c30 => ?_) (fun c30 => ?_)
          · have hw := hw.1 c30
            refine lv_iload hx hb dX2_needs_61 (lv_at hl 7 rfl) ?_
            refine lv_iload hx hb dX2_needs_63 (lv_at hl 1 rfl) ?_
            refine lv_iload hx hb dX2_needs_65 (lv_at hl 0 rfl) ?_
            refine lv_iadd hx hb dX2_needs_67 ?_
            refine lv_iconst (v := 1) hx hb dX2_needs_68 (by decide) ?_
            refine lv_isub hx hb dX2_needs_69 ?_
            refine lv_iload hx hb dX2_needs_70 (lv_at hl 0 rfl) ?_
            obtain ⟨hz31, hw⟩ := hw
            refine lv_idiv hx hb dX2_needs_72 hz31 ?_
            refine lv_iadd hx hb dX2_needs_73 ?_
            refine lv_topi (fun x32 ex32 => ?_)
            have hw := hw x32 ex32
            refine lv_istore (lv' := [(5, .int x32), (8, .int x29), (7, .int x27), (0, .ref (a 10)), (1, .int y1), (2, .int y2), (3, .int y3), (4, .int y4), (6, .int y6)]) hx hb dX2_needs_74 hl (by decide) rfl (fun ls hl => ?_)
            obtain ⟨x33, ex33⟩ : ∃ y : Int32, y = y6 + 1 := ⟨_, rfl⟩
            have hw := hw x33 ex33
            refine lv_iinc (v := x33) (lv' := [(6, .int x33), (5, .int x32), (8, .int x29), (7, .int x27), (0, .ref (a 10)), (1, .int y1), (2, .int y2), (3, .int y3), (4, .int y4)]) hx hb dX2_needs_76 hl (k := 8) rfl (by rw [ex33]; rfl) (by decide) rfl (fun ls hl => ?_)
            refine lv_goto (tgt := 6) hx hb dX2_needs_79 (by decide) ?_
            exact ih _ _ _ _ _ _ _ _ _ _ hw hH (lv_sub hl [4, 5, 6, 7, 8, 1, 0] rfl)
          · have hw := hw.2 c30
            refine lv_iconst (v := 1) hx hb dX2_needs_58 (by decide) ?_
            refine lv_istore (lv' := [(8, .int 1), (7, .int x27), (0, .ref (a 10)), (1, .int y1), (2, .int y2), (3, .int y3), (4, .int y4), (5, .int y5), (6, .int y6)]) hx hb dX2_needs_59 hl (by decide) rfl (fun ls hl => ?_)
            refine lv_iload hx hb dX2_needs_61 (lv_at hl 7 rfl) ?_
            refine lv_iload hx hb dX2_needs_63 (lv_at hl 1 rfl) ?_
            refine lv_iload hx hb dX2_needs_65 (lv_at hl 0 rfl) ?_
            refine lv_iadd hx hb dX2_needs_67 ?_
            refine lv_iconst (v := 1) hx hb dX2_needs_68 (by decide) ?_
            refine lv_isub hx hb dX2_needs_69 ?_
            refine lv_iload hx hb dX2_needs_70 (lv_at hl 0 rfl) ?_
            obtain ⟨hz34, hw⟩ := hw
            refine lv_idiv hx hb dX2_needs_72 hz34 ?_
            refine lv_iadd hx hb dX2_needs_73 ?_
            refine lv_topi (fun x35 ex35 => ?_)
            have hw := hw x35 ex35
            refine lv_istore (lv' := [(5, .int x35), (8, .int 1), (7, .int x27), (0, .ref (a 10)), (1, .int y1), (2, .int y2), (3, .int y3), (4, .int y4), (6, .int y6)]) hx hb dX2_needs_74 hl (by decide) rfl (fun ls hl => ?_)
            obtain ⟨x36, ex36⟩ : ∃ y : Int32, y = y6 + 1 := ⟨_, rfl⟩
            have hw := hw x36 ex36
            refine lv_iinc (v := x36) (lv' := [(6, .int x36), (5, .int x35), (8, .int 1), (7, .int x27), (0, .ref (a 10)), (1, .int y1), (2, .int y2), (3, .int y3), (4, .int y4)]) hx hb dX2_needs_76 hl (k := 8) rfl (by rw [ex36]; rfl) (by decide) rfl (fun ls hl => ?_)
            refine lv_goto (tgt := 6) hx hb dX2_needs_79 (by decide) ?_
            exact ih _ _ _ _ _ _ _ _ _ _ hw hH (lv_sub hl [4, 5, 6, 7, 8, 1, 0] rfl)
        · have hw := hw.1 c28
          refine lv_iload hx hb dX2_needs_38 (lv_at hl 0 rfl) ?_
          refine lv_iload hx hb dX2_needs_40 (lv_at hl 5 rfl) ?_
          refine lv_isub hx hb dX2_needs_42 ?_
          refine lv_topi (fun x37 ex37 => ?_)
          have hw := hw x37 ex37
          refine lv_istore (lv' := [(7, .int x37), (0, .ref (a 10)), (1, .int y1), (2, .int y2), (3, .int y3), (4, .int y4), (5, .int y5), (6, .int y6)]) hx hb dX2_needs_43 hl (by decide) rfl (fun ls hl => ?_)
          refine lv_bipush (v := 8) hx hb dX2_needs_45 (by decide) ?_
          refine lv_iload hx hb dX2_needs_47 (lv_at hl 7 rfl) ?_
          refine lv_ishr hx hb dX2_needs_49 ?_
          refine lv_topi (fun x38 ex38 => ?_)
          have hw := hw x38 ex38
          refine lv_istore (lv' := [(8, .int x38), (7, .int x37), (0, .ref (a 10)), (1, .int y1), (2, .int y2), (3, .int y3), (4, .int y4), (5, .int y5), (6, .int y6)]) hx hb dX2_needs_50 hl (by decide) rfl (fun ls hl => ?_)
          refine lv_iload hx hb dX2_needs_52 (lv_at hl 0 rfl) ?_
          refine lv_iconst (v := 1) hx hb dX2_needs_54 (by decide) ?_
          refine lv_icmp_ge (tgt := 61) hx hb dX2_needs_55 (by decide) (fun c39 => ?_) (fun c39 => ?_)
          · have hw := hw.1 c39
            refine lv_iload hx hb dX2_needs_61 (lv_at hl 7 rfl) ?_
            refine lv_iload hx hb dX2_needs_63 (lv_at hl 1 rfl) ?_
            refine lv_iload hx hb dX2_needs_65 (lv_at hl 0 rfl) ?_
            refine lv_iadd hx hb dX2_needs_67 ?_
            refine lv_iconst (v := 1) hx hb dX2_needs_68 (by decide) ?_
            refine lv_isub hx hb dX2_needs_69 ?_
            refine lv_iload hx hb dX2_needs_70 (lv_at hl 0 rfl) ?_
            obtain ⟨hz40, hw⟩ := hw
            refine lv_idiv hx hb dX2_needs_72 hz40 ?_
            refine lv_iadd hx hb dX2_needs_73 ?_
            refine lv_topi (fun x41 ex41 => ?_)
            have hw := hw x41 ex41
            refine lv_istore (lv' := [(5, .int x41), (8, .int x38), (7, .int x37), (0, .ref (a 10)), (1, .int y1), (2, .int y2), (3, .int y3), (4, .int y4), (6, .int y6)]) hx hb dX2_needs_74 hl (by decide) rfl (fun ls hl => ?_)
            obtain ⟨x42, ex42⟩ : ∃ y : Int32, y = y6 + 1 := ⟨_, rfl⟩
            have hw := hw x42 ex42
            refine lv_iinc (v := x42) (lv' := [(6, .int x42), (5, .int x41), (8, .int x38), (7, .int x37), (0, .ref (a 10)), (1, .int y1), (2, .int y2), (3, .int y3), (4, .int y4)]) hx hb dX2_needs_76 hl (k := 8) rfl (by rw [ex42]; rfl) (by decide) rfl (fun ls hl => ?_)
            refine lv_goto (tgt := 6) hx hb dX2_needs_79 (by decide) ?_
            exact ih _ _ _ _ _ _ _ _ _ _ hw hH (lv_sub hl [4, 5, 6, 7, 8, 1, 0] rfl)
          · have hw := hw.2 c39
            refine lv_iconst (v := 1) hx hb dX2_needs_58 (by decide) ?_
            refine lv_istore (lv' := [(8, .int 1), (7, .int x37), (0, .ref (a 10)), (1, .int y1), (2, .int y2), (3, .int y3), (4, .int y4), (5, .int y5), (6, .int y6)]) hx hb dX2_needs_59 hl (by decide) rfl (fun ls hl => ?_)
            refine lv_iload hx hb dX2_needs_61 (lv_at hl 7 rfl) ?_
            refine lv_iload hx hb dX2_needs_63 (lv_at hl 1 rfl) ?_
            refine lv_iload hx hb dX2_needs_65 (lv_at hl 0 rfl) ?_
            refine lv_iadd hx hb dX2_needs_67 ?_
            refine lv_iconst (v := 1) hx hb dX2_needs_68 (by decide) ?_
            refine lv_isub hx hb dX2_needs_69 ?_
            refine lv_iload hx hb dX2_needs_70 (lv_at hl 0 rfl) ?_
            obtain ⟨hz43, hw⟩ := hw
            refine lv_idiv hx hb dX2_needs_72 hz43 ?_
            refine lv_iadd hx hb dX2_needs_73 ?_
            refine lv_topi (fun x44 ex44 => ?_)
            have hw := hw x44 ex44
            refine lv_istore (lv' := [(5, .int x44), (8, .int 1), (7, .int x37), (0, .ref (a 10)), (1, .int y1), (2, .int y2), (3, .int y3), (4, .int y4), (6, .int y6)]) hx hb dX2_needs_74 hl (by decide) rfl (fun ls hl => ?_)
            obtain ⟨x45, ex45⟩ : ∃ y : Int32, y = y6 + 1 := ⟨_, rfl⟩
            have hw := hw x45 ex45
            refine lv_iinc (v := x45) (lv' := [(6, .int x45), (5, .int x44), (8, .int 1), (7, .int x37), (0, .ref (a 10)), (1, .int y1), (2, .int y2), (3, .int y3), (4, .int y4)]) hx hb dX2_needs_76 hl (k := 8) rfl (by rw [ex45]; rfl) (by decide) rfl (fun ls hl => ?_)
            refine lv_goto (tgt := 6) hx hb dX2_needs_79 (by decide) ?_
            exact ih _ _ _ _ _ _ _ _ _ _ hw hH (lv_sub hl [4, 5, 6, 7, 8, 1, 0] rfl)
set_option maxHeartbeats 4000000 in
theorem tX2_needs (l : Launch) (D : va_G) (a : Nat → Nat) (d : ClassId) (x1 x2 x3 x4 : Int32) : CTi l yX2_needs cX2_needs 9 (some .int) ({ frames := 2, cells := 0, slots := 0, locals := 44 }) (wM a d) D d [.ref (a 10), .int x1, .int x2, .int x3, .int x4] (X2_needs x1 x2 x3 x4) := by
  refine msI (by decide) (Nat.le_of_ble_eq_true rfl) ?_
  intro p e s m below meth c A σ K ls S hr hlk hH hw hl
  obtain ⟨hx, hb, hml, hown, hts⟩ := id S
  unfold X2_needs at hw
  have hl : lv_has ls 9 [(0, .ref (a 10)), (1, .int x1), (2, .int x2), (3, .int x3), (4, .int x4)] := hl
  refine lv_iconst (v := 0) hx hb dX2_needs_0 (by decide) ?_
  refine lv_istore (lv' := [(5, .int 0), (0, .ref (a 10)), (1, .int x1), (2, .int x2), (3, .int x3), (4, .int x4)]) hx hb dX2_needs_1 hl (by decide) rfl (fun ls hl => ?_)
  refine lv_iconst (v := 0) hx hb dX2_needs_3 (by decide) ?_
  refine lv_istore (lv' := [(6, .int 0), (5, .int 0), (0, .ref (a 10)), (1, .int x1), (2, .int x2), (3, .int x3), (4, .int x4)]) hx hb dX2_needs_4 hl (by decide) rfl (fun ls hl => ?_)
  obtain ⟨n46, hw⟩ := hw
  exact X2_needs_L6_ok S hr hlk n46 _ _ _ _ _ _ _ _ _ _ hw hH (lv_sub hl [2, 3, 4, 5, 6, 1, 0] rfl)
set_option maxHeartbeats 4000000 in
theorem X2_leastFree_L2_ok {p : Program} {l : Launch} {e : Env} {s : State} {m : MethodId} {args : Array Value} {below : List Frame} {meth : Method} {c : Code} {D : va_G} {a : Nat → Nat} {d : ClassId} {A : Nat → Prop} {K : Int32 → St → Prop} (S : CallFix p m c cX2_leastFree 2 s args lw_all RX2) (hr : meth.sig.returnType = (some .int)) (hlk : meth.locks = false) : ∀ (n : Nat) (y1 : Int32) (σ : St) (H : Heap) (locs : List Loc) (ls : Array Slot), X2_leastFree_L2 K n y1 σ → HH D (wM a d) d A s σ H locs → lv_has ls 2 [(0, .ref (a 10)), (1, .int y1)] → W p l e ({ frames := 0, cells := 0, slots := 0, locals := 0 }) s m args below meth c H locs 0 0 (MQ below (va_Qi K (wO D (wM a d) d A) A) args s 0 0 A) (F0 m 2 ls []) := by
  obtain ⟨hx, hb, hml, hown, hts⟩ := id S
  intro n
  induction n with
  | zero => intro y1 σ H locs ls hw; exact False.elim hw
  | succ n ih =>
    intro y1 σ H locs ls hw hH hl
    rw [X2_leastFree_L2] at hw
    refine lv_iload_n hx hb dX2_leastFree_2 rfl (lv_at hl 1 rfl) ?_
    refine lv_bipush (v := 64) hx hb dX2_leastFree_3 (by decide) ?_
    refine lv_icmp_ge (tgt := 25) hx hb dX2_leastFree_5 (by decide) (fun c1 => ?_) (fun c1 => ?_)
    · have hw := hw.1 c1
      refine lv_iconst (v := (-1)) hx hb dX2_leastFree_25 (by decide) ?_
      exact riI S hr hlk hH hw dX2_leastFree_26
    · have hw := hw.2 c1
      refine lv_aload_n hx hb dX2_leastFree_8 rfl (lv_at hl 0 rfl) ?_
      refine gM 1 S hH (by decide) q207 rfl dX2_leastFree_9 ?_
      refine lv_iload_n hx hb dX2_leastFree_12 rfl (lv_at hl 1 rfl) ?_
      obtain ⟨j2, hij2, hjj2, hw⟩ := hw
      refine lA (q0 := 1) (k := 0) S hH rfl hij2 hjj2 (by decide) dX2_leastFree_13 ?_
      refine lv_if_ne (tgt := 19) hx hb dX2_leastFree_14 (by decide) (fun c3 => ?_) (fun c3 => ?_)
      · have hw := hw.2 c3
        obtain ⟨x4, ex4⟩ : ∃ y : Int32, y = y1 + 1 := ⟨_, rfl⟩
        have hw := hw x4 ex4
        refine lv_iinc (v := x4) (lv' := [(1, .int x4), (0, .ref (a 10))]) hx hb dX2_leastFree_19 hl (k := 1) rfl (by rw [ex4]; rfl) (by decide) rfl (fun ls hl => ?_)
        refine lv_goto (tgt := 2) hx hb dX2_leastFree_22 (by decide) ?_
        exact ih _ _ _ _ _ hw hH (lv_sub hl [1, 0] rfl)
      · have hw := hw.1 c3
        refine lv_iload_n hx hb dX2_leastFree_17 rfl (lv_at hl 1 rfl) ?_
        exact riI S hr hlk hH hw dX2_leastFree_18
set_option maxHeartbeats 4000000 in
theorem tX2_leastFree (l : Launch) (D : va_G) (a : Nat → Nat) (d : ClassId) : CTi l yX2_leastFree cX2_leastFree 2 (some .int) ({ frames := 0, cells := 0, slots := 0, locals := 0 }) (wM a d) D d [.ref (a 10)] (X2_leastFree) := by
  refine msI (by decide) (Nat.le_of_ble_eq_true rfl) ?_
  intro p e s m below meth c A σ K ls S hr hlk hH hw hl
  obtain ⟨hx, hb, hml, hown, hts⟩ := id S
  unfold X2_leastFree at hw
  have hl : lv_has ls 2 [(0, .ref (a 10))] := hl
  refine lv_iconst (v := 0) hx hb dX2_leastFree_0 (by decide) ?_
  refine lv_istore_n (lv' := [(1, .int 0), (0, .ref (a 10))]) hx hb dX2_leastFree_1 rfl hl (by decide) rfl (fun ls hl => ?_)
  obtain ⟨n5, hw⟩ := hw
  exact X2_leastFree_L2_ok S hr hlk n5 _ _ _ _ _ hw hH (lv_sub hl [1, 0] rfl)
set_option maxHeartbeats 4000000 in
theorem X2_wipe_L9_ok {p : Program} {l : Launch} {e : Env} {s : State} {m : MethodId} {args : Array Value} {below : List Frame} {meth : Method} {c : Code} {D : va_G} {a : Nat → Nat} {d : ClassId} {A : Nat → Prop} {K : St → Prop} (S : CallFix p m c cX2_wipe 3 s args lw_all RX2) (hr : meth.sig.returnType = none) (hlk : meth.locks = false) : ∀ (n : Nat) (y1 y2 : Int32) (σ : St) (H : Heap) (locs : List Loc) (ls : Array Slot), X2_wipe_L9 K n y1 y2 σ → HH D (wM a d) d A s σ H locs → lv_has ls 3 [(0, .ref (a 10)), (1, .int y1), (2, .int y2)] → W p l e ({ frames := 0, cells := 0, slots := 0, locals := 0 }) s m args below meth c H locs 0 0 (MQ below (va_Qv K (wO D (wM a d) d A) A) args s 0 0 A) (F0 m 9 ls []) := by
  obtain ⟨hx, hb, hml, hown, hts⟩ := id S
  intro n
  induction n with
  | zero => intro y1 y2 σ H locs ls hw; exact False.elim hw
  | succ n ih =>
    intro y1 y2 σ H locs ls hw hH hl
    rw [X2_wipe_L9] at hw
    refine lv_iload_n hx hb dX2_wipe_9 rfl (lv_at hl 2 rfl) ?_
    refine lv_bipush (v := 16) hx hb dX2_wipe_10 (by decide) ?_
    refine lv_icmp_ge (tgt := 33) hx hb dX2_wipe_12 (by decide) (fun c4 => ?_) (fun c4 => ?_)
    · have hw := hw.1 c4
      exact riV S hr hlk hH hw dX2_wipe_33
    · have hw := hw.2 c4
      refine lv_aload_n hx hb dX2_wipe_15 rfl (lv_at hl 0 rfl) ?_
      refine gM 2 S hH (by decide) q208 rfl dX2_wipe_16 ?_
      refine lv_bipush (v := 16) hx hb dX2_wipe_19 (by decide) ?_
      refine lv_iload_n hx hb dX2_wipe_21 rfl (lv_at hl 1 rfl) ?_
      refine lv_imul hx hb dX2_wipe_22 ?_
      refine lv_iload_n hx hb dX2_wipe_23 rfl (lv_at hl 2 rfl) ?_
      refine lv_iadd hx hb dX2_wipe_24 ?_
      refine lv_iconst (v := 0) hx hb dX2_wipe_25 (by decide) ?_
      obtain ⟨j5, hij5, hjj5, hw⟩ := hw
      refine sA (q0 := 2) (k := 1) S hH rfl (wM_set_1 σ a d j5 _) hij5 hjj5 (by decide) dX2_wipe_26 (fun H locs hH => ?_)
      obtain ⟨σ6, eσ6⟩ : ∃ z : St, z = up σ 1 j5 0 := ⟨_, rfl⟩
      rw [← eσ6] at hH
      have hw := hw σ6 eσ6
      obtain ⟨x7, ex7⟩ : ∃ y : Int32, y = y2 + 1 := ⟨_, rfl⟩
      have hw := hw x7 ex7
      refine lv_iinc (v := x7) (lv' := [(2, .int x7), (0, .ref (a 10)), (1, .int y1)]) hx hb dX2_wipe_27 hl (k := 2) rfl (by rw [ex7]; rfl) (by decide) rfl (fun ls hl => ?_)
      refine lv_goto (tgt := 9) hx hb dX2_wipe_30 (by decide) ?_
      exact ih _ _ _ _ _ _ hw hH (lv_sub hl [1, 2, 0] rfl)
set_option maxHeartbeats 4000000 in
theorem tX2_wipe (l : Launch) (D : va_G) (a : Nat → Nat) (d : ClassId) (x1 : Int32) : CTv l yX2_wipe cX2_wipe 3 none ({ frames := 0, cells := 0, slots := 0, locals := 0 }) (wM a d) D d [.ref (a 10), .int x1] (X2_wipe x1) := by
  refine msV (by decide) (Nat.le_of_ble_eq_true rfl) ?_
  intro p e s m below meth c A σ K ls S hr hlk hH hw hl
  obtain ⟨hx, hb, hml, hown, hts⟩ := id S
  unfold X2_wipe at hw
  have hl : lv_has ls 3 [(0, .ref (a 10)), (1, .int x1)] := hl
  refine lv_aload_n hx hb dX2_wipe_0 rfl (lv_at hl 0 rfl) ?_
  refine gM 1 S hH (by decide) q207 rfl dX2_wipe_1 ?_
  refine lv_iload_n hx hb dX2_wipe_4 rfl (lv_at hl 1 rfl) ?_
  refine lv_iconst (v := 0) hx hb dX2_wipe_5 (by decide) ?_
  obtain ⟨j2, hij2, hjj2, hw⟩ := hw
  refine sA (q0 := 1) (k := 0) S hH rfl (wM_set_0 σ a d j2 _) hij2 hjj2 (by decide) dX2_wipe_6 (fun H locs hH => ?_)
  obtain ⟨σ3, eσ3⟩ : ∃ z : St, z = up σ 0 j2 0 := ⟨_, rfl⟩
  rw [← eσ3] at hH
  have hw := hw σ3 eσ3
  refine lv_iconst (v := 0) hx hb dX2_wipe_7 (by decide) ?_
  refine lv_istore_n (lv' := [(2, .int 0), (0, .ref (a 10)), (1, .int x1)]) hx hb dX2_wipe_8 rfl hl (by decide) rfl (fun ls hl => ?_)
  obtain ⟨n8, hw⟩ := hw
  exact X2_wipe_L9_ok S hr hlk n8 _ _ _ _ _ _ hw hH (lv_sub hl [1, 2, 0] rfl)
set_option maxHeartbeats 4000000 in
theorem tX2_allocate (l : Launch) (D : va_G) (a : Nat → Nat) (d : ClassId) (x1 : Int32) : CTi l yX2_allocate cX2_allocate 4 (some .int) ({ frames := 3, cells := 0, slots := 0, locals := 72 }) (wM a d) D d [.ref (a 10), .int x1] (X2_allocate x1) := by
  refine msI (by decide) (Nat.le_of_ble_eq_true rfl) ?_
  intro p e s m below meth c A σ K ls S hr hlk hH hw hl
  obtain ⟨hx, hb, hml, hown, hts⟩ := id S
  unfold X2_allocate at hw
  have hl : lv_has ls 4 [(0, .ref (a 10)), (1, .int x1)] := hl
  refine lv_iload_n hx hb dX2_allocate_0 rfl (lv_at hl 1 rfl) ?_
  refine lv_iconst (v := 1) hx hb dX2_allocate_1 (by decide) ?_
  refine lv_icmp_lt (tgt := 11) hx hb dX2_allocate_2 (by decide) (fun c2 => ?_) (fun c2 => ?_)
  · have hw := hw.1 c2
    refine lv_iconst (v := (-1)) hx hb dX2_allocate_11 (by decide) ?_
    exact riI S hr hlk hH hw dX2_allocate_12
  · have hw := hw.2 c2
    refine lv_iload_n hx hb dX2_allocate_5 rfl (lv_at hl 1 rfl) ?_
    refine lv_bipush (v := 16) hx hb dX2_allocate_6 (by decide) ?_
    refine lv_icmp_le (tgt := 13) hx hb dX2_allocate_8 (by decide) (fun c3 => ?_) (fun c3 => ?_)
    · have hw := hw.1 c3
      refine lv_aload_n hx hb dX2_allocate_13 rfl (lv_at hl 0 rfl) ?_
      refine cVi (q := (RX2, TX2, 3)) S hH (tX2_leastFree l D a d ) (cwV 0 hts gwX2_27 rfl rfl rfl hdX2_leastFree ⟨Nat.le_of_ble_eq_true rfl, Nat.le_of_ble_eq_true rfl⟩) rfl rfl hw rfl hl.1 rfl (Nat.le_of_ble_eq_true rfl) dX2_allocate_14 ⟨Nat.zero_le _, Nat.zero_le _⟩ (fun r5 σ4 H locs hw hH => ?_)
      refine lv_istore_n (lv' := [(2, .int r5), (0, .ref (a 10)), (1, .int x1)]) hx hb dX2_allocate_17 rfl hl (by decide) rfl (fun ls hl => ?_)
      refine lv_iload_n hx hb dX2_allocate_18 rfl (lv_at hl 0 rfl) ?_
      refine lv_if_ge (tgt := 25) hx hb dX2_allocate_19 (by decide) (fun c6 => ?_) (fun c6 => ?_)
      · have hw := hw.1 c6
        refine lv_aload_n hx hb dX2_allocate_25 rfl (lv_at hl 1 rfl) ?_
        refine lv_iload_n hx hb dX2_allocate_26 rfl (lv_at hl 2 rfl) ?_
        refine cVi (q := (RX2, TX2, 3)) S hH (tX2_kindOf l D a d x1) (cwV 1 hts gwX2_20 rfl rfl rfl hdX2_kindOf ⟨Nat.le_of_ble_eq_true rfl, Nat.le_of_ble_eq_true rfl⟩) rfl rfl hw rfl hl.1 rfl (Nat.le_of_ble_eq_true rfl) dX2_allocate_27 ⟨Nat.zero_le _, Nat.zero_le _⟩ (fun r8 σ7 H locs hw hH => ?_)
        refine lv_istore_n (lv' := [(3, .int r8), (2, .int r5), (0, .ref (a 10)), (1, .int x1)]) hx hb dX2_allocate_30 rfl hl (by decide) rfl (fun ls hl => ?_)
        refine lv_aload_n hx hb dX2_allocate_31 rfl (lv_at hl 2 rfl) ?_
        refine lv_iload_n hx hb dX2_allocate_32 rfl (lv_at hl 0 rfl) ?_
        refine lv_iconst (v := 1) hx hb dX2_allocate_33 (by decide) ?_
        refine lv_iconst (v := (-1)) hx hb dX2_allocate_34 (by decide) ?_
        refine lv_iconst (v := 0) hx hb dX2_allocate_35 (by decide) ?_
        refine cVi (q := (RX2, TX2, 3)) S hH (tX2_needs l D a d r8 1 (-1) 0) (cwV 4 hts gwX2_31 rfl rfl rfl hdX2_needs ⟨Nat.le_of_ble_eq_true rfl, Nat.le_of_ble_eq_true rfl⟩) rfl rfl hw rfl hl.1 rfl (Nat.le_of_ble_eq_true rfl) dX2_allocate_36 ⟨Nat.zero_le _, Nat.zero_le _⟩ (fun r10 σ9 H locs hw hH => ?_)
        refine lv_aload_n hx hb dX2_allocate_39 rfl (lv_at hl 2 rfl) ?_
        refine gM 0 S hH (by decide) q206 rfl dX2_allocate_40 ?_
        refine lv_icmp_le (tgt := 49) hx hb dX2_allocate_43 (by decide) (fun c11 => ?_) (fun c11 => ?_)
        · have hw := hw.1 c11
          refine lv_aload_n hx hb dX2_allocate_49 rfl (lv_at hl 2 rfl) ?_
          refine lv_iload_n hx hb dX2_allocate_50 rfl (lv_at hl 1 rfl) ?_
          refine cVv (q := (RX2, TX2, 3)) S hH (tX2_wipe l D a d r5) (cwV 1 hts gwX2_35 rfl rfl rfl hdX2_wipe ⟨Nat.le_of_ble_eq_true rfl, Nat.le_of_ble_eq_true rfl⟩) rfl rfl hw rfl hl.1 rfl (Nat.le_of_ble_eq_true rfl) dX2_allocate_51 ⟨Nat.zero_le _, Nat.zero_le _⟩ (fun σ12 H locs hw hH => ?_)
          refine lv_aload_n hx hb dX2_allocate_54 rfl (lv_at hl 2 rfl) ?_
          refine gM 1 S hH (by decide) q207 rfl dX2_allocate_55 ?_
          refine lv_iload_n hx hb dX2_allocate_58 rfl (lv_at hl 1 rfl) ?_
          refine lv_iload_n hx hb dX2_allocate_59 rfl (lv_at hl 3 rfl) ?_
          obtain ⟨j13, hij13, hjj13, hw⟩ := hw
          refine sA (q0 := 1) (k := 0) S hH rfl (wM_set_0 σ12 a d j13 _) hij13 hjj13 (by decide) dX2_allocate_60 (fun H locs hH => ?_)
          obtain ⟨σ14, eσ14⟩ : ∃ z : St, z = up σ12 0 j13 x1 := ⟨_, rfl⟩
          rw [← eσ14] at hH
          have hw := hw σ14 eσ14
          refine lv_iload_n hx hb dX2_allocate_61 rfl (lv_at hl 1 rfl) ?_
          exact riI S hr hlk hH hw dX2_allocate_62
        · have hw := hw.2 c11
          refine lv_bipush (v := (-3)) hx hb dX2_allocate_46 (by decide) ?_
          exact riI S hr hlk hH hw dX2_allocate_48
      · have hw := hw.2 c6
        refine lv_bipush (v := (-2)) hx hb dX2_allocate_22 (by decide) ?_
        exact riI S hr hlk hH hw dX2_allocate_24
    · have hw := hw.2 c3
      refine lv_iconst (v := (-1)) hx hb dX2_allocate_11 (by decide) ?_
      exact riI S hr hlk hH hw dX2_allocate_12
set_option maxHeartbeats 4000000 in
theorem tX2_free (l : Launch) (D : va_G) (a : Nat → Nat) (d : ClassId) (x1 : Int32) : CTi l yX2_free cX2_free 3 (some .int) ({ frames := 1, cells := 0, slots := 0, locals := 22 }) (wM a d) D d [.ref (a 10), .int x1] (X2_free x1) := by
  refine msI (by decide) (Nat.le_of_ble_eq_true rfl) ?_
  intro p e s m below meth c A σ K ls S hr hlk hH hw hl
  obtain ⟨hx, hb, hml, hown, hts⟩ := id S
  unfold X2_free at hw
  have hl : lv_has ls 3 [(0, .ref (a 10)), (1, .int x1)] := hl
  refine lv_aload_n hx hb dX2_free_0 rfl (lv_at hl 0 rfl) ?_
  refine lv_iload_n hx hb dX2_free_1 rfl (lv_at hl 1 rfl) ?_
  refine cVi (q := (RX2, TX2, 3)) S hH (tX2_bad l D a d x1) (cwV 1 hts gwX2_39 rfl rfl rfl hdX2_bad ⟨Nat.le_of_ble_eq_true rfl, Nat.le_of_ble_eq_true rfl⟩) rfl rfl hw rfl hl.1 rfl (Nat.le_of_ble_eq_true rfl) dX2_free_2 ⟨Nat.zero_le _, Nat.zero_le _⟩ (fun r3 σ2 H locs hw hH => ?_)
  refine lv_if_eq (tgt := 10) hx hb dX2_free_5 (by decide) (fun c4 => ?_) (fun c4 => ?_)
  · have hw := hw.1 c4
    refine lv_aload_n hx hb dX2_free_10 rfl (lv_at hl 0 rfl) ?_
    refine gM 1 S hH (by decide) q207 rfl dX2_free_11 ?_
    refine lv_iload_n hx hb dX2_free_14 rfl (lv_at hl 1 rfl) ?_
    obtain ⟨j5, hij5, hjj5, hw⟩ := hw
    refine lA (q0 := 1) (k := 0) S hH rfl hij5 hjj5 (by decide) dX2_free_15 ?_
    refine lv_topi (fun x6 ex6 => ?_)
    have hw := hw x6 ex6
    refine lv_istore_n (lv' := [(2, .int x6), (0, .ref (a 10)), (1, .int x1)]) hx hb dX2_free_16 rfl hl (by decide) rfl (fun ls hl => ?_)
    refine lv_aload_n hx hb dX2_free_17 rfl (lv_at hl 1 rfl) ?_
    refine lv_iload_n hx hb dX2_free_18 rfl (lv_at hl 2 rfl) ?_
    refine cVv (q := (RX2, TX2, 3)) S hH (tX2_wipe l D a d x1) (cwV 1 hts gwX2_35 rfl rfl rfl hdX2_wipe ⟨Nat.le_of_ble_eq_true rfl, Nat.le_of_ble_eq_true rfl⟩) rfl rfl hw rfl hl.1 rfl (Nat.le_of_ble_eq_true rfl) dX2_free_19 ⟨Nat.zero_le _, Nat.zero_le _⟩ (fun σ7 H locs hw hH => ?_)
    refine lv_iload_n hx hb dX2_free_22 rfl (lv_at hl 0 rfl) ?_
    exact riI S hr hlk hH hw dX2_free_23
  · have hw := hw.2 c4
    refine lv_iconst (v := (-1)) hx hb dX2_free_8 (by decide) ?_
    exact riI S hr hlk hH hw dX2_free_9
set_option maxHeartbeats 4000000 in
theorem X2_resize_L72_ok {p : Program} {l : Launch} {e : Env} {s : State} {m : MethodId} {args : Array Value} {below : List Frame} {meth : Method} {c : Code} {D : va_G} {a : Nat → Nat} {d : ClassId} {A : Nat → Prop} {K : Int32 → St → Prop} (S : CallFix p m c cX2_resize 7 s args lw_all RX2) (hr : meth.sig.returnType = (some .int)) (hlk : meth.locks = false) : ∀ (n : Nat) (y1 y2 y5 y6 : Int32) (σ : St) (H : Heap) (locs : List Loc) (ls : Array Slot), X2_resize_L72 K n y1 y2 y5 y6 σ → HH D (wM a d) d A s σ H locs → lv_has ls 7 [(0, .ref (a 10)), (1, .int y1), (2, .int y2), (5, .int y5), (6, .int y6)] → W p l e ({ frames := 3, cells := 0, slots := 0, locals := 72 }) s m args below meth c H locs 0 0 (MQ below (va_Qi K (wO D (wM a d) d A) A) args s 0 0 A) (F0 m 72 ls []) := by
  obtain ⟨hx, hb, hml, hown, hts⟩ := id S
  intro n
  induction n with
  | zero => intro y1 y2 y5 y6 σ H locs ls hw; exact False.elim hw
  | succ n ih =>
    intro y1 y2 y5 y6 σ H locs ls hw hH hl
    rw [X2_resize_L72] at hw
    refine lv_iload hx hb dX2_resize_72 (lv_at hl 4 rfl) ?_
    refine lv_bipush (v := 16) hx hb dX2_resize_74 (by decide) ?_
    refine lv_icmp_ge (tgt := 98) hx hb dX2_resize_76 (by decide) (fun c18 => ?_) (fun c18 => ?_)
    · have hw := hw.1 c18
      refine lv_aload_n hx hb dX2_resize_98 rfl (lv_at hl 0 rfl) ?_
      refine gM 1 S hH (by decide) q207 rfl dX2_resize_99 ?_
      refine lv_iload_n hx hb dX2_resize_102 rfl (lv_at hl 1 rfl) ?_
      refine lv_iload_n hx hb dX2_resize_103 rfl (lv_at hl 2 rfl) ?_
      obtain ⟨j19, hij19, hjj19, hw⟩ := hw
      refine sA (q0 := 1) (k := 0) S hH rfl (wM_set_0 σ a d j19 _) hij19 hjj19 (by decide) dX2_resize_104 (fun H locs hH => ?_)
      obtain ⟨σ20, eσ20⟩ : ∃ z : St, z = up σ 0 j19 y2 := ⟨_, rfl⟩
      rw [← eσ20] at hH
      have hw := hw σ20 eσ20
      refine lv_iload hx hb dX2_resize_105 (lv_at hl 3 rfl) ?_
      exact riI S hr hlk hH hw dX2_resize_107
    · have hw := hw.2 c18
      refine lv_aload_n hx hb dX2_resize_79 rfl (lv_at hl 0 rfl) ?_
      refine gM 2 S hH (by decide) q208 rfl dX2_resize_80 ?_
      refine lv_bipush (v := 16) hx hb dX2_resize_83 (by decide) ?_
      refine lv_iload_n hx hb dX2_resize_85 rfl (lv_at hl 1 rfl) ?_
      refine lv_imul hx hb dX2_resize_86 ?_
      refine lv_iload hx hb dX2_resize_87 (lv_at hl 4 rfl) ?_
      refine lv_iadd hx hb dX2_resize_89 ?_
      refine lv_iconst (v := 0) hx hb dX2_resize_90 (by decide) ?_
      obtain ⟨j21, hij21, hjj21, hw⟩ := hw
      refine sA (q0 := 2) (k := 1) S hH rfl (wM_set_1 σ a d j21 _) hij21 hjj21 (by decide) dX2_resize_91 (fun H locs hH => ?_)
      obtain ⟨σ22, eσ22⟩ : ∃ z : St, z = up σ 1 j21 0 := ⟨_, rfl⟩
      rw [← eσ22] at hH
      have hw := hw σ22 eσ22
      obtain ⟨x23, ex23⟩ : ∃ y : Int32, y = y6 + 1 := ⟨_, rfl⟩
      have hw := hw x23 ex23
      refine lv_iinc (v := x23) (lv' := [(6, .int x23), (0, .ref (a 10)), (1, .int y1), (2, .int y2), (5, .int y5)]) hx hb dX2_resize_92 hl (k := 4) rfl (by rw [ex23]; rfl) (by decide) rfl (fun ls hl => ?_)
      refine lv_goto (tgt := 72) hx hb dX2_resize_95 (by decide) ?_
      exact ih _ _ _ _ _ _ _ _ hw hH (lv_sub hl [1, 2, 3, 4, 0] rfl)
set_option maxHeartbeats 4000000 in
theorem tX2_resize (l : Launch) (D : va_G) (a : Nat → Nat) (d : ClassId) (x1 x2 : Int32) : CTi l yX2_resize cX2_resize 7 (some .int) ({ frames := 3, cells := 0, slots := 0, locals := 72 }) (wM a d) D d [.ref (a 10), .int x1, .int x2] (X2_resize x1 x2) := by
  refine msI (by decide) (Nat.le_of_ble_eq_true rfl) ?_
  intro p e s m below meth c A σ K ls S hr hlk hH hw hl
  obtain ⟨hx, hb, hml, hown, hts⟩ := id S
  unfold X2_resize at hw
  have hl : lv_has ls 7 [(0, .ref (a 10)), (1, .int x1), (2, .int x2)] := hl
  refine lv_aload_n hx hb dX2_resize_0 rfl (lv_at hl 0 rfl) ?_
  refine lv_iload_n hx hb dX2_resize_1 rfl (lv_at hl 1 rfl) ?_
  refine cVi (q := (RX2, TX2, 3)) S hH (tX2_bad l D a d x1) (cwV 1 hts gwX2_39 rfl rfl rfl hdX2_bad ⟨Nat.le_of_ble_eq_true rfl, Nat.le_of_ble_eq_true rfl⟩) rfl rfl hw rfl hl.1 rfl (Nat.le_of_ble_eq_true rfl) dX2_resize_2 ⟨Nat.zero_le _, Nat.zero_le _⟩ (fun r4 σ3 H locs hw hH => ?_)
  refine lv_if_eq (tgt := 10) hx hb dX2_resize_5 (by decide) (fun c5 => ?_) (fun c5 => ?_)
  · have hw := hw.1 c5
    refine lv_iload_n hx hb dX2_resize_10 rfl (lv_at hl 2 rfl) ?_
    refine lv_iconst (v := 1) hx hb dX2_resize_11 (by decide) ?_
    refine lv_icmp_lt (tgt := 21) hx hb dX2_resize_12 (by decide) (fun c6 => ?_) (fun c6 => ?_)
    · have hw := hw.1 c6
      refine lv_bipush (v := (-2)) hx hb dX2_resize_21 (by decide) ?_
      exact riI S hr hlk hH hw dX2_resize_23
    · have hw := hw.2 c6
      refine lv_iload_n hx hb dX2_resize_15 rfl (lv_at hl 2 rfl) ?_
      refine lv_bipush (v := 16) hx hb dX2_resize_16 (by decide) ?_
      refine lv_icmp_le (tgt := 24) hx hb dX2_resize_18 (by decide) (fun c7 => ?_) (fun c7 => ?_)
      · have hw := hw.1 c7
        refine lv_aload_n hx hb dX2_resize_24 rfl (lv_at hl 0 rfl) ?_
        refine lv_iload_n hx hb dX2_resize_25 rfl (lv_at hl 2 rfl) ?_
        refine cVi (q := (RX2, TX2, 3)) S hH (tX2_kindOf l D a d x2) (cwV 1 hts gwX2_20 rfl rfl rfl hdX2_kindOf ⟨Nat.le_of_ble_eq_true rfl, Nat.le_of_ble_eq_true rfl⟩) rfl rfl hw rfl hl.1 rfl (Nat.le_of_ble_eq_true rfl) dX2_resize_26 ⟨Nat.zero_le _, Nat.zero_le _⟩ (fun r9 σ8 H locs hw hH => ?_)
        refine lv_istore_n (lv' := [(3, .int r9), (0, .ref (a 10)), (1, .int x1), (2, .int x2)]) hx hb dX2_resize_29 rfl hl (by decide) rfl (fun ls hl => ?_)
        refine lv_aload_n hx hb dX2_resize_30 rfl (lv_at hl 1 rfl) ?_
        refine lv_aload_n hx hb dX2_resize_31 rfl (lv_at hl 1 rfl) ?_
        refine gM 1 S hH (by decide) q207 rfl dX2_resize_32 ?_
        refine lv_iload_n hx hb dX2_resize_35 rfl (lv_at hl 2 rfl) ?_
        obtain ⟨j10, hij10, hjj10, hw⟩ := hw
        refine lA (q0 := 1) (k := 0) S hH rfl hij10 hjj10 (by decide) dX2_resize_36 ?_
        refine cVi (q := (RX2, TX2, 3)) S hH (tX2_kindOf l D a d (σ8 0 j10)) (cwV 1 hts gwX2_20 rfl rfl rfl hdX2_kindOf ⟨Nat.le_of_ble_eq_true rfl, Nat.le_of_ble_eq_true rfl⟩) rfl rfl hw rfl hl.1 rfl (Nat.le_of_ble_eq_true rfl) dX2_resize_37 ⟨Nat.zero_le _, Nat.zero_le _⟩ (fun r12 σ11 H locs hw hH => ?_)
        refine lv_istore (lv' := [(4, .int r12), (3, .int r9), (0, .ref (a 10)), (1, .int x1), (2, .int x2)]) hx hb dX2_resize_40 hl (by decide) rfl (fun ls hl => ?_)
        refine lv_aload_n hx hb dX2_resize_42 rfl (lv_at hl 2 rfl) ?_
        refine lv_iload_n hx hb dX2_resize_43 rfl (lv_at hl 1 rfl) ?_
        refine lv_iconst (v := 1) hx hb dX2_resize_44 (by decide) ?_
        refine lv_iload hx hb dX2_resize_45 (lv_at hl 0 rfl) ?_
        refine lv_iconst (v := 1) hx hb dX2_resize_47 (by decide) ?_
        refine cVi (q := (RX2, TX2, 3)) S hH (tX2_needs l D a d r9 1 r12 1) (cwV 4 hts gwX2_31 rfl rfl rfl hdX2_needs ⟨Nat.le_of_ble_eq_true rfl, Nat.le_of_ble_eq_true rfl⟩) rfl rfl hw rfl hl.1 rfl (Nat.le_of_ble_eq_true rfl) dX2_resize_48 ⟨Nat.zero_le _, Nat.zero_le _⟩ (fun r14 σ13 H locs hw hH => ?_)
        refine lv_aload_n hx hb dX2_resize_51 rfl (lv_at hl 2 rfl) ?_
        refine gM 0 S hH (by decide) q206 rfl dX2_resize_52 ?_
        refine lv_icmp_le (tgt := 61) hx hb dX2_resize_55 (by decide) (fun c15 => ?_) (fun c15 => ?_)
        · have hw := hw.1 c15
          refine lv_aload_n hx hb dX2_resize_61 rfl (lv_at hl 2 rfl) ?_
          refine gM 1 S hH (by decide) q207 rfl dX2_resize_62 ?_
          refine lv_iload_n hx hb dX2_resize_65 rfl (lv_at hl 3 rfl) ?_
          obtain ⟨j16, hij16, hjj16, hw⟩ := hw
          refine lA (q0 := 1) (k := 0) S hH rfl hij16 hjj16 (by decide) dX2_resize_66 ?_
          refine lv_topi (fun x17 ex17 => ?_)
          have hw := hw x17 ex17
          refine lv_istore (lv' := [(5, .int x17), (4, .int r12), (3, .int r9), (0, .ref (a 10)), (1, .int x1), (2, .int x2)]) hx hb dX2_resize_67 hl (by decide) rfl (fun ls hl => ?_)
          refine lv_iload_n hx hb dX2_resize_69 rfl (lv_at hl 5 rfl) ?_
          refine lv_istore (lv' := [(6, .int x2), (5, .int x17), (4, .int r12), (3, .int r9), (0, .ref (a 10)), (1, .int x1), (2, .int x2)]) hx hb dX2_resize_70 hl (by decide) rfl (fun ls hl => ?_)
          obtain ⟨n24, hw⟩ := hw
          exact X2_resize_L72_ok S hr hlk n24 _ _ _ _ _ _ _ _ hw hH (lv_sub hl [4, 5, 6, 1, 0] rfl)
        · have hw := hw.2 c15
          refine lv_bipush (v := (-3)) hx hb dX2_resize_58 (by decide) ?_
          exact riI S hr hlk hH hw dX2_resize_60
      · have hw := hw.2 c7
        refine lv_bipush (v := (-2)) hx hb dX2_resize_21 (by decide) ?_
        exact riI S hr hlk hH hw dX2_resize_23
  · have hw := hw.2 c5
    refine lv_iconst (v := (-1)) hx hb dX2_resize_8 (by decide) ?_
    exact riI S hr hlk hH hw dX2_resize_9
set_option maxHeartbeats 4000000 in
theorem X2_copy_L29_ok {p : Program} {l : Launch} {e : Env} {s : State} {m : MethodId} {args : Array Value} {below : List Frame} {meth : Method} {c : Code} {D : va_G} {a : Nat → Nat} {d : ClassId} {A : Nat → Prop} {K : Int32 → St → Prop} (S : CallFix p m c cX2_copy 4 s args lw_all RX2) (hr : meth.sig.returnType = (some .int)) (hlk : meth.locks = false) : ∀ (n : Nat) (y1 y2 y3 : Int32) (σ : St) (H : Heap) (locs : List Loc) (ls : Array Slot), X2_copy_L29 K n y1 y2 y3 σ → HH D (wM a d) d A s σ H locs → lv_has ls 4 [(0, .ref (a 10)), (1, .int y1), (2, .int y2), (3, .int y3)] → W p l e ({ frames := 4, cells := 0, slots := 0, locals := 95 }) s m args below meth c H locs 0 0 (MQ below (va_Qi K (wO D (wM a d) d A) A) args s 0 0 A) (F0 m 29 ls []) := by
  obtain ⟨hx, hb, hml, hown, hts⟩ := id S
  intro n
  induction n with
  | zero => intro y1 y2 y3 σ H locs ls hw; exact False.elim hw
  | succ n ih =>
    intro y1 y2 y3 σ H locs ls hw hH hl
    rw [X2_copy_L29] at hw
    refine lv_iload_n hx hb dX2_copy_29 rfl (lv_at hl 3 rfl) ?_
    refine lv_bipush (v := 16) hx hb dX2_copy_30 (by decide) ?_
    refine lv_icmp_ge (tgt := 63) hx hb dX2_copy_32 (by decide) (fun c9 => ?_) (fun c9 => ?_)
    · have hw := hw.1 c9
      refine lv_iload_n hx hb dX2_copy_63 rfl (lv_at hl 2 rfl) ?_
      exact riI S hr hlk hH hw dX2_copy_64
    · have hw := hw.2 c9
      refine lv_aload_n hx hb dX2_copy_35 rfl (lv_at hl 0 rfl) ?_
      refine gM 2 S hH (by decide) q208 rfl dX2_copy_36 ?_
      refine lv_bipush (v := 16) hx hb dX2_copy_39 (by decide) ?_
      refine lv_iload_n hx hb dX2_copy_41 rfl (lv_at hl 2 rfl) ?_
      refine lv_imul hx hb dX2_copy_42 ?_
      refine lv_iload_n hx hb dX2_copy_43 rfl (lv_at hl 3 rfl) ?_
      refine lv_iadd hx hb dX2_copy_44 ?_
      refine lv_aload_n hx hb dX2_copy_45 rfl (lv_at hl 0 rfl) ?_
      refine gM 2 S hH (by decide) q208 rfl dX2_copy_46 ?_
      refine lv_bipush (v := 16) hx hb dX2_copy_49 (by decide) ?_
      refine lv_iload_n hx hb dX2_copy_51 rfl (lv_at hl 1 rfl) ?_
      refine lv_imul hx hb dX2_copy_52 ?_
      refine lv_iload_n hx hb dX2_copy_53 rfl (lv_at hl 3 rfl) ?_
      refine lv_iadd hx hb dX2_copy_54 ?_
      obtain ⟨j10, hij10, hjj10, hw⟩ := hw
      refine lA (q0 := 2) (k := 1) S hH rfl hij10 hjj10 (by decide) dX2_copy_55 ?_
      obtain ⟨j11, hij11, hjj11, hw⟩ := hw
      refine sA (q0 := 2) (k := 1) S hH rfl (wM_set_1 σ a d j11 _) hij11 hjj11 (by decide) dX2_copy_56 (fun H locs hH => ?_)
      obtain ⟨σ12, eσ12⟩ : ∃ z : St, z = up σ 1 j11 (σ 1 j10) := ⟨_, rfl⟩
      rw [← eσ12] at hH
      have hw := hw σ12 eσ12
      obtain ⟨x13, ex13⟩ : ∃ y : Int32, y = y3 + 1 := ⟨_, rfl⟩
      have hw := hw x13 ex13
      refine lv_iinc (v := x13) (lv' := [(3, .int x13), (0, .ref (a 10)), (1, .int y1), (2, .int y2)]) hx hb dX2_copy_57 hl (k := 3) rfl (by rw [ex13]; rfl) (by decide) rfl (fun ls hl => ?_)
      refine lv_goto (tgt := 29) hx hb dX2_copy_60 (by decide) ?_
      exact ih _ _ _ _ _ _ _ hw hH (lv_sub hl [1, 2, 3, 0] rfl)
set_option maxHeartbeats 4000000 in
theorem tX2_copy (l : Launch) (D : va_G) (a : Nat → Nat) (d : ClassId) (x1 : Int32) : CTi l yX2_copy cX2_copy 4 (some .int) ({ frames := 4, cells := 0, slots := 0, locals := 95 }) (wM a d) D d [.ref (a 10), .int x1] (X2_copy x1) := by
  refine msI (by decide) (Nat.le_of_ble_eq_true rfl) ?_
  intro p e s m below meth c A σ K ls S hr hlk hH hw hl
  obtain ⟨hx, hb, hml, hown, hts⟩ := id S
  unfold X2_copy at hw
  have hl : lv_has ls 4 [(0, .ref (a 10)), (1, .int x1)] := hl
  refine lv_aload_n hx hb dX2_copy_0 rfl (lv_at hl 0 rfl) ?_
  refine lv_iload_n hx hb dX2_copy_1 rfl (lv_at hl 1 rfl) ?_
  refine cVi (q := (RX2, TX2, 3)) S hH (tX2_bad l D a d x1) (cwV 1 hts gwX2_39 rfl rfl rfl hdX2_bad ⟨Nat.le_of_ble_eq_true rfl, Nat.le_of_ble_eq_true rfl⟩) rfl rfl hw rfl hl.1 rfl (Nat.le_of_ble_eq_true rfl) dX2_copy_2 ⟨Nat.zero_le _, Nat.zero_le _⟩ (fun r3 σ2 H locs hw hH => ?_)
  refine lv_if_eq (tgt := 10) hx hb dX2_copy_5 (by decide) (fun c4 => ?_) (fun c4 => ?_)
  · have hw := hw.1 c4
    refine lv_aload_n hx hb dX2_copy_10 rfl (lv_at hl 0 rfl) ?_
    refine lv_aload_n hx hb dX2_copy_11 rfl (lv_at hl 0 rfl) ?_
    refine gM 1 S hH (by decide) q207 rfl dX2_copy_12 ?_
    refine lv_iload_n hx hb dX2_copy_15 rfl (lv_at hl 1 rfl) ?_
    obtain ⟨j5, hij5, hjj5, hw⟩ := hw
    refine lA (q0 := 1) (k := 0) S hH rfl hij5 hjj5 (by decide) dX2_copy_16 ?_
    refine cVi (q := (RX2, TX2, 3)) S hH (tX2_allocate l D a d (σ2 0 j5)) (cwV 1 hts gwX2_43 rfl rfl rfl hdX2_allocate ⟨Nat.le_of_ble_eq_true rfl, Nat.le_of_ble_eq_true rfl⟩) rfl rfl hw rfl hl.1 rfl (Nat.le_of_ble_eq_true rfl) dX2_copy_17 ⟨Nat.zero_le _, Nat.zero_le _⟩ (fun r7 σ6 H locs hw hH => ?_)
    refine lv_istore_n (lv' := [(2, .int r7), (0, .ref (a 10)), (1, .int x1)]) hx hb dX2_copy_20 rfl hl (by decide) rfl (fun ls hl => ?_)
    refine lv_iload_n hx hb dX2_copy_21 rfl (lv_at hl 0 rfl) ?_
    refine lv_if_ge (tgt := 27) hx hb dX2_copy_22 (by decide) (fun c8 => ?_) (fun c8 => ?_)
    · have hw := hw.1 c8
      refine lv_iconst (v := 0) hx hb dX2_copy_27 (by decide) ?_
      refine lv_istore_n (lv' := [(3, .int 0), (2, .int r7), (0, .ref (a 10)), (1, .int x1)]) hx hb dX2_copy_28 rfl hl (by decide) rfl (fun ls hl => ?_)
      obtain ⟨n14, hw⟩ := hw
      exact X2_copy_L29_ok S hr hlk n14 _ _ _ _ _ _ _ hw hH (lv_sub hl [2, 3, 1, 0] rfl)
    · have hw := hw.2 c8
      refine lv_iload_n hx hb dX2_copy_25 rfl (lv_at hl 0 rfl) ?_
      exact riI S hr hlk hH hw dX2_copy_26
  · have hw := hw.2 c4
    refine lv_iconst (v := (-1)) hx hb dX2_copy_8 (by decide) ?_
    exact riI S hr hlk hH hw dX2_copy_9
set_option maxHeartbeats 4000000 in
theorem X2_freeClass_L15_ok {p : Program} {l : Launch} {e : Env} {s : State} {m : MethodId} {args : Array Value} {below : List Frame} {meth : Method} {c : Code} {D : va_G} {a : Nat → Nat} {d : ClassId} {A : Nat → Prop} {K : Int32 → St → Prop} (S : CallFix p m c cX2_freeClass 4 s args lw_all RX2) (hr : meth.sig.returnType = (some .int)) (hlk : meth.locks = false) : ∀ (n : Nat) (y1 y2 y3 : Int32) (σ : St) (H : Heap) (locs : List Loc) (ls : Array Slot), X2_freeClass_L15 K n y1 y2 y3 σ → HH D (wM a d) d A s σ H locs → lv_has ls 4 [(0, .ref (a 10)), (1, .int y1), (2, .int y2), (3, .int y3)] → W p l e ({ frames := 1, cells := 0, slots := 0, locals := 22 }) s m args below meth c H locs 0 0 (MQ below (va_Qi K (wO D (wM a d) d A) A) args s 0 0 A) (F0 m 15 ls []) := by
  obtain ⟨hx, hb, hml, hown, hts⟩ := id S
  intro n
  induction n with
  | zero => intro y1 y2 y3 σ H locs ls hw; exact False.elim hw
  | succ n ih =>
    intro y1 y2 y3 σ H locs ls hw hH hl
    rw [X2_freeClass_L15] at hw
    refine lv_iload_n hx hb dX2_freeClass_15 rfl (lv_at hl 3 rfl) ?_
    refine lv_bipush (v := 64) hx hb dX2_freeClass_16 (by decide) ?_
    refine lv_icmp_ge (tgt := 58) hx hb dX2_freeClass_18 (by decide) (fun c4 => ?_) (fun c4 => ?_)
    · have hw := hw.1 c4
      refine lv_iload_n hx hb dX2_freeClass_58 rfl (lv_at hl 2 rfl) ?_
      exact riI S hr hlk hH hw dX2_freeClass_59
    · have hw := hw.2 c4
      refine lv_aload_n hx hb dX2_freeClass_21 rfl (lv_at hl 0 rfl) ?_
      refine gM 1 S hH (by decide) q207 rfl dX2_freeClass_22 ?_
      refine lv_iload_n hx hb dX2_freeClass_25 rfl (lv_at hl 3 rfl) ?_
      obtain ⟨j5, hij5, hjj5, hw⟩ := hw
      refine lA (q0 := 1) (k := 0) S hH rfl hij5 hjj5 (by decide) dX2_freeClass_26 ?_
      refine lv_if_le (tgt := 52) hx hb dX2_freeClass_27 (by decide) (fun c6 => ?_) (fun c6 => ?_)
      · have hw := hw.1 c6
        obtain ⟨x7, ex7⟩ : ∃ y : Int32, y = y3 + 1 := ⟨_, rfl⟩
        have hw := hw x7 ex7
        refine lv_iinc (v := x7) (lv' := [(3, .int x7), (0, .ref (a 10)), (1, .int y1), (2, .int y2)]) hx hb dX2_freeClass_52 hl (k := 3) rfl (by rw [ex7]; rfl) (by decide) rfl (fun ls hl => ?_)
        refine lv_goto (tgt := 15) hx hb dX2_freeClass_55 (by decide) ?_
        exact ih _ _ _ _ _ _ _ hw hH (lv_sub hl [1, 2, 3, 0] rfl)
      · have hw := hw.2 c6
        refine lv_aload_n hx hb dX2_freeClass_30 rfl (lv_at hl 0 rfl) ?_
        refine lv_aload_n hx hb dX2_freeClass_31 rfl (lv_at hl 0 rfl) ?_
        refine gM 1 S hH (by decide) q207 rfl dX2_freeClass_32 ?_
        refine lv_iload_n hx hb dX2_freeClass_35 rfl (lv_at hl 3 rfl) ?_
        obtain ⟨j8, hij8, hjj8, hw⟩ := hw
        refine lA (q0 := 1) (k := 0) S hH rfl hij8 hjj8 (by decide) dX2_freeClass_36 ?_
        refine cVi (q := (RX2, TX2, 3)) S hH (tX2_kindOf l D a d (σ 0 j8)) (cwV 1 hts gwX2_20 rfl rfl rfl hdX2_kindOf ⟨Nat.le_of_ble_eq_true rfl, Nat.le_of_ble_eq_true rfl⟩) rfl rfl hw rfl hl.1 rfl (Nat.le_of_ble_eq_true rfl) dX2_freeClass_37 ⟨Nat.zero_le _, Nat.zero_le _⟩ (fun r10 σ9 H locs hw hH => ?_)
        refine lv_iload_n hx hb dX2_freeClass_40 rfl (lv_at hl 1 rfl) ?_
        refine lv_icmp_ne (tgt := 52) hx hb dX2_freeClass_41 (by decide) (fun c11 => ?_) (fun c11 => ?_)
        · have hw := hw.2 c11
          obtain ⟨x12, ex12⟩ : ∃ y : Int32, y = y3 + 1 := ⟨_, rfl⟩
          have hw := hw x12 ex12
          refine lv_iinc (v := x12) (lv' := [(3, .int x12), (0, .ref (a 10)), (1, .int y1), (2, .int y2)]) hx hb dX2_freeClass_52 hl (k := 3) rfl (by rw [ex12]; rfl) (by decide) rfl (fun ls hl => ?_)
          refine lv_goto (tgt := 15) hx hb dX2_freeClass_55 (by decide) ?_
          exact ih _ _ _ _ _ _ _ hw hH (lv_sub hl [1, 2, 3, 0] rfl)
        · have hw := hw.1 c11
          refine lv_aload_n hx hb dX2_freeClass_44 rfl (lv_at hl 0 rfl) ?_
          refine lv_iload_n hx hb dX2_freeClass_45 rfl (lv_at hl 3 rfl) ?_
          refine cVv (q := (RX2, TX2, 3)) S hH (tX2_wipe l D a d y3) (cwV 1 hts gwX2_35 rfl rfl rfl hdX2_wipe ⟨Nat.le_of_ble_eq_true rfl, Nat.le_of_ble_eq_true rfl⟩) rfl rfl hw rfl hl.1 rfl (Nat.le_of_ble_eq_true rfl) dX2_freeClass_46 ⟨Nat.zero_le _, Nat.zero_le _⟩ (fun σ13 H locs hw hH => ?_)
          obtain ⟨x14, ex14⟩ : ∃ y : Int32, y = y2 + 1 := ⟨_, rfl⟩
          have hw := hw x14 ex14
          refine lv_iinc (v := x14) (lv' := [(2, .int x14), (0, .ref (a 10)), (1, .int y1), (3, .int y3)]) hx hb dX2_freeClass_49 hl (k := 2) rfl (by rw [ex14]; rfl) (by decide) rfl (fun ls hl => ?_)
          obtain ⟨x15, ex15⟩ : ∃ y : Int32, y = y3 + 1 := ⟨_, rfl⟩
          have hw := hw x15 ex15
          refine lv_iinc (v := x15) (lv' := [(3, .int x15), (2, .int x14), (0, .ref (a 10)), (1, .int y1)]) hx hb dX2_freeClass_52 hl (k := 3) rfl (by rw [ex15]; rfl) (by decide) rfl (fun ls hl => ?_)
          refine lv_goto (tgt := 15) hx hb dX2_freeClass_55 (by decide) ?_
          exact ih _ _ _ _ _ _ _ hw hH (lv_sub hl [2, 3, 1, 0] rfl)
set_option maxHeartbeats 4000000 in
theorem tX2_freeClass (l : Launch) (D : va_G) (a : Nat → Nat) (d : ClassId) (x1 : Int32) : CTi l yX2_freeClass cX2_freeClass 4 (some .int) ({ frames := 1, cells := 0, slots := 0, locals := 22 }) (wM a d) D d [.ref (a 10), .int x1] (X2_freeClass x1) := by
  refine msI (by decide) (Nat.le_of_ble_eq_true rfl) ?_
  intro p e s m below meth c A σ K ls S hr hlk hH hw hl
  obtain ⟨hx, hb, hml, hown, hts⟩ := id S
  unfold X2_freeClass at hw
  have hl : lv_has ls 4 [(0, .ref (a 10)), (1, .int x1)] := hl
  refine lv_iload_n hx hb dX2_freeClass_0 rfl (lv_at hl 1 rfl) ?_
  refine lv_if_lt (tgt := 9) hx hb dX2_freeClass_1 (by decide) (fun c2 => ?_) (fun c2 => ?_)
  · have hw := hw.1 c2
    refine lv_iconst (v := (-1)) hx hb dX2_freeClass_9 (by decide) ?_
    exact riI S hr hlk hH hw dX2_freeClass_10
  · have hw := hw.2 c2
    refine lv_iload_n hx hb dX2_freeClass_4 rfl (lv_at hl 1 rfl) ?_
    refine lv_iconst (v := 3) hx hb dX2_freeClass_5 (by decide) ?_
    refine lv_icmp_le (tgt := 11) hx hb dX2_freeClass_6 (by decide) (fun c3 => ?_) (fun c3 => ?_)
    · have hw := hw.1 c3
      refine lv_iconst (v := 0) hx hb dX2_freeClass_11 (by decide) ?_
      refine lv_istore_n (lv' := [(2, .int 0), (0, .ref (a 10)), (1, .int x1)]) hx hb dX2_freeClass_12 rfl hl (by decide) rfl (fun ls hl => ?_)
      refine lv_iconst (v := 0) hx hb dX2_freeClass_13 (by decide) ?_
      refine lv_istore_n (lv' := [(3, .int 0), (2, .int 0), (0, .ref (a 10)), (1, .int x1)]) hx hb dX2_freeClass_14 rfl hl (by decide) rfl (fun ls hl => ?_)
      obtain ⟨n16, hw⟩ := hw
      exact X2_freeClass_L15_ok S hr hlk n16 _ _ _ _ _ _ _ hw hH (lv_sub hl [2, 3, 1, 0] rfl)
    · have hw := hw.2 c3
      refine lv_iconst (v := (-1)) hx hb dX2_freeClass_9 (by decide) ?_
      exact riI S hr hlk hH hw dX2_freeClass_10
set_option maxHeartbeats 4000000 in
theorem tX2_read (l : Launch) (D : va_G) (a : Nat → Nat) (d : ClassId) (x1 x2 : Int32) : CTi l yX2_read cX2_read 3 (some .int) ({ frames := 1, cells := 0, slots := 0, locals := 21 }) (wM a d) D d [.ref (a 10), .int x1, .int x2] (X2_read x1 x2) := by
  refine msI (by decide) (Nat.le_of_ble_eq_true rfl) ?_
  intro p e s m below meth c A σ K ls S hr hlk hH hw hl
  obtain ⟨hx, hb, hml, hown, hts⟩ := id S
  unfold X2_read at hw
  have hl : lv_has ls 3 [(0, .ref (a 10)), (1, .int x1), (2, .int x2)] := hl
  refine lv_aload_n hx hb dX2_read_0 rfl (lv_at hl 0 rfl) ?_
  refine lv_iload_n hx hb dX2_read_1 rfl (lv_at hl 1 rfl) ?_
  refine cVi (q := (RX2, TX2, 3)) S hH (tX2_bad l D a d x1) (cwV 1 hts gwX2_39 rfl rfl rfl hdX2_bad ⟨Nat.le_of_ble_eq_true rfl, Nat.le_of_ble_eq_true rfl⟩) rfl rfl hw rfl hl.1 rfl (Nat.le_of_ble_eq_true rfl) dX2_read_2 ⟨Nat.zero_le _, Nat.zero_le _⟩ (fun r4 σ3 H locs hw hH => ?_)
  refine lv_if_ne (tgt := 22) hx hb dX2_read_5 (by decide) (fun c5 => ?_) (fun c5 => ?_)
  · have hw := hw.2 c5
    refine lv_iconst (v := 0) hx hb dX2_read_22 (by decide) ?_
    exact riI S hr hlk hH hw dX2_read_23
  · have hw := hw.1 c5
    refine lv_iload_n hx hb dX2_read_8 rfl (lv_at hl 2 rfl) ?_
    refine lv_if_lt (tgt := 22) hx hb dX2_read_9 (by decide) (fun c6 => ?_) (fun c6 => ?_)
    · have hw := hw.1 c6
      refine lv_iconst (v := 0) hx hb dX2_read_22 (by decide) ?_
      exact riI S hr hlk hH hw dX2_read_23
    · have hw := hw.2 c6
      refine lv_iload_n hx hb dX2_read_12 rfl (lv_at hl 2 rfl) ?_
      refine lv_aload_n hx hb dX2_read_13 rfl (lv_at hl 0 rfl) ?_
      refine gM 1 S hH (by decide) q207 rfl dX2_read_14 ?_
      refine lv_iload_n hx hb dX2_read_17 rfl (lv_at hl 1 rfl) ?_
      obtain ⟨j7, hij7, hjj7, hw⟩ := hw
      refine lA (q0 := 1) (k := 0) S hH rfl hij7 hjj7 (by decide) dX2_read_18 ?_
      refine lv_icmp_lt (tgt := 24) hx hb dX2_read_19 (by decide) (fun c8 => ?_) (fun c8 => ?_)
      · have hw := hw.1 c8
        refine lv_aload_n hx hb dX2_read_24 rfl (lv_at hl 0 rfl) ?_
        refine gM 2 S hH (by decide) q208 rfl dX2_read_25 ?_
        refine lv_bipush (v := 16) hx hb dX2_read_28 (by decide) ?_
        refine lv_iload_n hx hb dX2_read_30 rfl (lv_at hl 1 rfl) ?_
        refine lv_imul hx hb dX2_read_31 ?_
        refine lv_iload_n hx hb dX2_read_32 rfl (lv_at hl 2 rfl) ?_
        refine lv_iadd hx hb dX2_read_33 ?_
        obtain ⟨j9, hij9, hjj9, hw⟩ := hw
        refine lA (q0 := 2) (k := 1) S hH rfl hij9 hjj9 (by decide) dX2_read_34 ?_
        exact riI S hr hlk hH hw dX2_read_35
      · have hw := hw.2 c8
        refine lv_iconst (v := 0) hx hb dX2_read_22 (by decide) ?_
        exact riI S hr hlk hH hw dX2_read_23
set_option maxHeartbeats 4000000 in
theorem tX2_write (l : Launch) (D : va_G) (a : Nat → Nat) (d : ClassId) (x1 x2 x3 : Int32) : CTi l yX2_write cX2_write 4 (some .int) ({ frames := 1, cells := 0, slots := 0, locals := 21 }) (wM a d) D d [.ref (a 10), .int x1, .int x2, .int x3] (X2_write x1 x2 x3) := by
  refine msI (by decide) (Nat.le_of_ble_eq_true rfl) ?_
  intro p e s m below meth c A σ K ls S hr hlk hH hw hl
  obtain ⟨hx, hb, hml, hown, hts⟩ := id S
  unfold X2_write at hw
  have hl : lv_has ls 4 [(0, .ref (a 10)), (1, .int x1), (2, .int x2), (3, .int x3)] := hl
  refine lv_aload_n hx hb dX2_write_0 rfl (lv_at hl 0 rfl) ?_
  refine lv_iload_n hx hb dX2_write_1 rfl (lv_at hl 1 rfl) ?_
  refine cVi (q := (RX2, TX2, 3)) S hH (tX2_bad l D a d x1) (cwV 1 hts gwX2_39 rfl rfl rfl hdX2_bad ⟨Nat.le_of_ble_eq_true rfl, Nat.le_of_ble_eq_true rfl⟩) rfl rfl hw rfl hl.1 rfl (Nat.le_of_ble_eq_true rfl) dX2_write_2 ⟨Nat.zero_le _, Nat.zero_le _⟩ (fun r5 σ4 H locs hw hH => ?_)
  refine lv_if_eq (tgt := 10) hx hb dX2_write_5 (by decide) (fun c6 => ?_) (fun c6 => ?_)
  · have hw := hw.1 c6
    refine lv_iload_n hx hb dX2_write_10 rfl (lv_at hl 2 rfl) ?_
    refine lv_if_lt (tgt := 24) hx hb dX2_write_11 (by decide) (fun c7 => ?_) (fun c7 => ?_)
    · have hw := hw.1 c7
      refine lv_bipush (v := (-2)) hx hb dX2_write_24 (by decide) ?_
      exact riI S hr hlk hH hw dX2_write_26
    · have hw := hw.2 c7
      refine lv_iload_n hx hb dX2_write_14 rfl (lv_at hl 2 rfl) ?_
      refine lv_aload_n hx hb dX2_write_15 rfl (lv_at hl 0 rfl) ?_
      refine gM 1 S hH (by decide) q207 rfl dX2_write_16 ?_
      refine lv_iload_n hx hb dX2_write_19 rfl (lv_at hl 1 rfl) ?_
      obtain ⟨j8, hij8, hjj8, hw⟩ := hw
      refine lA (q0 := 1) (k := 0) S hH rfl hij8 hjj8 (by decide) dX2_write_20 ?_
      refine lv_icmp_lt (tgt := 27) hx hb dX2_write_21 (by decide) (fun c9 => ?_) (fun c9 => ?_)
      · have hw := hw.1 c9
        refine lv_aload_n hx hb dX2_write_27 rfl (lv_at hl 0 rfl) ?_
        refine gM 2 S hH (by decide) q208 rfl dX2_write_28 ?_
        refine lv_bipush (v := 16) hx hb dX2_write_31 (by decide) ?_
        refine lv_iload_n hx hb dX2_write_33 rfl (lv_at hl 1 rfl) ?_
        refine lv_imul hx hb dX2_write_34 ?_
        refine lv_iload_n hx hb dX2_write_35 rfl (lv_at hl 2 rfl) ?_
        refine lv_iadd hx hb dX2_write_36 ?_
        refine lv_iload_n hx hb dX2_write_37 rfl (lv_at hl 3 rfl) ?_
        obtain ⟨j10, hij10, hjj10, hw⟩ := hw
        refine sA (q0 := 2) (k := 1) S hH rfl (wM_set_1 σ4 a d j10 _) hij10 hjj10 (by decide) dX2_write_38 (fun H locs hH => ?_)
        obtain ⟨σ11, eσ11⟩ : ∃ z : St, z = up σ4 1 j10 x3 := ⟨_, rfl⟩
        rw [← eσ11] at hH
        have hw := hw σ11 eσ11
        refine lv_iconst (v := 0) hx hb dX2_write_39 (by decide) ?_
        exact riI S hr hlk hH hw dX2_write_40
      · have hw := hw.2 c9
        refine lv_bipush (v := (-2)) hx hb dX2_write_24 (by decide) ?_
        exact riI S hr hlk hH hw dX2_write_26
  · have hw := hw.2 c6
    refine lv_iconst (v := (-1)) hx hb dX2_write_8 (by decide) ?_
    exact riI S hr hlk hH hw dX2_write_9
set_option maxHeartbeats 4000000 in
theorem X2_fill_L13_ok {p : Program} {l : Launch} {e : Env} {s : State} {m : MethodId} {args : Array Value} {below : List Frame} {meth : Method} {c : Code} {D : va_G} {a : Nat → Nat} {d : ClassId} {A : Nat → Prop} {K : Int32 → St → Prop} (S : CallFix p m c cX2_fill 5 s args lw_all RX2) (hr : meth.sig.returnType = (some .int)) (hlk : meth.locks = false) : ∀ (n : Nat) (y1 y2 y3 y4 : Int32) (σ : St) (H : Heap) (locs : List Loc) (ls : Array Slot), X2_fill_L13 K n y1 y2 y3 y4 σ → HH D (wM a d) d A s σ H locs → lv_has ls 5 [(0, .ref (a 10)), (1, .int y1), (2, .int y2), (3, .int y3), (4, .int y4)] → W p l e ({ frames := 1, cells := 0, slots := 0, locals := 21 }) s m args below meth c H locs 0 0 (MQ below (va_Qi K (wO D (wM a d) d A) A) args s 0 0 A) (F0 m 13 ls []) := by
  obtain ⟨hx, hb, hml, hown, hts⟩ := id S
  intro n
  induction n with
  | zero => intro y1 y2 y3 y4 σ H locs ls hw; exact False.elim hw
  | succ n ih =>
    intro y1 y2 y3 y4 σ H locs ls hw hH hl
    rw [X2_fill_L13] at hw
    refine lv_iload hx hb dX2_fill_13 (lv_at hl 4 rfl) ?_
    refine lv_aload_n hx hb dX2_fill_15 rfl (lv_at hl 0 rfl) ?_
    refine gM 1 S hH (by decide) q207 rfl dX2_fill_16 ?_
    refine lv_iload_n hx hb dX2_fill_19 rfl (lv_at hl 1 rfl) ?_
    obtain ⟨j7, hij7, hjj7, hw⟩ := hw
    refine lA (q0 := 1) (k := 0) S hH rfl hij7 hjj7 (by decide) dX2_fill_20 ?_
    refine lv_icmp_ge (tgt := 55) hx hb dX2_fill_21 (by decide) (fun c8 => ?_) (fun c8 => ?_)
    · have hw := hw.1 c8
      refine lv_aload_n hx hb dX2_fill_55 rfl (lv_at hl 0 rfl) ?_
      refine gM 1 S hH (by decide) q207 rfl dX2_fill_56 ?_
      refine lv_iload_n hx hb dX2_fill_59 rfl (lv_at hl 1 rfl) ?_
      obtain ⟨j9, hij9, hjj9, hw⟩ := hw
      refine lA (q0 := 1) (k := 0) S hH rfl hij9 hjj9 (by decide) dX2_fill_60 ?_
      exact riI S hr hlk hH hw dX2_fill_61
    · have hw := hw.2 c8
      refine lv_iload hx hb dX2_fill_24 (lv_at hl 4 rfl) ?_
      refine lv_bipush (v := 16) hx hb dX2_fill_26 (by decide) ?_
      refine lv_icmp_ge (tgt := 55) hx hb dX2_fill_28 (by decide) (fun c10 => ?_) (fun c10 => ?_)
      · have hw := hw.1 c10
        refine lv_aload_n hx hb dX2_fill_55 rfl (lv_at hl 0 rfl) ?_
        refine gM 1 S hH (by decide) q207 rfl dX2_fill_56 ?_
        refine lv_iload_n hx hb dX2_fill_59 rfl (lv_at hl 1 rfl) ?_
        obtain ⟨j11, hij11, hjj11, hw⟩ := hw
        refine lA (q0 := 1) (k := 0) S hH rfl hij11 hjj11 (by decide) dX2_fill_60 ?_
        exact riI S hr hlk hH hw dX2_fill_61
      · have hw := hw.2 c10
        refine lv_aload_n hx hb dX2_fill_31 rfl (lv_at hl 0 rfl) ?_
        refine gM 2 S hH (by decide) q208 rfl dX2_fill_32 ?_
        refine lv_bipush (v := 16) hx hb dX2_fill_35 (by decide) ?_
        refine lv_iload_n hx hb dX2_fill_37 rfl (lv_at hl 1 rfl) ?_
        refine lv_imul hx hb dX2_fill_38 ?_
        refine lv_iload hx hb dX2_fill_39 (lv_at hl 4 rfl) ?_
        refine lv_iadd hx hb dX2_fill_41 ?_
        refine lv_iload_n hx hb dX2_fill_42 rfl (lv_at hl 2 rfl) ?_
        refine lv_iload hx hb dX2_fill_43 (lv_at hl 4 rfl) ?_
        refine lv_iload_n hx hb dX2_fill_45 rfl (lv_at hl 3 rfl) ?_
        refine lv_imul hx hb dX2_fill_46 ?_
        refine lv_iadd hx hb dX2_fill_47 ?_
        obtain ⟨j12, hij12, hjj12, hw⟩ := hw
        refine sA (q0 := 2) (k := 1) S hH rfl (wM_set_1 σ a d j12 _) hij12 hjj12 (by decide) dX2_fill_48 (fun H locs hH => ?_)
        obtain ⟨σ13, eσ13⟩ : ∃ z : St, z = up σ 1 j12 (y2 + (y4 * y3)) := ⟨_, rfl⟩
        rw [← eσ13] at hH
        have hw := hw σ13 eσ13
        obtain ⟨x14, ex14⟩ : ∃ y : Int32, y = y4 + 1 := ⟨_, rfl⟩
        have hw := hw x14 ex14
        refine lv_iinc (v := x14) (lv' := [(4, .int x14), (0, .ref (a 10)), (1, .int y1), (2, .int y2), (3, .int y3)]) hx hb dX2_fill_49 hl (k := 4) rfl (by rw [ex14]; rfl) (by decide) rfl (fun ls hl => ?_)
        refine lv_goto (tgt := 13) hx hb dX2_fill_52 (by decide) ?_
        exact ih _ _ _ _ _ _ _ _ hw hH (lv_sub hl [1, 2, 3, 4, 0] rfl)
set_option maxHeartbeats 4000000 in
theorem tX2_fill (l : Launch) (D : va_G) (a : Nat → Nat) (d : ClassId) (x1 x2 x3 : Int32) : CTi l yX2_fill cX2_fill 5 (some .int) ({ frames := 1, cells := 0, slots := 0, locals := 21 }) (wM a d) D d [.ref (a 10), .int x1, .int x2, .int x3] (X2_fill x1 x2 x3) := by
  refine msI (by decide) (Nat.le_of_ble_eq_true rfl) ?_
  intro p e s m below meth c A σ K ls S hr hlk hH hw hl
  obtain ⟨hx, hb, hml, hown, hts⟩ := id S
  unfold X2_fill at hw
  have hl : lv_has ls 5 [(0, .ref (a 10)), (1, .int x1), (2, .int x2), (3, .int x3)] := hl
  refine lv_aload_n hx hb dX2_fill_0 rfl (lv_at hl 0 rfl) ?_
  refine lv_iload_n hx hb dX2_fill_1 rfl (lv_at hl 1 rfl) ?_
  refine cVi (q := (RX2, TX2, 3)) S hH (tX2_bad l D a d x1) (cwV 1 hts gwX2_39 rfl rfl rfl hdX2_bad ⟨Nat.le_of_ble_eq_true rfl, Nat.le_of_ble_eq_true rfl⟩) rfl rfl hw rfl hl.1 rfl (Nat.le_of_ble_eq_true rfl) dX2_fill_2 ⟨Nat.zero_le _, Nat.zero_le _⟩ (fun r5 σ4 H locs hw hH => ?_)
  refine lv_if_eq (tgt := 10) hx hb dX2_fill_5 (by decide) (fun c6 => ?_) (fun c6 => ?_)
  · have hw := hw.1 c6
    refine lv_iconst (v := 0) hx hb dX2_fill_10 (by decide) ?_
    refine lv_istore (lv' := [(4, .int 0), (0, .ref (a 10)), (1, .int x1), (2, .int x2), (3, .int x3)]) hx hb dX2_fill_11 hl (by decide) rfl (fun ls hl => ?_)
    obtain ⟨n15, hw⟩ := hw
    exact X2_fill_L13_ok S hr hlk n15 _ _ _ _ _ _ _ _ hw hH (lv_sub hl [1, 2, 3, 4, 0] rfl)
  · have hw := hw.2 c6
    refine lv_iconst (v := (-1)) hx hb dX2_fill_8 (by decide) ?_
    exact riI S hr hlk hH hw dX2_fill_9
set_option maxHeartbeats 4000000 in
theorem X2_exchange_L47_ok {p : Program} {l : Launch} {e : Env} {s : State} {m : MethodId} {args : Array Value} {below : List Frame} {meth : Method} {c : Code} {D : va_G} {a : Nat → Nat} {d : ClassId} {A : Nat → Prop} {K : Int32 → St → Prop} (S : CallFix p m c cX2_exchange 6 s args lw_all RX2) (hr : meth.sig.returnType = (some .int)) (hlk : meth.locks = false) : ∀ (n : Nat) (y1 y2 y4 : Int32) (σ : St) (H : Heap) (locs : List Loc) (ls : Array Slot), X2_exchange_L47 K n y1 y2 y4 σ → HH D (wM a d) d A s σ H locs → lv_has ls 6 [(0, .ref (a 10)), (1, .int y1), (2, .int y2), (4, .int y4)] → W p l e ({ frames := 1, cells := 0, slots := 0, locals := 21 }) s m args below meth c H locs 0 0 (MQ below (va_Qi K (wO D (wM a d) d A) A) args s 0 0 A) (F0 m 47 ls []) := by
  obtain ⟨hx, hb, hml, hown, hts⟩ := id S
  intro n
  induction n with
  | zero => intro y1 y2 y4 σ H locs ls hw; exact False.elim hw
  | succ n ih =>
    intro y1 y2 y4 σ H locs ls hw hH hl
    rw [X2_exchange_L47] at hw
    refine lv_iload hx hb dX2_exchange_47 (lv_at hl 3 rfl) ?_
    refine lv_bipush (v := 16) hx hb dX2_exchange_49 (by decide) ?_
    refine lv_icmp_ge (tgt := 112) hx hb dX2_exchange_51 (by decide) (fun c16 => ?_) (fun c16 => ?_)
    · have hw := hw.1 c16
      refine lv_iconst (v := 0) hx hb dX2_exchange_112 (by decide) ?_
      exact riI S hr hlk hH hw dX2_exchange_113
    · have hw := hw.2 c16
      refine lv_aload_n hx hb dX2_exchange_54 rfl (lv_at hl 0 rfl) ?_
      refine gM 2 S hH (by decide) q208 rfl dX2_exchange_55 ?_
      refine lv_bipush (v := 16) hx hb dX2_exchange_58 (by decide) ?_
      refine lv_iload_n hx hb dX2_exchange_60 rfl (lv_at hl 1 rfl) ?_
      refine lv_imul hx hb dX2_exchange_61 ?_
      refine lv_iload hx hb dX2_exchange_62 (lv_at hl 3 rfl) ?_
      refine lv_iadd hx hb dX2_exchange_64 ?_
      obtain ⟨j17, hij17, hjj17, hw⟩ := hw
      refine lA (q0 := 2) (k := 1) S hH rfl hij17 hjj17 (by decide) dX2_exchange_65 ?_
      refine lv_topi (fun x18 ex18 => ?_)
      have hw := hw x18 ex18
      refine lv_istore (lv' := [(5, .int x18), (0, .ref (a 10)), (1, .int y1), (2, .int y2), (4, .int y4)]) hx hb dX2_exchange_66 hl (by decide) rfl (fun ls hl => ?_)
      refine lv_aload_n hx hb dX2_exchange_68 rfl (lv_at hl 1 rfl) ?_
      refine gM 2 S hH (by decide) q208 rfl dX2_exchange_69 ?_
      refine lv_bipush (v := 16) hx hb dX2_exchange_72 (by decide) ?_
      refine lv_iload_n hx hb dX2_exchange_74 rfl (lv_at hl 2 rfl) ?_
      refine lv_imul hx hb dX2_exchange_75 ?_
      refine lv_iload hx hb dX2_exchange_76 (lv_at hl 4 rfl) ?_
      refine lv_iadd hx hb dX2_exchange_78 ?_
      refine lv_aload_n hx hb dX2_exchange_79 rfl (lv_at hl 1 rfl) ?_
      refine gM 2 S hH (by decide) q208 rfl dX2_exchange_80 ?_
      refine lv_bipush (v := 16) hx hb dX2_exchange_83 (by decide) ?_
      refine lv_iload_n hx hb dX2_exchange_85 rfl (lv_at hl 3 rfl) ?_
      refine lv_imul hx hb dX2_exchange_86 ?_
      refine lv_iload hx hb dX2_exchange_87 (lv_at hl 4 rfl) ?_
      refine lv_iadd hx hb dX2_exchange_89 ?_
      obtain ⟨j19, hij19, hjj19, hw⟩ := hw
      refine lA (q0 := 2) (k := 1) S hH rfl hij19 hjj19 (by decide) dX2_exchange_90 ?_
      obtain ⟨j20, hij20, hjj20, hw⟩ := hw
      refine sA (q0 := 2) (k := 1) S hH rfl (wM_set_1 σ a d j20 _) hij20 hjj20 (by decide) dX2_exchange_91 (fun H locs hH => ?_)
      obtain ⟨σ21, eσ21⟩ : ∃ z : St, z = up σ 1 j20 (σ 1 j19) := ⟨_, rfl⟩
      rw [← eσ21] at hH
      have hw := hw σ21 eσ21
      refine lv_aload_n hx hb dX2_exchange_92 rfl (lv_at hl 1 rfl) ?_
      refine gM 2 S hH (by decide) q208 rfl dX2_exchange_93 ?_
      refine lv_bipush (v := 16) hx hb dX2_exchange_96 (by decide) ?_
      refine lv_iload_n hx hb dX2_exchange_98 rfl (lv_at hl 3 rfl) ?_
      refine lv_imul hx hb dX2_exchange_99 ?_
      refine lv_iload hx hb dX2_exchange_100 (lv_at hl 4 rfl) ?_
      refine lv_iadd hx hb dX2_exchange_102 ?_
      refine lv_iload hx hb dX2_exchange_103 (lv_at hl 0 rfl) ?_
      obtain ⟨j22, hij22, hjj22, hw⟩ := hw
      refine sA (q0 := 2) (k := 1) S hH rfl (wM_set_1 σ21 a d j22 _) hij22 hjj22 (by decide) dX2_exchange_105 (fun H locs hH => ?_)
      obtain ⟨σ23, eσ23⟩ : ∃ z : St, z = up σ21 1 j22 x18 := ⟨_, rfl⟩
      rw [← eσ23] at hH
      have hw := hw σ23 eσ23
      obtain ⟨x24, ex24⟩ : ∃ y : Int32, y = y4 + 1 := ⟨_, rfl⟩
      have hw := hw x24 ex24
      refine lv_iinc (v := x24) (lv' := [(4, .int x24), (5, .int x18), (0, .ref (a 10)), (1, .int y1), (2, .int y2)]) hx hb dX2_exchange_106 hl (k := 4) rfl (by rw [ex24]; rfl) (by decide) rfl (fun ls hl => ?_)
      refine lv_goto (tgt := 47) hx hb dX2_exchange_109 (by decide) ?_
      exact ih _ _ _ _ _ _ _ hw hH (lv_sub hl [2, 3, 4, 0] rfl)
set_option maxHeartbeats 4000000 in
theorem tX2_exchange (l : Launch) (D : va_G) (a : Nat → Nat) (d : ClassId) (x1 x2 : Int32) : CTi l yX2_exchange cX2_exchange 6 (some .int) ({ frames := 1, cells := 0, slots := 0, locals := 21 }) (wM a d) D d [.ref (a 10), .int x1, .int x2] (X2_exchange x1 x2) := by
  refine msI (by decide) (Nat.le_of_ble_eq_true rfl) ?_
  intro p e s m below meth c A σ K ls S hr hlk hH hw hl
  obtain ⟨hx, hb, hml, hown, hts⟩ := id S
  unfold X2_exchange at hw
  have hl : lv_has ls 6 [(0, .ref (a 10)), (1, .int x1), (2, .int x2)] := hl
  refine lv_aload_n hx hb dX2_exchange_0 rfl (lv_at hl 0 rfl) ?_
  refine lv_iload_n hx hb dX2_exchange_1 rfl (lv_at hl 1 rfl) ?_
  refine cVi (q := (RX2, TX2, 3)) S hH (tX2_bad l D a d x1) (cwV 1 hts gwX2_39 rfl rfl rfl hdX2_bad ⟨Nat.le_of_ble_eq_true rfl, Nat.le_of_ble_eq_true rfl⟩) rfl rfl hw rfl hl.1 rfl (Nat.le_of_ble_eq_true rfl) dX2_exchange_2 ⟨Nat.zero_le _, Nat.zero_le _⟩ (fun r4 σ3 H locs hw hH => ?_)
  refine lv_if_ne (tgt := 16) hx hb dX2_exchange_5 (by decide) (fun c5 => ?_) (fun c5 => ?_)
  · have hw := hw.2 c5
    refine lv_iconst (v := (-1)) hx hb dX2_exchange_16 (by decide) ?_
    exact riI S hr hlk hH hw dX2_exchange_17
  · have hw := hw.1 c5
    refine lv_aload_n hx hb dX2_exchange_8 rfl (lv_at hl 0 rfl) ?_
    refine lv_iload_n hx hb dX2_exchange_9 rfl (lv_at hl 2 rfl) ?_
    refine cVi (q := (RX2, TX2, 3)) S hH (tX2_bad l D a d x2) (cwV 1 hts gwX2_39 rfl rfl rfl hdX2_bad ⟨Nat.le_of_ble_eq_true rfl, Nat.le_of_ble_eq_true rfl⟩) rfl rfl hw rfl hl.1 rfl (Nat.le_of_ble_eq_true rfl) dX2_exchange_10 ⟨Nat.zero_le _, Nat.zero_le _⟩ (fun r7 σ6 H locs hw hH => ?_)
    refine lv_if_eq (tgt := 18) hx hb dX2_exchange_13 (by decide) (fun c8 => ?_) (fun c8 => ?_)
    · have hw := hw.1 c8
      refine lv_aload_n hx hb dX2_exchange_18 rfl (lv_at hl 0 rfl) ?_
      refine gM 1 S hH (by decide) q207 rfl dX2_exchange_19 ?_
      refine lv_iload_n hx hb dX2_exchange_22 rfl (lv_at hl 1 rfl) ?_
      obtain ⟨j9, hij9, hjj9, hw⟩ := hw
      refine lA (q0 := 1) (k := 0) S hH rfl hij9 hjj9 (by decide) dX2_exchange_23 ?_
      refine lv_topi (fun x10 ex10 => ?_)
      have hw := hw x10 ex10
      refine lv_istore_n (lv' := [(3, .int x10), (0, .ref (a 10)), (1, .int x1), (2, .int x2)]) hx hb dX2_exchange_24 rfl hl (by decide) rfl (fun ls hl => ?_)
      refine lv_aload_n hx hb dX2_exchange_25 rfl (lv_at hl 1 rfl) ?_
      refine gM 1 S hH (by decide) q207 rfl dX2_exchange_26 ?_
      refine lv_iload_n hx hb dX2_exchange_29 rfl (lv_at hl 2 rfl) ?_
      refine lv_aload_n hx hb dX2_exchange_30 rfl (lv_at hl 1 rfl) ?_
      refine gM 1 S hH (by decide) q207 rfl dX2_exchange_31 ?_
      refine lv_iload_n hx hb dX2_exchange_34 rfl (lv_at hl 3 rfl) ?_
      obtain ⟨j11, hij11, hjj11, hw⟩ := hw
      refine lA (q0 := 1) (k := 0) S hH rfl hij11 hjj11 (by decide) dX2_exchange_35 ?_
      obtain ⟨j12, hij12, hjj12, hw⟩ := hw
      refine sA (q0 := 1) (k := 0) S hH rfl (wM_set_0 σ6 a d j12 _) hij12 hjj12 (by decide) dX2_exchange_36 (fun H locs hH => ?_)
      obtain ⟨σ13, eσ13⟩ : ∃ z : St, z = up σ6 0 j12 (σ6 0 j11) := ⟨_, rfl⟩
      rw [← eσ13] at hH
      have hw := hw σ13 eσ13
      refine lv_aload_n hx hb dX2_exchange_37 rfl (lv_at hl 1 rfl) ?_
      refine gM 1 S hH (by decide) q207 rfl dX2_exchange_38 ?_
      refine lv_iload_n hx hb dX2_exchange_41 rfl (lv_at hl 3 rfl) ?_
      refine lv_iload_n hx hb dX2_exchange_42 rfl (lv_at hl 0 rfl) ?_
      obtain ⟨j14, hij14, hjj14, hw⟩ := hw
      refine sA (q0 := 1) (k := 0) S hH rfl (wM_set_0 σ13 a d j14 _) hij14 hjj14 (by decide) dX2_exchange_43 (fun H locs hH => ?_)
      obtain ⟨σ15, eσ15⟩ : ∃ z : St, z = up σ13 0 j14 x10 := ⟨_, rfl⟩
      rw [← eσ15] at hH
      have hw := hw σ15 eσ15
      refine lv_iconst (v := 0) hx hb dX2_exchange_44 (by decide) ?_
      refine lv_istore (lv' := [(4, .int 0), (3, .int x10), (0, .ref (a 10)), (1, .int x1), (2, .int x2)]) hx hb dX2_exchange_45 hl (by decide) rfl (fun ls hl => ?_)
      obtain ⟨n25, hw⟩ := hw
      exact X2_exchange_L47_ok S hr hlk n25 _ _ _ _ _ _ _ hw hH (lv_sub hl [2, 3, 4, 0] rfl)
    · have hw := hw.2 c8
      refine lv_iconst (v := (-1)) hx hb dX2_exchange_16 (by decide) ?_
      exact riI S hr hlk hH hw dX2_exchange_17
set_option maxHeartbeats 4000000 in
theorem tX2_size (l : Launch) (D : va_G) (a : Nat → Nat) (d : ClassId) (x1 : Int32) : CTi l yX2_size cX2_size 2 (some .int) ({ frames := 1, cells := 0, slots := 0, locals := 21 }) (wM a d) D d [.ref (a 10), .int x1] (X2_size x1) := by
  refine msI (by decide) (Nat.le_of_ble_eq_true rfl) ?_
  intro p e s m below meth c A σ K ls S hr hlk hH hw hl
  obtain ⟨hx, hb, hml, hown, hts⟩ := id S
  unfold X2_size at hw
  have hl : lv_has ls 2 [(0, .ref (a 10)), (1, .int x1)] := hl
  refine lv_aload_n hx hb dX2_size_0 rfl (lv_at hl 0 rfl) ?_
  refine lv_iload_n hx hb dX2_size_1 rfl (lv_at hl 1 rfl) ?_
  refine cVi (q := (RX2, TX2, 3)) S hH (tX2_bad l D a d x1) (cwV 1 hts gwX2_39 rfl rfl rfl hdX2_bad ⟨Nat.le_of_ble_eq_true rfl, Nat.le_of_ble_eq_true rfl⟩) rfl rfl hw rfl hl.1 rfl (Nat.le_of_ble_eq_true rfl) dX2_size_2 ⟨Nat.zero_le _, Nat.zero_le _⟩ (fun r3 σ2 H locs hw hH => ?_)
  refine lv_if_eq (tgt := 12) hx hb dX2_size_5 (by decide) (fun c4 => ?_) (fun c4 => ?_)
  · have hw := hw.1 c4
    refine lv_aload_n hx hb dX2_size_12 rfl (lv_at hl 0 rfl) ?_
    refine gM 1 S hH (by decide) q207 rfl dX2_size_13 ?_
    refine lv_iload_n hx hb dX2_size_16 rfl (lv_at hl 1 rfl) ?_
    obtain ⟨j5, hij5, hjj5, hw⟩ := hw
    refine lA (q0 := 1) (k := 0) S hH rfl hij5 hjj5 (by decide) dX2_size_17 ?_
    exact riI S hr hlk hH hw dX2_size_18
  · have hw := hw.2 c4
    refine lv_iconst (v := 0) hx hb dX2_size_8 (by decide) ?_
    refine lv_goto (tgt := 18) hx hb dX2_size_9 (by decide) ?_
    exact riI S hr hlk hH hw dX2_size_18
set_option maxHeartbeats 4000000 in
theorem X2_live_L4_ok {p : Program} {l : Launch} {e : Env} {s : State} {m : MethodId} {args : Array Value} {below : List Frame} {meth : Method} {c : Code} {D : va_G} {a : Nat → Nat} {d : ClassId} {A : Nat → Prop} {K : Int32 → St → Prop} (S : CallFix p m c cX2_live 3 s args lw_all RX2) (hr : meth.sig.returnType = (some .int)) (hlk : meth.locks = false) : ∀ (n : Nat) (y1 y2 : Int32) (σ : St) (H : Heap) (locs : List Loc) (ls : Array Slot), X2_live_L4 K n y1 y2 σ → HH D (wM a d) d A s σ H locs → lv_has ls 3 [(0, .ref (a 10)), (1, .int y1), (2, .int y2)] → W p l e ({ frames := 0, cells := 0, slots := 0, locals := 0 }) s m args below meth c H locs 0 0 (MQ below (va_Qi K (wO D (wM a d) d A) A) args s 0 0 A) (F0 m 4 ls []) := by
  obtain ⟨hx, hb, hml, hown, hts⟩ := id S
  intro n
  induction n with
  | zero => intro y1 y2 σ H locs ls hw; exact False.elim hw
  | succ n ih =>
    intro y1 y2 σ H locs ls hw hH hl
    rw [X2_live_L4] at hw
    refine lv_iload_n hx hb dX2_live_4 rfl (lv_at hl 2 rfl) ?_
    refine lv_bipush (v := 64) hx hb dX2_live_5 (by decide) ?_
    refine lv_icmp_ge (tgt := 28) hx hb dX2_live_7 (by decide) (fun c1 => ?_) (fun c1 => ?_)
    · have hw := hw.1 c1
      refine lv_iload_n hx hb dX2_live_28 rfl (lv_at hl 1 rfl) ?_
      exact riI S hr hlk hH hw dX2_live_29
    · have hw := hw.2 c1
      refine lv_aload_n hx hb dX2_live_10 rfl (lv_at hl 0 rfl) ?_
      refine gM 1 S hH (by decide) q207 rfl dX2_live_11 ?_
      refine lv_iload_n hx hb dX2_live_14 rfl (lv_at hl 2 rfl) ?_
      obtain ⟨j2, hij2, hjj2, hw⟩ := hw
      refine lA (q0 := 1) (k := 0) S hH rfl hij2 hjj2 (by decide) dX2_live_15 ?_
      refine lv_if_le (tgt := 22) hx hb dX2_live_16 (by decide) (fun c3 => ?_) (fun c3 => ?_)
      · have hw := hw.1 c3
        obtain ⟨x4, ex4⟩ : ∃ y : Int32, y = y2 + 1 := ⟨_, rfl⟩
        have hw := hw x4 ex4
        refine lv_iinc (v := x4) (lv' := [(2, .int x4), (0, .ref (a 10)), (1, .int y1)]) hx hb dX2_live_22 hl (k := 2) rfl (by rw [ex4]; rfl) (by decide) rfl (fun ls hl => ?_)
        refine lv_goto (tgt := 4) hx hb dX2_live_25 (by decide) ?_
        exact ih _ _ _ _ _ _ hw hH (lv_sub hl [1, 2, 0] rfl)
      · have hw := hw.2 c3
        obtain ⟨x5, ex5⟩ : ∃ y : Int32, y = y1 + 1 := ⟨_, rfl⟩
        have hw := hw x5 ex5
        refine lv_iinc (v := x5) (lv' := [(1, .int x5), (0, .ref (a 10)), (2, .int y2)]) hx hb dX2_live_19 hl (k := 1) rfl (by rw [ex5]; rfl) (by decide) rfl (fun ls hl => ?_)
        obtain ⟨x6, ex6⟩ : ∃ y : Int32, y = y2 + 1 := ⟨_, rfl⟩
        have hw := hw x6 ex6
        refine lv_iinc (v := x6) (lv' := [(2, .int x6), (1, .int x5), (0, .ref (a 10))]) hx hb dX2_live_22 hl (k := 2) rfl (by rw [ex6]; rfl) (by decide) rfl (fun ls hl => ?_)
        refine lv_goto (tgt := 4) hx hb dX2_live_25 (by decide) ?_
        exact ih _ _ _ _ _ _ hw hH (lv_sub hl [2, 1, 0] rfl)
set_option maxHeartbeats 4000000 in
theorem tX2_live (l : Launch) (D : va_G) (a : Nat → Nat) (d : ClassId) : CTi l yX2_live cX2_live 3 (some .int) ({ frames := 0, cells := 0, slots := 0, locals := 0 }) (wM a d) D d [.ref (a 10)] (X2_live) := by
  refine msI (by decide) (Nat.le_of_ble_eq_true rfl) ?_
  intro p e s m below meth c A σ K ls S hr hlk hH hw hl
  obtain ⟨hx, hb, hml, hown, hts⟩ := id S
  unfold X2_live at hw
  have hl : lv_has ls 3 [(0, .ref (a 10))] := hl
  refine lv_iconst (v := 0) hx hb dX2_live_0 (by decide) ?_
  refine lv_istore_n (lv' := [(1, .int 0), (0, .ref (a 10))]) hx hb dX2_live_1 rfl hl (by decide) rfl (fun ls hl => ?_)
  refine lv_iconst (v := 0) hx hb dX2_live_2 (by decide) ?_
  refine lv_istore_n (lv' := [(2, .int 0), (1, .int 0), (0, .ref (a 10))]) hx hb dX2_live_3 rfl hl (by decide) rfl (fun ls hl => ?_)
  obtain ⟨n7, hw⟩ := hw
  exact X2_live_L4_ok S hr hlk n7 _ _ _ _ _ _ hw hH (lv_sub hl [2, 1, 0] rfl)
set_option maxHeartbeats 4000000 in
theorem tX2_liveIn (l : Launch) (D : va_G) (a : Nat → Nat) (d : ClassId) (x1 : Int32) : CTi l yX2_liveIn cX2_liveIn 2 (some .int) ({ frames := 2, cells := 0, slots := 0, locals := 44 }) (wM a d) D d [.ref (a 10), .int x1] (X2_liveIn x1) := by
  refine msI (by decide) (Nat.le_of_ble_eq_true rfl) ?_
  intro p e s m below meth c A σ K ls S hr hlk hH hw hl
  obtain ⟨hx, hb, hml, hown, hts⟩ := id S
  unfold X2_liveIn at hw
  have hl : lv_has ls 2 [(0, .ref (a 10)), (1, .int x1)] := hl
  refine lv_iload_n hx hb dX2_liveIn_0 rfl (lv_at hl 1 rfl) ?_
  refine lv_if_lt (tgt := 9) hx hb dX2_liveIn_1 (by decide) (fun c2 => ?_) (fun c2 => ?_)
  · have hw := hw.1 c2
    refine lv_iconst (v := (-1)) hx hb dX2_liveIn_9 (by decide) ?_
    refine lv_goto (tgt := 18) hx hb dX2_liveIn_10 (by decide) ?_
    exact riI S hr hlk hH hw dX2_liveIn_18
  · have hw := hw.2 c2
    refine lv_iload_n hx hb dX2_liveIn_4 rfl (lv_at hl 1 rfl) ?_
    refine lv_iconst (v := 3) hx hb dX2_liveIn_5 (by decide) ?_
    refine lv_icmp_le (tgt := 13) hx hb dX2_liveIn_6 (by decide) (fun c3 => ?_) (fun c3 => ?_)
    · have hw := hw.1 c3
      refine lv_aload_n hx hb dX2_liveIn_13 rfl (lv_at hl 0 rfl) ?_
      refine lv_iload_n hx hb dX2_liveIn_14 rfl (lv_at hl 1 rfl) ?_
      refine cVi (q := (RX2, TX2, 3)) S hH (tX2_alive l D a d x1) (cwV 1 hts gwX2_24 rfl rfl rfl hdX2_alive ⟨Nat.le_of_ble_eq_true rfl, Nat.le_of_ble_eq_true rfl⟩) rfl rfl hw rfl hl.1 rfl (Nat.le_of_ble_eq_true rfl) dX2_liveIn_15 ⟨Nat.zero_le _, Nat.zero_le _⟩ (fun r5 σ4 H locs hw hH => ?_)
      exact riI S hr hlk hH hw dX2_liveIn_18
    · have hw := hw.2 c3
      refine lv_iconst (v := (-1)) hx hb dX2_liveIn_9 (by decide) ?_
      refine lv_goto (tgt := 18) hx hb dX2_liveIn_10 (by decide) ?_
      exact riI S hr hlk hH hw dX2_liveIn_18
set_option maxHeartbeats 4000000 in
theorem tX2_needed (l : Launch) (D : va_G) (a : Nat → Nat) (d : ClassId) : CTi l yX2_needed cX2_needed 1 (some .int) ({ frames := 3, cells := 0, slots := 0, locals := 72 }) (wM a d) D d [.ref (a 10)] (X2_needed) := by
  refine msI (by decide) (Nat.le_of_ble_eq_true rfl) ?_
  intro p e s m below meth c A σ K ls S hr hlk hH hw hl
  obtain ⟨hx, hb, hml, hown, hts⟩ := id S
  unfold X2_needed at hw
  have hl : lv_has ls 1 [(0, .ref (a 10))] := hl
  refine lv_aload_n hx hb dX2_needed_0 rfl (lv_at hl 0 rfl) ?_
  refine lv_iconst (v := (-1)) hx hb dX2_needed_1 (by decide) ?_
  refine lv_iconst (v := 0) hx hb dX2_needed_2 (by decide) ?_
  refine lv_iconst (v := (-1)) hx hb dX2_needed_3 (by decide) ?_
  refine lv_iconst (v := 0) hx hb dX2_needed_4 (by decide) ?_
  refine cVi (q := (RX2, TX2, 3)) S hH (tX2_needs l D a d (-1) 0 (-1) 0) (cwV 4 hts gwX2_31 rfl rfl rfl hdX2_needs ⟨Nat.le_of_ble_eq_true rfl, Nat.le_of_ble_eq_true rfl⟩) rfl rfl hw rfl hl.1 rfl (Nat.le_of_ble_eq_true rfl) dX2_needed_5 ⟨Nat.zero_le _, Nat.zero_le _⟩ (fun r2 σ1 H locs hw hH => ?_)
  exact riI S hr hlk hH hw dX2_needed_8
set_option maxHeartbeats 4000000 in
theorem X2_roomFor_L15_ok {p : Program} {l : Launch} {e : Env} {s : State} {m : MethodId} {args : Array Value} {below : List Frame} {meth : Method} {c : Code} {D : va_G} {a : Nat → Nat} {d : ClassId} {A : Nat → Prop} {K : Int32 → St → Prop} (S : CallFix p m c cX2_roomFor 4 s args lw_all RX2) (hr : meth.sig.returnType = (some .int)) (hlk : meth.locks = false) : ∀ (n : Nat) (y1 y2 y3 : Int32) (σ : St) (H : Heap) (locs : List Loc) (ls : Array Slot), X2_roomFor_L15 K n y1 y2 y3 σ → HH D (wM a d) d A s σ H locs → lv_has ls 4 [(0, .ref (a 10)), (1, .int y1), (2, .int y2), (3, .int y3)] → W p l e ({ frames := 3, cells := 0, slots := 0, locals := 72 }) s m args below meth c H locs 0 0 (MQ below (va_Qi K (wO D (wM a d) d A) A) args s 0 0 A) (F0 m 15 ls []) := by
  obtain ⟨hx, hb, hml, hown, hts⟩ := id S
  intro n
  induction n with
  | zero => intro y1 y2 y3 σ H locs ls hw; exact False.elim hw
  | succ n ih =>
    intro y1 y2 y3 σ H locs ls hw hH hl
    rw [X2_roomFor_L15] at hw
    refine lv_iload_n hx hb dX2_roomFor_15 rfl (lv_at hl 3 rfl) ?_
    refine lv_bipush (v := 96) hx hb dX2_roomFor_16 (by decide) ?_
    refine lv_icmp_gt (tgt := 44) hx hb dX2_roomFor_18 (by decide) (fun c4 => ?_) (fun c4 => ?_)
    · have hw := hw.1 c4
      refine lv_iload_n hx hb dX2_roomFor_44 rfl (lv_at hl 2 rfl) ?_
      exact riI S hr hlk hH hw dX2_roomFor_45
    · have hw := hw.2 c4
      refine lv_aload_n hx hb dX2_roomFor_21 rfl (lv_at hl 0 rfl) ?_
      refine lv_iload_n hx hb dX2_roomFor_22 rfl (lv_at hl 1 rfl) ?_
      refine lv_iload_n hx hb dX2_roomFor_23 rfl (lv_at hl 3 rfl) ?_
      refine lv_iconst (v := (-1)) hx hb dX2_roomFor_24 (by decide) ?_
      refine lv_iconst (v := 0) hx hb dX2_roomFor_25 (by decide) ?_
      refine cVi (q := (RX2, TX2, 3)) S hH (tX2_needs l D a d y1 y3 (-1) 0) (cwV 4 hts gwX2_31 rfl rfl rfl hdX2_needs ⟨Nat.le_of_ble_eq_true rfl, Nat.le_of_ble_eq_true rfl⟩) rfl rfl hw rfl hl.1 rfl (Nat.le_of_ble_eq_true rfl) dX2_roomFor_26 ⟨Nat.zero_le _, Nat.zero_le _⟩ (fun r6 σ5 H locs hw hH => ?_)
      refine lv_aload_n hx hb dX2_roomFor_29 rfl (lv_at hl 0 rfl) ?_
      refine gM 0 S hH (by decide) q206 rfl dX2_roomFor_30 ?_
      refine lv_icmp_gt (tgt := 38) hx hb dX2_roomFor_33 (by decide) (fun c7 => ?_) (fun c7 => ?_)
      · have hw := hw.1 c7
        obtain ⟨x8, ex8⟩ : ∃ y : Int32, y = y3 + 1 := ⟨_, rfl⟩
        have hw := hw x8 ex8
        refine lv_iinc (v := x8) (lv' := [(3, .int x8), (0, .ref (a 10)), (1, .int y1), (2, .int y2)]) hx hb dX2_roomFor_38 hl (k := 3) rfl (by rw [ex8]; rfl) (by decide) rfl (fun ls hl => ?_)
        refine lv_goto (tgt := 15) hx hb dX2_roomFor_41 (by decide) ?_
        exact ih _ _ _ _ _ _ _ hw hH (lv_sub hl [1, 2, 3, 0] rfl)
      · have hw := hw.2 c7
        refine lv_iload_n hx hb dX2_roomFor_36 rfl (lv_at hl 3 rfl) ?_
        refine lv_istore_n (lv' := [(2, .int y3), (0, .ref (a 10)), (1, .int y1), (3, .int y3)]) hx hb dX2_roomFor_37 rfl hl (by decide) rfl (fun ls hl => ?_)
        obtain ⟨x9, ex9⟩ : ∃ y : Int32, y = y3 + 1 := ⟨_, rfl⟩
        have hw := hw x9 ex9
        refine lv_iinc (v := x9) (lv' := [(3, .int x9), (2, .int y3), (0, .ref (a 10)), (1, .int y1)]) hx hb dX2_roomFor_38 hl (k := 3) rfl (by rw [ex9]; rfl) (by decide) rfl (fun ls hl => ?_)
        refine lv_goto (tgt := 15) hx hb dX2_roomFor_41 (by decide) ?_
        exact ih _ _ _ _ _ _ _ hw hH (lv_sub hl [2, 3, 1, 0] rfl)
set_option maxHeartbeats 4000000 in
theorem tX2_roomFor (l : Launch) (D : va_G) (a : Nat → Nat) (d : ClassId) (x1 : Int32) : CTi l yX2_roomFor cX2_roomFor 4 (some .int) ({ frames := 3, cells := 0, slots := 0, locals := 72 }) (wM a d) D d [.ref (a 10), .int x1] (X2_roomFor x1) := by
  refine msI (by decide) (Nat.le_of_ble_eq_true rfl) ?_
  intro p e s m below meth c A σ K ls S hr hlk hH hw hl
  obtain ⟨hx, hb, hml, hown, hts⟩ := id S
  unfold X2_roomFor at hw
  have hl : lv_has ls 4 [(0, .ref (a 10)), (1, .int x1)] := hl
  refine lv_iload_n hx hb dX2_roomFor_0 rfl (lv_at hl 1 rfl) ?_
  refine lv_if_lt (tgt := 9) hx hb dX2_roomFor_1 (by decide) (fun c2 => ?_) (fun c2 => ?_)
  · have hw := hw.1 c2
    refine lv_iconst (v := (-1)) hx hb dX2_roomFor_9 (by decide) ?_
    exact riI S hr hlk hH hw dX2_roomFor_10
  · have hw := hw.2 c2
    refine lv_iload_n hx hb dX2_roomFor_4 rfl (lv_at hl 1 rfl) ?_
    refine lv_iconst (v := 3) hx hb dX2_roomFor_5 (by decide) ?_
    refine lv_icmp_le (tgt := 11) hx hb dX2_roomFor_6 (by decide) (fun c3 => ?_) (fun c3 => ?_)
    · have hw := hw.1 c3
      refine lv_iconst (v := 0) hx hb dX2_roomFor_11 (by decide) ?_
      refine lv_istore_n (lv' := [(2, .int 0), (0, .ref (a 10)), (1, .int x1)]) hx hb dX2_roomFor_12 rfl hl (by decide) rfl (fun ls hl => ?_)
      refine lv_iconst (v := 1) hx hb dX2_roomFor_13 (by decide) ?_
      refine lv_istore_n (lv' := [(3, .int 1), (2, .int 0), (0, .ref (a 10)), (1, .int x1)]) hx hb dX2_roomFor_14 rfl hl (by decide) rfl (fun ls hl => ?_)
      obtain ⟨n10, hw⟩ := hw
      exact X2_roomFor_L15_ok S hr hlk n10 _ _ _ _ _ _ _ hw hH (lv_sub hl [2, 3, 1, 0] rfl)
    · have hw := hw.2 c3
      refine lv_iconst (v := (-1)) hx hb dX2_roomFor_9 (by decide) ?_
      exact riI S hr hlk hH hw dX2_roomFor_10
set_option maxHeartbeats 4000000 in
theorem X2_sum_L14_ok {p : Program} {l : Launch} {e : Env} {s : State} {m : MethodId} {args : Array Value} {below : List Frame} {meth : Method} {c : Code} {D : va_G} {a : Nat → Nat} {d : ClassId} {A : Nat → Prop} {K : Int32 → St → Prop} (S : CallFix p m c cX2_sum 4 s args lw_all RX2) (hr : meth.sig.returnType = (some .int)) (hlk : meth.locks = false) : ∀ (n : Nat) (y1 y2 y3 : Int32) (σ : St) (H : Heap) (locs : List Loc) (ls : Array Slot), X2_sum_L14 K n y1 y2 y3 σ → HH D (wM a d) d A s σ H locs → lv_has ls 4 [(0, .ref (a 10)), (1, .int y1), (2, .int y2), (3, .int y3)] → W p l e ({ frames := 1, cells := 0, slots := 0, locals := 21 }) s m args below meth c H locs 0 0 (MQ below (va_Qi K (wO D (wM a d) d A) A) args s 0 0 A) (F0 m 14 ls []) := by
  obtain ⟨hx, hb, hml, hown, hts⟩ := id S
  intro n
  induction n with
  | zero => intro y1 y2 y3 σ H locs ls hw; exact False.elim hw
  | succ n ih =>
    intro y1 y2 y3 σ H locs ls hw hH hl
    rw [X2_sum_L14] at hw
    refine lv_iload_n hx hb dX2_sum_14 rfl (lv_at hl 3 rfl) ?_
    refine lv_bipush (v := 16) hx hb dX2_sum_15 (by decide) ?_
    refine lv_icmp_ge (tgt := 40) hx hb dX2_sum_17 (by decide) (fun c5 => ?_) (fun c5 => ?_)
    · have hw := hw.1 c5
      refine lv_iload_n hx hb dX2_sum_40 rfl (lv_at hl 2 rfl) ?_
      exact riI S hr hlk hH hw dX2_sum_41
    · have hw := hw.2 c5
      refine lv_iload_n hx hb dX2_sum_20 rfl (lv_at hl 2 rfl) ?_
      refine lv_aload_n hx hb dX2_sum_21 rfl (lv_at hl 0 rfl) ?_
      refine gM 2 S hH (by decide) q208 rfl dX2_sum_22 ?_
      refine lv_bipush (v := 16) hx hb dX2_sum_25 (by decide) ?_
      refine lv_iload_n hx hb dX2_sum_27 rfl (lv_at hl 1 rfl) ?_
      refine lv_imul hx hb dX2_sum_28 ?_
      refine lv_iload_n hx hb dX2_sum_29 rfl (lv_at hl 3 rfl) ?_
      refine lv_iadd hx hb dX2_sum_30 ?_
      obtain ⟨j6, hij6, hjj6, hw⟩ := hw
      refine lA (q0 := 2) (k := 1) S hH rfl hij6 hjj6 (by decide) dX2_sum_31 ?_
      refine lv_iadd hx hb dX2_sum_32 ?_
      refine lv_topi (fun x7 ex7 => ?_)
      have hw := hw x7 ex7
      refine lv_istore_n (lv' := [(2, .int x7), (0, .ref (a 10)), (1, .int y1), (3, .int y3)]) hx hb dX2_sum_33 rfl hl (by decide) rfl (fun ls hl => ?_)
      obtain ⟨x8, ex8⟩ : ∃ y : Int32, y = y3 + 1 := ⟨_, rfl⟩
      have hw := hw x8 ex8
      refine lv_iinc (v := x8) (lv' := [(3, .int x8), (2, .int x7), (0, .ref (a 10)), (1, .int y1)]) hx hb dX2_sum_34 hl (k := 3) rfl (by rw [ex8]; rfl) (by decide) rfl (fun ls hl => ?_)
      refine lv_goto (tgt := 14) hx hb dX2_sum_37 (by decide) ?_
      exact ih _ _ _ _ _ _ _ hw hH (lv_sub hl [2, 3, 1, 0] rfl)
set_option maxHeartbeats 4000000 in
theorem tX2_sum (l : Launch) (D : va_G) (a : Nat → Nat) (d : ClassId) (x1 : Int32) : CTi l yX2_sum cX2_sum 4 (some .int) ({ frames := 1, cells := 0, slots := 0, locals := 21 }) (wM a d) D d [.ref (a 10), .int x1] (X2_sum x1) := by
  refine msI (by decide) (Nat.le_of_ble_eq_true rfl) ?_
  intro p e s m below meth c A σ K ls S hr hlk hH hw hl
  obtain ⟨hx, hb, hml, hown, hts⟩ := id S
  unfold X2_sum at hw
  have hl : lv_has ls 4 [(0, .ref (a 10)), (1, .int x1)] := hl
  refine lv_aload_n hx hb dX2_sum_0 rfl (lv_at hl 0 rfl) ?_
  refine lv_iload_n hx hb dX2_sum_1 rfl (lv_at hl 1 rfl) ?_
  refine cVi (q := (RX2, TX2, 3)) S hH (tX2_bad l D a d x1) (cwV 1 hts gwX2_39 rfl rfl rfl hdX2_bad ⟨Nat.le_of_ble_eq_true rfl, Nat.le_of_ble_eq_true rfl⟩) rfl rfl hw rfl hl.1 rfl (Nat.le_of_ble_eq_true rfl) dX2_sum_2 ⟨Nat.zero_le _, Nat.zero_le _⟩ (fun r3 σ2 H locs hw hH => ?_)
  refine lv_if_eq (tgt := 10) hx hb dX2_sum_5 (by decide) (fun c4 => ?_) (fun c4 => ?_)
  · have hw := hw.1 c4
    refine lv_iconst (v := 0) hx hb dX2_sum_10 (by decide) ?_
    refine lv_istore_n (lv' := [(2, .int 0), (0, .ref (a 10)), (1, .int x1)]) hx hb dX2_sum_11 rfl hl (by decide) rfl (fun ls hl => ?_)
    refine lv_iconst (v := 0) hx hb dX2_sum_12 (by decide) ?_
    refine lv_istore_n (lv' := [(3, .int 0), (2, .int 0), (0, .ref (a 10)), (1, .int x1)]) hx hb dX2_sum_13 rfl hl (by decide) rfl (fun ls hl => ?_)
    obtain ⟨n9, hw⟩ := hw
    exact X2_sum_L14_ok S hr hlk n9 _ _ _ _ _ _ _ hw hH (lv_sub hl [2, 3, 1, 0] rfl)
  · have hw := hw.2 c4
    refine lv_iconst (v := 0) hx hb dX2_sum_8 (by decide) ?_
    exact riI S hr hlk hH hw dX2_sum_9
set_option maxHeartbeats 4000000 in
theorem X2_next_L2_ok {p : Program} {l : Launch} {e : Env} {s : State} {m : MethodId} {args : Array Value} {below : List Frame} {meth : Method} {c : Code} {D : va_G} {a : Nat → Nat} {d : ClassId} {A : Nat → Prop} {K : Int32 → St → Prop} (S : CallFix p m c cX2_next 3 s args lw_all RX2) (hr : meth.sig.returnType = (some .int)) (hlk : meth.locks = false) : ∀ (n : Nat) (y1 y2 : Int32) (σ : St) (H : Heap) (locs : List Loc) (ls : Array Slot), X2_next_L2 K n y1 y2 σ → HH D (wM a d) d A s σ H locs → lv_has ls 3 [(0, .ref (a 10)), (1, .int y1), (2, .int y2)] → W p l e ({ frames := 0, cells := 0, slots := 0, locals := 0 }) s m args below meth c H locs 0 0 (MQ below (va_Qi K (wO D (wM a d) d A) A) args s 0 0 A) (F0 m 2 ls []) := by
  obtain ⟨hx, hb, hml, hown, hts⟩ := id S
  intro n
  induction n with
  | zero => intro y1 y2 σ H locs ls hw; exact False.elim hw
  | succ n ih =>
    intro y1 y2 σ H locs ls hw hH hl
    rw [X2_next_L2] at hw
    refine lv_iload_n hx hb dX2_next_2 rfl (lv_at hl 2 rfl) ?_
    refine lv_bipush (v := 64) hx hb dX2_next_3 (by decide) ?_
    refine lv_icmp_ge (tgt := 30) hx hb dX2_next_5 (by decide) (fun c2 => ?_) (fun c2 => ?_)
    · have hw := hw.1 c2
      refine lv_iconst (v := (-1)) hx hb dX2_next_30 (by decide) ?_
      exact riI S hr hlk hH hw dX2_next_31
    · have hw := hw.2 c2
      refine lv_iload_n hx hb dX2_next_8 rfl (lv_at hl 2 rfl) ?_
      refine lv_iload_n hx hb dX2_next_9 rfl (lv_at hl 1 rfl) ?_
      refine lv_icmp_lt (tgt := 24) hx hb dX2_next_10 (by decide) (fun c3 => ?_) (fun c3 => ?_)
      · have hw := hw.1 c3
        obtain ⟨x4, ex4⟩ : ∃ y : Int32, y = y2 + 1 := ⟨_, rfl⟩
        have hw := hw x4 ex4
        refine lv_iinc (v := x4) (lv' := [(2, .int x4), (0, .ref (a 10)), (1, .int y1)]) hx hb dX2_next_24 hl (k := 2) rfl (by rw [ex4]; rfl) (by decide) rfl (fun ls hl => ?_)
        refine lv_goto (tgt := 2) hx hb dX2_next_27 (by decide) ?_
        exact ih _ _ _ _ _ _ hw hH (lv_sub hl [1, 2, 0] rfl)
      · have hw := hw.2 c3
        refine lv_aload_n hx hb dX2_next_13 rfl (lv_at hl 0 rfl) ?_
        refine gM 1 S hH (by decide) q207 rfl dX2_next_14 ?_
        refine lv_iload_n hx hb dX2_next_17 rfl (lv_at hl 2 rfl) ?_
        obtain ⟨j5, hij5, hjj5, hw⟩ := hw
        refine lA (q0 := 1) (k := 0) S hH rfl hij5 hjj5 (by decide) dX2_next_18 ?_
        refine lv_if_le (tgt := 24) hx hb dX2_next_19 (by decide) (fun c6 => ?_) (fun c6 => ?_)
        · have hw := hw.1 c6
          obtain ⟨x7, ex7⟩ : ∃ y : Int32, y = y2 + 1 := ⟨_, rfl⟩
          have hw := hw x7 ex7
          refine lv_iinc (v := x7) (lv' := [(2, .int x7), (0, .ref (a 10)), (1, .int y1)]) hx hb dX2_next_24 hl (k := 2) rfl (by rw [ex7]; rfl) (by decide) rfl (fun ls hl => ?_)
          refine lv_goto (tgt := 2) hx hb dX2_next_27 (by decide) ?_
          exact ih _ _ _ _ _ _ hw hH (lv_sub hl [1, 2, 0] rfl)
        · have hw := hw.2 c6
          refine lv_iload_n hx hb dX2_next_22 rfl (lv_at hl 2 rfl) ?_
          exact riI S hr hlk hH hw dX2_next_23
set_option maxHeartbeats 4000000 in
theorem tX2_next (l : Launch) (D : va_G) (a : Nat → Nat) (d : ClassId) (x1 : Int32) : CTi l yX2_next cX2_next 3 (some .int) ({ frames := 0, cells := 0, slots := 0, locals := 0 }) (wM a d) D d [.ref (a 10), .int x1] (X2_next x1) := by
  refine msI (by decide) (Nat.le_of_ble_eq_true rfl) ?_
  intro p e s m below meth c A σ K ls S hr hlk hH hw hl
  obtain ⟨hx, hb, hml, hown, hts⟩ := id S
  unfold X2_next at hw
  have hl : lv_has ls 3 [(0, .ref (a 10)), (1, .int x1)] := hl
  refine lv_iconst (v := 0) hx hb dX2_next_0 (by decide) ?_
  refine lv_istore_n (lv' := [(2, .int 0), (0, .ref (a 10)), (1, .int x1)]) hx hb dX2_next_1 rfl hl (by decide) rfl (fun ls hl => ?_)
  obtain ⟨n8, hw⟩ := hw
  exact X2_next_L2_ok S hr hlk n8 _ _ _ _ _ _ hw hH (lv_sub hl [1, 2, 0] rfl)
set_option maxHeartbeats 4000000 in
theorem X2_count_L13_ok {p : Program} {l : Launch} {e : Env} {s : State} {m : MethodId} {args : Array Value} {below : List Frame} {meth : Method} {c : Code} {D : va_G} {a : Nat → Nat} {d : ClassId} {A : Nat → Prop} {K : Int32 → St → Prop} (S : CallFix p m c cX2_count 5 s args lw_all RX2) (hr : meth.sig.returnType = (some .int)) (hlk : meth.locks = false) {X : Int32 → Int32 → Int32 → St → Prop} (hX : ∀ (y1 y2 y3 : Int32) (σ : St) (H : Heap) (locs : List Loc) (ls : Array Slot), X y1 y2 y3 σ → HH D (wM a d) d A s σ H locs → lv_has ls 5 [(0, .ref (a 10)), (1, .int y1), (2, .int y2), (3, .int y3)] → W p l e ({ frames := 0, cells := 0, slots := 0, locals := 0 }) s m args below meth c H locs 0 0 (MQ below (va_Qi K (wO D (wM a d) d A) A) args s 0 0 A) (F0 m 56 ls [])) : ∀ (n : Nat) (y1 y2 y3 y4 : Int32) (σ : St) (H : Heap) (locs : List Loc) (ls : Array Slot), X2_count_L13 X n y1 y2 y3 y4 σ → HH D (wM a d) d A s σ H locs → lv_has ls 5 [(0, .ref (a 10)), (1, .int y1), (2, .int y2), (3, .int y3), (4, .int y4)] → W p l e ({ frames := 0, cells := 0, slots := 0, locals := 0 }) s m args below meth c H locs 0 0 (MQ below (va_Qi K (wO D (wM a d) d A) A) args s 0 0 A) (F0 m 13 ls []) := by
  obtain ⟨hx, hb, hml, hown, hts⟩ := id S
  intro n
  induction n with
  | zero => intro y1 y2 y3 y4 σ H locs ls hw; exact False.elim hw
  | succ n ih =>
    intro y1 y2 y3 y4 σ H locs ls hw hH hl
    rw [X2_count_L13] at hw
    refine lv_iload hx hb dX2_count_13 (lv_at hl 4 rfl) ?_
    refine lv_aload_n hx hb dX2_count_15 rfl (lv_at hl 0 rfl) ?_
    refine gM 1 S hH (by decide) q207 rfl dX2_count_16 ?_
    refine lv_iload_n hx hb dX2_count_19 rfl (lv_at hl 3 rfl) ?_
    obtain ⟨j3, hij3, hjj3, hw⟩ := hw
    refine lA (q0 := 1) (k := 0) S hH rfl hij3 hjj3 (by decide) dX2_count_20 ?_
    refine lv_icmp_ge (tgt := 56) hx hb dX2_count_21 (by decide) (fun c4 => ?_) (fun c4 => ?_)
    · have hw := hw.1 c4
      exact hX _ _ _ _ _ _ _ hw hH (lv_sub hl [0, 1, 2, 3] rfl)
    · have hw := hw.2 c4
      refine lv_iload hx hb dX2_count_24 (lv_at hl 4 rfl) ?_
      refine lv_bipush (v := 16) hx hb dX2_count_26 (by decide) ?_
      refine lv_icmp_ge (tgt := 56) hx hb dX2_count_28 (by decide) (fun c5 => ?_) (fun c5 => ?_)
      · have hw := hw.1 c5
        exact hX _ _ _ _ _ _ _ hw hH (lv_sub hl [0, 1, 2, 3] rfl)
      · have hw := hw.2 c5
        refine lv_aload_n hx hb dX2_count_31 rfl (lv_at hl 0 rfl) ?_
        refine gM 2 S hH (by decide) q208 rfl dX2_count_32 ?_
        refine lv_bipush (v := 16) hx hb dX2_count_35 (by decide) ?_
        refine lv_iload_n hx hb dX2_count_37 rfl (lv_at hl 3 rfl) ?_
        refine lv_imul hx hb dX2_count_38 ?_
        refine lv_iload hx hb dX2_count_39 (lv_at hl 4 rfl) ?_
        refine lv_iadd hx hb dX2_count_41 ?_
        obtain ⟨j6, hij6, hjj6, hw⟩ := hw
        refine lA (q0 := 2) (k := 1) S hH rfl hij6 hjj6 (by decide) dX2_count_42 ?_
        refine lv_iload_n hx hb dX2_count_43 rfl (lv_at hl 1 rfl) ?_
        refine lv_icmp_ne (tgt := 50) hx hb dX2_count_44 (by decide) (fun c7 => ?_) (fun c7 => ?_)
        · have hw := hw.2 c7
          obtain ⟨x8, ex8⟩ : ∃ y : Int32, y = y4 + 1 := ⟨_, rfl⟩
          have hw := hw x8 ex8
          refine lv_iinc (v := x8) (lv' := [(4, .int x8), (0, .ref (a 10)), (1, .int y1), (2, .int y2), (3, .int y3)]) hx hb dX2_count_50 hl (k := 4) rfl (by rw [ex8]; rfl) (by decide) rfl (fun ls hl => ?_)
          refine lv_goto (tgt := 13) hx hb dX2_count_53 (by decide) ?_
          exact ih _ _ _ _ _ _ _ _ hw hH (lv_sub hl [1, 2, 3, 4, 0] rfl)
        · have hw := hw.1 c7
          obtain ⟨x9, ex9⟩ : ∃ y : Int32, y = y2 + 1 := ⟨_, rfl⟩
          have hw := hw x9 ex9
          refine lv_iinc (v := x9) (lv' := [(2, .int x9), (0, .ref (a 10)), (1, .int y1), (3, .int y3), (4, .int y4)]) hx hb dX2_count_47 hl (k := 2) rfl (by rw [ex9]; rfl) (by decide) rfl (fun ls hl => ?_)
          obtain ⟨x10, ex10⟩ : ∃ y : Int32, y = y4 + 1 := ⟨_, rfl⟩
          have hw := hw x10 ex10
          refine lv_iinc (v := x10) (lv' := [(4, .int x10), (2, .int x9), (0, .ref (a 10)), (1, .int y1), (3, .int y3)]) hx hb dX2_count_50 hl (k := 4) rfl (by rw [ex10]; rfl) (by decide) rfl (fun ls hl => ?_)
          refine lv_goto (tgt := 13) hx hb dX2_count_53 (by decide) ?_
          exact ih _ _ _ _ _ _ _ _ hw hH (lv_sub hl [2, 3, 1, 4, 0] rfl)
set_option maxHeartbeats 4000000 in
theorem X2_count_L4_ok {p : Program} {l : Launch} {e : Env} {s : State} {m : MethodId} {args : Array Value} {below : List Frame} {meth : Method} {c : Code} {D : va_G} {a : Nat → Nat} {d : ClassId} {A : Nat → Prop} {K : Int32 → St → Prop} (S : CallFix p m c cX2_count 5 s args lw_all RX2) (hr : meth.sig.returnType = (some .int)) (hlk : meth.locks = false) : ∀ (n : Nat) (y1 y2 y3 : Int32) (σ : St) (H : Heap) (locs : List Loc) (ls : Array Slot), X2_count_L4 K n y1 y2 y3 σ → HH D (wM a d) d A s σ H locs → lv_has ls 5 [(0, .ref (a 10)), (1, .int y1), (2, .int y2), (3, .int y3)] → W p l e ({ frames := 0, cells := 0, slots := 0, locals := 0 }) s m args below meth c H locs 0 0 (MQ below (va_Qi K (wO D (wM a d) d A) A) args s 0 0 A) (F0 m 4 ls []) := by
  obtain ⟨hx, hb, hml, hown, hts⟩ := id S
  intro n
  induction n with
  | zero => intro y1 y2 y3 σ H locs ls hw; exact False.elim hw
  | succ n ih =>
    intro y1 y2 y3 σ H locs ls hw hH hl
    rw [X2_count_L4] at hw
    refine lv_iload_n hx hb dX2_count_4 rfl (lv_at hl 3 rfl) ?_
    refine lv_bipush (v := 64) hx hb dX2_count_5 (by decide) ?_
    refine lv_icmp_ge (tgt := 62) hx hb dX2_count_7 (by decide) (fun c2 => ?_) (fun c2 => ?_)
    · have hw := hw.1 c2
      refine lv_iload_n hx hb dX2_count_62 rfl (lv_at hl 2 rfl) ?_
      exact riI S hr hlk hH hw dX2_count_63
    · have hw := hw.2 c2
      refine lv_iconst (v := 0) hx hb dX2_count_10 (by decide) ?_
      refine lv_istore (lv' := [(4, .int 0), (0, .ref (a 10)), (1, .int y1), (2, .int y2), (3, .int y3)]) hx hb dX2_count_11 hl (by decide) rfl (fun ls hl => ?_)
      obtain ⟨n11, hw⟩ := hw
      refine X2_count_L13_ok S hr hlk ?_ n11 _ _ _ _ _ _ _ _ hw hH (lv_sub hl [1, 2, 3, 4, 0] rfl)
      intro x12 x13 x14 σ15 H locs ls hw hH hl
      obtain ⟨x16, ex16⟩ : ∃ y : Int32, y = x14 + 1 := ⟨_, rfl⟩
      have hw := hw x16 ex16
      refine lv_iinc (v := x16) (lv' := [(3, .int x16), (0, .ref (a 10)), (1, .int x12), (2, .int x13)]) hx hb dX2_count_56 hl (k := 3) rfl (by rw [ex16]; rfl) (by decide) rfl (fun ls hl => ?_)
      refine lv_goto (tgt := 4) hx hb dX2_count_59 (by decide) ?_
      exact ih _ _ _ _ _ _ _ hw hH (lv_sub hl [1, 2, 3, 0] rfl)
set_option maxHeartbeats 4000000 in
theorem tX2_count (l : Launch) (D : va_G) (a : Nat → Nat) (d : ClassId) (x1 : Int32) : CTi l yX2_count cX2_count 5 (some .int) ({ frames := 0, cells := 0, slots := 0, locals := 0 }) (wM a d) D d [.ref (a 10), .int x1] (X2_count x1) := by
  refine msI (by decide) (Nat.le_of_ble_eq_true rfl) ?_
  intro p e s m below meth c A σ K ls S hr hlk hH hw hl
  obtain ⟨hx, hb, hml, hown, hts⟩ := id S
  unfold X2_count at hw
  have hl : lv_has ls 5 [(0, .ref (a 10)), (1, .int x1)] := hl
  refine lv_iconst (v := 0) hx hb dX2_count_0 (by decide) ?_
  refine lv_istore_n (lv' := [(2, .int 0), (0, .ref (a 10)), (1, .int x1)]) hx hb dX2_count_1 rfl hl (by decide) rfl (fun ls hl => ?_)
  refine lv_iconst (v := 0) hx hb dX2_count_2 (by decide) ?_
  refine lv_istore_n (lv' := [(3, .int 0), (2, .int 0), (0, .ref (a 10)), (1, .int x1)]) hx hb dX2_count_3 rfl hl (by decide) rfl (fun ls hl => ?_)
  obtain ⟨n17, hw⟩ := hw
  exact X2_count_L4_ok S hr hlk n17 _ _ _ _ _ _ _ hw hH (lv_sub hl [2, 3, 1, 0] rfl)
set_option maxHeartbeats 4000000 in
theorem tX2_faults (l : Launch) (D : va_G) (a : Nat → Nat) (d : ClassId) : CTi l yX2_faults cX2_faults 1 (some .int) ({ frames := 0, cells := 0, slots := 0, locals := 0 }) (wM a d) D d [.ref (a 10)] (X2_faults) := by
  refine msI (by decide) (Nat.le_of_ble_eq_true rfl) ?_
  intro p e s m below meth c A σ K ls S hr hlk hH hw hl
  obtain ⟨hx, hb, hml, hown, hts⟩ := id S
  unfold X2_faults at hw
  have hl : lv_has ls 1 [(0, .ref (a 10))] := hl
  refine lv_iconst (v := 0) hx hb dX2_faults_0 (by decide) ?_
  exact riI S hr hlk hH hw dX2_faults_1
end
section
set_option maxRecDepth 100000
def wOi (D : va_G) (wf : (Nat → Nat) → ClassId → St → va_W) (h0 : Nat) (A : Nat → Prop) (σ : St) (t : State) : Prop := ∃ (a : Nat → Nat) (d : ClassId), a 10 = h0 ∧ wO D (wf a d) d A σ t
theorem same_d {D : va_G} {cl : List vw_C} {s : State} {d d2 : ClassId} (h : va_K D cl ([(d, .int)] ++ [(d2, .int)]) s) : d = d2 := by
  have h1 : s.vm.findClass ("[" ++ FieldType.int.toString) = some d := (h.2 0 _ rfl).2
  have h2 : s.vm.findClass ("[" ++ FieldType.int.toString) = some d2 := (h.2 1 _ rfl).2
  exact Option.some.inj (h1.symm.trans h2)
section ROWS2
variable {p : Program} {l : Launch} {e : Env} {R : Room} {s : State} {m : MethodId} {args : Array Value} {below : List Frame} {meth : Method} {c : Code} {H : Heap} {locs : List Loc} {cells slots : Nat} {Q : State → Prop}
variable {cc : ByteArray} {pc nL : Nat} {ls : Array Slot} {rest : List Value} {D : va_G} {d : ClassId} {A : Nat → Prop} {σ : St} {a : Nat → Nat} {own : String}
theorem riVi {wf : (Nat → Nat) → ClassId → St → va_W} {K : St → Prop} (S : CallFix p m c cc nL s args lw_all own) (hr : meth.sig.returnType = none) (hlk : meth.locks = false) (hH : HH D (wf a d) d A s σ H locs) (hK : K σ) (hdg : decode cc pc = .ok (.return_, 1)) : W p l e R s m args below meth c H locs cells slots (MQ below (va_Qv K (wOi D wf (a 10) A) A) args s cells slots A) (F0 m pc ls []) :=
  W.vret S.1 S.2.1 hr (fun t ht hW => ⟨⟨σ, rfl, hK, a, d, rfl, by rw [ht]; exact hH.2.1, va_K.moved hW.alike hH.1, hH.2.2.1⟩, hH.2.2.2.1.F ht⟩) hH.2.2.2.1.2.2 hdg hlk
theorem wM_int (σ : St) (a : Nat → Nat) (d : ClassId) (v : Int32) : (wM a d σ).set 0 (a 10, .inr (1, ([.int (σ 10 0), .ref (a 0), .ref (a 1)] : List Value).set 0 (.int v))) = wM a d (up σ 10 0 v) := by
  simp [wM, up_other, up_self, upd, List.set]
theorem pM (f : Nat) {index : Nat} {v : Int32} (S : CallFix p m c cc nL s args lw_all RX2) (hH : HH D (wM a d) d A s σ H locs) (hf : f < 1) (hlink : Cond.fieldLink RX2 index (TX2 f).1 (TX2 f).2.1 (TX2 f).2.2.1 ∈ lw_all) (hdg : decode cc pc = .ok (.putfield index, 3))
    (kk : ∀ (H1 : Heap) (locs1 : List Loc), HH D (wM a d) d A s (up σ 10 f v) H1 locs1 → W p l e R s m args below meth c H1 locs1 cells slots Q (F0 m (pc + 3) ls rest)) : W p l e R s m args below meth c H locs cells slots Q (F0 m pc ls (.int v :: .ref (a 10) :: rest)) := by
  have hset := wM_int σ a d v
  obtain rfl : f = 0 := by omega
  refine va_put S.1 S.2.1 S.2.2.2.2 in_X2 tyX2 tyX2_ok nmX2 S.2.2.2.1 hH.1 hH.2.1 hH.2.2.1 hH.2.2.2.1 0 rfl (ci := 1) rfl 0 (by omega) (S.2.2.2.2 _ hlink) (fun _ h => h) rfl (ty := .int) (by decide +kernel) rfl rfl (Nat.le_of_ble_eq_true rfl) hdg (fun H1 locs1 hP hD hS => kk H1 locs1 ⟨hH.1, ?_, ?_, hS, hH.2.2.2.2⟩)
  · rw [← hset]; exact hP
  · rw [← hset]; exact hD
end ROWS2
set_option maxHeartbeats 4000000 in
theorem X1_init_L164_ok {p : Program} {l : Launch} {e : Env} {s : State} {m : MethodId} {args : Array Value} {below : List Frame} {meth : Method} {c : Code} {D : va_G} {a : Nat → Nat} {d : ClassId} {A : Nat → Prop} {K : St → Prop} (S : CallFix p m c cX1_init 3 s args lw_all RX1) (hr : meth.sig.returnType = none) (hlk : meth.locks = false) : ∀ (n : Nat) (y2 : Int32) (σ : St) (H : Heap) (locs : List Loc) (ls : Array Slot), X1_init_L164 K n y2 σ → HH D (wX a d) d A s σ H locs → lv_has ls 3 [(0, .ref (a 10)), (2, .int y2)] → W p l e ({ frames := 1, cells := 10, slots := 528, locals := 12 }) s m args below meth c H locs 10 528 (MQ below (va_Qv K (wOi D wX (a 10) A) A) args s 10 528 A) (F0 m 164 ls []) := by
  obtain ⟨hx, hb, hml, hown, hts⟩ := id S
  intro n
  induction n with
  | zero => intro y2 σ H locs ls hw; exact False.elim hw
  | succ n ih =>
    intro y2 σ H locs ls hw hH hl
    rw [X1_init_L164] at hw
    refine lv_iload_n hx hb dX1_init_164 rfl (lv_at hl 1 rfl) ?_
    refine lv_iconst (v := 4) hx hb dX1_init_165 (by decide) ?_
    refine lv_icmp_ge (tgt := 182) hx hb dX1_init_166 (by decide) (fun c8 => ?_) (fun c8 => ?_)
    · have hw := hw.1 c8
      exact riVi S hr hlk hH hw dX1_init_182
    · have hw := hw.2 c8
      refine lv_aload_n hx hb dX1_init_169 rfl (lv_at hl 0 rfl) ?_
      refine gX 7 S hH (by decide) q34 rfl dX1_init_170 ?_
      refine lv_iload_n hx hb dX1_init_173 rfl (lv_at hl 1 rfl) ?_
      refine lv_iconst (v := (-1)) hx hb dX1_init_174 (by decide) ?_
      obtain ⟨j9, hij9, hjj9, hw⟩ := hw
      refine sA (q0 := 8) (k := 7) S hH rfl (wX_set_7 σ a d j9 _) hij9 hjj9 (by decide) dX1_init_175 (fun H locs hH => ?_)
      obtain ⟨σ10, eσ10⟩ : ∃ z : St, z = up σ 7 j9 (-1) := ⟨_, rfl⟩
      rw [← eσ10] at hH
      have hw := hw σ10 eσ10
      obtain ⟨x11, ex11⟩ : ∃ y : Int32, y = y2 + 1 := ⟨_, rfl⟩
      have hw := hw x11 ex11
      refine lv_iinc (v := x11) (lv' := [(2, .int x11), (0, .ref (a 10))]) hx hb dX1_init_176 hl (k := 1) rfl (by rw [ex11]; rfl) (by decide) rfl (fun ls hl => ?_)
      refine lv_goto (tgt := 164) hx hb dX1_init_179 (by decide) ?_
      exact ih _ _ _ _ _ hw hH (lv_sub hl [1, 0] rfl)
set_option maxHeartbeats 4000000 in
theorem X1_init_L143_ok {p : Program} {l : Launch} {e : Env} {s : State} {m : MethodId} {args : Array Value} {below : List Frame} {meth : Method} {c : Code} {D : va_G} {a : Nat → Nat} {d : ClassId} {A : Nat → Prop} {K : St → Prop} (S : CallFix p m c cX1_init 3 s args lw_all RX1) (hr : meth.sig.returnType = none) (hlk : meth.locks = false) : ∀ (n : Nat) (y2 : Int32) (σ : St) (H : Heap) (locs : List Loc) (ls : Array Slot), X1_init_L143 K n y2 σ → HH D (wX a d) d A s σ H locs → lv_has ls 3 [(0, .ref (a 10)), (2, .int y2)] → W p l e ({ frames := 1, cells := 10, slots := 528, locals := 12 }) s m args below meth c H locs 10 528 (MQ below (va_Qv K (wOi D wX (a 10) A) A) args s 10 528 A) (F0 m 143 ls []) := by
  obtain ⟨hx, hb, hml, hown, hts⟩ := id S
  intro n
  induction n with
  | zero => intro y2 σ H locs ls hw; exact False.elim hw
  | succ n ih =>
    intro y2 σ H locs ls hw hH hl
    rw [X1_init_L143] at hw
    refine lv_iload_n hx hb dX1_init_143 rfl (lv_at hl 1 rfl) ?_
    refine lv_bipush (v := 96) hx hb dX1_init_144 (by decide) ?_
    refine lv_icmp_ge (tgt := 162) hx hb dX1_init_146 (by decide) (fun c7 => ?_) (fun c7 => ?_)
    · have hw := hw.1 c7
      refine lv_iconst (v := 0) hx hb dX1_init_162 (by decide) ?_
      refine lv_istore_n (lv' := [(2, .int 0), (0, .ref (a 10))]) hx hb dX1_init_163 rfl hl (by decide) rfl (fun ls hl => ?_)
      obtain ⟨n12, hw⟩ := hw
      exact X1_init_L164_ok S hr hlk n12 _ _ _ _ _ hw hH (lv_sub hl [1, 0] rfl)
    · have hw := hw.2 c7
      refine lv_aload_n hx hb dX1_init_149 rfl (lv_at hl 0 rfl) ?_
      refine gX 3 S hH (by decide) q30 rfl dX1_init_150 ?_
      refine lv_iload_n hx hb dX1_init_153 rfl (lv_at hl 1 rfl) ?_
      refine lv_iconst (v := (-1)) hx hb dX1_init_154 (by decide) ?_
      obtain ⟨j13, hij13, hjj13, hw⟩ := hw
      refine sA (q0 := 4) (k := 3) S hH rfl (wX_set_3 σ a d j13 _) hij13 hjj13 (by decide) dX1_init_155 (fun H locs hH => ?_)
      obtain ⟨σ14, eσ14⟩ : ∃ z : St, z = up σ 3 j13 (-1) := ⟨_, rfl⟩
      rw [← eσ14] at hH
      have hw := hw σ14 eσ14
      obtain ⟨x15, ex15⟩ : ∃ y : Int32, y = y2 + 1 := ⟨_, rfl⟩
      have hw := hw x15 ex15
      refine lv_iinc (v := x15) (lv' := [(2, .int x15), (0, .ref (a 10))]) hx hb dX1_init_156 hl (k := 1) rfl (by rw [ex15]; rfl) (by decide) rfl (fun ls hl => ?_)
      refine lv_goto (tgt := 143) hx hb dX1_init_159 (by decide) ?_
      exact ih _ _ _ _ _ hw hH (lv_sub hl [1, 0] rfl)
set_option maxHeartbeats 4000000 in
theorem X1_init_L122_ok {p : Program} {l : Launch} {e : Env} {s : State} {m : MethodId} {args : Array Value} {below : List Frame} {meth : Method} {c : Code} {D : va_G} {a : Nat → Nat} {d : ClassId} {A : Nat → Prop} {K : St → Prop} (S : CallFix p m c cX1_init 3 s args lw_all RX1) (hr : meth.sig.returnType = none) (hlk : meth.locks = false) : ∀ (n : Nat) (y2 : Int32) (σ : St) (H : Heap) (locs : List Loc) (ls : Array Slot), X1_init_L122 K n y2 σ → HH D (wX a d) d A s σ H locs → lv_has ls 3 [(0, .ref (a 10)), (2, .int y2)] → W p l e ({ frames := 1, cells := 10, slots := 528, locals := 12 }) s m args below meth c H locs 10 528 (MQ below (va_Qv K (wOi D wX (a 10) A) A) args s 10 528 A) (F0 m 122 ls []) := by
  obtain ⟨hx, hb, hml, hown, hts⟩ := id S
  intro n
  induction n with
  | zero => intro y2 σ H locs ls hw; exact False.elim hw
  | succ n ih =>
    intro y2 σ H locs ls hw hH hl
    rw [X1_init_L122] at hw
    refine lv_iload_n hx hb dX1_init_122 rfl (lv_at hl 1 rfl) ?_
    refine lv_bipush (v := 12) hx hb dX1_init_123 (by decide) ?_
    refine lv_icmp_ge (tgt := 141) hx hb dX1_init_125 (by decide) (fun c6 => ?_) (fun c6 => ?_)
    · have hw := hw.1 c6
      refine lv_iconst (v := 0) hx hb dX1_init_141 (by decide) ?_
      refine lv_istore_n (lv' := [(2, .int 0), (0, .ref (a 10))]) hx hb dX1_init_142 rfl hl (by decide) rfl (fun ls hl => ?_)
      obtain ⟨n16, hw⟩ := hw
      exact X1_init_L143_ok S hr hlk n16 _ _ _ _ _ hw hH (lv_sub hl [1, 0] rfl)
    · have hw := hw.2 c6
      refine lv_aload_n hx hb dX1_init_128 rfl (lv_at hl 0 rfl) ?_
      refine gX 1 S hH (by decide) q28 rfl dX1_init_129 ?_
      refine lv_iload_n hx hb dX1_init_132 rfl (lv_at hl 1 rfl) ?_
      refine lv_iconst (v := (-1)) hx hb dX1_init_133 (by decide) ?_
      obtain ⟨j17, hij17, hjj17, hw⟩ := hw
      refine sA (q0 := 2) (k := 1) S hH rfl (wX_set_1 σ a d j17 _) hij17 hjj17 (by decide) dX1_init_134 (fun H locs hH => ?_)
      obtain ⟨σ18, eσ18⟩ : ∃ z : St, z = up σ 1 j17 (-1) := ⟨_, rfl⟩
      rw [← eσ18] at hH
      have hw := hw σ18 eσ18
      obtain ⟨x19, ex19⟩ : ∃ y : Int32, y = y2 + 1 := ⟨_, rfl⟩
      have hw := hw x19 ex19
      refine lv_iinc (v := x19) (lv' := [(2, .int x19), (0, .ref (a 10))]) hx hb dX1_init_135 hl (k := 1) rfl (by rw [ex19]; rfl) (by decide) rfl (fun ls hl => ?_)
      refine lv_goto (tgt := 122) hx hb dX1_init_138 (by decide) ?_
      exact ih _ _ _ _ _ hw hH (lv_sub hl [1, 0] rfl)
set_option maxHeartbeats 4000000 in
theorem X1_init_B112_ok {p : Program} {l : Launch} {e : Env} {s : State} {m : MethodId} {args : Array Value} {below : List Frame} {meth : Method} {c : Code} {D : va_G} {a : Nat → Nat} {d : ClassId} {A : Nat → Prop} {K : St → Prop} (S : CallFix p m c cX1_init 3 s args lw_all RX1) (hr : meth.sig.returnType = none) (hlk : meth.locks = false) (σ : St) (H : Heap) (locs : List Loc) (ls : Array Slot) (hw : X1_init_B112 K  σ) (hH : HH D (wX a d) d A s σ H locs) (hl : lv_has ls 3 [(0, .ref (a 10))]) : W p l e ({ frames := 1, cells := 10, slots := 528, locals := 12 }) s m args below meth c H locs 10 528 (MQ below (va_Qv K (wOi D wX (a 10) A) A) args s 10 528 A) (F0 m 112 ls []) := by
  obtain ⟨hx, hb, hml, hown, hts⟩ := id S
  unfold X1_init_B112 at hw
  refine lv_aload_n hx hb dX1_init_112 rfl (lv_at hl 0 rfl) ?_
  refine lv_aload_n hx hb dX1_init_113 rfl (lv_at hl 0 rfl) ?_
  refine gX 10 S hH (by decide) q37 rfl dX1_init_114 ?_
  refine pX 1 S hH (by decide) q38 dX1_init_117 (fun H locs hH => ?_)
  obtain ⟨σ5, eσ5⟩ : ∃ z : St, z = up σ 10 1 (σ 10 0) := ⟨_, rfl⟩
  rw [← eσ5] at hH
  have hw := hw σ5 eσ5
  refine lv_iconst (v := 0) hx hb dX1_init_120 (by decide) ?_
  refine lv_istore_n (lv' := [(2, .int 0), (0, .ref (a 10))]) hx hb dX1_init_121 rfl hl (by decide) rfl (fun ls hl => ?_)
  obtain ⟨n20, hw⟩ := hw
  exact X1_init_L122_ok S hr hlk n20 _ _ _ _ _ hw hH (lv_sub hl [1, 0] rfl)
set_option maxHeartbeats 4000000 in
theorem tX1_init (l : Launch) (D : va_G) (h0 sz : Nat) (x1 : Int32) (K : St → Prop) (hw : X1_init x1 (fun _ _ => 0) K) : Met l yX1_init (ws_ yX1_init cX1_init 3 none) ({ frames := 1, cells := 10, slots := 528, locals := 12 }) (va_Pc [.ref h0, .int x1] (fun U => U.heap.size = sz ∧ va_P D vwCl [(h0, .inr (0, [.null, .null, .null, .null, .null, .null, .null, .null, .null, .null, .int 0, .int 0, .int 0]))] U.heap ∧ va_K D vwCl [] U ∧ va_D (fun _ => True) [(h0, .inr (0, [.null, .null, .null, .null, .null, .null, .null, .null, .null, .null, .int 0, .int 0, .int 0]))])) (va_Qv K (wOi D wX h0 (va_A [(h0, .inr (0, [.null, .null, .null, .null, .null, .null, .null, .null, .null, .null, .int 0, .int 0, .int 0]))] sz)) (va_A [(h0, .inr (0, [.null, .null, .null, .null, .null, .null, .null, .null, .null, .null, .int 0, .int 0, .int 0]))] sz)) 10 528 (va_A [(h0, .inr (0, [.null, .null, .null, .null, .null, .null, .null, .null, .null, .null, .int 0, .int 0, .int 0]))] sz) := by
  refine Met.ofW (cc := cX1_init) (maxL := 3) (ret := none) (by decide) rfl ?_
  intro p e s m args below meth c s₁ B hml hv
  obtain ⟨rfl, hsz, hP, hK, hD0⟩ := hv
  have hx := B.exec
  have hb := B.bytes
  have hr := B.returns
  have hts := atoms_spec (ws := (ws_ yX1_init cX1_init 3 none)) B.pre
  have hts : ∀ w ∈ lw_all, w.before _ s = true := fun w h => hts w (List.mem_cons_of_mem _ h)
  have hown : s.vm.findClass RX1 = some m.cls := findClass_of_methodNamed B.named
  have hlk := B.notSynchronized
  have hin : meth.name = "<init>" := (name_of_methodNamed B.named B.method).1
  subst hsz
  have hD := hD0.self (sz := s.heap.size)
  generalize hAe : va_A [(h0, .inr (0, [.null, .null, .null, .null, .null, .null, .null, .null, .null, .null, .int 0, .int 0, .int 0]))] s.heap.size = A at hD ⊢
  have hA : ∀ q : Nat, s.heap.size ≤ q → A q := fun q h => by rw [← hAe]; exact Or.inr h
  have hS : va_S A s.heap s.heap [] := va_S.rf
  clear hAe hD0
  have hl := lv_entry ([.ref h0, .int x1]) (n := 3) (Nat.le_of_ble_eq_true rfl)
  rw [lg_entry_eq]
  generalize (lg_sl ([.ref h0, .int x1]) ++ List.replicate (3 - (lg_sl ([.ref h0, .int x1])).length) Slot.unset).toArray = ls at hl ⊢
  have hl : lv_has ls 3 [(0, .ref h0), (1, .int x1)] := hl
  have S : CallFix p m c cX1_init 3 s ([.ref h0, .int x1] : List Value).toArray lw_all RX1 := ⟨hx, hb, hml, hown, hts⟩
  refine lv_aload_n hx hb dX1_init_0 rfl (lv_at hl 0 rfl) ?_
  refine W.objInit hx hb hown (hts _ q24) (hts _ q25) (hts _ q26) rfl (by rw [hml]; exact hl.1) rfl dX1_init_1 (Nat.le_of_ble_eq_true rfl) (Nat.le_of_ble_eq_true rfl) ?_
  refine W.eq (g2 := F0 m 4 ls []) rfl ?_
  refine lv_aload_n hx hb dX1_init_4 rfl (lv_at hl 0 rfl) ?_
  refine lv_sipush (v := 192) hx hb dX1_init_5 (by decide) ?_
  refine va_newa (atype := .int) (ty := .int) (N' := 192) (a0 := (192, .inl (fun _ => 0))) hx hb (hts _ q67) rfl hK hP hD hS hA (fun _ => rfl) (by decide) (by decide) (by decide) (by decide) (by decide) dX1_init_8 (fun q0 d H hK hP hD hS => ?_)
  have hK : va_K D vwCl [(d, .int)] s := hK
  refine W.widen (k := 1) (n := 192) (Nat.le_refl _) (Nat.le_refl _) ?_
  have hP : va_P D vwCl [(h0, .inr (0, [.null, .null, .null, .null, .null, .null, .null, .null, .null, .null, .int 0, .int 0, .int 0])), (q0, .inl (d, 192, .inl (fun _ => 0)))] H := hP
  have hD : va_D A [(h0, .inr (0, [.null, .null, .null, .null, .null, .null, .null, .null, .null, .null, .int 0, .int 0, .int 0])), (q0, .inl (d, 192, .inl (fun _ => 0)))] := hD
  refine va_putF (ci := 0) (v := .ref q0) (ty := .array .int) hx hb hts in_X1 tyX1 tyX1_ok nmX1 hown hK hP hD hS 0 rfl rfl 0 (by decide) (hts _ q27) (fun _ h => h) rfl hin rfl (by decide +kernel) rfl rfl (Nat.le_of_ble_eq_true rfl) dX1_init_10 (fun H locs hP hD hS => ?_)
  have hP : va_P D vwCl [(h0, .inr (0, [.ref q0, .null, .null, .null, .null, .null, .null, .null, .null, .null, .int 0, .int 0, .int 0])), (q0, .inl (d, 192, .inl (fun _ => 0)))] H := hP
  have hD : va_D A [(h0, .inr (0, [.ref q0, .null, .null, .null, .null, .null, .null, .null, .null, .null, .int 0, .int 0, .int 0])), (q0, .inl (d, 192, .inl (fun _ => 0)))] := hD
  refine lv_aload_n hx hb dX1_init_13 rfl (lv_at hl 0 rfl) ?_
  refine lv_bipush (v := 12) hx hb dX1_init_14 (by decide) ?_
  refine va_newa (atype := .int) (ty := .int) (N' := 12) (a0 := (12, .inl (fun _ => 0))) hx hb (hts _ q67) rfl hK hP hD hS hA (fun _ => rfl) (by decide) (by decide) (by decide) (by decide) (by decide) dX1_init_16 (fun q1 d1 H hK hP hD hS => ?_)
  obtain rfl := same_d hK
  have hK := hK.sub (tys' := [(d, .int)]) [0] rfl
  refine W.widen (k := 2) (n := 204) (Nat.le_refl _) (Nat.le_refl _) ?_
  have hP : va_P D vwCl [(h0, .inr (0, [.ref q0, .null, .null, .null, .null, .null, .null, .null, .null, .null, .int 0, .int 0, .int 0])), (q0, .inl (d, 192, .inl (fun _ => 0))), (q1, .inl (d, 12, .inl (fun _ => 0)))] H := hP
  have hD : va_D A [(h0, .inr (0, [.ref q0, .null, .null, .null, .null, .null, .null, .null, .null, .null, .int 0, .int 0, .int 0])), (q0, .inl (d, 192, .inl (fun _ => 0))), (q1, .inl (d, 12, .inl (fun _ => 0)))] := hD
  refine va_putF (ci := 0) (v := .ref q1) (ty := .array .int) hx hb hts in_X1 tyX1 tyX1_ok nmX1 hown hK hP hD hS 0 rfl rfl 1 (by decide) (hts _ q28) (fun _ h => h) rfl hin rfl (by decide +kernel) rfl rfl (Nat.le_of_ble_eq_true rfl) dX1_init_18 (fun H locs hP hD hS => ?_)
  have hP : va_P D vwCl [(h0, .inr (0, [.ref q0, .ref q1, .null, .null, .null, .null, .null, .null, .null, .null, .int 0, .int 0, .int 0])), (q0, .inl (d, 192, .inl (fun _ => 0))), (q1, .inl (d, 12, .inl (fun _ => 0)))] H := hP
  have hD : va_D A [(h0, .inr (0, [.ref q0, .ref q1, .null, .null, .null, .null, .null, .null, .null, .null, .int 0, .int 0, .int 0])), (q0, .inl (d, 192, .inl (fun _ => 0))), (q1, .inl (d, 12, .inl (fun _ => 0)))] := hD
  refine lv_aload_n hx hb dX1_init_21 rfl (lv_at hl 0 rfl) ?_
  refine lv_bipush (v := 12) hx hb dX1_init_22 (by decide) ?_
  refine va_newa (atype := .int) (ty := .int) (N' := 12) (a0 := (12, .inl (fun _ => 0))) hx hb (hts _ q67) rfl hK hP hD hS hA (fun _ => rfl) (by decide) (by decide) (by decide) (by decide) (by decide) dX1_init_24 (fun q2 d2 H hK hP hD hS => ?_)
  obtain rfl := same_d hK
  have hK := hK.sub (tys' := [(d, .int)]) [0] rfl
  refine W.widen (k := 3) (n := 216) (Nat.le_refl _) (Nat.le_refl _) ?_
  have hP : va_P D vwCl [(h0, .inr (0, [.ref q0, .ref q1, .null, .null, .null, .null, .null, .null, .null, .null, .int 0, .int 0, .int 0])), (q0, .inl (d, 192, .inl (fun _ => 0))), (q1, .inl (d, 12, .inl (fun _ => 0))), (q2, .inl (d, 12, .inl (fun _ => 0)))] H := hP
  have hD : va_D A [(h0, .inr (0, [.ref q0, .ref q1, .null, .null, .null, .null, .null, .null, .null, .null, .int 0, .int 0, .int 0])), (q0, .inl (d, 192, .inl (fun _ => 0))), (q1, .inl (d, 12, .inl (fun _ => 0))), (q2, .inl (d, 12, .inl (fun _ => 0)))] := hD
  refine va_putF (ci := 0) (v := .ref q2) (ty := .array .int) hx hb hts in_X1 tyX1 tyX1_ok nmX1 hown hK hP hD hS 0 rfl rfl 2 (by decide) (hts _ q29) (fun _ h => h) rfl hin rfl (by decide +kernel) rfl rfl (Nat.le_of_ble_eq_true rfl) dX1_init_26 (fun H locs hP hD hS => ?_)
  have hP : va_P D vwCl [(h0, .inr (0, [.ref q0, .ref q1, .ref q2, .null, .null, .null, .null, .null, .null, .null, .int 0, .int 0, .int 0])), (q0, .inl (d, 192, .inl (fun _ => 0))), (q1, .inl (d, 12, .inl (fun _ => 0))), (q2, .inl (d, 12, .inl (fun _ => 0)))] H := hP
  have hD : va_D A [(h0, .inr (0, [.ref q0, .ref q1, .ref q2, .null, .null, .null, .null, .null, .null, .null, .int 0, .int 0, .int 0])), (q0, .inl (d, 192, .inl (fun _ => 0))), (q1, .inl (d, 12, .inl (fun _ => 0))), (q2, .inl (d, 12, .inl (fun _ => 0)))] := hD
  refine lv_aload_n hx hb dX1_init_29 rfl (lv_at hl 0 rfl) ?_
  refine lv_bipush (v := 96) hx hb dX1_init_30 (by decide) ?_
  refine va_newa (atype := .int) (ty := .int) (N' := 96) (a0 := (96, .inl (fun _ => 0))) hx hb (hts _ q67) rfl hK hP hD hS hA (fun _ => rfl) (by decide) (by decide) (by decide) (by decide) (by decide) dX1_init_32 (fun q3 d3 H hK hP hD hS => ?_)
  obtain rfl := same_d hK
  have hK := hK.sub (tys' := [(d, .int)]) [0] rfl
  refine W.widen (k := 4) (n := 312) (Nat.le_refl _) (Nat.le_refl _) ?_
  have hP : va_P D vwCl [(h0, .inr (0, [.ref q0, .ref q1, .ref q2, .null, .null, .null, .null, .null, .null, .null, .int 0, .int 0, .int 0])), (q0, .inl (d, 192, .inl (fun _ => 0))), (q1, .inl (d, 12, .inl (fun _ => 0))), (q2, .inl (d, 12, .inl (fun _ => 0))), (q3, .inl (d, 96, .inl (fun _ => 0)))] H := hP
  have hD : va_D A [(h0, .inr (0, [.ref q0, .ref q1, .ref q2, .null, .null, .null, .null, .null, .null, .null, .int 0, .int 0, .int 0])), (q0, .inl (d, 192, .inl (fun _ => 0))), (q1, .inl (d, 12, .inl (fun _ => 0))), (q2, .inl (d, 12, .inl (fun _ => 0))), (q3, .inl (d, 96, .inl (fun _ => 0)))] := hD
  refine va_putF (ci := 0) (v := .ref q3) (ty := .array .int) hx hb hts in_X1 tyX1 tyX1_ok nmX1 hown hK hP hD hS 0 rfl rfl 3 (by decide) (hts _ q30) (fun _ h => h) rfl hin rfl (by decide +kernel) rfl rfl (Nat.le_of_ble_eq_true rfl) dX1_init_34 (fun H locs hP hD hS => ?_)
  have hP : va_P D vwCl [(h0, .inr (0, [.ref q0, .ref q1, .ref q2, .ref q3, .null, .null, .null, .null, .null, .null, .int 0, .int 0, .int 0])), (q0, .inl (d, 192, .inl (fun _ => 0))), (q1, .inl (d, 12, .inl (fun _ => 0))), (q2, .inl (d, 12, .inl (fun _ => 0))), (q3, .inl (d, 96, .inl (fun _ => 0)))] H := hP
  have hD : va_D A [(h0, .inr (0, [.ref q0, .ref q1, .ref q2, .ref q3, .null, .null, .null, .null, .null, .null, .int 0, .int 0, .int 0])), (q0, .inl (d, 192, .inl (fun _ => 0))), (q1, .inl (d, 12, .inl (fun _ => 0))), (q2, .inl (d, 12, .inl (fun _ => 0))), (q3, .inl (d, 96, .inl (fun _ => 0)))] := hD
  refine lv_aload_n hx hb dX1_init_37 rfl (lv_at hl 0 rfl) ?_
  refine lv_bipush (v := 64) hx hb dX1_init_38 (by decide) ?_
  refine va_newa (atype := .int) (ty := .int) (N' := 64) (a0 := (64, .inl (fun _ => 0))) hx hb (hts _ q67) rfl hK hP hD hS hA (fun _ => rfl) (by decide) (by decide) (by decide) (by decide) (by decide) dX1_init_40 (fun q4 d4 H hK hP hD hS => ?_)
  obtain rfl := same_d hK
  have hK := hK.sub (tys' := [(d, .int)]) [0] rfl
  refine W.widen (k := 5) (n := 376) (Nat.le_refl _) (Nat.le_refl _) ?_
  have hP : va_P D vwCl [(h0, .inr (0, [.ref q0, .ref q1, .ref q2, .ref q3, .null, .null, .null, .null, .null, .null, .int 0, .int 0, .int 0])), (q0, .inl (d, 192, .inl (fun _ => 0))), (q1, .inl (d, 12, .inl (fun _ => 0))), (q2, .inl (d, 12, .inl (fun _ => 0))), (q3, .inl (d, 96, .inl (fun _ => 0))), (q4, .inl (d, 64, .inl (fun _ => 0)))] H := hP
  have hD : va_D A [(h0, .inr (0, [.ref q0, .ref q1, .ref q2, .ref q3, .null, .null, .null, .null, .null, .null, .int 0, .int 0, .int 0])), (q0, .inl (d, 192, .inl (fun _ => 0))), (q1, .inl (d, 12, .inl (fun _ => 0))), (q2, .inl (d, 12, .inl (fun _ => 0))), (q3, .inl (d, 96, .inl (fun _ => 0))), (q4, .inl (d, 64, .inl (fun _ => 0)))] := hD
  refine va_putF (ci := 0) (v := .ref q4) (ty := .array .int) hx hb hts in_X1 tyX1 tyX1_ok nmX1 hown hK hP hD hS 0 rfl rfl 4 (by decide) (hts _ q31) (fun _ h => h) rfl hin rfl (by decide +kernel) rfl rfl (Nat.le_of_ble_eq_true rfl) dX1_init_42 (fun H locs hP hD hS => ?_)
  have hP : va_P D vwCl [(h0, .inr (0, [.ref q0, .ref q1, .ref q2, .ref q3, .ref q4, .null, .null, .null, .null, .null, .int 0, .int 0, .int 0])), (q0, .inl (d, 192, .inl (fun _ => 0))), (q1, .inl (d, 12, .inl (fun _ => 0))), (q2, .inl (d, 12, .inl (fun _ => 0))), (q3, .inl (d, 96, .inl (fun _ => 0))), (q4, .inl (d, 64, .inl (fun _ => 0)))] H := hP
  have hD : va_D A [(h0, .inr (0, [.ref q0, .ref q1, .ref q2, .ref q3, .ref q4, .null, .null, .null, .null, .null, .int 0, .int 0, .int 0])), (q0, .inl (d, 192, .inl (fun _ => 0))), (q1, .inl (d, 12, .inl (fun _ => 0))), (q2, .inl (d, 12, .inl (fun _ => 0))), (q3, .inl (d, 96, .inl (fun _ => 0))), (q4, .inl (d, 64, .inl (fun _ => 0)))] := hD
  refine lv_aload_n hx hb dX1_init_45 rfl (lv_at hl 0 rfl) ?_
  refine lv_bipush (v := 64) hx hb dX1_init_46 (by decide) ?_
  refine va_newa (atype := .int) (ty := .int) (N' := 64) (a0 := (64, .inl (fun _ => 0))) hx hb (hts _ q67) rfl hK hP hD hS hA (fun _ => rfl) (by decide) (by decide) (by decide) (by decide) (by decide) dX1_init_48 (fun q5 d5 H hK hP hD hS => ?_)
  obtain rfl := same_d hK
  have hK := hK.sub (tys' := [(d, .int)]) [0] rfl
  refine W.widen (k := 6) (n := 440) (Nat.le_refl _) (Nat.le_refl _) ?_
  have hP : va_P D vwCl [(h0, .inr (0, [.ref q0, .ref q1, .ref q2, .ref q3, .ref q4, .null, .null, .null, .null, .null, .int 0, .int 0, .int 0])), (q0, .inl (d, 192, .inl (fun _ => 0))), (q1, .inl (d, 12, .inl (fun _ => 0))), (q2, .inl (d, 12, .inl (fun _ => 0))), (q3, .inl (d, 96, .inl (fun _ => 0))), (q4, .inl (d, 64, .inl (fun _ => 0))), (q5, .inl (d, 64, .inl (fun _ => 0)))] H := hP
  have hD : va_D A [(h0, .inr (0, [.ref q0, .ref q1, .ref q2, .ref q3, .ref q4, .null, .null, .null, .null, .null, .int 0, .int 0, .int 0])), (q0, .inl (d, 192, .inl (fun _ => 0))), (q1, .inl (d, 12, .inl (fun _ => 0))), (q2, .inl (d, 12, .inl (fun _ => 0))), (q3, .inl (d, 96, .inl (fun _ => 0))), (q4, .inl (d, 64, .inl (fun _ => 0))), (q5, .inl (d, 64, .inl (fun _ => 0)))] := hD
  refine va_putF (ci := 0) (v := .ref q5) (ty := .array .int) hx hb hts in_X1 tyX1 tyX1_ok nmX1 hown hK hP hD hS 0 rfl rfl 5 (by decide) (hts _ q32) (fun _ h => h) rfl hin rfl (by decide +kernel) rfl rfl (Nat.le_of_ble_eq_true rfl) dX1_init_50 (fun H locs hP hD hS => ?_)
  have hP : va_P D vwCl [(h0, .inr (0, [.ref q0, .ref q1, .ref q2, .ref q3, .ref q4, .ref q5, .null, .null, .null, .null, .int 0, .int 0, .int 0])), (q0, .inl (d, 192, .inl (fun _ => 0))), (q1, .inl (d, 12, .inl (fun _ => 0))), (q2, .inl (d, 12, .inl (fun _ => 0))), (q3, .inl (d, 96, .inl (fun _ => 0))), (q4, .inl (d, 64, .inl (fun _ => 0))), (q5, .inl (d, 64, .inl (fun _ => 0)))] H := hP
  have hD : va_D A [(h0, .inr (0, [.ref q0, .ref q1, .ref q2, .ref q3, .ref q4, .ref q5, .null, .null, .null, .null, .int 0, .int 0, .int 0])), (q0, .inl (d, 192, .inl (fun _ => 0))), (q1, .inl (d, 12, .inl (fun _ => 0))), (q2, .inl (d, 12, .inl (fun _ => 0))), (q3, .inl (d, 96, .inl (fun _ => 0))), (q4, .inl (d, 64, .inl (fun _ => 0))), (q5, .inl (d, 64, .inl (fun _ => 0)))] := hD
  refine lv_aload_n hx hb dX1_init_53 rfl (lv_at hl 0 rfl) ?_
  refine lv_bipush (v := 64) hx hb dX1_init_54 (by decide) ?_
  refine va_newa (atype := .int) (ty := .int) (N' := 64) (a0 := (64, .inl (fun _ => 0))) hx hb (hts _ q67) rfl hK hP hD hS hA (fun _ => rfl) (by decide) (by decide) (by decide) (by decide) (by decide) dX1_init_56 (fun q6 d6 H hK hP hD hS => ?_)
  obtain rfl := same_d hK
  have hK := hK.sub (tys' := [(d, .int)]) [0] rfl
  refine W.widen (k := 7) (n := 504) (Nat.le_refl _) (Nat.le_refl _) ?_
  have hP : va_P D vwCl [(h0, .inr (0, [.ref q0, .ref q1, .ref q2, .ref q3, .ref q4, .ref q5, .null, .null, .null, .null, .int 0, .int 0, .int 0])), (q0, .inl (d, 192, .inl (fun _ => 0))), (q1, .inl (d, 12, .inl (fun _ => 0))), (q2, .inl (d, 12, .inl (fun _ => 0))), (q3, .inl (d, 96, .inl (fun _ => 0))), (q4, .inl (d, 64, .inl (fun _ => 0))), (q5, .inl (d, 64, .inl (fun _ => 0))), (q6, .inl (d, 64, .inl (fun _ => 0)))] H := hP
  have hD : va_D A [(h0, .inr (0, [.ref q0, .ref q1, .ref q2, .ref q3, .ref q4, .ref q5, .null, .null, .null, .null, .int 0, .int 0, .int 0])), (q0, .inl (d, 192, .inl (fun _ => 0))), (q1, .inl (d, 12, .inl (fun _ => 0))), (q2, .inl (d, 12, .inl (fun _ => 0))), (q3, .inl (d, 96, .inl (fun _ => 0))), (q4, .inl (d, 64, .inl (fun _ => 0))), (q5, .inl (d, 64, .inl (fun _ => 0))), (q6, .inl (d, 64, .inl (fun _ => 0)))] := hD
  refine va_putF (ci := 0) (v := .ref q6) (ty := .array .int) hx hb hts in_X1 tyX1 tyX1_ok nmX1 hown hK hP hD hS 0 rfl rfl 6 (by decide) (hts _ q33) (fun _ h => h) rfl hin rfl (by decide +kernel) rfl rfl (Nat.le_of_ble_eq_true rfl) dX1_init_58 (fun H locs hP hD hS => ?_)
  have hP : va_P D vwCl [(h0, .inr (0, [.ref q0, .ref q1, .ref q2, .ref q3, .ref q4, .ref q5, .ref q6, .null, .null, .null, .int 0, .int 0, .int 0])), (q0, .inl (d, 192, .inl (fun _ => 0))), (q1, .inl (d, 12, .inl (fun _ => 0))), (q2, .inl (d, 12, .inl (fun _ => 0))), (q3, .inl (d, 96, .inl (fun _ => 0))), (q4, .inl (d, 64, .inl (fun _ => 0))), (q5, .inl (d, 64, .inl (fun _ => 0))), (q6, .inl (d, 64, .inl (fun _ => 0)))] H := hP
  have hD : va_D A [(h0, .inr (0, [.ref q0, .ref q1, .ref q2, .ref q3, .ref q4, .ref q5, .ref q6, .null, .null, .null, .int 0, .int 0, .int 0])), (q0, .inl (d, 192, .inl (fun _ => 0))), (q1, .inl (d, 12, .inl (fun _ => 0))), (q2, .inl (d, 12, .inl (fun _ => 0))), (q3, .inl (d, 96, .inl (fun _ => 0))), (q4, .inl (d, 64, .inl (fun _ => 0))), (q5, .inl (d, 64, .inl (fun _ => 0))), (q6, .inl (d, 64, .inl (fun _ => 0)))] := hD
  refine lv_aload_n hx hb dX1_init_61 rfl (lv_at hl 0 rfl) ?_
  refine lv_iconst (v := 4) hx hb dX1_init_62 (by decide) ?_
  refine va_newa (atype := .int) (ty := .int) (N' := 4) (a0 := (4, .inl (fun _ => 0))) hx hb (hts _ q67) rfl hK hP hD hS hA (fun _ => rfl) (by decide) (by decide) (by decide) (by decide) (by decide) dX1_init_63 (fun q7 d7 H hK hP hD hS => ?_)
  obtain rfl := same_d hK
  have hK := hK.sub (tys' := [(d, .int)]) [0] rfl
  refine W.widen (k := 8) (n := 508) (Nat.le_refl _) (Nat.le_refl _) ?_
  have hP : va_P D vwCl [(h0, .inr (0, [.ref q0, .ref q1, .ref q2, .ref q3, .ref q4, .ref q5, .ref q6, .null, .null, .null, .int 0, .int 0, .int 0])), (q0, .inl (d, 192, .inl (fun _ => 0))), (q1, .inl (d, 12, .inl (fun _ => 0))), (q2, .inl (d, 12, .inl (fun _ => 0))), (q3, .inl (d, 96, .inl (fun _ => 0))), (q4, .inl (d, 64, .inl (fun _ => 0))), (q5, .inl (d, 64, .inl (fun _ => 0))), (q6, .inl (d, 64, .inl (fun _ => 0))), (q7, .inl (d, 4, .inl (fun _ => 0)))] H := hP
  have hD : va_D A [(h0, .inr (0, [.ref q0, .ref q1, .ref q2, .ref q3, .ref q4, .ref q5, .ref q6, .null, .null, .null, .int 0, .int 0, .int 0])), (q0, .inl (d, 192, .inl (fun _ => 0))), (q1, .inl (d, 12, .inl (fun _ => 0))), (q2, .inl (d, 12, .inl (fun _ => 0))), (q3, .inl (d, 96, .inl (fun _ => 0))), (q4, .inl (d, 64, .inl (fun _ => 0))), (q5, .inl (d, 64, .inl (fun _ => 0))), (q6, .inl (d, 64, .inl (fun _ => 0))), (q7, .inl (d, 4, .inl (fun _ => 0)))] := hD
  refine va_putF (ci := 0) (v := .ref q7) (ty := .array .int) hx hb hts in_X1 tyX1 tyX1_ok nmX1 hown hK hP hD hS 0 rfl rfl 7 (by decide) (hts _ q34) (fun _ h => h) rfl hin rfl (by decide +kernel) rfl rfl (Nat.le_of_ble_eq_true rfl) dX1_init_65 (fun H locs hP hD hS => ?_)
  have hP : va_P D vwCl [(h0, .inr (0, [.ref q0, .ref q1, .ref q2, .ref q3, .ref q4, .ref q5, .ref q6, .ref q7, .null, .null, .int 0, .int 0, .int 0])), (q0, .inl (d, 192, .inl (fun _ => 0))), (q1, .inl (d, 12, .inl (fun _ => 0))), (q2, .inl (d, 12, .inl (fun _ => 0))), (q3, .inl (d, 96, .inl (fun _ => 0))), (q4, .inl (d, 64, .inl (fun _ => 0))), (q5, .inl (d, 64, .inl (fun _ => 0))), (q6, .inl (d, 64, .inl (fun _ => 0))), (q7, .inl (d, 4, .inl (fun _ => 0)))] H := hP
  have hD : va_D A [(h0, .inr (0, [.ref q0, .ref q1, .ref q2, .ref q3, .ref q4, .ref q5, .ref q6, .ref q7, .null, .null, .int 0, .int 0, .int 0])), (q0, .inl (d, 192, .inl (fun _ => 0))), (q1, .inl (d, 12, .inl (fun _ => 0))), (q2, .inl (d, 12, .inl (fun _ => 0))), (q3, .inl (d, 96, .inl (fun _ => 0))), (q4, .inl (d, 64, .inl (fun _ => 0))), (q5, .inl (d, 64, .inl (fun _ => 0))), (q6, .inl (d, 64, .inl (fun _ => 0))), (q7, .inl (d, 4, .inl (fun _ => 0)))] := hD
  refine lv_aload_n hx hb dX1_init_68 rfl (lv_at hl 0 rfl) ?_
  refine lv_iconst (v := 4) hx hb dX1_init_69 (by decide) ?_
  refine va_newa (atype := .int) (ty := .int) (N' := 4) (a0 := (4, .inl (fun _ => 0))) hx hb (hts _ q67) rfl hK hP hD hS hA (fun _ => rfl) (by decide) (by decide) (by decide) (by decide) (by decide) dX1_init_70 (fun q8 d8 H hK hP hD hS => ?_)
  obtain rfl := same_d hK
  have hK := hK.sub (tys' := [(d, .int)]) [0] rfl
  refine W.widen (k := 9) (n := 512) (Nat.le_refl _) (Nat.le_refl _) ?_
  have hP : va_P D vwCl [(h0, .inr (0, [.ref q0, .ref q1, .ref q2, .ref q3, .ref q4, .ref q5, .ref q6, .ref q7, .null, .null, .int 0, .int 0, .int 0])), (q0, .inl (d, 192, .inl (fun _ => 0))), (q1, .inl (d, 12, .inl (fun _ => 0))), (q2, .inl (d, 12, .inl (fun _ => 0))), (q3, .inl (d, 96, .inl (fun _ => 0))), (q4, .inl (d, 64, .inl (fun _ => 0))), (q5, .inl (d, 64, .inl (fun _ => 0))), (q6, .inl (d, 64, .inl (fun _ => 0))), (q7, .inl (d, 4, .inl (fun _ => 0))), (q8, .inl (d, 4, .inl (fun _ => 0)))] H := hP
  have hD : va_D A [(h0, .inr (0, [.ref q0, .ref q1, .ref q2, .ref q3, .ref q4, .ref q5, .ref q6, .ref q7, .null, .null, .int 0, .int 0, .int 0])), (q0, .inl (d, 192, .inl (fun _ => 0))), (q1, .inl (d, 12, .inl (fun _ => 0))), (q2, .inl (d, 12, .inl (fun _ => 0))), (q3, .inl (d, 96, .inl (fun _ => 0))), (q4, .inl (d, 64, .inl (fun _ => 0))), (q5, .inl (d, 64, .inl (fun _ => 0))), (q6, .inl (d, 64, .inl (fun _ => 0))), (q7, .inl (d, 4, .inl (fun _ => 0))), (q8, .inl (d, 4, .inl (fun _ => 0)))] := hD
  refine va_putF (ci := 0) (v := .ref q8) (ty := .array .int) hx hb hts in_X1 tyX1 tyX1_ok nmX1 hown hK hP hD hS 0 rfl rfl 8 (by decide) (hts _ q35) (fun _ h => h) rfl hin rfl (by decide +kernel) rfl rfl (Nat.le_of_ble_eq_true rfl) dX1_init_72 (fun H locs hP hD hS => ?_)
  have hP : va_P D vwCl [(h0, .inr (0, [.ref q0, .ref q1, .ref q2, .ref q3, .ref q4, .ref q5, .ref q6, .ref q7, .ref q8, .null, .int 0, .int 0, .int 0])), (q0, .inl (d, 192, .inl (fun _ => 0))), (q1, .inl (d, 12, .inl (fun _ => 0))), (q2, .inl (d, 12, .inl (fun _ => 0))), (q3, .inl (d, 96, .inl (fun _ => 0))), (q4, .inl (d, 64, .inl (fun _ => 0))), (q5, .inl (d, 64, .inl (fun _ => 0))), (q6, .inl (d, 64, .inl (fun _ => 0))), (q7, .inl (d, 4, .inl (fun _ => 0))), (q8, .inl (d, 4, .inl (fun _ => 0)))] H := hP
  have hD : va_D A [(h0, .inr (0, [.ref q0, .ref q1, .ref q2, .ref q3, .ref q4, .ref q5, .ref q6, .ref q7, .ref q8, .null, .int 0, .int 0, .int 0])), (q0, .inl (d, 192, .inl (fun _ => 0))), (q1, .inl (d, 12, .inl (fun _ => 0))), (q2, .inl (d, 12, .inl (fun _ => 0))), (q3, .inl (d, 96, .inl (fun _ => 0))), (q4, .inl (d, 64, .inl (fun _ => 0))), (q5, .inl (d, 64, .inl (fun _ => 0))), (q6, .inl (d, 64, .inl (fun _ => 0))), (q7, .inl (d, 4, .inl (fun _ => 0))), (q8, .inl (d, 4, .inl (fun _ => 0)))] := hD
  refine lv_aload_n hx hb dX1_init_75 rfl (lv_at hl 0 rfl) ?_
  refine lv_bipush (v := 16) hx hb dX1_init_76 (by decide) ?_
  refine va_newa (atype := .int) (ty := .int) (N' := 16) (a0 := (16, .inl (fun _ => 0))) hx hb (hts _ q67) rfl hK hP hD hS hA (fun _ => rfl) (by decide) (by decide) (by decide) (by decide) (by decide) dX1_init_78 (fun q9 d9 H hK hP hD hS => ?_)
  obtain rfl := same_d hK
  have hK := hK.sub (tys' := [(d, .int)]) [0] rfl
  refine W.widen (k := 10) (n := 528) (Nat.le_refl _) (Nat.le_refl _) ?_
  have hP : va_P D vwCl [(h0, .inr (0, [.ref q0, .ref q1, .ref q2, .ref q3, .ref q4, .ref q5, .ref q6, .ref q7, .ref q8, .null, .int 0, .int 0, .int 0])), (q0, .inl (d, 192, .inl (fun _ => 0))), (q1, .inl (d, 12, .inl (fun _ => 0))), (q2, .inl (d, 12, .inl (fun _ => 0))), (q3, .inl (d, 96, .inl (fun _ => 0))), (q4, .inl (d, 64, .inl (fun _ => 0))), (q5, .inl (d, 64, .inl (fun _ => 0))), (q6, .inl (d, 64, .inl (fun _ => 0))), (q7, .inl (d, 4, .inl (fun _ => 0))), (q8, .inl (d, 4, .inl (fun _ => 0))), (q9, .inl (d, 16, .inl (fun _ => 0)))] H := hP
  have hD : va_D A [(h0, .inr (0, [.ref q0, .ref q1, .ref q2, .ref q3, .ref q4, .ref q5, .ref q6, .ref q7, .ref q8, .null, .int 0, .int 0, .int 0])), (q0, .inl (d, 192, .inl (fun _ => 0))), (q1, .inl (d, 12, .inl (fun _ => 0))), (q2, .inl (d, 12, .inl (fun _ => 0))), (q3, .inl (d, 96, .inl (fun _ => 0))), (q4, .inl (d, 64, .inl (fun _ => 0))), (q5, .inl (d, 64, .inl (fun _ => 0))), (q6, .inl (d, 64, .inl (fun _ => 0))), (q7, .inl (d, 4, .inl (fun _ => 0))), (q8, .inl (d, 4, .inl (fun _ => 0))), (q9, .inl (d, 16, .inl (fun _ => 0)))] := hD
  refine va_putF (ci := 0) (v := .ref q9) (ty := .array .int) hx hb hts in_X1 tyX1 tyX1_ok nmX1 hown hK hP hD hS 0 rfl rfl 9 (by decide) (hts _ q36) (fun _ h => h) rfl hin rfl (by decide +kernel) rfl rfl (Nat.le_of_ble_eq_true rfl) dX1_init_80 (fun H locs hP hD hS => ?_)
  have hP : va_P D vwCl [(h0, .inr (0, [.ref q0, .ref q1, .ref q2, .ref q3, .ref q4, .ref q5, .ref q6, .ref q7, .ref q8, .ref q9, .int 0, .int 0, .int 0])), (q0, .inl (d, 192, .inl (fun _ => 0))), (q1, .inl (d, 12, .inl (fun _ => 0))), (q2, .inl (d, 12, .inl (fun _ => 0))), (q3, .inl (d, 96, .inl (fun _ => 0))), (q4, .inl (d, 64, .inl (fun _ => 0))), (q5, .inl (d, 64, .inl (fun _ => 0))), (q6, .inl (d, 64, .inl (fun _ => 0))), (q7, .inl (d, 4, .inl (fun _ => 0))), (q8, .inl (d, 4, .inl (fun _ => 0))), (q9, .inl (d, 16, .inl (fun _ => 0)))] H := hP
  have hD : va_D A [(h0, .inr (0, [.ref q0, .ref q1, .ref q2, .ref q3, .ref q4, .ref q5, .ref q6, .ref q7, .ref q8, .ref q9, .int 0, .int 0, .int 0])), (q0, .inl (d, 192, .inl (fun _ => 0))), (q1, .inl (d, 12, .inl (fun _ => 0))), (q2, .inl (d, 12, .inl (fun _ => 0))), (q3, .inl (d, 96, .inl (fun _ => 0))), (q4, .inl (d, 64, .inl (fun _ => 0))), (q5, .inl (d, 64, .inl (fun _ => 0))), (q6, .inl (d, 64, .inl (fun _ => 0))), (q7, .inl (d, 4, .inl (fun _ => 0))), (q8, .inl (d, 4, .inl (fun _ => 0))), (q9, .inl (d, 16, .inl (fun _ => 0)))] := hD
  obtain ⟨a, e10, e0, e1, e2, e3, e4, e5, e6, e7, e8, e9⟩ : ∃ a : Nat → Nat, a 10 = h0 ∧ a 0 = q0 ∧ a 1 = q1 ∧ a 2 = q2 ∧ a 3 = q3 ∧ a 4 = q4 ∧ a 5 = q5 ∧ a 6 = q6 ∧ a 7 = q7 ∧ a 8 = q8 ∧ a 9 = q9 := ⟨fun k => if k = 0 then q0 else if k = 1 then q1 else if k = 2 then q2 else if k = 3 then q3 else if k = 4 then q4 else if k = 5 then q5 else if k = 6 then q6 else if k = 7 then q7 else if k = 8 then q8 else if k = 9 then q9 else h0, rfl, rfl, rfl, rfl, rfl, rfl, rfl, rfl, rfl, rfl, rfl⟩
  subst e10 e0 e1 e2 e3 e4 e5 e6 e7 e8 e9
  have hH : HH D (wX a d) d A s (fun _ _ => 0) H locs := ⟨hK, hP, hD, hS, hA⟩
  unfold X1_init at hw
  obtain ⟨σ, eσ⟩ : ∃ z : St, z = (fun _ _ => 0) := ⟨_, rfl⟩
  rw [← eσ] at hH hw
  refine lv_aload_n hx hb dX1_init_83 rfl (lv_at hl 0 rfl) ?_
  refine lv_iload_n hx hb dX1_init_84 rfl (lv_at hl 1 rfl) ?_
  refine lv_iconst (v := 2) hx hb dX1_init_85 (by decide) ?_
  refine lv_icmp_ge (tgt := 93) hx hb dX1_init_86 (by decide) (fun c2 => ?_) (fun c2 => ?_)
  · have hw := hw.1 c2
    refine lv_iload_n hx hb dX1_init_93 rfl (lv_at hl 1 rfl) ?_
    refine pX 0 S hH (by decide) q37 dX1_init_94 (fun H locs hH => ?_)
    obtain ⟨σ3, eσ3⟩ : ∃ z : St, z = up σ 10 0 x1 := ⟨_, rfl⟩
    rw [← eσ3] at hH
    have hw := hw σ3 eσ3
    refine lv_aload_n hx hb dX1_init_97 rfl (lv_at hl 0 rfl) ?_
    refine gX 10 S hH (by decide) q37 rfl dX1_init_98 ?_
    refine lv_bipush (v := 12) hx hb dX1_init_101 (by decide) ?_
    refine lv_icmp_le (tgt := 112) hx hb dX1_init_103 (by decide) (fun c4 => ?_) (fun c4 => ?_)
    · have hw := hw.1 c4
      exact X1_init_B112_ok S hr hlk  _ _ _ _ hw hH (lv_sub hl [0] rfl)
    · have hw := hw.2 c4
      refine lv_aload_n hx hb dX1_init_106 rfl (lv_at hl 0 rfl) ?_
      refine lv_bipush (v := 12) hx hb dX1_init_107 (by decide) ?_
      refine pX 0 S hH (by decide) q37 dX1_init_109 (fun H locs hH => ?_)
      obtain ⟨σ21, eσ21⟩ : ∃ z : St, z = up σ3 10 0 12 := ⟨_, rfl⟩
      rw [← eσ21] at hH
      have hw := hw σ21 eσ21
      exact X1_init_B112_ok S hr hlk  _ _ _ _ hw hH (lv_sub hl [0] rfl)
  · have hw := hw.2 c2
    refine lv_iconst (v := 2) hx hb dX1_init_89 (by decide) ?_
    refine lv_goto (tgt := 94) hx hb dX1_init_90 (by decide) ?_
    refine pX 0 S hH (by decide) q37 dX1_init_94 (fun H locs hH => ?_)
    obtain ⟨σ22, eσ22⟩ : ∃ z : St, z = up σ 10 0 2 := ⟨_, rfl⟩
    rw [← eσ22] at hH
    have hw := hw σ22 eσ22
    refine lv_aload_n hx hb dX1_init_97 rfl (lv_at hl 0 rfl) ?_
    refine gX 10 S hH (by decide) q37 rfl dX1_init_98 ?_
    refine lv_bipush (v := 12) hx hb dX1_init_101 (by decide) ?_
    refine lv_icmp_le (tgt := 112) hx hb dX1_init_103 (by decide) (fun c23 => ?_) (fun c23 => ?_)
    · have hw := hw.1 c23
      exact X1_init_B112_ok S hr hlk  _ _ _ _ hw hH (lv_sub hl [0] rfl)
    · have hw := hw.2 c23
      refine lv_aload_n hx hb dX1_init_106 rfl (lv_at hl 0 rfl) ?_
      refine lv_bipush (v := 12) hx hb dX1_init_107 (by decide) ?_
      refine pX 0 S hH (by decide) q37 dX1_init_109 (fun H locs hH => ?_)
      obtain ⟨σ24, eσ24⟩ : ∃ z : St, z = up σ22 10 0 12 := ⟨_, rfl⟩
      rw [← eσ24] at hH
      have hw := hw σ24 eσ24
      exact X1_init_B112_ok S hr hlk  _ _ _ _ hw hH (lv_sub hl [0] rfl)
set_option maxHeartbeats 4000000 in
theorem tX2_init (l : Launch) (D : va_G) (h0 sz : Nat) (x1 : Int32) (K : St → Prop) (hw : X2_init x1 (fun _ _ => 0) K) : Met l yX2_init (ws_ yX2_init cX2_init 2 none) ({ frames := 1, cells := 2, slots := 1088, locals := 12 }) (va_Pc [.ref h0, .int x1] (fun U => U.heap.size = sz ∧ va_P D vwCl [(h0, .inr (1, [.int 0, .null, .null]))] U.heap ∧ va_K D vwCl [] U ∧ va_D (fun _ => True) [(h0, .inr (1, [.int 0, .null, .null]))])) (va_Qv K (wOi D wM h0 (va_A [(h0, .inr (1, [.int 0, .null, .null]))] sz)) (va_A [(h0, .inr (1, [.int 0, .null, .null]))] sz)) 2 1088 (va_A [(h0, .inr (1, [.int 0, .null, .null]))] sz) := by
  refine Met.ofW (cc := cX2_init) (maxL := 2) (ret := none) (by decide) rfl ?_
  intro p e s m args below meth c s₁ B hml hv
  obtain ⟨rfl, hsz, hP, hK, hD0⟩ := hv
  have hx := B.exec
  have hb := B.bytes
  have hr := B.returns
  have hts := atoms_spec (ws := (ws_ yX2_init cX2_init 2 none)) B.pre
  have hts : ∀ w ∈ lw_all, w.before _ s = true := fun w h => hts w (List.mem_cons_of_mem _ h)
  have hown : s.vm.findClass RX2 = some m.cls := findClass_of_methodNamed B.named
  have hlk := B.notSynchronized
  have hin : meth.name = "<init>" := (name_of_methodNamed B.named B.method).1
  subst hsz
  have hD := hD0.self (sz := s.heap.size)
  generalize hAe : va_A [(h0, .inr (1, [.int 0, .null, .null]))] s.heap.size = A at hD ⊢
  have hA : ∀ q : Nat, s.heap.size ≤ q → A q := fun q h => by rw [← hAe]; exact Or.inr h
  have hS : va_S A s.heap s.heap [] := va_S.rf
  clear hAe hD0
  have hl := lv_entry ([.ref h0, .int x1]) (n := 2) (Nat.le_of_ble_eq_true rfl)
  rw [lg_entry_eq]
  generalize (lg_sl ([.ref h0, .int x1]) ++ List.replicate (2 - (lg_sl ([.ref h0, .int x1])).length) Slot.unset).toArray = ls at hl ⊢
  have hl : lv_has ls 2 [(0, .ref h0), (1, .int x1)] := hl
  have S : CallFix p m c cX2_init 2 s ([.ref h0, .int x1] : List Value).toArray lw_all RX2 := ⟨hx, hb, hml, hown, hts⟩
  refine lv_aload_n hx hb dX2_init_0 rfl (lv_at hl 0 rfl) ?_
  refine W.objInit hx hb hown (hts _ q205) (hts _ q25) (hts _ q26) rfl (by rw [hml]; exact hl.1) rfl dX2_init_1 (Nat.le_of_ble_eq_true rfl) (Nat.le_of_ble_eq_true rfl) ?_
  refine W.eq (g2 := F0 m 4 ls []) rfl ?_
  refine lv_aload_n hx hb dX2_init_4 rfl (lv_at hl 0 rfl) ?_
  refine lv_bipush (v := 64) hx hb dX2_init_5 (by decide) ?_
  refine va_newa (atype := .int) (ty := .int) (N' := 64) (a0 := (64, .inl (fun _ => 0))) hx hb (hts _ q67) rfl hK hP hD hS hA (fun _ => rfl) (by decide) (by decide) (by decide) (by decide) (by decide) dX2_init_7 (fun q0 d H hK hP hD hS => ?_)
  have hK : va_K D vwCl [(d, .int)] s := hK
  refine W.widen (k := 1) (n := 64) (Nat.le_refl _) (Nat.le_refl _) ?_
  have hP : va_P D vwCl [(h0, .inr (1, [.int 0, .null, .null])), (q0, .inl (d, 64, .inl (fun _ => 0)))] H := hP
  have hD : va_D A [(h0, .inr (1, [.int 0, .null, .null])), (q0, .inl (d, 64, .inl (fun _ => 0)))] := hD
  refine va_put (ci := 1) (v := .ref q0) (ty := .array .int) hx hb hts in_X2 tyX2 tyX2_ok nmX2 hown hK hP hD hS 0 rfl rfl 1 (by decide) (hts _ q207) (fun _ h => h) rfl (by decide +kernel) rfl rfl (Nat.le_of_ble_eq_true rfl) dX2_init_9 (fun H locs hP hD hS => ?_)
  have hP : va_P D vwCl [(h0, .inr (1, [.int 0, .ref q0, .null])), (q0, .inl (d, 64, .inl (fun _ => 0)))] H := hP
  have hD : va_D A [(h0, .inr (1, [.int 0, .ref q0, .null])), (q0, .inl (d, 64, .inl (fun _ => 0)))] := hD
  refine lv_aload_n hx hb dX2_init_12 rfl (lv_at hl 0 rfl) ?_
  refine lv_sipush (v := 1024) hx hb dX2_init_13 (by decide) ?_
  refine va_newa (atype := .int) (ty := .int) (N' := 1024) (a0 := (1024, .inl (fun _ => 0))) hx hb (hts _ q67) rfl hK hP hD hS hA (fun _ => rfl) (by decide) (by decide) (by decide) (by decide) (by decide) dX2_init_16 (fun q1 d1 H hK hP hD hS => ?_)
  obtain rfl := same_d hK
  have hK := hK.sub (tys' := [(d, .int)]) [0] rfl
  refine W.widen (k := 2) (n := 1088) (Nat.le_refl _) (Nat.le_refl _) ?_
  have hP : va_P D vwCl [(h0, .inr (1, [.int 0, .ref q0, .null])), (q0, .inl (d, 64, .inl (fun _ => 0))), (q1, .inl (d, 1024, .inl (fun _ => 0)))] H := hP
  have hD : va_D A [(h0, .inr (1, [.int 0, .ref q0, .null])), (q0, .inl (d, 64, .inl (fun _ => 0))), (q1, .inl (d, 1024, .inl (fun _ => 0)))] := hD
  refine va_put (ci := 1) (v := .ref q1) (ty := .array .int) hx hb hts in_X2 tyX2 tyX2_ok nmX2 hown hK hP hD hS 0 rfl rfl 2 (by decide) (hts _ q208) (fun _ h => h) rfl (by decide +kernel) rfl rfl (Nat.le_of_ble_eq_true rfl) dX2_init_18 (fun H locs hP hD hS => ?_)
  have hP : va_P D vwCl [(h0, .inr (1, [.int 0, .ref q0, .ref q1])), (q0, .inl (d, 64, .inl (fun _ => 0))), (q1, .inl (d, 1024, .inl (fun _ => 0)))] H := hP
  have hD : va_D A [(h0, .inr (1, [.int 0, .ref q0, .ref q1])), (q0, .inl (d, 64, .inl (fun _ => 0))), (q1, .inl (d, 1024, .inl (fun _ => 0)))] := hD
  obtain ⟨a, e10, e0, e1⟩ : ∃ a : Nat → Nat, a 10 = h0 ∧ a 0 = q0 ∧ a 1 = q1 := ⟨fun k => if k = 0 then q0 else if k = 1 then q1 else h0, rfl, rfl, rfl⟩
  subst e10 e0 e1
  have hH : HH D (wM a d) d A s (fun _ _ => 0) H locs := ⟨hK, hP, hD, hS, hA⟩
  unfold X2_init at hw
  obtain ⟨σ, eσ⟩ : ∃ z : St, z = (fun _ _ => 0) := ⟨_, rfl⟩
  rw [← eσ] at hH hw
  refine lv_aload_n hx hb dX2_init_21 rfl (lv_at hl 0 rfl) ?_
  refine lv_iload_n hx hb dX2_init_22 rfl (lv_at hl 1 rfl) ?_
  refine lv_iconst (v := 2) hx hb dX2_init_23 (by decide) ?_
  refine lv_icmp_ge (tgt := 31) hx hb dX2_init_24 (by decide) (fun c2 => ?_) (fun c2 => ?_)
  · have hw := hw.1 c2
    refine lv_iload_n hx hb dX2_init_31 rfl (lv_at hl 1 rfl) ?_
    refine lv_bipush (v := 12) hx hb dX2_init_32 (by decide) ?_
    refine lv_icmp_le (tgt := 42) hx hb dX2_init_34 (by decide) (fun c3 => ?_) (fun c3 => ?_)
    · have hw := hw.1 c3
      refine lv_iload_n hx hb dX2_init_42 rfl (lv_at hl 1 rfl) ?_
      refine pM 0 S hH (by decide) q206 dX2_init_43 (fun H locs hH => ?_)
      obtain ⟨σ4, eσ4⟩ : ∃ z : St, z = up σ 10 0 x1 := ⟨_, rfl⟩
      rw [← eσ4] at hH
      have hw := hw σ4 eσ4
      exact riVi S hr hlk hH hw dX2_init_46
    · have hw := hw.2 c3
      refine lv_bipush (v := 12) hx hb dX2_init_37 (by decide) ?_
      refine lv_goto (tgt := 43) hx hb dX2_init_39 (by decide) ?_
      refine pM 0 S hH (by decide) q206 dX2_init_43 (fun H locs hH => ?_)
      obtain ⟨σ5, eσ5⟩ : ∃ z : St, z = up σ 10 0 12 := ⟨_, rfl⟩
      rw [← eσ5] at hH
      have hw := hw σ5 eσ5
      exact riVi S hr hlk hH hw dX2_init_46
  · have hw := hw.2 c2
    refine lv_iconst (v := 2) hx hb dX2_init_27 (by decide) ?_
    refine lv_goto (tgt := 43) hx hb dX2_init_28 (by decide) ?_
    refine pM 0 S hH (by decide) q206 dX2_init_43 (fun H locs hH => ?_)
    obtain ⟨σ6, eσ6⟩ : ∃ z : St, z = up σ 10 0 2 := ⟨_, rfl⟩
    rw [← eσ6] at hH
    have hw := hw σ6 eσ6
    exact riVi S hr hlk hH hw dX2_init_46
end
section
set_option maxRecDepth 100000
set_option maxRecDepth 100000
theorem gwX0_9 : GoodIn lw_all (va_wsS RX0 9 yX0_cell (ws_ yX0_cell cX0_cell 2 (some .int))) := lw_S q197 q198 q16 q199
theorem hdX0_cell : yX0_cell.cls ≠ "java/lang/invoke/MethodHandle" ∧ yX0_cell.cls ≠ "java/lang/invoke/VarHandle" ∧ (parseMethodDescriptor yX0_cell.desc).map (fun d => d.parameters.length) = some 2 := by decide +kernel
theorem gwX0_21 : GoodIn lw_all (wsV RX0 21 RX1 yX1_pages (ws_ yX1_pages cX1_pages 1 (some .int))) := lw_V q68 q69 q70 q17 q71
theorem hdX1_pages : yX1_pages.cls = RX1 ∧ yX1_pages.cls ≠ "java/lang/invoke/MethodHandle" ∧ yX1_pages.cls ≠ "java/lang/invoke/VarHandle" ∧ (parseMethodDescriptor yX1_pages.desc).map (fun d => d.parameters.length) = some 0 := by decide +kernel
theorem gwX0_25 : GoodIn lw_all (wsV RX0 25 RX2 yX2_pages (ws_ yX2_pages cX2_pages 1 (some .int))) := lw_V q216 q217 q218 q18 q219
theorem hdX2_pages : yX2_pages.cls = RX2 ∧ yX2_pages.cls ≠ "java/lang/invoke/MethodHandle" ∧ yX2_pages.cls ≠ "java/lang/invoke/VarHandle" ∧ (parseMethodDescriptor yX2_pages.desc).map (fun d => d.parameters.length) = some 0 := by decide +kernel
theorem gwX0_26 : GoodIn lw_all (wsV RX0 26 RX1 yX1_allocate (ws_ yX1_allocate cX1_allocate 4 (some .int))) := lw_V q72 q73 q74 q17 q75
theorem gwX0_30 : GoodIn lw_all (wsV RX0 30 RX2 yX2_allocate (ws_ yX2_allocate cX2_allocate 4 (some .int))) := lw_V q220 q221 q222 q18 q223
theorem gwX0_31 : GoodIn lw_all (wsV RX0 31 RX1 yX1_free (ws_ yX1_free cX1_free 3 (some .int))) := lw_V q101 q102 q103 q17 q104
theorem hdX1_free : yX1_free.cls = RX1 ∧ yX1_free.cls ≠ "java/lang/invoke/MethodHandle" ∧ yX1_free.cls ≠ "java/lang/invoke/VarHandle" ∧ (parseMethodDescriptor yX1_free.desc).map (fun d => d.parameters.length) = some 1 := by decide +kernel
theorem gwX0_34 : GoodIn lw_all (wsV RX0 34 RX2 yX2_free (ws_ yX2_free cX2_free 3 (some .int))) := lw_V q244 q245 q246 q18 q247
theorem hdX2_free : yX2_free.cls = RX2 ∧ yX2_free.cls ≠ "java/lang/invoke/MethodHandle" ∧ yX2_free.cls ≠ "java/lang/invoke/VarHandle" ∧ (parseMethodDescriptor yX2_free.desc).map (fun d => d.parameters.length) = some 1 := by decide +kernel
theorem gwX0_35 : GoodIn lw_all (wsV RX0 35 RX1 yX1_resize (ws_ yX1_resize cX1_resize 8 (some .int))) := lw_V q117 q118 q119 q17 q120
theorem hdX1_resize : yX1_resize.cls = RX1 ∧ yX1_resize.cls ≠ "java/lang/invoke/MethodHandle" ∧ yX1_resize.cls ≠ "java/lang/invoke/VarHandle" ∧ (parseMethodDescriptor yX1_resize.desc).map (fun d => d.parameters.length) = some 2 := by decide +kernel
theorem gwX0_39 : GoodIn lw_all (wsV RX0 39 RX2 yX2_resize (ws_ yX2_resize cX2_resize 7 (some .int))) := lw_V q252 q253 q254 q18 q255
theorem hdX2_resize : yX2_resize.cls = RX2 ∧ yX2_resize.cls ≠ "java/lang/invoke/MethodHandle" ∧ yX2_resize.cls ≠ "java/lang/invoke/VarHandle" ∧ (parseMethodDescriptor yX2_resize.desc).map (fun d => d.parameters.length) = some 2 := by decide +kernel
theorem gwX0_40 : GoodIn lw_all (wsV RX0 40 RX1 yX1_copy (ws_ yX1_copy cX1_copy 7 (some .int))) := lw_V q129 q130 q131 q17 q132
theorem hdX1_copy : yX1_copy.cls = RX1 ∧ yX1_copy.cls ≠ "java/lang/invoke/MethodHandle" ∧ yX1_copy.cls ≠ "java/lang/invoke/VarHandle" ∧ (parseMethodDescriptor yX1_copy.desc).map (fun d => d.parameters.length) = some 1 := by decide +kernel
theorem gwX0_43 : GoodIn lw_all (wsV RX0 43 RX2 yX2_copy (ws_ yX2_copy cX2_copy 4 (some .int))) := lw_V q256 q257 q258 q18 q259
theorem hdX2_copy : yX2_copy.cls = RX2 ∧ yX2_copy.cls ≠ "java/lang/invoke/MethodHandle" ∧ yX2_copy.cls ≠ "java/lang/invoke/VarHandle" ∧ (parseMethodDescriptor yX2_copy.desc).map (fun d => d.parameters.length) = some 1 := by decide +kernel
theorem gwX0_44 : GoodIn lw_all (wsV RX0 44 RX1 yX1_freeClass (ws_ yX1_freeClass cX1_freeClass 4 (some .int))) := lw_V q134 q135 q136 q17 q137
theorem hdX1_freeClass : yX1_freeClass.cls = RX1 ∧ yX1_freeClass.cls ≠ "java/lang/invoke/MethodHandle" ∧ yX1_freeClass.cls ≠ "java/lang/invoke/VarHandle" ∧ (parseMethodDescriptor yX1_freeClass.desc).map (fun d => d.parameters.length) = some 1 := by decide +kernel
theorem gwX0_47 : GoodIn lw_all (wsV RX0 47 RX2 yX2_freeClass (ws_ yX2_freeClass cX2_freeClass 4 (some .int))) := lw_V q261 q262 q263 q18 q264
theorem hdX2_freeClass : yX2_freeClass.cls = RX2 ∧ yX2_freeClass.cls ≠ "java/lang/invoke/MethodHandle" ∧ yX2_freeClass.cls ≠ "java/lang/invoke/VarHandle" ∧ (parseMethodDescriptor yX2_freeClass.desc).map (fun d => d.parameters.length) = some 1 := by decide +kernel
theorem gwX0_48 : GoodIn lw_all (wsV RX0 48 RX1 yX1_read (ws_ yX1_read cX1_read 3 (some .int))) := lw_V q141 q142 q143 q17 q144
theorem hdX1_read : yX1_read.cls = RX1 ∧ yX1_read.cls ≠ "java/lang/invoke/MethodHandle" ∧ yX1_read.cls ≠ "java/lang/invoke/VarHandle" ∧ (parseMethodDescriptor yX1_read.desc).map (fun d => d.parameters.length) = some 2 := by decide +kernel
theorem gwX0_51 : GoodIn lw_all (wsV RX0 51 RX2 yX2_read (ws_ yX2_read cX2_read 3 (some .int))) := lw_V q265 q266 q267 q18 q268
theorem hdX2_read : yX2_read.cls = RX2 ∧ yX2_read.cls ≠ "java/lang/invoke/MethodHandle" ∧ yX2_read.cls ≠ "java/lang/invoke/VarHandle" ∧ (parseMethodDescriptor yX2_read.desc).map (fun d => d.parameters.length) = some 2 := by decide +kernel
theorem gwX0_52 : GoodIn lw_all (wsV RX0 52 RX1 yX1_write (ws_ yX1_write cX1_write 5 (some .int))) := lw_V q145 q146 q147 q17 q148
theorem hdX1_write : yX1_write.cls = RX1 ∧ yX1_write.cls ≠ "java/lang/invoke/MethodHandle" ∧ yX1_write.cls ≠ "java/lang/invoke/VarHandle" ∧ (parseMethodDescriptor yX1_write.desc).map (fun d => d.parameters.length) = some 3 := by decide +kernel
theorem gwX0_56 : GoodIn lw_all (wsV RX0 56 RX2 yX2_write (ws_ yX2_write cX2_write 4 (some .int))) := lw_V q269 q270 q271 q18 q272
theorem hdX2_write : yX2_write.cls = RX2 ∧ yX2_write.cls ≠ "java/lang/invoke/MethodHandle" ∧ yX2_write.cls ≠ "java/lang/invoke/VarHandle" ∧ (parseMethodDescriptor yX2_write.desc).map (fun d => d.parameters.length) = some 3 := by decide +kernel
theorem gwX0_57 : GoodIn lw_all (wsV RX0 57 RX1 yX1_fill (ws_ yX1_fill cX1_fill 6 (some .int))) := lw_V q149 q150 q151 q17 q152
theorem hdX1_fill : yX1_fill.cls = RX1 ∧ yX1_fill.cls ≠ "java/lang/invoke/MethodHandle" ∧ yX1_fill.cls ≠ "java/lang/invoke/VarHandle" ∧ (parseMethodDescriptor yX1_fill.desc).map (fun d => d.parameters.length) = some 3 := by decide +kernel
theorem gwX0_60 : GoodIn lw_all (wsV RX0 60 RX2 yX2_fill (ws_ yX2_fill cX2_fill 5 (some .int))) := lw_V q273 q274 q275 q18 q276
theorem hdX2_fill : yX2_fill.cls = RX2 ∧ yX2_fill.cls ≠ "java/lang/invoke/MethodHandle" ∧ yX2_fill.cls ≠ "java/lang/invoke/VarHandle" ∧ (parseMethodDescriptor yX2_fill.desc).map (fun d => d.parameters.length) = some 3 := by decide +kernel
theorem gwX0_61 : GoodIn lw_all (wsV RX0 61 RX1 yX1_exchange (ws_ yX1_exchange cX1_exchange 6 (some .int))) := lw_V q153 q154 q155 q17 q156
theorem hdX1_exchange : yX1_exchange.cls = RX1 ∧ yX1_exchange.cls ≠ "java/lang/invoke/MethodHandle" ∧ yX1_exchange.cls ≠ "java/lang/invoke/VarHandle" ∧ (parseMethodDescriptor yX1_exchange.desc).map (fun d => d.parameters.length) = some 2 := by decide +kernel
theorem gwX0_64 : GoodIn lw_all (wsV RX0 64 RX2 yX2_exchange (ws_ yX2_exchange cX2_exchange 6 (some .int))) := lw_V q277 q278 q279 q18 q280
theorem hdX2_exchange : yX2_exchange.cls = RX2 ∧ yX2_exchange.cls ≠ "java/lang/invoke/MethodHandle" ∧ yX2_exchange.cls ≠ "java/lang/invoke/VarHandle" ∧ (parseMethodDescriptor yX2_exchange.desc).map (fun d => d.parameters.length) = some 2 := by decide +kernel
theorem gwX0_65 : GoodIn lw_all (wsV RX0 65 RX1 yX1_size (ws_ yX1_size cX1_size 2 (some .int))) := lw_V q157 q158 q159 q17 q160
theorem hdX1_size : yX1_size.cls = RX1 ∧ yX1_size.cls ≠ "java/lang/invoke/MethodHandle" ∧ yX1_size.cls ≠ "java/lang/invoke/VarHandle" ∧ (parseMethodDescriptor yX1_size.desc).map (fun d => d.parameters.length) = some 1 := by decide +kernel
theorem gwX0_68 : GoodIn lw_all (wsV RX0 68 RX2 yX2_size (ws_ yX2_size cX2_size 2 (some .int))) := lw_V q281 q282 q283 q18 q284
theorem hdX2_size : yX2_size.cls = RX2 ∧ yX2_size.cls ≠ "java/lang/invoke/MethodHandle" ∧ yX2_size.cls ≠ "java/lang/invoke/VarHandle" ∧ (parseMethodDescriptor yX2_size.desc).map (fun d => d.parameters.length) = some 1 := by decide +kernel
theorem gwX0_69 : GoodIn lw_all (wsV RX0 69 RX1 yX1_live (ws_ yX1_live cX1_live 1 (some .int))) := lw_V q161 q162 q163 q17 q164
theorem hdX1_live : yX1_live.cls = RX1 ∧ yX1_live.cls ≠ "java/lang/invoke/MethodHandle" ∧ yX1_live.cls ≠ "java/lang/invoke/VarHandle" ∧ (parseMethodDescriptor yX1_live.desc).map (fun d => d.parameters.length) = some 0 := by decide +kernel
theorem gwX0_72 : GoodIn lw_all (wsV RX0 72 RX2 yX2_live (ws_ yX2_live cX2_live 3 (some .int))) := lw_V q285 q286 q287 q18 q288
theorem hdX2_live : yX2_live.cls = RX2 ∧ yX2_live.cls ≠ "java/lang/invoke/MethodHandle" ∧ yX2_live.cls ≠ "java/lang/invoke/VarHandle" ∧ (parseMethodDescriptor yX2_live.desc).map (fun d => d.parameters.length) = some 0 := by decide +kernel
theorem gwX0_73 : GoodIn lw_all (wsV RX0 73 RX1 yX1_liveIn (ws_ yX1_liveIn cX1_liveIn 2 (some .int))) := lw_V q165 q166 q167 q17 q168
theorem hdX1_liveIn : yX1_liveIn.cls = RX1 ∧ yX1_liveIn.cls ≠ "java/lang/invoke/MethodHandle" ∧ yX1_liveIn.cls ≠ "java/lang/invoke/VarHandle" ∧ (parseMethodDescriptor yX1_liveIn.desc).map (fun d => d.parameters.length) = some 1 := by decide +kernel
theorem gwX0_76 : GoodIn lw_all (wsV RX0 76 RX2 yX2_liveIn (ws_ yX2_liveIn cX2_liveIn 2 (some .int))) := lw_V q289 q290 q291 q18 q292
theorem hdX2_liveIn : yX2_liveIn.cls = RX2 ∧ yX2_liveIn.cls ≠ "java/lang/invoke/MethodHandle" ∧ yX2_liveIn.cls ≠ "java/lang/invoke/VarHandle" ∧ (parseMethodDescriptor yX2_liveIn.desc).map (fun d => d.parameters.length) = some 1 := by decide +kernel
theorem gwX0_77 : GoodIn lw_all (wsV RX0 77 RX1 yX1_needed (ws_ yX1_needed cX1_needed 1 (some .int))) := lw_V q169 q170 q171 q17 q172
theorem hdX1_needed : yX1_needed.cls = RX1 ∧ yX1_needed.cls ≠ "java/lang/invoke/MethodHandle" ∧ yX1_needed.cls ≠ "java/lang/invoke/VarHandle" ∧ (parseMethodDescriptor yX1_needed.desc).map (fun d => d.parameters.length) = some 0 := by decide +kernel
theorem gwX0_80 : GoodIn lw_all (wsV RX0 80 RX2 yX2_needed (ws_ yX2_needed cX2_needed 1 (some .int))) := lw_V q293 q294 q295 q18 q296
theorem hdX2_needed : yX2_needed.cls = RX2 ∧ yX2_needed.cls ≠ "java/lang/invoke/MethodHandle" ∧ yX2_needed.cls ≠ "java/lang/invoke/VarHandle" ∧ (parseMethodDescriptor yX2_needed.desc).map (fun d => d.parameters.length) = some 0 := by decide +kernel
theorem gwX0_81 : GoodIn lw_all (wsV RX0 81 RX1 yX1_roomFor (ws_ yX1_roomFor cX1_roomFor 4 (some .int))) := lw_V q173 q174 q175 q17 q176
theorem hdX1_roomFor : yX1_roomFor.cls = RX1 ∧ yX1_roomFor.cls ≠ "java/lang/invoke/MethodHandle" ∧ yX1_roomFor.cls ≠ "java/lang/invoke/VarHandle" ∧ (parseMethodDescriptor yX1_roomFor.desc).map (fun d => d.parameters.length) = some 1 := by decide +kernel
theorem gwX0_84 : GoodIn lw_all (wsV RX0 84 RX2 yX2_roomFor (ws_ yX2_roomFor cX2_roomFor 4 (some .int))) := lw_V q297 q298 q299 q18 q300
theorem hdX2_roomFor : yX2_roomFor.cls = RX2 ∧ yX2_roomFor.cls ≠ "java/lang/invoke/MethodHandle" ∧ yX2_roomFor.cls ≠ "java/lang/invoke/VarHandle" ∧ (parseMethodDescriptor yX2_roomFor.desc).map (fun d => d.parameters.length) = some 1 := by decide +kernel
theorem gwX0_85 : GoodIn lw_all (wsV RX0 85 RX1 yX1_sum (ws_ yX1_sum cX1_sum 4 (some .int))) := lw_V q177 q178 q179 q17 q180
theorem hdX1_sum : yX1_sum.cls = RX1 ∧ yX1_sum.cls ≠ "java/lang/invoke/MethodHandle" ∧ yX1_sum.cls ≠ "java/lang/invoke/VarHandle" ∧ (parseMethodDescriptor yX1_sum.desc).map (fun d => d.parameters.length) = some 1 := by decide +kernel
theorem gwX0_88 : GoodIn lw_all (wsV RX0 88 RX2 yX2_sum (ws_ yX2_sum cX2_sum 4 (some .int))) := lw_V q301 q302 q303 q18 q304
theorem hdX2_sum : yX2_sum.cls = RX2 ∧ yX2_sum.cls ≠ "java/lang/invoke/MethodHandle" ∧ yX2_sum.cls ≠ "java/lang/invoke/VarHandle" ∧ (parseMethodDescriptor yX2_sum.desc).map (fun d => d.parameters.length) = some 1 := by decide +kernel
theorem gwX0_89 : GoodIn lw_all (wsV RX0 89 RX1 yX1_next (ws_ yX1_next cX1_next 3 (some .int))) := lw_V q181 q182 q183 q17 q184
theorem hdX1_next : yX1_next.cls = RX1 ∧ yX1_next.cls ≠ "java/lang/invoke/MethodHandle" ∧ yX1_next.cls ≠ "java/lang/invoke/VarHandle" ∧ (parseMethodDescriptor yX1_next.desc).map (fun d => d.parameters.length) = some 1 := by decide +kernel
theorem gwX0_92 : GoodIn lw_all (wsV RX0 92 RX2 yX2_next (ws_ yX2_next cX2_next 3 (some .int))) := lw_V q305 q306 q307 q18 q308
theorem hdX2_next : yX2_next.cls = RX2 ∧ yX2_next.cls ≠ "java/lang/invoke/MethodHandle" ∧ yX2_next.cls ≠ "java/lang/invoke/VarHandle" ∧ (parseMethodDescriptor yX2_next.desc).map (fun d => d.parameters.length) = some 1 := by decide +kernel
theorem gwX0_93 : GoodIn lw_all (wsV RX0 93 RX1 yX1_count (ws_ yX1_count cX1_count 5 (some .int))) := lw_V q185 q186 q187 q17 q188
theorem hdX1_count : yX1_count.cls = RX1 ∧ yX1_count.cls ≠ "java/lang/invoke/MethodHandle" ∧ yX1_count.cls ≠ "java/lang/invoke/VarHandle" ∧ (parseMethodDescriptor yX1_count.desc).map (fun d => d.parameters.length) = some 1 := by decide +kernel
theorem gwX0_96 : GoodIn lw_all (wsV RX0 96 RX2 yX2_count (ws_ yX2_count cX2_count 5 (some .int))) := lw_V q309 q310 q311 q18 q312
theorem hdX2_count : yX2_count.cls = RX2 ∧ yX2_count.cls ≠ "java/lang/invoke/MethodHandle" ∧ yX2_count.cls ≠ "java/lang/invoke/VarHandle" ∧ (parseMethodDescriptor yX2_count.desc).map (fun d => d.parameters.length) = some 1 := by decide +kernel
theorem gwX0_97 : GoodIn lw_all (wsV RX0 97 RX1 yX1_faults (ws_ yX1_faults cX1_faults 5 (some .int))) := lw_V q189 q190 q191 q17 q192
theorem hdX1_faults : yX1_faults.cls = RX1 ∧ yX1_faults.cls ≠ "java/lang/invoke/MethodHandle" ∧ yX1_faults.cls ≠ "java/lang/invoke/VarHandle" ∧ (parseMethodDescriptor yX1_faults.desc).map (fun d => d.parameters.length) = some 0 := by decide +kernel
theorem gwX0_100 : GoodIn lw_all (wsV RX0 100 RX2 yX2_faults (ws_ yX2_faults cX2_faults 1 (some .int))) := lw_V q313 q314 q315 q18 q316
theorem hdX2_faults : yX2_faults.cls = RX2 ∧ yX2_faults.cls ≠ "java/lang/invoke/MethodHandle" ∧ yX2_faults.cls ≠ "java/lang/invoke/VarHandle" ∧ (parseMethodDescriptor yX2_faults.desc).map (fun d => d.parameters.length) = some 0 := by decide +kernel
/-! THE CLAIM OUT OF ONE WALK OF THE LAW'S BODY. Your part is whole_start (and what it stands on); all else here is the same for every law, but numbers. -/
def R_law : String := "CompactFitLaw"
def lw_P (b : Addr) (xs : List Int32) (args : Array Value) (s : State) : Prop := args = #[.ref b] ∧ s.IntsAt b xs ∧ xs.length ≤ 257 ∧ (Jvm.Cond.and given_1 narrow_1).before args s = true
def lw_Q (_ : Array Value) (s : State) (o : Outcome) (t : State) : Prop := o = .returned (some (.int 1)) ∧ Framed s o t [] 600000 7290000
def lw_Z (below : List Frame) (a : Array Value) (s : State) : State → Prop := fun t => ∃ o, t.status = .running ∧ Ended t below o ∧ lw_Q a s o t
/-- the law's own end, with 1 on the stack, nothing written that was there before, its room as the claim has it -/
theorem lw_ret {p : Program} {l : Launch} {e : Env} {s : State} {m : MethodId} {below : List Frame} {meth : Method} {c : Code} {b : Nat} (hx : p.tables.exec = Jvm.exec) (hb : c.code = code) (hr : meth.sig.returnType = ret) (hlocks : meth.locks = false) {pc : Nat} {H : Heap} {ls : Array Slot} (hdg : decode code pc = .ok (.ireturn, 1)) : W p l e room_1 s m #[Value.ref b] below meth c H [] 600000 7290000 (lw_Z below #[Value.ref b] s) (F0 m pc ls [.int 1]) := by
  intro T hT X
  obtain ⟨fs, hret, hrun, hended, hW, hframe⟩ := X.leave (v := some (.int 1)) (hlocks := hlocks) (fun h => by rw [hr] at h; cases h)
  have hmeth' : T.vm.method? m = some meth := X.method'
  refine ⟨T.setFrames fs, ?_, .returned (some (.int 1)), hrun, hended, rfl, ⟨_, rfl⟩, hW, hframe⟩
  jvm_step X.here [X.here.top, hx, hb, hdg, hmeth', hr, ret, narrow_b1]
  (try refine ⟨rfl, ?_⟩); (try refine ⟨rfl, ?_⟩)
  first | (intro acts; rw [hret _ acts rfl rfl rfl]) | rw [hret _ _ rfl rfl rfl]
  exact Steps.refl _
/-- what holds at the law's entry: the machine, the code, the tables' words (any of lw_tbl by 'hts w (by decide +kernel)'), the script of L ints xs at the cell b, what the Statement gives of the start (any of its parts by flat_of_before) -/
def lw_At (p : Program) (s : State) (m : MethodId) (meth : Method) (c : Code) (b L : Nat) (xs : Nat → Int32) : Prop :=
  p.tables.exec = Jvm.exec ∧ c.code = code ∧ meth.sig.returnType = ret ∧ c.maxLocals = 4 ∧ s.vm.findClass R_law = some m.cls ∧ (∀ w ∈ lw_tbl, w.before #[Value.ref b] s = true) ∧ va_X b L xs s s.heap ∧ b < s.heap.size ∧ meth.locks = false ∧ (Jvm.Cond.and given_1 narrow_1).before #[Value.ref b] s = true
/-- the operations keep R and answer alike -/
def SIM (R : St → St → Prop) (σ τ : St) : Prop :=
  (X1_pages  σ (fun r1 σ1 => X2_pages  τ (fun r2 τ1 => r1 = r2 ∧ R σ1 τ1))) ∧
  (∀ x1 : Int32, X1_allocate x1 σ (fun r1 σ1 => X2_allocate x1 τ (fun r2 τ1 => r1 = r2 ∧ R σ1 τ1))) ∧
  (∀ x1 : Int32, X1_free x1 σ (fun r1 σ1 => X2_free x1 τ (fun r2 τ1 => r1 = r2 ∧ R σ1 τ1))) ∧
  (∀ x1 x2 : Int32, X1_resize x1 x2 σ (fun r1 σ1 => X2_resize x1 x2 τ (fun r2 τ1 => r1 = r2 ∧ R σ1 τ1))) ∧
  (∀ x1 : Int32, X1_copy x1 σ (fun r1 σ1 => X2_copy x1 τ (fun r2 τ1 => r1 = r2 ∧ R σ1 τ1))) ∧
  (∀ x1 : Int32, X1_freeClass x1 σ (fun r1 σ1 => X2_freeClass x1 τ (fun r2 τ1 => r1 = r2 ∧ R σ1 τ1))) ∧
  (∀ x1 x2 : Int32, X1_read x1 x2 σ (fun r1 σ1 => X2_read x1 x2 τ (fun r2 τ1 => r1 = r2 ∧ R σ1 τ1))) ∧
  (∀ x1 x2 x3 : Int32, X1_write x1 x2 x3 σ (fun r1 σ1 => X2_write x1 x2 x3 τ (fun r2 τ1 => r1 = r2 ∧ R σ1 τ1))) ∧
  (∀ x1 x2 x3 : Int32, X1_fill x1 x2 x3 σ (fun r1 σ1 => X2_fill x1 x2 x3 τ (fun r2 τ1 => r1 = r2 ∧ R σ1 τ1))) ∧
  (∀ x1 x2 : Int32, X1_exchange x1 x2 σ (fun r1 σ1 => X2_exchange x1 x2 τ (fun r2 τ1 => r1 = r2 ∧ R σ1 τ1))) ∧
  (∀ x1 : Int32, X1_size x1 σ (fun r1 σ1 => X2_size x1 τ (fun r2 τ1 => r1 = r2 ∧ R σ1 τ1))) ∧
  (X1_live  σ (fun r1 σ1 => X2_live  τ (fun r2 τ1 => r1 = r2 ∧ R σ1 τ1))) ∧
  (∀ x1 : Int32, X1_liveIn x1 σ (fun r1 σ1 => X2_liveIn x1 τ (fun r2 τ1 => r1 = r2 ∧ R σ1 τ1))) ∧
  (X1_needed  σ (fun r1 σ1 => X2_needed  τ (fun r2 τ1 => r1 = r2 ∧ R σ1 τ1))) ∧
  (∀ x1 : Int32, X1_roomFor x1 σ (fun r1 σ1 => X2_roomFor x1 τ (fun r2 τ1 => r1 = r2 ∧ R σ1 τ1))) ∧
  (∀ x1 : Int32, X1_sum x1 σ (fun r1 σ1 => X2_sum x1 τ (fun r2 τ1 => r1 = r2 ∧ R σ1 τ1))) ∧
  (∀ x1 : Int32, X1_next x1 σ (fun r1 σ1 => X2_next x1 τ (fun r2 τ1 => r1 = r2 ∧ R σ1 τ1))) ∧
  (∀ x1 : Int32, X1_count x1 σ (fun r1 σ1 => X2_count x1 τ (fun r2 τ1 => r1 = r2 ∧ R σ1 τ1))) ∧
  (X1_faults  σ (fun r1 σ1 => X2_faults  τ (fun r2 τ1 => r1 = r2 ∧ R σ1 τ1)))
def HHL (D : va_G) (a : Nat → Nat) (d : ClassId) (b : Nat → Nat) (d2 : ClassId) (A : Nat → Prop) (s : State) (σ τ : St) (H : Heap) (locs : List Loc) : Prop := va_K D vwCl [(d, .int)] s ∧ va_K D vwCl [(d2, .int)] s ∧ va_P D vwCl (wX a d σ ++ wM b d2 τ) H ∧ va_D A (wX a d σ ++ wM b d2 τ) ∧ va_S A s.heap H locs ∧ ∀ q : Nat, s.heap.size ≤ q → A q
section LAWROWS
variable {p : Program} {l : Launch} {e : Env} {R : Room} {s : State} {m : MethodId} {args : Array Value} {below : List Frame} {meth : Method} {c : Code} {H : Heap} {locs : List Loc} {cells slots : Nat} {Q : State → Prop}
variable {cc : ByteArray} {pc nL : Nat} {ls : Array Slot} {rest : List Value} {D : va_G} {d d2 : ClassId} {A : Nat → Prop} {σ τ : St} {a b : Nat → Nat} {own : String}
theorem cLX {y : MethodName} {bytes : ByteArray} {maxL n index : Nat} {ret : Option FieldType} {rm : Room} {As st : List Value} {F : St → (Int32 → St → Prop) → Prop} {K : Int32 → St → Prop} (S : CallFix p m c cc nL s args lw_all own) (hH : HHL D a d b d2 A s σ τ H locs) (hM : CTi l y bytes maxL ret rm (wX a d) D d (.ref (a 10) :: As) F) (cw : CallW R s args own RX1 index y bytes maxL ret (ws_ y bytes maxL ret) rm 0 0 n) (hp : F σ K) (hn : As.length = n) (hsize : ls.size = nL) (hstack : st = As.reverse ++ .ref (a 10) :: rest) (hroom : (rest.map fun v => v.category).sum ≤ 8) (hdg : decode cc pc = .ok (.invokevirtual index, 3)) (hf : cells ≤ R.cells ∧ slots ≤ R.slots)
    (kk : ∀ (r : Int32) (σ1 : St) (H1 : Heap) (locs1 : List Loc), K r σ1 → HHL D a d b d2 A s σ1 τ H1 locs1 → W p l e R s m args below meth c H1 locs1 cells slots Q (F0 m (pc + 3) ls (.int r :: rest))) : W p l e R s m args below meth c H locs cells slots Q (F0 m pc ls st) := by
  obtain ⟨hK, hK2, hP, hD, hS, hA⟩ := hH
  have hPc := hP.sub (ws' := wX a d σ) [0, 1, 2, 3, 4, 5, 6, 7, 8, 9, 10] rfl
  have hDc := hD.sub (ws' := wX a d σ) [0, 1, 2, 3, 4, 5, 6, 7, 8, 9, 10] (by decide) rfl
  have hFc := va_free (wc := wX a d σ) hD hS hA [0, 1, 2, 3, 4, 5, 6, 7, 8, 9, 10] rfl
  refine va_calli (va_runV (As := As) (rest := rest) S (hM H.size σ K) cw ⟨fun a' U g mk hq => by obtain ⟨q0, q1, ⟨qP, qK, qD⟩, qF⟩ := hq; exact ⟨q0, q1, ⟨qP, va_K.moved (u := U) (U := U.calling g mk a') (Vm.Alike.refl U.vm) qK, qD⟩, qF⟩, va_recv hK hPc (ci := 0) (q0 := 0) rfl rfl, fun U hU hW => ⟨rfl, by rw [hU], ⟨by rw [hU]; exact hPc, va_K.moved hW.alike hK, hDc.weaken (fun _ _ _ _ => trivial)⟩, hp⟩⟩ rfl hn hsize hstack (lv_room hroom) hdg hf) hS (fun x _ h => hFc x h) hFc (fun r u t H1 locs1 ht hvm hw1 hB hz1 hk1 hS1 => ?_)
  obtain ⟨hP1, hK1, hD1⟩ := hB
  rw [ht] at hP1
  obtain ⟨hPj, hDj⟩ := va_join (wr := wM b d2 τ) (w1 := wX a d u) hP hD [0, 1, 2, 3, 4, 5, 6, 7, 8, 9, 10] [11, 12, 13] rfl rfl (by decide) (by decide) hk1 hFc hP1 hD1
  exact kk r u H1 locs1 hw1 ⟨va_K.moved hvm.symm hK1, hK2, hPj.sub [3, 4, 5, 6, 7, 8, 9, 10, 11, 12, 13, 0, 1, 2] rfl, hDj.sub [3, 4, 5, 6, 7, 8, 9, 10, 11, 12, 13, 0, 1, 2] (by decide) rfl, hS1, hA⟩
theorem cLM {y : MethodName} {bytes : ByteArray} {maxL n index : Nat} {ret : Option FieldType} {rm : Room} {As st : List Value} {F : St → (Int32 → St → Prop) → Prop} {K : Int32 → St → Prop} (S : CallFix p m c cc nL s args lw_all own) (hH : HHL D a d b d2 A s σ τ H locs) (hM : CTi l y bytes maxL ret rm (wM b d2) D d2 (.ref (b 10) :: As) F) (cw : CallW R s args own RX2 index y bytes maxL ret (ws_ y bytes maxL ret) rm 0 0 n) (hp : F τ K) (hn : As.length = n) (hsize : ls.size = nL) (hstack : st = As.reverse ++ .ref (b 10) :: rest) (hroom : (rest.map fun v => v.category).sum ≤ 8) (hdg : decode cc pc = .ok (.invokevirtual index, 3)) (hf : cells ≤ R.cells ∧ slots ≤ R.slots)
    (kk : ∀ (r : Int32) (τ1 : St) (H1 : Heap) (locs1 : List Loc), K r τ1 → HHL D a d b d2 A s σ τ1 H1 locs1 → W p l e R s m args below meth c H1 locs1 cells slots Q (F0 m (pc + 3) ls (.int r :: rest))) : W p l e R s m args below meth c H locs cells slots Q (F0 m pc ls st) := by
  obtain ⟨hK, hK2, hP, hD, hS, hA⟩ := hH
  have hPc := hP.sub (ws' := wM b d2 τ) [11, 12, 13] rfl
  have hDc := hD.sub (ws' := wM b d2 τ) [11, 12, 13] (by decide) rfl
  have hFc := va_free (wc := wM b d2 τ) hD hS hA [11, 12, 13] rfl
  refine va_calli (va_runV (As := As) (rest := rest) S (hM H.size τ K) cw ⟨fun a' U g mk hq => by obtain ⟨q0, q1, ⟨qP, qK, qD⟩, qF⟩ := hq; exact ⟨q0, q1, ⟨qP, va_K.moved (u := U) (U := U.calling g mk a') (Vm.Alike.refl U.vm) qK, qD⟩, qF⟩, va_recv hK2 hPc (ci := 1) (q0 := 0) rfl rfl, fun U hU hW => ⟨rfl, by rw [hU], ⟨by rw [hU]; exact hPc, va_K.moved hW.alike hK2, hDc.weaken (fun _ _ _ _ => trivial)⟩, hp⟩⟩ rfl hn hsize hstack (lv_room hroom) hdg hf) hS (fun x _ h => hFc x h) hFc (fun r u t H1 locs1 ht hvm hw1 hB hz1 hk1 hS1 => ?_)
  obtain ⟨hP1, hK1, hD1⟩ := hB
  rw [ht] at hP1
  obtain ⟨hPj, hDj⟩ := va_join (wr := wX a d σ) (w1 := wM b d2 u) hP hD [11, 12, 13] [0, 1, 2, 3, 4, 5, 6, 7, 8, 9, 10] rfl rfl (by decide) (by decide) hk1 hFc hP1 hD1
  exact kk r u H1 locs1 hw1 ⟨hK, va_K.moved hvm.symm hK1, hPj, hDj, hS1, hA⟩
theorem sldJ {b L j : Nat} {xs : Nat → Int32} {H0 : Heap} {i : Int32} (hx : p.tables.exec = Jvm.exec) (hb : c.code = cc) (hX : va_X b L xs s H0) (hbl : b < H0.size) (hbA : ¬ A b) (hS : va_S A H0 H locs) (hi : i = nI j) (hj : j < L) (hL : L ≤ 257) (hdg : decode cc pc = .ok (.iaload, 1))
    (kk : W p l e R s m args below meth c H locs cells slots Q (F0 m (pc + 1) ls (.int (xs j) :: rest))) : W p l e R s m args below meth c H locs cells slots Q (F0 m pc ls (.int i :: .ref b :: rest)) := by
  subst hi
  refine va_sld hx hb hX hbl hbA hS (vp_in_nI hj (by omega)) hdg ?_
  rw [nI_clamp (by omega)]
  exact kk
end LAWROWS
/-- cell(script, 0) -/
def cell0 (L : Nat) (xs : Nat → Int32) : Int32 := if 0 < L then xs 0 else 0
set_option maxHeartbeats 4000000 in
theorem tX0_cell (l : Launch) (b L : Nat) (xs : Nat → Int32) (hL : L ≤ 257) : Met l yX0_cell (ws_ yX0_cell cX0_cell 2 (some .int)) ({ frames := 0, cells := 0, slots := 0, locals := 0 }) (va_Pc [.ref b, .int 0] (fun U => b < U.heap.size ∧ va_X b L xs U U.heap)) (va_Qi (fun (r : Int32) (_ : Unit) => r = cell0 L xs) (fun _ _ => True) (fun _ => False)) 0 0 (fun _ => False) := by
  refine Met.ofW (cc := cX0_cell) (maxL := 2) (ret := some .int) (by decide) rfl ?_
  intro p e s m args below meth c s₁ B hml hv
  obtain ⟨rfl, hbl, hX⟩ := hv
  have hx := B.exec
  have hb := B.bytes
  have hr := B.returns
  have hlk := B.notSynchronized
  have hl := lv_entry ([.ref b, .int 0]) (n := 2) (Nat.le_of_ble_eq_true rfl)
  rw [lg_entry_eq]
  generalize (lg_sl ([.ref b, .int 0]) ++ List.replicate (2 - (lg_sl ([.ref b, .int 0])).length) Slot.unset).toArray = ls at hl ⊢
  have hl : lv_has ls 2 [(0, .ref b), (1, .int 0)] := hl
  have hS : va_S (fun _ => False) s.heap s.heap [] := va_S.rf
  have hbA : ¬ (fun _ : Nat => False) b := fun h => h
  refine lv_iload_n hx hb dX0_cell_0 rfl (lv_at hl 1 rfl) ?_
  refine lv_aload_n hx hb dX0_cell_1 rfl (lv_at hl 0 rfl) ?_
  refine va_slen hx hb hX hbl hbA hS dX0_cell_2 ?_
  refine lv_icmp_ge (tgt := 12) hx hb dX0_cell_3 (by decide) (fun c1 => ?_) (fun c1 => ?_)
  · have h0 : L = 0 := by
      have := (nI_leI (a := L) (b := 0) (by omega) (by omega)).mp c1
      omega
    refine lv_iconst (v := 0) hx hb dX0_cell_12 (by decide) ?_
    exact W.iret hx hb hr (fun t ht hW => ⟨⟨0, (), rfl, by rw [h0]; rfl, trivial⟩, hS.F ht⟩) hS.2.2 dX0_cell_13 hlk
  · have h0 : 0 < L := by
      rcases Nat.lt_or_ge 0 L with h | h
      · exact h
      · exact absurd (nI_le (a := L) (b := 0) (by omega) (by omega)) c1
    refine lv_aload_n hx hb dX0_cell_6 rfl (lv_at hl 0 rfl) ?_
    refine lv_iload_n hx hb dX0_cell_7 rfl (lv_at hl 1 rfl) ?_
    refine sldJ (j := 0) hx hb hX hbl hbA hS nI_0.symm h0 hL dX0_cell_8 ?_
    refine lv_goto (tgt := 13) hx hb dX0_cell_9 (by decide) ?_
    exact W.iret hx hb hr (fun t ht hW => ⟨⟨xs 0, (), rfl, by simp [cell0, h0], trivial⟩, hS.F ht⟩) hS.2.2 dX0_cell_13 hlk
theorem law_out {L i : Nat} {x3 : Int32} (h : L < i + 4) (ex3 : x3 = nI i) (hi : i ≤ 1000) (hL : L ≤ 257) : Int32.ofNat L - 4 < x3 := by
  rw [ex3, Int32.lt_iff_toInt_lt, nI_toInt (by omega)]
  have := pk_sub_toInt (a := L) (b := 4) (by omega) (by omega)
  have e : nI L - nI 4 = Int32.ofNat L - 4 := rfl
  rw [← e, this]
  omega
set_option maxHeartbeats 4000000 in
/-- the law's loop at its head -/
theorem law_loop {p : Program} {l : Launch} {e : Env} {s : State} {m : MethodId} {below : List Frame} {meth : Method} {c : Code} {a b : Nat → Nat} {d d2 : ClassId} {D : va_G} {bs L : Nat} {xs : Nat → Int32} {RR : St → St → Prop} (hsim : ∀ σ τ, RR σ τ → SIM RR σ τ) (hL : L ≤ 257) (C0 : lw_At p s m meth c bs L xs) :
    ∀ (n i : Nat) (x3 : Int32) (σ τ : St), L + 4 ≤ i + n → i ≤ L + 4 → x3 = nI i → RR σ τ → ∀ (H : Heap) (locs : List Loc) (ls : Array Slot), HHL D a d b d2 (fun q : Nat => s.heap.size ≤ q) s σ τ H locs → lv_has ls 4 [(0, .ref bs), (1, .ref (a 10)), (2, .ref (b 10)), (3, .int x3)] → W p l e room_1 s m #[Value.ref bs] below meth c H locs 14 1632 (lw_Z below #[Value.ref bs] s) (F0 m 28 ls []) := by
  obtain ⟨hx, hb, hr, hml, hown, hts0, hX, hbl, hlk, hgv⟩ := C0
  have hts : ∀ w ∈ lw_all, w.before #[Value.ref bs] s = true := fun w h => hts0 w (lw_all_tbl h)
  have S : CallFix p m c cL_law 4 s #[Value.ref bs] lw_all RX0 := ⟨hx, hb, hml, hown, hts⟩
  have hbA : ¬ (fun q : Nat => s.heap.size ≤ q) bs := Nat.not_le.mpr hbl
  intro n
  induction n with
  | zero =>
    intro i x3 σ τ h1 h2 ex3 hR H locs ls hH hl
    refine lv_iload_n hx hb dL_law_28 rfl (lv_at hl 3 rfl) ?_
    refine lv_aload_n hx hb dL_law_29 rfl (lv_at hl 0 rfl) ?_
    refine va_slen hx hb hX hbl hbA hH.2.2.2.2.1 dL_law_30 ?_
    refine lv_iconst (v := 4) hx hb dL_law_31 (by decide) ?_
    refine lv_isub hx hb dL_law_32 ?_
    refine lv_icmp_gt (tgt := 605) hx hb dL_law_33 (by decide) (fun c1 => ?_) (fun c1 => ?_)
    · refine lv_iconst (v := 1) hx hb dL_law_605 (by decide) ?_
      refine va_forget (fun q hq => hH.2.2.2.2.1.2.2 q hq) ?_
      refine W.widen (k := 600000) (n := 7290000) (by decide) (by decide) ?_
      exact lw_ret hx hb hr hlk dL_law_606
    · exact absurd (law_out (by omega) ex3 (by omega) (by omega)) c1
  | succ n ih =>
    intro i x3 σ τ h1 h2 ex3 hR H locs ls hH hl
    refine lv_iload_n hx hb dL_law_28 rfl (lv_at hl 3 rfl) ?_
    refine lv_aload_n hx hb dL_law_29 rfl (lv_at hl 0 rfl) ?_
    refine va_slen hx hb hX hbl hbA hH.2.2.2.2.1 dL_law_30 ?_
    refine lv_iconst (v := 4) hx hb dL_law_31 (by decide) ?_
    refine lv_isub hx hb dL_law_32 ?_
    refine lv_icmp_gt (tgt := 605) hx hb dL_law_33 (by decide) (fun c1 => ?_) (fun c1 => ?_)
    · refine lv_iconst (v := 1) hx hb dL_law_605 (by decide) ?_
      refine va_forget (fun q hq => hH.2.2.2.2.1.2.2 q hq) ?_
      refine W.widen (k := 600000) (n := 7290000) (by decide) (by decide) ?_
      exact lw_ret hx hb hr hlk dL_law_606
    have hiL : i + 4 ≤ L := by
      rcases Nat.lt_or_ge L (i + 4) with h | h
      · exact absurd (law_out h ex3 (by omega) (by omega)) c1
      · exact h
    have ei1 : x3 + 1 = nI (i + 1) := by rw [ex3]; exact nI_1 i
    have ei2 : x3 + 2 = nI (i + 2) := by rw [ex3, ← nI_add i 2]; rfl
    have ei3 : x3 + 3 = nI (i + 3) := by rw [ex3, ← nI_add i 3]; rfl
    have go : ∀ (σ τ : St) (H : Heap) (locs : List Loc) (ls : Array Slot), RR σ τ → HHL D a d b d2 (fun q : Nat => s.heap.size ≤ q) s σ τ H locs → lv_has ls 4 [(0, .ref bs), (1, .ref (a 10)), (2, .ref (b 10)), (3, .int x3)] → W p l e room_1 s m #[Value.ref bs] below meth c H locs 14 1632 (lw_Z below #[Value.ref bs] s) (F0 m 599 ls []) := by
      intro σ τ H locs ls hR hH hl
      obtain ⟨x4, ex4⟩ : ∃ y : Int32, y = x3 + 4 := ⟨_, rfl⟩
      refine lv_iinc (v := x4) (lv' := [(3, .int x4), (0, .ref bs), (1, .ref (a 10)), (2, .ref (b 10))]) hx hb dL_law_599 hl (k := 3) rfl (by rw [ex4]; rfl) (by decide) rfl (fun ls hl => ?_)
      refine lv_goto (tgt := 28) hx hb dL_law_602 (by decide) ?_
      exact ih (i + 4) x4 σ τ (by omega) (by omega) (by rw [ex4, ex3, ← nI_add i 4]; rfl) hR H locs ls hH (lv_sub hl [1, 2, 3, 0] rfl)
    have SS := hsim σ τ hR
    refine lv_aload_n hx hb dL_law_36 rfl (lv_at hl 0 rfl) ?_
    refine lv_iload_n hx hb dL_law_37 rfl (lv_at hl 3 rfl) ?_
    refine sldJ hx hb hX hbl hbA hH.2.2.2.2.1 ex3 (by omega) hL dL_law_38 ?_
    refine lv_bipush (v := 31) hx hb dL_law_39 (by decide) ?_
    refine lv_iand hx hb dL_law_41 ?_
    obtain ⟨jj, hjj, ejj⟩ := pk_andE (xs i) (m := 31) 5 rfl
    rw [ejj]
    rcases Nat.lt_or_ge jj 19 with hj19 | hj19
    · rcases (show jj = 0 ∨ jj = 1 ∨ jj = 2 ∨ jj = 3 ∨ jj = 4 ∨ jj = 5 ∨ jj = 6 ∨ jj = 7 ∨ jj = 8 ∨ jj = 9 ∨ jj = 10 ∨ jj = 11 ∨ jj = 12 ∨ jj = 13 ∨ jj = 14 ∨ jj = 15 ∨ jj = 16 ∨ jj = 17 ∨ jj = 18 by omega) with rfl | rfl | rfl | rfl | rfl | rfl | rfl | rfl | rfl | rfl | rfl | rfl | rfl | rfl | rfl | rfl | rfl | rfl | rfl
      · refine lv_tableIn (off := 90) (tgt := 132) hx hb dL_law_42 (by decide) (by decide) (by decide) (by decide) ?_
        have hw := SS.1
        refine lv_aload_n hx hb dL_law_132 rfl (lv_at hl 1 rfl) ?_
        refine cLX S hH (tX1_pages l D a d ) (cwV 0 hts gwX0_21 rfl rfl rfl hdX1_pages ⟨Nat.le_of_ble_eq_true rfl, Nat.le_of_ble_eq_true rfl⟩) hw rfl hl.1 rfl (Nat.le_of_ble_eq_true rfl) dL_law_133 ⟨by decide, by decide⟩ (fun r1 σ1 H locs hw hH => ?_)
        refine lv_aload_n hx hb dL_law_136 rfl (lv_at hl 2 rfl) ?_
        refine cLM S hH (tX2_pages l D b d2 ) (cwV 0 hts gwX0_25 rfl rfl rfl hdX2_pages ⟨Nat.le_of_ble_eq_true rfl, Nat.le_of_ble_eq_true rfl⟩) hw rfl hl.1 rfl (Nat.le_of_ble_eq_true rfl) dL_law_137 ⟨by decide, by decide⟩ (fun r2 τ1 H locs hw hH => ?_)
        refine lv_icmp_eq (tgt := 599) hx hb dL_law_140 (by decide) (fun c2 => ?_) (fun c2 => absurd hw.1 c2)
        exact go σ1 τ1 _ _ _ hw.2 hH hl
      · refine lv_tableIn (off := 103) (tgt := 145) hx hb dL_law_42 (by decide) (by decide) (by decide) (by decide) ?_
        have hw := SS.2.1 (xs (i + 1))
        refine lv_aload_n hx hb dL_law_145 rfl (lv_at hl 1 rfl) ?_
        refine lv_aload_n hx hb dL_law_146 rfl (lv_at hl 0 rfl) ?_
        refine lv_iload_n hx hb dL_law_147 rfl (lv_at hl 3 rfl) ?_
        refine lv_iconst (v := 1) hx hb dL_law_148 (by decide) ?_
        refine lv_iadd hx hb dL_law_149 ?_
        refine sldJ hx hb hX hbl hbA hH.2.2.2.2.1 ei1 (by omega) hL dL_law_150 ?_
        refine cLX S hH (tX1_allocate l D a d (xs (i + 1))) (cwV 1 hts gwX0_26 rfl rfl rfl hdX1_allocate ⟨Nat.le_of_ble_eq_true rfl, Nat.le_of_ble_eq_true rfl⟩) hw rfl hl.1 rfl (Nat.le_of_ble_eq_true rfl) dL_law_151 ⟨by decide, by decide⟩ (fun r1 σ1 H locs hw hH => ?_)
        refine lv_aload_n hx hb dL_law_154 rfl (lv_at hl 2 rfl) ?_
        refine lv_aload_n hx hb dL_law_155 rfl (lv_at hl 0 rfl) ?_
        refine lv_iload_n hx hb dL_law_156 rfl (lv_at hl 3 rfl) ?_
        refine lv_iconst (v := 1) hx hb dL_law_157 (by decide) ?_
        refine lv_iadd hx hb dL_law_158 ?_
        refine sldJ hx hb hX hbl hbA hH.2.2.2.2.1 ei1 (by omega) hL dL_law_159 ?_
        refine cLM S hH (tX2_allocate l D b d2 (xs (i + 1))) (cwV 1 hts gwX0_30 rfl rfl rfl hdX2_allocate ⟨Nat.le_of_ble_eq_true rfl, Nat.le_of_ble_eq_true rfl⟩) hw rfl hl.1 rfl (Nat.le_of_ble_eq_true rfl) dL_law_160 ⟨by decide, by decide⟩ (fun r2 τ1 H locs hw hH => ?_)
        refine lv_icmp_eq (tgt := 599) hx hb dL_law_163 (by decide) (fun c2 => ?_) (fun c2 => absurd hw.1 c2)
        exact go σ1 τ1 _ _ _ hw.2 hH hl
      · refine lv_tableIn (off := 126) (tgt := 168) hx hb dL_law_42 (by decide) (by decide) (by decide) (by decide) ?_
        have hw := SS.2.2.1 (xs (i + 1))
        refine lv_aload_n hx hb dL_law_168 rfl (lv_at hl 1 rfl) ?_
        refine lv_aload_n hx hb dL_law_169 rfl (lv_at hl 0 rfl) ?_
        refine lv_iload_n hx hb dL_law_170 rfl (lv_at hl 3 rfl) ?_
        refine lv_iconst (v := 1) hx hb dL_law_171 (by decide) ?_
        refine lv_iadd hx hb dL_law_172 ?_
        refine sldJ hx hb hX hbl hbA hH.2.2.2.2.1 ei1 (by omega) hL dL_law_173 ?_
        refine cLX S hH (tX1_free l D a d (xs (i + 1))) (cwV 1 hts gwX0_31 rfl rfl rfl hdX1_free ⟨Nat.le_of_ble_eq_true rfl, Nat.le_of_ble_eq_true rfl⟩) hw rfl hl.1 rfl (Nat.le_of_ble_eq_true rfl) dL_law_174 ⟨by decide, by decide⟩ (fun r1 σ1 H locs hw hH => ?_)
        refine lv_aload_n hx hb dL_law_177 rfl (lv_at hl 2 rfl) ?_
        refine lv_aload_n hx hb dL_law_178 rfl (lv_at hl 0 rfl) ?_
        refine lv_iload_n hx hb dL_law_179 rfl (lv_at hl 3 rfl) ?_
        refine lv_iconst (v := 1) hx hb dL_law_180 (by decide) ?_
        refine lv_iadd hx hb dL_law_181 ?_
        refine sldJ hx hb hX hbl hbA hH.2.2.2.2.1 ei1 (by omega) hL dL_law_182 ?_
        refine cLM S hH (tX2_free l D b d2 (xs (i + 1))) (cwV 1 hts gwX0_34 rfl rfl rfl hdX2_free ⟨Nat.le_of_ble_eq_true rfl, Nat.le_of_ble_eq_true rfl⟩) hw rfl hl.1 rfl (Nat.le_of_ble_eq_true rfl) dL_law_183 ⟨by decide, by decide⟩ (fun r2 τ1 H locs hw hH => ?_)
        refine lv_icmp_eq (tgt := 599) hx hb dL_law_186 (by decide) (fun c2 => ?_) (fun c2 => absurd hw.1 c2)
        exact go σ1 τ1 _ _ _ hw.2 hH hl
      · refine lv_tableIn (off := 149) (tgt := 191) hx hb dL_law_42 (by decide) (by decide) (by decide) (by decide) ?_
        have hw := SS.2.2.2.1 (xs (i + 1)) (xs (i + 2))
        refine lv_aload_n hx hb dL_law_191 rfl (lv_at hl 1 rfl) ?_
        refine lv_aload_n hx hb dL_law_192 rfl (lv_at hl 0 rfl) ?_
        refine lv_iload_n hx hb dL_law_193 rfl (lv_at hl 3 rfl) ?_
        refine lv_iconst (v := 1) hx hb dL_law_194 (by decide) ?_
        refine lv_iadd hx hb dL_law_195 ?_
        refine sldJ hx hb hX hbl hbA hH.2.2.2.2.1 ei1 (by omega) hL dL_law_196 ?_
        refine lv_aload_n hx hb dL_law_197 rfl (lv_at hl 0 rfl) ?_
        refine lv_iload_n hx hb dL_law_198 rfl (lv_at hl 3 rfl) ?_
        refine lv_iconst (v := 2) hx hb dL_law_199 (by decide) ?_
        refine lv_iadd hx hb dL_law_200 ?_
        refine sldJ hx hb hX hbl hbA hH.2.2.2.2.1 ei2 (by omega) hL dL_law_201 ?_
        refine cLX S hH (tX1_resize l D a d (xs (i + 1)) (xs (i + 2))) (cwV 2 hts gwX0_35 rfl rfl rfl hdX1_resize ⟨Nat.le_of_ble_eq_true rfl, Nat.le_of_ble_eq_true rfl⟩) hw rfl hl.1 rfl (Nat.le_of_ble_eq_true rfl) dL_law_202 ⟨by decide, by decide⟩ (fun r1 σ1 H locs hw hH => ?_)
        refine lv_aload_n hx hb dL_law_205 rfl (lv_at hl 2 rfl) ?_
        refine lv_aload_n hx hb dL_law_206 rfl (lv_at hl 0 rfl) ?_
        refine lv_iload_n hx hb dL_law_207 rfl (lv_at hl 3 rfl) ?_
        refine lv_iconst (v := 1) hx hb dL_law_208 (by decide) ?_
        refine lv_iadd hx hb dL_law_209 ?_
        refine sldJ hx hb hX hbl hbA hH.2.2.2.2.1 ei1 (by omega) hL dL_law_210 ?_
        refine lv_aload_n hx hb dL_law_211 rfl (lv_at hl 0 rfl) ?_
        refine lv_iload_n hx hb dL_law_212 rfl (lv_at hl 3 rfl) ?_
        refine lv_iconst (v := 2) hx hb dL_law_213 (by decide) ?_
        refine lv_iadd hx hb dL_law_214 ?_
        refine sldJ hx hb hX hbl hbA hH.2.2.2.2.1 ei2 (by omega) hL dL_law_215 ?_
        refine cLM S hH (tX2_resize l D b d2 (xs (i + 1)) (xs (i + 2))) (cwV 2 hts gwX0_39 rfl rfl rfl hdX2_resize ⟨Nat.le_of_ble_eq_true rfl, Nat.le_of_ble_eq_true rfl⟩) hw rfl hl.1 rfl (Nat.le_of_ble_eq_true rfl) dL_law_216 ⟨by decide, by decide⟩ (fun r2 τ1 H locs hw hH => ?_)
        refine lv_icmp_eq (tgt := 599) hx hb dL_law_219 (by decide) (fun c2 => ?_) (fun c2 => absurd hw.1 c2)
        exact go σ1 τ1 _ _ _ hw.2 hH hl
      · refine lv_tableIn (off := 182) (tgt := 224) hx hb dL_law_42 (by decide) (by decide) (by decide) (by decide) ?_
        have hw := SS.2.2.2.2.1 (xs (i + 1))
        refine lv_aload_n hx hb dL_law_224 rfl (lv_at hl 1 rfl) ?_
        refine lv_aload_n hx hb dL_law_225 rfl (lv_at hl 0 rfl) ?_
        refine lv_iload_n hx hb dL_law_226 rfl (lv_at hl 3 rfl) ?_
        refine lv_iconst (v := 1) hx hb dL_law_227 (by decide) ?_
        refine lv_iadd hx hb dL_law_228 ?_
        refine sldJ hx hb hX hbl hbA hH.2.2.2.2.1 ei1 (by omega) hL dL_law_229 ?_
        refine cLX S hH (tX1_copy l D a d (xs (i + 1))) (cwV 1 hts gwX0_40 rfl rfl rfl hdX1_copy ⟨Nat.le_of_ble_eq_true rfl, Nat.le_of_ble_eq_true rfl⟩) hw rfl hl.1 rfl (Nat.le_of_ble_eq_true rfl) dL_law_230 ⟨by decide, by decide⟩ (fun r1 σ1 H locs hw hH => ?_)
        refine lv_aload_n hx hb dL_law_233 rfl (lv_at hl 2 rfl) ?_
        refine lv_aload_n hx hb dL_law_234 rfl (lv_at hl 0 rfl) ?_
        refine lv_iload_n hx hb dL_law_235 rfl (lv_at hl 3 rfl) ?_
        refine lv_iconst (v := 1) hx hb dL_law_236 (by decide) ?_
        refine lv_iadd hx hb dL_law_237 ?_
        refine sldJ hx hb hX hbl hbA hH.2.2.2.2.1 ei1 (by omega) hL dL_law_238 ?_
        refine cLM S hH (tX2_copy l D b d2 (xs (i + 1))) (cwV 1 hts gwX0_43 rfl rfl rfl hdX2_copy ⟨Nat.le_of_ble_eq_true rfl, Nat.le_of_ble_eq_true rfl⟩) hw rfl hl.1 rfl (Nat.le_of_ble_eq_true rfl) dL_law_239 ⟨by decide, by decide⟩ (fun r2 τ1 H locs hw hH => ?_)
        refine lv_icmp_eq (tgt := 599) hx hb dL_law_242 (by decide) (fun c2 => ?_) (fun c2 => absurd hw.1 c2)
        exact go σ1 τ1 _ _ _ hw.2 hH hl
      · refine lv_tableIn (off := 205) (tgt := 247) hx hb dL_law_42 (by decide) (by decide) (by decide) (by decide) ?_
        have hw := SS.2.2.2.2.2.1 (xs (i + 1))
        refine lv_aload_n hx hb dL_law_247 rfl (lv_at hl 1 rfl) ?_
        refine lv_aload_n hx hb dL_law_248 rfl (lv_at hl 0 rfl) ?_
        refine lv_iload_n hx hb dL_law_249 rfl (lv_at hl 3 rfl) ?_
        refine lv_iconst (v := 1) hx hb dL_law_250 (by decide) ?_
        refine lv_iadd hx hb dL_law_251 ?_
        refine sldJ hx hb hX hbl hbA hH.2.2.2.2.1 ei1 (by omega) hL dL_law_252 ?_
        refine cLX S hH (tX1_freeClass l D a d (xs (i + 1))) (cwV 1 hts gwX0_44 rfl rfl rfl hdX1_freeClass ⟨Nat.le_of_ble_eq_true rfl, Nat.le_of_ble_eq_true rfl⟩) hw rfl hl.1 rfl (Nat.le_of_ble_eq_true rfl) dL_law_253 ⟨by decide, by decide⟩ (fun r1 σ1 H locs hw hH => ?_)
        refine lv_aload_n hx hb dL_law_256 rfl (lv_at hl 2 rfl) ?_
        refine lv_aload_n hx hb dL_law_257 rfl (lv_at hl 0 rfl) ?_
        refine lv_iload_n hx hb dL_law_258 rfl (lv_at hl 3 rfl) ?_
        refine lv_iconst (v := 1) hx hb dL_law_259 (by decide) ?_
        refine lv_iadd hx hb dL_law_260 ?_
        refine sldJ hx hb hX hbl hbA hH.2.2.2.2.1 ei1 (by omega) hL dL_law_261 ?_
        refine cLM S hH (tX2_freeClass l D b d2 (xs (i + 1))) (cwV 1 hts gwX0_47 rfl rfl rfl hdX2_freeClass ⟨Nat.le_of_ble_eq_true rfl, Nat.le_of_ble_eq_true rfl⟩) hw rfl hl.1 rfl (Nat.le_of_ble_eq_true rfl) dL_law_262 ⟨by decide, by decide⟩ (fun r2 τ1 H locs hw hH => ?_)
        refine lv_icmp_eq (tgt := 599) hx hb dL_law_265 (by decide) (fun c2 => ?_) (fun c2 => absurd hw.1 c2)
        exact go σ1 τ1 _ _ _ hw.2 hH hl
      · refine lv_tableIn (off := 228) (tgt := 270) hx hb dL_law_42 (by decide) (by decide) (by decide) (by decide) ?_
        have hw := SS.2.2.2.2.2.2.1 (xs (i + 1)) (xs (i + 2))
        refine lv_aload_n hx hb dL_law_270 rfl (lv_at hl 1 rfl) ?_
        refine lv_aload_n hx hb dL_law_271 rfl (lv_at hl 0 rfl) ?_
        refine lv_iload_n hx hb dL_law_272 rfl (lv_at hl 3 rfl) ?_
        refine lv_iconst (v := 1) hx hb dL_law_273 (by decide) ?_
        refine lv_iadd hx hb dL_law_274 ?_
        refine sldJ hx hb hX hbl hbA hH.2.2.2.2.1 ei1 (by omega) hL dL_law_275 ?_
        refine lv_aload_n hx hb dL_law_276 rfl (lv_at hl 0 rfl) ?_
        refine lv_iload_n hx hb dL_law_277 rfl (lv_at hl 3 rfl) ?_
        refine lv_iconst (v := 2) hx hb dL_law_278 (by decide) ?_
        refine lv_iadd hx hb dL_law_279 ?_
        refine sldJ hx hb hX hbl hbA hH.2.2.2.2.1 ei2 (by omega) hL dL_law_280 ?_
        refine cLX S hH (tX1_read l D a d (xs (i + 1)) (xs (i + 2))) (cwV 2 hts gwX0_48 rfl rfl rfl hdX1_read ⟨Nat.le_of_ble_eq_true rfl, Nat.le_of_ble_eq_true rfl⟩) hw rfl hl.1 rfl (Nat.le_of_ble_eq_true rfl) dL_law_281 ⟨by decide, by decide⟩ (fun r1 σ1 H locs hw hH => ?_)
        refine lv_aload_n hx hb dL_law_284 rfl (lv_at hl 2 rfl) ?_
        refine lv_aload_n hx hb dL_law_285 rfl (lv_at hl 0 rfl) ?_
        refine lv_iload_n hx hb dL_law_286 rfl (lv_at hl 3 rfl) ?_
        refine lv_iconst (v := 1) hx hb dL_law_287 (by decide) ?_
        refine lv_iadd hx hb dL_law_288 ?_
        refine sldJ hx hb hX hbl hbA hH.2.2.2.2.1 ei1 (by omega) hL dL_law_289 ?_
        refine lv_aload_n hx hb dL_law_290 rfl (lv_at hl 0 rfl) ?_
        refine lv_iload_n hx hb dL_law_291 rfl (lv_at hl 3 rfl) ?_
        refine lv_iconst (v := 2) hx hb dL_law_292 (by decide) ?_
        refine lv_iadd hx hb dL_law_293 ?_
        refine sldJ hx hb hX hbl hbA hH.2.2.2.2.1 ei2 (by omega) hL dL_law_294 ?_
        refine cLM S hH (tX2_read l D b d2 (xs (i + 1)) (xs (i + 2))) (cwV 2 hts gwX0_51 rfl rfl rfl hdX2_read ⟨Nat.le_of_ble_eq_true rfl, Nat.le_of_ble_eq_true rfl⟩) hw rfl hl.1 rfl (Nat.le_of_ble_eq_true rfl) dL_law_295 ⟨by decide, by decide⟩ (fun r2 τ1 H locs hw hH => ?_)
        refine lv_icmp_eq (tgt := 599) hx hb dL_law_298 (by decide) (fun c2 => ?_) (fun c2 => absurd hw.1 c2)
        exact go σ1 τ1 _ _ _ hw.2 hH hl
      · refine lv_tableIn (off := 261) (tgt := 303) hx hb dL_law_42 (by decide) (by decide) (by decide) (by decide) ?_
        have hw := SS.2.2.2.2.2.2.2.1 (xs (i + 1)) (xs (i + 2)) (xs (i + 3))
        refine lv_aload_n hx hb dL_law_303 rfl (lv_at hl 1 rfl) ?_
        refine lv_aload_n hx hb dL_law_304 rfl (lv_at hl 0 rfl) ?_
        refine lv_iload_n hx hb dL_law_305 rfl (lv_at hl 3 rfl) ?_
        refine lv_iconst (v := 1) hx hb dL_law_306 (by decide) ?_
        refine lv_iadd hx hb dL_law_307 ?_
        refine sldJ hx hb hX hbl hbA hH.2.2.2.2.1 ei1 (by omega) hL dL_law_308 ?_
        refine lv_aload_n hx hb dL_law_309 rfl (lv_at hl 0 rfl) ?_
        refine lv_iload_n hx hb dL_law_310 rfl (lv_at hl 3 rfl) ?_
        refine lv_iconst (v := 2) hx hb dL_law_311 (by decide) ?_
        refine lv_iadd hx hb dL_law_312 ?_
        refine sldJ hx hb hX hbl hbA hH.2.2.2.2.1 ei2 (by omega) hL dL_law_313 ?_
        refine lv_aload_n hx hb dL_law_314 rfl (lv_at hl 0 rfl) ?_
        refine lv_iload_n hx hb dL_law_315 rfl (lv_at hl 3 rfl) ?_
        refine lv_iconst (v := 3) hx hb dL_law_316 (by decide) ?_
        refine lv_iadd hx hb dL_law_317 ?_
        refine sldJ hx hb hX hbl hbA hH.2.2.2.2.1 ei3 (by omega) hL dL_law_318 ?_
        refine cLX S hH (tX1_write l D a d (xs (i + 1)) (xs (i + 2)) (xs (i + 3))) (cwV 3 hts gwX0_52 rfl rfl rfl hdX1_write ⟨Nat.le_of_ble_eq_true rfl, Nat.le_of_ble_eq_true rfl⟩) hw rfl hl.1 rfl (Nat.le_of_ble_eq_true rfl) dL_law_319 ⟨by decide, by decide⟩ (fun r1 σ1 H locs hw hH => ?_)
        refine lv_aload_n hx hb dL_law_322 rfl (lv_at hl 2 rfl) ?_
        refine lv_aload_n hx hb dL_law_323 rfl (lv_at hl 0 rfl) ?_
        refine lv_iload_n hx hb dL_law_324 rfl (lv_at hl 3 rfl) ?_
        refine lv_iconst (v := 1) hx hb dL_law_325 (by decide) ?_
        refine lv_iadd hx hb dL_law_326 ?_
        refine sldJ hx hb hX hbl hbA hH.2.2.2.2.1 ei1 (by omega) hL dL_law_327 ?_
        refine lv_aload_n hx hb dL_law_328 rfl (lv_at hl 0 rfl) ?_
        refine lv_iload_n hx hb dL_law_329 rfl (lv_at hl 3 rfl) ?_
        refine lv_iconst (v := 2) hx hb dL_law_330 (by decide) ?_
        refine lv_iadd hx hb dL_law_331 ?_
        refine sldJ hx hb hX hbl hbA hH.2.2.2.2.1 ei2 (by omega) hL dL_law_332 ?_
        refine lv_aload_n hx hb dL_law_333 rfl (lv_at hl 0 rfl) ?_
        refine lv_iload_n hx hb dL_law_334 rfl (lv_at hl 3 rfl) ?_
        refine lv_iconst (v := 3) hx hb dL_law_335 (by decide) ?_
        refine lv_iadd hx hb dL_law_336 ?_
        refine sldJ hx hb hX hbl hbA hH.2.2.2.2.1 ei3 (by omega) hL dL_law_337 ?_
        refine cLM S hH (tX2_write l D b d2 (xs (i + 1)) (xs (i + 2)) (xs (i + 3))) (cwV 3 hts gwX0_56 rfl rfl rfl hdX2_write ⟨Nat.le_of_ble_eq_true rfl, Nat.le_of_ble_eq_true rfl⟩) hw rfl hl.1 rfl (Nat.le_of_ble_eq_true rfl) dL_law_338 ⟨by decide, by decide⟩ (fun r2 τ1 H locs hw hH => ?_)
        refine lv_icmp_eq (tgt := 599) hx hb dL_law_341 (by decide) (fun c2 => ?_) (fun c2 => absurd hw.1 c2)
        exact go σ1 τ1 _ _ _ hw.2 hH hl
      · refine lv_tableIn (off := 304) (tgt := 346) hx hb dL_law_42 (by decide) (by decide) (by decide) (by decide) ?_
        have hw := SS.2.2.2.2.2.2.2.2.1 (xs (i + 1)) (xs (i + 2)) (xs (i + 3))
        refine lv_aload_n hx hb dL_law_346 rfl (lv_at hl 1 rfl) ?_
        refine lv_aload_n hx hb dL_law_347 rfl (lv_at hl 0 rfl) ?_
        refine lv_iload_n hx hb dL_law_348 rfl (lv_at hl 3 rfl) ?_
        refine lv_iconst (v := 1) hx hb dL_law_349 (by decide) ?_
        refine lv_iadd hx hb dL_law_350 ?_
        refine sldJ hx hb hX hbl hbA hH.2.2.2.2.1 ei1 (by omega) hL dL_law_351 ?_
        refine lv_aload_n hx hb dL_law_352 rfl (lv_at hl 0 rfl) ?_
        refine lv_iload_n hx hb dL_law_353 rfl (lv_at hl 3 rfl) ?_
        refine lv_iconst (v := 2) hx hb dL_law_354 (by decide) ?_
        refine lv_iadd hx hb dL_law_355 ?_
        refine sldJ hx hb hX hbl hbA hH.2.2.2.2.1 ei2 (by omega) hL dL_law_356 ?_
        refine lv_aload_n hx hb dL_law_357 rfl (lv_at hl 0 rfl) ?_
        refine lv_iload_n hx hb dL_law_358 rfl (lv_at hl 3 rfl) ?_
        refine lv_iconst (v := 3) hx hb dL_law_359 (by decide) ?_
        refine lv_iadd hx hb dL_law_360 ?_
        refine sldJ hx hb hX hbl hbA hH.2.2.2.2.1 ei3 (by omega) hL dL_law_361 ?_
        refine cLX S hH (tX1_fill l D a d (xs (i + 1)) (xs (i + 2)) (xs (i + 3))) (cwV 3 hts gwX0_57 rfl rfl rfl hdX1_fill ⟨Nat.le_of_ble_eq_true rfl, Nat.le_of_ble_eq_true rfl⟩) hw rfl hl.1 rfl (Nat.le_of_ble_eq_true rfl) dL_law_362 ⟨by decide, by decide⟩ (fun r1 σ1 H locs hw hH => ?_)
        refine lv_aload_n hx hb dL_law_365 rfl (lv_at hl 2 rfl) ?_
        refine lv_aload_n hx hb dL_law_366 rfl (lv_at hl 0 rfl) ?_
        refine lv_iload_n hx hb dL_law_367 rfl (lv_at hl 3 rfl) ?_
        refine lv_iconst (v := 1) hx hb dL_law_368 (by decide) ?_
        refine lv_iadd hx hb dL_law_369 ?_
        refine sldJ hx hb hX hbl hbA hH.2.2.2.2.1 ei1 (by omega) hL dL_law_370 ?_
        refine lv_aload_n hx hb dL_law_371 rfl (lv_at hl 0 rfl) ?_
        refine lv_iload_n hx hb dL_law_372 rfl (lv_at hl 3 rfl) ?_
        refine lv_iconst (v := 2) hx hb dL_law_373 (by decide) ?_
        refine lv_iadd hx hb dL_law_374 ?_
        refine sldJ hx hb hX hbl hbA hH.2.2.2.2.1 ei2 (by omega) hL dL_law_375 ?_
        refine lv_aload_n hx hb dL_law_376 rfl (lv_at hl 0 rfl) ?_
        refine lv_iload_n hx hb dL_law_377 rfl (lv_at hl 3 rfl) ?_
        refine lv_iconst (v := 3) hx hb dL_law_378 (by decide) ?_
        refine lv_iadd hx hb dL_law_379 ?_
        refine sldJ hx hb hX hbl hbA hH.2.2.2.2.1 ei3 (by omega) hL dL_law_380 ?_
        refine cLM S hH (tX2_fill l D b d2 (xs (i + 1)) (xs (i + 2)) (xs (i + 3))) (cwV 3 hts gwX0_60 rfl rfl rfl hdX2_fill ⟨Nat.le_of_ble_eq_true rfl, Nat.le_of_ble_eq_true rfl⟩) hw rfl hl.1 rfl (Nat.le_of_ble_eq_true rfl) dL_law_381 ⟨by decide, by decide⟩ (fun r2 τ1 H locs hw hH => ?_)
        refine lv_icmp_eq (tgt := 599) hx hb dL_law_384 (by decide) (fun c2 => ?_) (fun c2 => absurd hw.1 c2)
        exact go σ1 τ1 _ _ _ hw.2 hH hl
      · refine lv_tableIn (off := 347) (tgt := 389) hx hb dL_law_42 (by decide) (by decide) (by decide) (by decide) ?_
        have hw := SS.2.2.2.2.2.2.2.2.2.1 (xs (i + 1)) (xs (i + 2))
        refine lv_aload_n hx hb dL_law_389 rfl (lv_at hl 1 rfl) ?_
        refine lv_aload_n hx hb dL_law_390 rfl (lv_at hl 0 rfl) ?_
        refine lv_iload_n hx hb dL_law_391 rfl (lv_at hl 3 rfl) ?_
        refine lv_iconst (v := 1) hx hb dL_law_392 (by decide) ?_
        refine lv_iadd hx hb dL_law_393 ?_
        refine sldJ hx hb hX hbl hbA hH.2.2.2.2.1 ei1 (by omega) hL dL_law_394 ?_
        refine lv_aload_n hx hb dL_law_395 rfl (lv_at hl 0 rfl) ?_
        refine lv_iload_n hx hb dL_law_396 rfl (lv_at hl 3 rfl) ?_
        refine lv_iconst (v := 2) hx hb dL_law_397 (by decide) ?_
        refine lv_iadd hx hb dL_law_398 ?_
        refine sldJ hx hb hX hbl hbA hH.2.2.2.2.1 ei2 (by omega) hL dL_law_399 ?_
        refine cLX S hH (tX1_exchange l D a d (xs (i + 1)) (xs (i + 2))) (cwV 2 hts gwX0_61 rfl rfl rfl hdX1_exchange ⟨Nat.le_of_ble_eq_true rfl, Nat.le_of_ble_eq_true rfl⟩) hw rfl hl.1 rfl (Nat.le_of_ble_eq_true rfl) dL_law_400 ⟨by decide, by decide⟩ (fun r1 σ1 H locs hw hH => ?_)
        refine lv_aload_n hx hb dL_law_403 rfl (lv_at hl 2 rfl) ?_
        refine lv_aload_n hx hb dL_law_404 rfl (lv_at hl 0 rfl) ?_
        refine lv_iload_n hx hb dL_law_405 rfl (lv_at hl 3 rfl) ?_
        refine lv_iconst (v := 1) hx hb dL_law_406 (by decide) ?_
        refine lv_iadd hx hb dL_law_407 ?_
        refine sldJ hx hb hX hbl hbA hH.2.2.2.2.1 ei1 (by omega) hL dL_law_408 ?_
        refine lv_aload_n hx hb dL_law_409 rfl (lv_at hl 0 rfl) ?_
        refine lv_iload_n hx hb dL_law_410 rfl (lv_at hl 3 rfl) ?_
        refine lv_iconst (v := 2) hx hb dL_law_411 (by decide) ?_
        refine lv_iadd hx hb dL_law_412 ?_
        refine sldJ hx hb hX hbl hbA hH.2.2.2.2.1 ei2 (by omega) hL dL_law_413 ?_
        refine cLM S hH (tX2_exchange l D b d2 (xs (i + 1)) (xs (i + 2))) (cwV 2 hts gwX0_64 rfl rfl rfl hdX2_exchange ⟨Nat.le_of_ble_eq_true rfl, Nat.le_of_ble_eq_true rfl⟩) hw rfl hl.1 rfl (Nat.le_of_ble_eq_true rfl) dL_law_414 ⟨by decide, by decide⟩ (fun r2 τ1 H locs hw hH => ?_)
        refine lv_icmp_eq (tgt := 599) hx hb dL_law_417 (by decide) (fun c2 => ?_) (fun c2 => absurd hw.1 c2)
        exact go σ1 τ1 _ _ _ hw.2 hH hl
      · refine lv_tableIn (off := 380) (tgt := 422) hx hb dL_law_42 (by decide) (by decide) (by decide) (by decide) ?_
        have hw := SS.2.2.2.2.2.2.2.2.2.2.1 (xs (i + 1))
        refine lv_aload_n hx hb dL_law_422 rfl (lv_at hl 1 rfl) ?_
        refine lv_aload_n hx hb dL_law_423 rfl (lv_at hl 0 rfl) ?_
        refine lv_iload_n hx hb dL_law_424 rfl (lv_at hl 3 rfl) ?_
        refine lv_iconst (v := 1) hx hb dL_law_425 (by decide) ?_
        refine lv_iadd hx hb dL_law_426 ?_
        refine sldJ hx hb hX hbl hbA hH.2.2.2.2.1 ei1 (by omega) hL dL_law_427 ?_
        refine cLX S hH (tX1_size l D a d (xs (i + 1))) (cwV 1 hts gwX0_65 rfl rfl rfl hdX1_size ⟨Nat.le_of_ble_eq_true rfl, Nat.le_of_ble_eq_true rfl⟩) hw rfl hl.1 rfl (Nat.le_of_ble_eq_true rfl) dL_law_428 ⟨by decide, by decide⟩ (fun r1 σ1 H locs hw hH => ?_)
        refine lv_aload_n hx hb dL_law_431 rfl (lv_at hl 2 rfl) ?_
        refine lv_aload_n hx hb dL_law_432 rfl (lv_at hl 0 rfl) ?_
        refine lv_iload_n hx hb dL_law_433 rfl (lv_at hl 3 rfl) ?_
        refine lv_iconst (v := 1) hx hb dL_law_434 (by decide) ?_
        refine lv_iadd hx hb dL_law_435 ?_
        refine sldJ hx hb hX hbl hbA hH.2.2.2.2.1 ei1 (by omega) hL dL_law_436 ?_
        refine cLM S hH (tX2_size l D b d2 (xs (i + 1))) (cwV 1 hts gwX0_68 rfl rfl rfl hdX2_size ⟨Nat.le_of_ble_eq_true rfl, Nat.le_of_ble_eq_true rfl⟩) hw rfl hl.1 rfl (Nat.le_of_ble_eq_true rfl) dL_law_437 ⟨by decide, by decide⟩ (fun r2 τ1 H locs hw hH => ?_)
        refine lv_icmp_eq (tgt := 599) hx hb dL_law_440 (by decide) (fun c2 => ?_) (fun c2 => absurd hw.1 c2)
        exact go σ1 τ1 _ _ _ hw.2 hH hl
      · refine lv_tableIn (off := 403) (tgt := 445) hx hb dL_law_42 (by decide) (by decide) (by decide) (by decide) ?_
        have hw := SS.2.2.2.2.2.2.2.2.2.2.2.1
        refine lv_aload_n hx hb dL_law_445 rfl (lv_at hl 1 rfl) ?_
        refine cLX S hH (tX1_live l D a d ) (cwV 0 hts gwX0_69 rfl rfl rfl hdX1_live ⟨Nat.le_of_ble_eq_true rfl, Nat.le_of_ble_eq_true rfl⟩) hw rfl hl.1 rfl (Nat.le_of_ble_eq_true rfl) dL_law_446 ⟨by decide, by decide⟩ (fun r1 σ1 H locs hw hH => ?_)
        refine lv_aload_n hx hb dL_law_449 rfl (lv_at hl 2 rfl) ?_
        refine cLM S hH (tX2_live l D b d2 ) (cwV 0 hts gwX0_72 rfl rfl rfl hdX2_live ⟨Nat.le_of_ble_eq_true rfl, Nat.le_of_ble_eq_true rfl⟩) hw rfl hl.1 rfl (Nat.le_of_ble_eq_true rfl) dL_law_450 ⟨by decide, by decide⟩ (fun r2 τ1 H locs hw hH => ?_)
        refine lv_icmp_eq (tgt := 599) hx hb dL_law_453 (by decide) (fun c2 => ?_) (fun c2 => absurd hw.1 c2)
        exact go σ1 τ1 _ _ _ hw.2 hH hl
      · refine lv_tableIn (off := 416) (tgt := 458) hx hb dL_law_42 (by decide) (by decide) (by decide) (by decide) ?_
        have hw := SS.2.2.2.2.2.2.2.2.2.2.2.2.1 (xs (i + 1))
        refine lv_aload_n hx hb dL_law_458 rfl (lv_at hl 1 rfl) ?_
        refine lv_aload_n hx hb dL_law_459 rfl (lv_at hl 0 rfl) ?_
        refine lv_iload_n hx hb dL_law_460 rfl (lv_at hl 3 rfl) ?_
        refine lv_iconst (v := 1) hx hb dL_law_461 (by decide) ?_
        refine lv_iadd hx hb dL_law_462 ?_
        refine sldJ hx hb hX hbl hbA hH.2.2.2.2.1 ei1 (by omega) hL dL_law_463 ?_
        refine cLX S hH (tX1_liveIn l D a d (xs (i + 1))) (cwV 1 hts gwX0_73 rfl rfl rfl hdX1_liveIn ⟨Nat.le_of_ble_eq_true rfl, Nat.le_of_ble_eq_true rfl⟩) hw rfl hl.1 rfl (Nat.le_of_ble_eq_true rfl) dL_law_464 ⟨by decide, by decide⟩ (fun r1 σ1 H locs hw hH => ?_)
        refine lv_aload_n hx hb dL_law_467 rfl (lv_at hl 2 rfl) ?_
        refine lv_aload_n hx hb dL_law_468 rfl (lv_at hl 0 rfl) ?_
        refine lv_iload_n hx hb dL_law_469 rfl (lv_at hl 3 rfl) ?_
        refine lv_iconst (v := 1) hx hb dL_law_470 (by decide) ?_
        refine lv_iadd hx hb dL_law_471 ?_
        refine sldJ hx hb hX hbl hbA hH.2.2.2.2.1 ei1 (by omega) hL dL_law_472 ?_
        refine cLM S hH (tX2_liveIn l D b d2 (xs (i + 1))) (cwV 1 hts gwX0_76 rfl rfl rfl hdX2_liveIn ⟨Nat.le_of_ble_eq_true rfl, Nat.le_of_ble_eq_true rfl⟩) hw rfl hl.1 rfl (Nat.le_of_ble_eq_true rfl) dL_law_473 ⟨by decide, by decide⟩ (fun r2 τ1 H locs hw hH => ?_)
        refine lv_icmp_eq (tgt := 599) hx hb dL_law_476 (by decide) (fun c2 => ?_) (fun c2 => absurd hw.1 c2)
        exact go σ1 τ1 _ _ _ hw.2 hH hl
      · refine lv_tableIn (off := 439) (tgt := 481) hx hb dL_law_42 (by decide) (by decide) (by decide) (by decide) ?_
        have hw := SS.2.2.2.2.2.2.2.2.2.2.2.2.2.1
        refine lv_aload_n hx hb dL_law_481 rfl (lv_at hl 1 rfl) ?_
        refine cLX S hH (tX1_needed l D a d ) (cwV 0 hts gwX0_77 rfl rfl rfl hdX1_needed ⟨Nat.le_of_ble_eq_true rfl, Nat.le_of_ble_eq_true rfl⟩) hw rfl hl.1 rfl (Nat.le_of_ble_eq_true rfl) dL_law_482 ⟨by decide, by decide⟩ (fun r1 σ1 H locs hw hH => ?_)
        refine lv_aload_n hx hb dL_law_485 rfl (lv_at hl 2 rfl) ?_
        refine cLM S hH (tX2_needed l D b d2 ) (cwV 0 hts gwX0_80 rfl rfl rfl hdX2_needed ⟨Nat.le_of_ble_eq_true rfl, Nat.le_of_ble_eq_true rfl⟩) hw rfl hl.1 rfl (Nat.le_of_ble_eq_true rfl) dL_law_486 ⟨by decide, by decide⟩ (fun r2 τ1 H locs hw hH => ?_)
        refine lv_icmp_eq (tgt := 599) hx hb dL_law_489 (by decide) (fun c2 => ?_) (fun c2 => absurd hw.1 c2)
        exact go σ1 τ1 _ _ _ hw.2 hH hl
      · refine lv_tableIn (off := 452) (tgt := 494) hx hb dL_law_42 (by decide) (by decide) (by decide) (by decide) ?_
        have hw := SS.2.2.2.2.2.2.2.2.2.2.2.2.2.2.1 (xs (i + 1))
        refine lv_aload_n hx hb dL_law_494 rfl (lv_at hl 1 rfl) ?_
        refine lv_aload_n hx hb dL_law_495 rfl (lv_at hl 0 rfl) ?_
        refine lv_iload_n hx hb dL_law_496 rfl (lv_at hl 3 rfl) ?_
        refine lv_iconst (v := 1) hx hb dL_law_497 (by decide) ?_
        refine lv_iadd hx hb dL_law_498 ?_
        refine sldJ hx hb hX hbl hbA hH.2.2.2.2.1 ei1 (by omega) hL dL_law_499 ?_
        refine cLX S hH (tX1_roomFor l D a d (xs (i + 1))) (cwV 1 hts gwX0_81 rfl rfl rfl hdX1_roomFor ⟨Nat.le_of_ble_eq_true rfl, Nat.le_of_ble_eq_true rfl⟩) hw rfl hl.1 rfl (Nat.le_of_ble_eq_true rfl) dL_law_500 ⟨by decide, by decide⟩ (fun r1 σ1 H locs hw hH => ?_)
        refine lv_aload_n hx hb dL_law_503 rfl (lv_at hl 2 rfl) ?_
        refine lv_aload_n hx hb dL_law_504 rfl (lv_at hl 0 rfl) ?_
        refine lv_iload_n hx hb dL_law_505 rfl (lv_at hl 3 rfl) ?_
        refine lv_iconst (v := 1) hx hb dL_law_506 (by decide) ?_
        refine lv_iadd hx hb dL_law_507 ?_
        refine sldJ hx hb hX hbl hbA hH.2.2.2.2.1 ei1 (by omega) hL dL_law_508 ?_
        refine cLM S hH (tX2_roomFor l D b d2 (xs (i + 1))) (cwV 1 hts gwX0_84 rfl rfl rfl hdX2_roomFor ⟨Nat.le_of_ble_eq_true rfl, Nat.le_of_ble_eq_true rfl⟩) hw rfl hl.1 rfl (Nat.le_of_ble_eq_true rfl) dL_law_509 ⟨by decide, by decide⟩ (fun r2 τ1 H locs hw hH => ?_)
        refine lv_icmp_eq (tgt := 599) hx hb dL_law_512 (by decide) (fun c2 => ?_) (fun c2 => absurd hw.1 c2)
        exact go σ1 τ1 _ _ _ hw.2 hH hl
      · refine lv_tableIn (off := 475) (tgt := 517) hx hb dL_law_42 (by decide) (by decide) (by decide) (by decide) ?_
        have hw := SS.2.2.2.2.2.2.2.2.2.2.2.2.2.2.2.1 (xs (i + 1))
        refine lv_aload_n hx hb dL_law_517 rfl (lv_at hl 1 rfl) ?_
        refine lv_aload_n hx hb dL_law_518 rfl (lv_at hl 0 rfl) ?_
        refine lv_iload_n hx hb dL_law_519 rfl (lv_at hl 3 rfl) ?_
        refine lv_iconst (v := 1) hx hb dL_law_520 (by decide) ?_
        refine lv_iadd hx hb dL_law_521 ?_
        refine sldJ hx hb hX hbl hbA hH.2.2.2.2.1 ei1 (by omega) hL dL_law_522 ?_
        refine cLX S hH (tX1_sum l D a d (xs (i + 1))) (cwV 1 hts gwX0_85 rfl rfl rfl hdX1_sum ⟨Nat.le_of_ble_eq_true rfl, Nat.le_of_ble_eq_true rfl⟩) hw rfl hl.1 rfl (Nat.le_of_ble_eq_true rfl) dL_law_523 ⟨by decide, by decide⟩ (fun r1 σ1 H locs hw hH => ?_)
        refine lv_aload_n hx hb dL_law_526 rfl (lv_at hl 2 rfl) ?_
        refine lv_aload_n hx hb dL_law_527 rfl (lv_at hl 0 rfl) ?_
        refine lv_iload_n hx hb dL_law_528 rfl (lv_at hl 3 rfl) ?_
        refine lv_iconst (v := 1) hx hb dL_law_529 (by decide) ?_
        refine lv_iadd hx hb dL_law_530 ?_
        refine sldJ hx hb hX hbl hbA hH.2.2.2.2.1 ei1 (by omega) hL dL_law_531 ?_
        refine cLM S hH (tX2_sum l D b d2 (xs (i + 1))) (cwV 1 hts gwX0_88 rfl rfl rfl hdX2_sum ⟨Nat.le_of_ble_eq_true rfl, Nat.le_of_ble_eq_true rfl⟩) hw rfl hl.1 rfl (Nat.le_of_ble_eq_true rfl) dL_law_532 ⟨by decide, by decide⟩ (fun r2 τ1 H locs hw hH => ?_)
        refine lv_icmp_eq (tgt := 599) hx hb dL_law_535 (by decide) (fun c2 => ?_) (fun c2 => absurd hw.1 c2)
        exact go σ1 τ1 _ _ _ hw.2 hH hl
      · refine lv_tableIn (off := 498) (tgt := 540) hx hb dL_law_42 (by decide) (by decide) (by decide) (by decide) ?_
        have hw := SS.2.2.2.2.2.2.2.2.2.2.2.2.2.2.2.2.1 (xs (i + 1))
        refine lv_aload_n hx hb dL_law_540 rfl (lv_at hl 1 rfl) ?_
        refine lv_aload_n hx hb dL_law_541 rfl (lv_at hl 0 rfl) ?_
        refine lv_iload_n hx hb dL_law_542 rfl (lv_at hl 3 rfl) ?_
        refine lv_iconst (v := 1) hx hb dL_law_543 (by decide) ?_
        refine lv_iadd hx hb dL_law_544 ?_
        refine sldJ hx hb hX hbl hbA hH.2.2.2.2.1 ei1 (by omega) hL dL_law_545 ?_
        refine cLX S hH (tX1_next l D a d (xs (i + 1))) (cwV 1 hts gwX0_89 rfl rfl rfl hdX1_next ⟨Nat.le_of_ble_eq_true rfl, Nat.le_of_ble_eq_true rfl⟩) hw rfl hl.1 rfl (Nat.le_of_ble_eq_true rfl) dL_law_546 ⟨by decide, by decide⟩ (fun r1 σ1 H locs hw hH => ?_)
        refine lv_aload_n hx hb dL_law_549 rfl (lv_at hl 2 rfl) ?_
        refine lv_aload_n hx hb dL_law_550 rfl (lv_at hl 0 rfl) ?_
        refine lv_iload_n hx hb dL_law_551 rfl (lv_at hl 3 rfl) ?_
        refine lv_iconst (v := 1) hx hb dL_law_552 (by decide) ?_
        refine lv_iadd hx hb dL_law_553 ?_
        refine sldJ hx hb hX hbl hbA hH.2.2.2.2.1 ei1 (by omega) hL dL_law_554 ?_
        refine cLM S hH (tX2_next l D b d2 (xs (i + 1))) (cwV 1 hts gwX0_92 rfl rfl rfl hdX2_next ⟨Nat.le_of_ble_eq_true rfl, Nat.le_of_ble_eq_true rfl⟩) hw rfl hl.1 rfl (Nat.le_of_ble_eq_true rfl) dL_law_555 ⟨by decide, by decide⟩ (fun r2 τ1 H locs hw hH => ?_)
        refine lv_icmp_eq (tgt := 599) hx hb dL_law_558 (by decide) (fun c2 => ?_) (fun c2 => absurd hw.1 c2)
        exact go σ1 τ1 _ _ _ hw.2 hH hl
      · refine lv_tableIn (off := 521) (tgt := 563) hx hb dL_law_42 (by decide) (by decide) (by decide) (by decide) ?_
        have hw := SS.2.2.2.2.2.2.2.2.2.2.2.2.2.2.2.2.2.1 (xs (i + 1))
        refine lv_aload_n hx hb dL_law_563 rfl (lv_at hl 1 rfl) ?_
        refine lv_aload_n hx hb dL_law_564 rfl (lv_at hl 0 rfl) ?_
        refine lv_iload_n hx hb dL_law_565 rfl (lv_at hl 3 rfl) ?_
        refine lv_iconst (v := 1) hx hb dL_law_566 (by decide) ?_
        refine lv_iadd hx hb dL_law_567 ?_
        refine sldJ hx hb hX hbl hbA hH.2.2.2.2.1 ei1 (by omega) hL dL_law_568 ?_
        refine cLX S hH (tX1_count l D a d (xs (i + 1))) (cwV 1 hts gwX0_93 rfl rfl rfl hdX1_count ⟨Nat.le_of_ble_eq_true rfl, Nat.le_of_ble_eq_true rfl⟩) hw rfl hl.1 rfl (Nat.le_of_ble_eq_true rfl) dL_law_569 ⟨by decide, by decide⟩ (fun r1 σ1 H locs hw hH => ?_)
        refine lv_aload_n hx hb dL_law_572 rfl (lv_at hl 2 rfl) ?_
        refine lv_aload_n hx hb dL_law_573 rfl (lv_at hl 0 rfl) ?_
        refine lv_iload_n hx hb dL_law_574 rfl (lv_at hl 3 rfl) ?_
        refine lv_iconst (v := 1) hx hb dL_law_575 (by decide) ?_
        refine lv_iadd hx hb dL_law_576 ?_
        refine sldJ hx hb hX hbl hbA hH.2.2.2.2.1 ei1 (by omega) hL dL_law_577 ?_
        refine cLM S hH (tX2_count l D b d2 (xs (i + 1))) (cwV 1 hts gwX0_96 rfl rfl rfl hdX2_count ⟨Nat.le_of_ble_eq_true rfl, Nat.le_of_ble_eq_true rfl⟩) hw rfl hl.1 rfl (Nat.le_of_ble_eq_true rfl) dL_law_578 ⟨by decide, by decide⟩ (fun r2 τ1 H locs hw hH => ?_)
        refine lv_icmp_eq (tgt := 599) hx hb dL_law_581 (by decide) (fun c2 => ?_) (fun c2 => absurd hw.1 c2)
        exact go σ1 τ1 _ _ _ hw.2 hH hl
      · refine lv_tableIn (off := 544) (tgt := 586) hx hb dL_law_42 (by decide) (by decide) (by decide) (by decide) ?_
        have hw := SS.2.2.2.2.2.2.2.2.2.2.2.2.2.2.2.2.2.2
        refine lv_aload_n hx hb dL_law_586 rfl (lv_at hl 1 rfl) ?_
        refine cLX S hH (tX1_faults l D a d ) (cwV 0 hts gwX0_97 rfl rfl rfl hdX1_faults ⟨Nat.le_of_ble_eq_true rfl, Nat.le_of_ble_eq_true rfl⟩) hw rfl hl.1 rfl (Nat.le_of_ble_eq_true rfl) dL_law_587 ⟨by decide, by decide⟩ (fun r1 σ1 H locs hw hH => ?_)
        refine lv_aload_n hx hb dL_law_590 rfl (lv_at hl 2 rfl) ?_
        refine cLM S hH (tX2_faults l D b d2 ) (cwV 0 hts gwX0_100 rfl rfl rfl hdX2_faults ⟨Nat.le_of_ble_eq_true rfl, Nat.le_of_ble_eq_true rfl⟩) hw rfl hl.1 rfl (Nat.le_of_ble_eq_true rfl) dL_law_591 ⟨by decide, by decide⟩ (fun r2 τ1 H locs hw hH => ?_)
        refine lv_icmp_eq (tgt := 599) hx hb dL_law_594 (by decide) (fun c2 => ?_) (fun c2 => absurd hw.1 c2)
        exact go σ1 τ1 _ _ _ hw.2 hH hl
    · refine lv_tableOut (tgt := 599) hx hb dL_law_42 (Or.inr (by rw [nI_toInt (by omega)]; omega)) (by decide) ?_
      exact go σ τ _ _ _ hR hH hl
theorem nd11 : va_nd [0, 1, 2, 3, 4, 5, 6, 7, 8, 9, 10] = true := by decide
set_option maxHeartbeats 4000000 in
/-- the law from its entry, over any relation that the constructors bring about and the operations keep -/
theorem whole_of_sim {p : Program} {e : Env} {s : State} {m : MethodId} {below : List Frame} {meth : Method} {c : Code} (l : Launch) {bs L : Nat} {xs : Nat → Int32} {RR : St → St → Prop} (hini : ∀ x : Int32, X1_init x (fun _ _ => 0) (fun σ => X2_init x (fun _ _ => 0) (fun τ => RR σ τ))) (hsim : ∀ σ τ, RR σ τ → SIM RR σ τ) (hL : L ≤ 257) (C0 : lw_At p s m meth c bs L xs) : W p l e room_1 s m #[Value.ref bs] below meth c s.heap [] 0 0 (lw_Z below #[Value.ref bs] s) (entryFrame m ([Value.ref bs] : List Value).toArray 4) := by
  obtain ⟨hx, hb, hr, hml, hown, hts0, hX, hbl, hlk, hgv⟩ := id C0
  have hts : ∀ w ∈ lw_all, w.before #[Value.ref bs] s = true := fun w h => hts0 w (lw_all_tbl h)
  have S : CallFix p m c cL_law 4 s #[Value.ref bs] lw_all RX0 := ⟨hx, hb, hml, hown, hts⟩
  have hA : ∀ q : Nat, s.heap.size ≤ q → (fun q : Nat => s.heap.size ≤ q) q := fun _ h => h
  have hbA : ¬ (fun q : Nat => s.heap.size ≤ q) bs := Nat.not_le.mpr hbl
  obtain ⟨c0, iS0, hKn0⟩ := u_known (C := RX1) (T := TX1) (N := 13) (n := 13) hts in_X1 (hts _ q20)
  obtain ⟨c1, iS1, hKn1⟩ := u_known (C := RX2) (T := TX2) (N := 3) (n := 3) hts in_X2 (hts _ q201)
  obtain ⟨D, hKc⟩ : ∃ (D : va_G), ∀ (k : Nat) (q : vw_C), vwCl[k]? = some q → u_Kn s q.1 q.2.1 q.2.2 (D.1 k) (D.2 k) := by
    refine ⟨(fun k => if k = 0 then c0 else c1, fun k => if k = 0 then iS0 else iS1), ?_⟩
    intro k q hq
    match k, hq with
    | 0, hq => cases hq; exact hKn0
    | 1, hq => cases hq; exact hKn1
    | k + 2, hq => simp [vwCl] at hq
  have hS : va_S (fun q : Nat => s.heap.size ≤ q) s.heap s.heap [] := va_S.rf
  have hK : va_K D vwCl [] s := ⟨hKc, fun k q h => by simp at h⟩
  have hP : va_P D vwCl [] s.heap := fun k q h => by simp at h
  have hD : va_D (fun q : Nat => s.heap.size ≤ q) [] := ⟨fun i j p q h => by simp at h, fun k q h => by simp at h⟩
  have hl := lv_entry ([.ref bs]) (n := 4) (Nat.le_of_ble_eq_true rfl)
  rw [lg_entry_eq]
  generalize (lg_sl ([.ref bs]) ++ List.replicate (4 - (lg_sl ([.ref bs])).length) Slot.unset).toArray = ls at hl ⊢
  have hl : lv_has ls 4 [(0, .ref bs)] := hl
  refine va_new (ci := 0) (fs := [.null, .null, .null, .null, .null, .null, .null, .null, .null, .null, .int 0, .int 0, .int 0]) (C := RX1) (T := TX1) (N := 13) hx hb hts in_X1 tyX1 tyX1_ok hown (hts _ q19) (hts _ q20) (hts _ q17) hK hP hD hS hA rfl (fun j hj => by rcases (show j = 0 ∨ j = 1 ∨ j = 2 ∨ j = 3 ∨ j = 4 ∨ j = 5 ∨ j = 6 ∨ j = 7 ∨ j = 8 ∨ j = 9 ∨ j = 10 ∨ j = 11 ∨ j = 12 by omega) with rfl | rfl | rfl | rfl | rfl | rfl | rfl | rfl | rfl | rfl | rfl | rfl | rfl <;> rfl) (by decide) (by decide) dL_law_0 (fun qx H hP hD hS => ?_)
  have hP : va_P D vwCl [(qx, .inr (0, [.null, .null, .null, .null, .null, .null, .null, .null, .null, .null, .int 0, .int 0, .int 0]))] H := hP
  have hD : va_D (fun q : Nat => s.heap.size ≤ q) [(qx, .inr (0, [.null, .null, .null, .null, .null, .null, .null, .null, .null, .null, .int 0, .int 0, .int 0]))] := hD
  refine W.widen (k := 1) (n := 13) (by decide) (by decide) ?_
  refine lv_dup hx hb dL_law_3 rfl ?_
  refine lv_aload_n hx hb dL_law_4 rfl (lv_at hl 0 rfl) ?_
  refine lv_iconst (v := 0) hx hb dL_law_5 (by decide) ?_
  refine va_calli (va_runS (As := [.ref bs, .int 0]) (rest := [.ref qx, .ref qx]) S (tX0_cell l bs L xs hL) (va_cwS 2 hts gwX0_9 rfl rfl rfl hdX0_cell ⟨Nat.le_of_ble_eq_true rfl, Nat.le_of_ble_eq_true rfl⟩) ⟨fun a' U g mk hq => by obtain ⟨q0, q1, q2⟩ := hq; exact ⟨q0, q1, va_X.moved (u := U) (U := U.calling g mk a') (Vm.Alike.refl U.vm) q2⟩, fun U hU hW => ⟨rfl, by rw [hU]; exact Nat.lt_of_lt_of_le hbl hS.1, by rw [hU]; exact va_X.moved hW.alike (hX.kept (hS.2.1 bs hbl hbA))⟩⟩ rfl rfl hl.1 rfl (lv_room (Nat.le_of_ble_eq_true rfl)) dL_law_6 ⟨by decide, by decide⟩) hS (fun q _ h => h.elim) (fun q h => h.elim) (fun r u t H1 locs ht hvm hc0 hB hz1 hk1 hS => ?_)
  have hP := hP.kept (H1 := H1) (fun k q hk => hk1 q.1 (hP k q hk).lt (fun h => h))
  generalize H1 = H at hP hS ⊢
  subst hc0
  have hFc := va_free (wc := [(qx, .inr (0, [.null, .null, .null, .null, .null, .null, .null, .null, .null, .null, .int 0, .int 0, .int 0]))]) hD hS hA [0] rfl
  refine va_callv (va_runI (As := [.int (cell0 L xs)]) (rest := [.ref qx]) S (tX1_init l D qx H.size (cell0 L xs) _ (hini (cell0 L xs))) (cwI 1 hts (lw_meth q23) rfl rfl rfl (hts _ q17) (hts _ q21) (hts _ q22) rfl (by decide +kernel) ⟨Nat.le_of_ble_eq_true rfl, Nat.le_of_ble_eq_true rfl⟩) ⟨fun a U g mk q => by obtain ⟨q0, q1, qP, qK, qD⟩ := q; exact ⟨q0, q1, qP, va_K.moved (u := U) (U := U.calling g mk a) (Vm.Alike.refl U.vm) qK, qD⟩, fun U hU hW => ⟨rfl, by rw [hU], by rw [hU]; exact hP, va_K.moved hW.alike hK, hD.weaken (fun _ _ _ _ => trivial)⟩⟩ rfl rfl hl.1 rfl (lv_room (Nat.le_of_ble_eq_true rfl)) dL_law_9 ⟨by decide, by decide⟩) hS (fun q _ h => hFc q h) hFc (fun σ t H1 locs ht hvm hw1 hB hz1 hk1 hS => ?_)
  obtain ⟨a, d, rfl, hP1, hK1, hD1⟩ := hB
  rw [ht] at hP1
  have hK1 := va_K.moved hvm.symm hK1
  obtain ⟨hP, hD⟩ := va_join (wr := []) (w1 := wX a d σ) hP hD [0] [] rfl rfl (by decide) (by decide) hk1 hFc hP1 hD1
  generalize H1 = H at hP hS ⊢
  have hP : va_P D vwCl (wX a d σ) H := hP
  have hD : va_D (fun q : Nat => s.heap.size ≤ q) (wX a d σ) := hD
  refine W.widen (k := 11) (n := 541) (by decide) (by decide) ?_
  refine lv_astore_n (lv' := [(1, .ref (a 10)), (0, .ref bs)]) hx hb dL_law_12 rfl hl (by decide) rfl (fun ls hl => ?_)
  refine va_new (ci := 1) (fs := [.int 0, .null, .null]) (C := RX2) (T := TX2) (N := 3) hx hb hts in_X2 tyX2 tyX2_ok hown (hts _ q200) (hts _ q201) (hts _ q18) hK hP hD hS hA rfl (fun j hj => by rcases (show j = 0 ∨ j = 1 ∨ j = 2 by omega) with rfl | rfl | rfl <;> rfl) (by decide) (by decide) dL_law_13 (fun qm H hP hD hS => ?_)
  refine W.widen (k := 12) (n := 544) (by decide) (by decide) ?_
  refine lv_dup hx hb dL_law_16 rfl ?_
  refine lv_aload_n hx hb dL_law_17 rfl (lv_at hl 1 rfl) ?_
  refine lv_iconst (v := 0) hx hb dL_law_18 (by decide) ?_
  refine va_calli (va_runS (As := [.ref bs, .int 0]) (rest := [.ref qm, .ref qm]) S (tX0_cell l bs L xs hL) (va_cwS 2 hts gwX0_9 rfl rfl rfl hdX0_cell ⟨Nat.le_of_ble_eq_true rfl, Nat.le_of_ble_eq_true rfl⟩) ⟨fun a' U g mk hq => by obtain ⟨q0, q1, q2⟩ := hq; exact ⟨q0, q1, va_X.moved (u := U) (U := U.calling g mk a') (Vm.Alike.refl U.vm) q2⟩, fun U hU hW => ⟨rfl, by rw [hU]; exact Nat.lt_of_lt_of_le hbl hS.1, by rw [hU]; exact va_X.moved hW.alike (hX.kept (hS.2.1 bs hbl hbA))⟩⟩ rfl rfl hl.1 rfl (lv_room (Nat.le_of_ble_eq_true rfl)) dL_law_19 ⟨by decide, by decide⟩) hS (fun q _ h => h.elim) (fun q h => h.elim) (fun r u t H1 locs ht hvm hc0 hB hz1 hk1 hS => ?_)
  have hP := hP.kept (H1 := H1) (fun k q hk => hk1 q.1 (hP k q hk).lt (fun h => h))
  generalize H1 = H at hP hS ⊢
  subst hc0
  have hPc := hP.sub (ws' := [(qm, .inr (1, [.int 0, .null, .null]))]) [11] rfl
  have hDc := hD.sub (ws' := [(qm, .inr (1, [.int 0, .null, .null]))]) [11] (by decide) rfl
  have hFc := va_free (wc := [(qm, .inr (1, [.int 0, .null, .null]))]) hD hS hA [11] rfl
  refine va_callv (va_runI (As := [.int (cell0 L xs)]) (rest := [.ref qm]) S (tX2_init l D qm H.size (cell0 L xs) _ hw1) (cwI 1 hts (lw_meth q204) rfl rfl rfl (hts _ q18) (hts _ q202) (hts _ q203) rfl (by decide +kernel) ⟨Nat.le_of_ble_eq_true rfl, Nat.le_of_ble_eq_true rfl⟩) ⟨fun a U g mk q => by obtain ⟨q0, q1, qP, qK, qD⟩ := q; exact ⟨q0, q1, qP, va_K.moved (u := U) (U := U.calling g mk a) (Vm.Alike.refl U.vm) qK, qD⟩, fun U hU hW => ⟨rfl, by rw [hU], by rw [hU]; exact hPc, va_K.moved hW.alike hK, hDc.weaken (fun _ _ _ _ => trivial)⟩⟩ rfl rfl hl.1 rfl (lv_room (Nat.le_of_ble_eq_true rfl)) dL_law_22 ⟨by decide, by decide⟩) hS (fun q _ h => hFc q h) hFc (fun τ t H1 locs ht hvm hw2 hB hz1 hk1 hS => ?_)
  obtain ⟨b, d2, rfl, hP1, hK2, hD1⟩ := hB
  rw [ht] at hP1
  have hK2 := va_K.moved hvm.symm hK2
  obtain ⟨hP, hD⟩ := va_join (wr := wX a d σ) (w1 := wM b d2 τ) hP hD [11] [0, 1, 2, 3, 4, 5, 6, 7, 8, 9, 10] rfl rfl nd11 (by decide) hk1 hFc hP1 hD1
  generalize H1 = H at hP hS ⊢
  refine W.widen (k := 14) (n := 1632) (by decide) (by decide) ?_
  refine lv_astore_n (lv' := [(2, .ref (b 10)), (1, .ref (a 10)), (0, .ref bs)]) hx hb dL_law_25 rfl hl (by decide) rfl (fun ls hl => ?_)
  refine lv_iconst (v := 1) hx hb dL_law_26 (by decide) ?_
  refine lv_istore_n (lv' := [(3, .int 1), (2, .ref (b 10)), (1, .ref (a 10)), (0, .ref bs)]) hx hb dL_law_27 rfl hl (by decide) rfl (fun ls hl => ?_)
  exact law_loop hsim hL C0 (L + 4) 1 1 σ τ (by omega) (by omega) rfl hw2 _ _ _ ⟨hK1, hK2, hP, hD, hS, hA⟩ (lv_sub hl [3, 2, 1, 0] rfl)
end
section
set_option maxRecDepth 100000
/-! ===== how many places have a property ===== -/
def fb_ct (p : Nat → Bool) : Nat → Nat
  | 0 => 0
  | n + 1 => fb_ct p n + (if p n then 1 else 0)
theorem fb_ct_succ (p : Nat → Bool) (n : Nat) : fb_ct p (n + 1) = fb_ct p n + (if p n then 1 else 0) := rfl
theorem fb_ct_le (p : Nat → Bool) : ∀ n, fb_ct p n ≤ n
  | 0 => Nat.le_refl _
  | n + 1 => by
    have h := fb_ct_le p n
    rw [fb_ct_succ]
    split <;> omega
theorem fb_ct_step (p : Nat → Bool) (m : Nat) : ∀ n, fb_ct p m ≤ fb_ct p (m + n)
  | 0 => Nat.le_refl _
  | n + 1 => by
    have h := fb_ct_step p m n
    show fb_ct p m ≤ fb_ct p (m + n + 1)
    rw [fb_ct_succ]
    omega
theorem fb_ct_mono (p : Nat → Bool) {m n : Nat} (h : m ≤ n) : fb_ct p m ≤ fb_ct p n := by
  have := fb_ct_step p m (n - m)
  rwa [Nat.add_sub_cancel' h] at this
theorem fb_ct_cong {p q : Nat → Bool} : ∀ {n : Nat}, (∀ k, k < n → p k = q k) → fb_ct p n = fb_ct q n
  | 0, _ => rfl
  | n + 1, h => by
    rw [fb_ct_succ, fb_ct_succ, fb_ct_cong (fun k hk => h k (by omega)), h n (by omega)]
/-- one place changed -/
theorem fb_ct_out (p : Nat → Bool) (b : Bool) {i n : Nat} (h : n ≤ i) : fb_ct (fun k => if k = i then b else p k) n = fb_ct p n :=
  fb_ct_cong fun k hk => if_neg (by omega)
theorem fb_ct_upd (p : Nat → Bool) (b : Bool) {i : Nat} : ∀ {n : Nat}, i < n → fb_ct (fun k => if k = i then b else p k) n + (if p i then 1 else 0) = fb_ct p n + (if b then 1 else 0)
  | 0, h => absurd h (Nat.not_lt_zero i)
  | n + 1, h => by
    rw [fb_ct_succ, fb_ct_succ]
    rcases Nat.lt_or_ge i n with q | q
    · have := fb_ct_upd p b q
      have e : (if n = i then b else p n) = p n := if_neg (by omega)
      rw [e]
      omega
    · have e : i = n := by omega
      subst e
      rw [fb_ct_out p b (Nat.le_refl _)]
      simp only [if_true]
      omega
theorem fb_ct_sub {p q : Nat → Bool} : ∀ {n : Nat}, (∀ k, k < n → p k = true → q k = true) → fb_ct p n ≤ fb_ct q n
  | 0, _ => Nat.le_refl _
  | n + 1, h => by
    have h1 := fb_ct_sub (n := n) (p := p) (q := q) (fun k hk => h k (by omega))
    have h2 := h n (by omega)
    rw [fb_ct_succ, fb_ct_succ]
    cases hp : p n <;> cases hq : q n <;> simp_all <;> omega
theorem fb_ct_or {p q : Nat → Bool} : ∀ {n : Nat}, (∀ k, k < n → ¬ (p k = true ∧ q k = true)) → fb_ct (fun k => p k || q k) n = fb_ct p n + fb_ct q n
  | 0, _ => rfl
  | n + 1, h => by
    have h1 := fb_ct_or (n := n) (p := p) (q := q) (fun k hk => h k (by omega))
    have h2 := h n (by omega)
    rw [fb_ct_succ, fb_ct_succ, fb_ct_succ, h1]
    cases hp : p n <;> cases hq : q n <;> simp_all <;> omega
theorem fb_ct_not (p : Nat → Bool) : ∀ n, fb_ct p n + fb_ct (fun k => !p k) n = n
  | 0 => rfl
  | n + 1 => by
    have h := fb_ct_not p n
    rw [fb_ct_succ, fb_ct_succ]
    cases p n <;> simp <;> omega
theorem fb_ct_split (p : Nat → Bool) (m : Nat) : ∀ n, fb_ct p (m + n) = fb_ct p m + fb_ct (fun k => p (m + k)) n
  | 0 => rfl
  | n + 1 => by
    have h := fb_ct_split p m n
    show fb_ct p (m + n + 1) = _
    rw [fb_ct_succ, fb_ct_succ, h, Nat.add_assoc]
theorem fb_ct_zero {p : Nat → Bool} : ∀ {n : Nat}, fb_ct p n = 0 ↔ ∀ k, k < n → p k = false
  | 0 => ⟨fun _ k hk => absurd hk (Nat.not_lt_zero k), fun _ => rfl⟩
  | n + 1 => by
    have h := fb_ct_zero (p := p) (n := n)
    rw [fb_ct_succ]
    constructor
    · intro e k hk
      have e1 : fb_ct p n = 0 := by omega
      rcases Nat.lt_or_ge k n with q | q
      · exact h.mp e1 k q
      · have ek : k = n := by omega
        subst ek
        cases hp : p k
        · rfl
        · simp [hp] at e
    · intro a
      rw [h.mpr (fun k hk => a k (by omega)), a n (by omega)]
      rfl
theorem fb_ct_pos {p : Nat → Bool} {n : Nat} : 0 < fb_ct p n ↔ ∃ k, k < n ∧ p k = true := by
  constructor
  · intro h
    refine Classical.byContradiction fun hx => ?_
    have := fb_ct_zero.mpr (fun k hk => by
      cases hp : p k
      · rfl
      · exact absurd ⟨k, hk, hp⟩ hx : ∀ k, k < n → p k = false)
    omega
  · rintro ⟨k, hk, hp⟩
    rcases Nat.eq_zero_or_pos (fb_ct p n) with e | e
    · have := fb_ct_zero.mp e k hk
      rw [this] at hp
      cases hp
    · exact e
theorem fb_ct_all {p : Nat → Bool} {n : Nat} : fb_ct p n = n ↔ ∀ k, k < n → p k = true := by
  have h := fb_ct_not p n
  constructor
  · intro e k hk
    have z : fb_ct (fun k => !p k) n = 0 := by omega
    have := fb_ct_zero.mp z k hk
    cases hp : p k
    · simp [hp] at this
    · rfl
  · intro a
    have z : fb_ct (fun k => !p k) n = 0 := fb_ct_zero.mpr (fun k hk => by simp [a k hk])
    omega
/-- the k-th place with the property -/
theorem fb_ct_kth {p : Nat → Bool} {k : Nat} : ∀ {n : Nat}, k < fb_ct p n → ∃ i, i < n ∧ p i = true ∧ fb_ct p i = k
  | 0, h => absurd h (Nat.not_lt_zero k)
  | n + 1, h => by
    rcases Nat.lt_or_ge k (fb_ct p n) with q | q
    · obtain ⟨i, h1, h2⟩ := fb_ct_kth q
      exact ⟨i, by omega, h2⟩
    · rw [fb_ct_succ] at h
      cases hp : p n
      · simp [hp] at h; omega
      · simp [hp] at h
        exact ⟨n, by omega, hp, by omega⟩
theorem fb_ct_kth_one {p : Nat → Bool} {i j : Nat} (hi : p i = true) (hj : p j = true) (e : fb_ct p i = fb_ct p j) : i = j := by
  have key : ∀ a b : Nat, a < b → p a = true → fb_ct p a < fb_ct p b := by
    intro a b hab ha
    have h := fb_ct_mono p (show a + 1 ≤ b from hab)
    rw [fb_ct_succ, ha] at h
    simp at h
    omega
  rcases Nat.lt_trichotomy i j with q | q | q
  · have := key i j q hi; omega
  · exact q
  · have := key j i q hj; omega
/-! kinds, places of a page, words of a place -/
def zk (n : Nat) : Nat := if n ≤ 2 then 0 else if n ≤ 4 then 1 else if n ≤ 8 then 2 else 3
def zc (c : Nat) : Nat := if c = 0 then 8 else if c = 1 then 4 else if c = 2 then 2 else 1
def zw (c : Nat) : Nat := if c = 0 then 2 else if c = 1 then 4 else if c = 2 then 8 else 16
theorem zk_lt (n : Nat) : zk n < 4 := by unfold zk; split <;> (try split) <;> (try split) <;> omega
theorem zc_pos (c : Nat) : 1 ≤ zc c ∧ zc c ≤ 8 := by unfold zc; split <;> (try split) <;> (try split) <;> omega
theorem zw_pos (c : Nat) : 2 ≤ zw c ∧ zw c ≤ 16 := by unfold zw; split <;> (try split) <;> (try split) <;> omega
theorem zw_zk0 : ∀ n, n < 17 → n ≤ zw (zk n) := by decide
theorem zw_zk {n : Nat} (h : n ≤ 16) : n ≤ zw (zk n) := zw_zk0 n (by omega)
theorem zcw {c s k : Nat} (hc : c < 4) (hs : s < zc c) (hk : k < zw c) : s * zw c + k < 16 := by
  rcases (show c = 0 ∨ c = 1 ∨ c = 2 ∨ c = 3 by omega) with rfl | rfl | rfl | rfl <;> simp [zc, zw] at * <;> omega
theorem zcw_inj {c s k s' k' : Nat} (hc : c < 4) (hk : k < zw c) (hk' : k' < zw c) (e : s * zw c + k = s' * zw c + k') : s = s' ∧ k = k' := by
  rcases (show c = 0 ∨ c = 1 ∨ c = 2 ∨ c = 3 by omega) with rfl | rfl | rfl | rfl <;> simp [zw] at * <;> omega
def fu (f : Nat → Nat) (i v : Nat) : Nat → Nat := fun j => if j = i then v else f j
theorem fu_s (f : Nat → Nat) (i v : Nat) : fu f i v i = v := by simp [fu]
theorem fu_n {f : Nat → Nat} {i j : Nat} (v : Nat) (h : j ≠ i) : fu f i v j = f j := by simp [fu, h]
theorem fu_fu (f : Nat → Nat) (i v w : Nat) : fu (fu f i v) i w = fu f i w := by
  funext j; by_cases h : j = i <;> simp [fu, h]
theorem fu_id {f : Nat → Nat} {i v : Nat} (h : f i = v) : fu f i v = f := by
  funext j; by_cases e : j = i <;> simp [fu, e, h]
/-- counts under one change -/
theorem ct_up {q q' : Nat → Bool} {i n : Nat} (hi : i < n) (h : ∀ j, j < n → j ≠ i → q' j = q j) (h0 : q i = false) (h1 : q' i = true) : fb_ct q' n = fb_ct q n + 1 := by
  have e : fb_ct q' n = fb_ct (fun k => if k = i then true else q k) n := fb_ct_cong (fun k hk => by
    by_cases hki : k = i
    · simp [hki, h1]
    · simp [hki, h k hk hki])
  have := fb_ct_upd q true hi
  rw [e]
  simp only [h0, Bool.false_eq_true, if_false, if_true] at this
  omega
theorem ct_dn {q q' : Nat → Bool} {i n : Nat} (hi : i < n) (h : ∀ j, j < n → j ≠ i → q' j = q j) (h0 : q i = true) (h1 : q' i = false) : fb_ct q' n + 1 = fb_ct q n := by
  have := ct_up (q := q') (q' := q) hi (fun j hj hne => (h j hj hne).symm) h1 h0
  omega
theorem ct_eq {q q' : Nat → Bool} {n : Nat} (h : ∀ j, j < n → q' j = q j) : fb_ct q' n = fb_ct q n := fb_ct_cong h
/-! the invariant's parts -/
def J1 (P : Nat) (ls pg pl kd ow : Nat → Nat) : Prop := ∀ h, h < 64 → 0 < ls h → pg h < P ∧ pl h < zc (zk (ls h)) ∧ kd (pg h) = zk (ls h) + 1 ∧ ow (8 * pg h + pl h) = h + 1
def J2 (ls pg pl ow : Nat → Nat) : Prop := ∀ q, q < 96 → 0 < ow q → ow q ≤ 64 ∧ 0 < ls (ow q - 1) ∧ 8 * pg (ow q - 1) + pl (ow q - 1) = q
def J3 (P : Nat) (kd : Nat → Nat) : Prop := ∀ p, p < 12 → kd p ≤ 4 ∧ (P ≤ p → kd p = 0)
def J4 (kd pc ow : Nat → Nat) : Prop := ∀ p, p < 12 → 0 < kd p → pc p = fb_ct (fun s => decide (0 < ow (8 * p + s))) 8
def cntK (ls : Nat → Nat) (c : Nat) : Nat := fb_ct (fun h => decide (0 < ls h ∧ zk (ls h) = c)) 64
def cntL (ls : Nat → Nat) : Nat := fb_ct (fun h => decide (0 < ls h)) 64
def J5 (ls ct : Nat → Nat) (lc : Nat) : Prop := (∀ c, c < 4 → ct c = cntK ls c) ∧ lc = cntL ls
def J6 (P fp : Nat) (kd : Nat → Nat) : Prop := fp + fb_ct (fun p => decide (0 < kd p)) 12 = P ∧ 2 ≤ P ∧ P ≤ 12
def J7 (ls : Nat → Nat) : Prop := ∀ h, h < 64 → ls h ≤ 16
def J0 (P fp lc : Nat) (ls pg pl kd pc ow ct : Nat → Nat) : Prop := J1 P ls pg pl kd ow ∧ J2 ls pg pl ow ∧ J3 P kd ∧ J4 kd pc ow ∧ J5 ls ct lc ∧ J6 P fp kd ∧ J7 ls
def O1 (kd pc op : Nat → Nat) : Prop := ∀ p, p < 12 → 0 < kd p → 1 ≤ pc p ∧ pc p ≤ zc (kd p - 1) ∧ (pc p < zc (kd p - 1) → op (kd p - 1) = p + 1)
def O2 (kd pc op : Nat → Nat) : Prop := ∀ c, c < 4 → 0 < op c → op c ≤ 12 ∧ kd (op c - 1) = c + 1 ∧ pc (op c - 1) < zc c
def nP (kd : Nat → Nat) (c : Nat) : Nat := fb_ct (fun p => decide (kd p = c + 1)) 12
def O3 (kd pc op ct : Nat → Nat) : Prop := ∀ c, c < 4 → zc c * nP kd c = ct c + (if 0 < op c then zc c - pc (op c - 1) else 0)
def O0 (kd pc op ct : Nat → Nat) : Prop := O1 kd pc op ∧ O2 kd pc op ∧ O3 kd pc op ct
end
section
set_option maxRecDepth 100000
section INV
variable {P fp lc : Nat} {ls pg pl kd pc ow ct op : Nat → Nat}
/-- one slot, one handle -/
theorem J_one (h1 : J1 P ls pg pl kd ow) {h h' : Nat} (hh : h < 64) (hl : 0 < ls h) (hh' : h' < 64) (hl' : 0 < ls h') (e1 : pg h = pg h') (e2 : pl h = pl h') : h = h' := by
  have a := (h1 h hh hl).2.2.2
  have b := (h1 h' hh' hl').2.2.2
  rw [e1, e2, b] at a
  omega
theorem J_pl (h1 : J1 P ls pg pl kd ow) {h : Nat} (hh : h < 64) (hl : 0 < ls h) : pl h < 8 := by
  have := (h1 h hh hl).2.1
  have := zc_pos (zk (ls h))
  omega
theorem J0_U (I : J0 P fp lc ls pg pl kd pc ow ct) {h : Nat} (hh : h < 64) (hl : 0 < ls h) :
    J0 P fp (lc - 1) (fu ls h 0) pg pl kd (fu pc (pg h) (pc (pg h) - 1)) (fu ow (8 * pg h + pl h) 0) (fu ct (zk (ls h)) (ct (zk (ls h)) - 1)) := by
  obtain ⟨h1, h2, h3, h4, h5, h6, h7⟩ := I
  have g := h1 h hh hl
  have gl := J_pl h1 hh hl
  have hP := h6.2.2
  refine ⟨?_, ?_, h3, ?_, ?_, h6, ?_⟩
  · intro x hx hlx
    by_cases e : x = h
    · simp [fu, e] at hlx
    · rw [fu_n 0 e] at hlx ⊢
      have gx := h1 x hx hlx
      have gxl := J_pl h1 hx hlx
      refine ⟨gx.1, gx.2.1, gx.2.2.1, ?_⟩
      rw [fu_n]
      · exact gx.2.2.2
      · intro e2
        exact e (J_one h1 hx hlx hh hl (by omega) (by omega))
  · intro q hq ho
    by_cases e : q = 8 * pg h + pl h
    · simp [fu, e] at ho
    · rw [fu_n 0 e] at ho ⊢
      have gq := h2 q hq ho
      refine ⟨gq.1, ?_, gq.2.2⟩
      by_cases e2 : ow q - 1 = h
      · rw [e2] at gq; omega
      · rw [fu_n 0 e2]; exact gq.2.1
  · intro p hp hk
    by_cases e : p = pg h
    · subst e
      rw [fu_s, h4 _ hp hk]
      have := ct_dn (q := fun s => decide (0 < ow (8 * pg h + s))) (q' := fun s => decide (0 < fu ow (8 * pg h + pl h) 0 (8 * pg h + s))) (i := pl h) (n := 8) gl (fun j hj hne => by rw [fu_n _ (by omega)]) (by simp [g.2.2.2]) (by simp [fu])
      omega
    · rw [fu_n _ e, h4 p hp hk]
      exact ct_eq (fun j hj => by rw [fu_n _ (by omega)])
  · refine ⟨fun c hc => ?_, ?_⟩
    · by_cases e : c = zk (ls h)
      · subst e
        rw [fu_s, h5.1 _ hc]
        have := ct_dn (q := fun x => decide (0 < ls x ∧ zk (ls x) = zk (ls h))) (q' := fun x => decide (0 < fu ls h 0 x ∧ zk (fu ls h 0 x) = zk (ls h))) (i := h) (n := 64) hh (fun j hj hne => by rw [fu_n _ hne]) (by simp [hl]) (by simp [fu])
        unfold cntK
        omega
      · rw [fu_n _ e, h5.1 c hc]
        refine ct_eq (fun j hj => ?_)
        by_cases e2 : j = h
        · subst e2; simp [fu]; intro _; omega
        · rw [fu_n _ e2]
    · rw [h5.2]
      have := ct_dn (q := fun x => decide (0 < ls x)) (q' := fun x => decide (0 < fu ls h 0 x)) (i := h) (n := 64) hh (fun j hj hne => by rw [fu_n _ hne]) (by simp [hl]) (by simp [fu])
      unfold cntL
      omega
  · intro x hx
    by_cases e : x = h
    · simp [fu, e]
    · rw [fu_n 0 e]; exact h7 x hx
/-- what is counted is there -/
theorem J0_pos (I : J0 P fp lc ls pg pl kd pc ow ct) {h : Nat} (hh : h < 64) (hl : 0 < ls h) : 1 ≤ pc (pg h) ∧ 1 ≤ ct (zk (ls h)) ∧ 1 ≤ lc := by
  obtain ⟨h1, h2, h3, h4, h5, h6, h7⟩ := I
  have g := h1 h hh hl
  have gl := J_pl h1 hh hl
  refine ⟨?_, ?_, ?_⟩
  · rw [h4 _ (by have := h6.2.2; omega) (by omega)]
    exact fb_ct_pos.mpr ⟨pl h, gl, by simp [g.2.2.2]⟩
  · rw [h5.1 _ (zk_lt _)]
    exact fb_ct_pos.mpr ⟨h, hh, by simp [hl]⟩
  · rw [h5.2]
    exact fb_ct_pos.mpr ⟨h, hh, by simp [hl]⟩
theorem J0_L (I : J0 P fp lc ls pg pl kd pc ow ct) {h n p s : Nat} (hh : h < 64) (hl : ls h = 0) (hn : 0 < n) (hn2 : n ≤ 16) (hp : p < P) (hs : s < zc (zk n)) (hk : kd p = zk n + 1) (ho : ow (8 * p + s) = 0) :
    J0 P fp (lc + 1) (fu ls h n) (fu pg h p) (fu pl h s) kd (fu pc p (pc p + 1)) (fu ow (8 * p + s) (h + 1)) (fu ct (zk n) (ct (zk n) + 1)) := by
  obtain ⟨h1, h2, h3, h4, h5, h6, h7⟩ := I
  have hP := h6.2.2
  have hs8 : s < 8 := by have := zc_pos (zk n); omega
  refine ⟨?_, ?_, h3, ?_, ?_, h6, ?_⟩
  · intro x hx hlx
    by_cases e : x = h
    · subst e
      simp only [fu_s]
      exact ⟨hp, hs, hk, trivial⟩
    · rw [fu_n _ e] at hlx
      have gx := h1 x hx hlx
      have gxl := J_pl h1 hx hlx
      rw [fu_n _ e, fu_n _ e, fu_n _ e]
      refine ⟨gx.1, gx.2.1, gx.2.2.1, ?_⟩
      rw [fu_n]
      · exact gx.2.2.2
      · intro e2
        rw [e2, ho] at gx
        omega
  · intro q hq hoq
    by_cases e : q = 8 * p + s
    · subst e
      simp only [fu_s, Nat.add_sub_cancel]
      exact ⟨by omega, hn, trivial⟩
    · rw [fu_n _ e] at hoq ⊢
      have gq := h2 q hq hoq
      have e2 : ow q - 1 ≠ h := by
        intro e2
        rw [e2] at gq; omega
      rw [fu_n _ e2, fu_n _ e2, fu_n _ e2]
      exact gq
  · intro p' hp' hk'
    by_cases e : p' = p
    · subst e
      rw [fu_s, h4 _ hp' hk']
      exact (ct_up (i := s) (n := 8) hs8 (fun j hj hne => by rw [fu_n _ (by omega)]) (by simp [ho]) (by simp [fu])).symm
    · rw [fu_n _ e, h4 p' hp' hk']
      exact (ct_eq (fun j hj => by rw [fu_n _ (by omega)])).symm
  · refine ⟨fun c hc => ?_, ?_⟩
    · by_cases e : c = zk n
      · subst e
        rw [fu_s, h5.1 _ hc]
        exact (ct_up (i := h) (n := 64) hh (fun j hj hne => by rw [fu_n _ hne]) (by simp [hl]) (by simp [fu, hn])).symm
      · rw [fu_n _ e, h5.1 c hc]
        refine ct_eq (fun j hj => ?_)
        by_cases e2 : j = h
        · subst e2; simp [fu, hl]; omega
        · rw [fu_n _ e2]
    · rw [h5.2]
      exact (ct_up (i := h) (n := 64) hh (fun j hj hne => by rw [fu_n _ hne]) (by simp [hl]) (by simp [fu, hn])).symm
  · intro x hx
    by_cases e : x = h
    · simp [fu, e, hn2]
    · rw [fu_n _ e]; exact h7 x hx
/-- a page of no kind is empty -/
theorem J_empty (I : J0 P fp lc ls pg pl kd pc ow ct) {p s : Nat} (hp : p < 12) (hk : kd p = 0) (hs : s < 8) : ow (8 * p + s) = 0 := by
  obtain ⟨h1, h2, h3, h4, h5, h6, h7⟩ := I
  rcases Nat.eq_zero_or_pos (ow (8 * p + s)) with e | e
  · exact e
  · have g := h2 (8 * p + s) (by omega) e
    have g1 := h1 (ow (8 * p + s) - 1) (by omega) g.2.1
    have g2 := J_pl h1 (h := ow (8 * p + s) - 1) (by omega) g.2.1
    have : pg (ow (8 * p + s) - 1) = p := by omega
    rw [this] at g1
    omega
theorem J0_N (I : J0 P fp lc ls pg pl kd pc ow ct) {p c : Nat} (hp : p < P) (hk : kd p = 0) (hc : c < 4) : 
    0 < fp ∧ J0 P (fp - 1) lc ls pg pl (fu kd p (c + 1)) (fu pc p 0) ow ct := by
  have hem := fun s hs => J_empty I (p := p) (s := s) (by have := I.2.2.2.2.2.1.2.2; omega) hk hs
  obtain ⟨h1, h2, h3, h4, h5, h6, h7⟩ := I
  have hP := h6.2.2
  have hq : fb_ct (fun q => decide (0 < fu kd p (c + 1) q)) 12 = fb_ct (fun q => decide (0 < kd q)) 12 + 1 := ct_up (i := p) (by omega) (fun j hj hne => by rw [fu_n _ hne]) (by simp [hk]) (by simp [fu])
  have hle := fb_ct_sub (p := fun q => decide (0 < fu kd p (c + 1) q)) (q := fun q => decide (q < P)) (n := 12) (by
    intro k hk2 hd
    simp only [decide_eq_true_eq] at hd ⊢
    by_cases e : k = p
    · omega
    · rw [fu_n _ e] at hd
      rcases Nat.lt_or_ge k P with h | h
      · exact h
      · have := (h3 k hk2).2 h; omega)
  have hP2 := h6.2.1
  have hcp : fb_ct (fun q => decide (q < P)) 12 = P := by
    rcases (show P = 2 ∨ P = 3 ∨ P = 4 ∨ P = 5 ∨ P = 6 ∨ P = 7 ∨ P = 8 ∨ P = 9 ∨ P = 10 ∨ P = 11 ∨ P = 12 by omega) with e | e | e | e | e | e | e | e | e | e | e <;> subst e <;> rfl
  have hfp : 0 < fp := by have := h6.1; omega
  refine ⟨hfp, ?_, h2, ?_, ?_, h5, ⟨by have := h6.1; omega, h6.2⟩, h7⟩
  · intro x hx hlx
    have gx := h1 x hx hlx
    refine ⟨gx.1, gx.2.1, ?_, gx.2.2.2⟩
    rw [fu_n]
    · exact gx.2.2.1
    · intro e; rw [e, hk] at gx; omega
  · intro q hq
    by_cases e : q = p
    · subst e; rw [fu_s]; exact ⟨by omega, fun h => absurd hp (by omega)⟩
    · rw [fu_n _ e]; exact h3 q hq
  · intro q hq hkq
    by_cases e : q = p
    · subst e
      rw [fu_s]
      exact (fb_ct_zero.mpr (fun k hk2 => by simp [hem k hk2])).symm
    · rw [fu_n _ e] at hkq ⊢
      exact h4 q hq hkq
theorem J0_F (I : J0 P fp lc ls pg pl kd pc ow ct) {p : Nat} (hp : p < 12) (hk : 0 < kd p) (hc : pc p = 0) : 
    J0 P (fp + 1) lc ls pg pl (fu kd p 0) pc ow ct := by
  obtain ⟨h1, h2, h3, h4, h5, h6, h7⟩ := I
  have hq : fb_ct (fun q => decide (0 < fu kd p 0 q)) 12 + 1 = fb_ct (fun q => decide (0 < kd q)) 12 := ct_dn (i := p) (by omega) (fun j hj hne => by rw [fu_n _ hne]) (by simp [hk]) (by simp [fu])
  have hem := fb_ct_zero.mp ((h4 p hp hk).symm.trans hc)
  refine ⟨?_, h2, ?_, ?_, h5, ⟨by have := h6.1; omega, h6.2⟩, h7⟩
  · intro x hx hlx
    have gx := h1 x hx hlx
    have gxl := J_pl h1 hx hlx
    refine ⟨gx.1, gx.2.1, ?_, gx.2.2.2⟩
    rw [fu_n]
    · exact gx.2.2.1
    · intro e
      have := hem (pl x) gxl
      rw [← e, gx.2.2.2] at this
      simp at this
  · intro q hq
    by_cases e : q = p
    · subst e; rw [fu_s]; exact ⟨by omega, fun h => rfl⟩
    · rw [fu_n _ e]; exact h3 q hq
  · intro q hq hkq
    by_cases e : q = p
    · subst e; simp [fu] at hkq
    · rw [fu_n _ e] at hkq
      exact h4 q hq hkq
end INV
end
section
set_option maxRecDepth 100000
section OINV
variable {kd pc ct op : Nat → Nat}
theorem nP_dn {c p : Nat} (hp : p < 12) (hk : kd p = c + 1) : nP (fu kd p 0) c + 1 = nP kd c :=
  ct_dn (i := p) hp (fun j hj hne => by rw [fu_n _ hne]) (by simp [hk]) (by simp [fu])
theorem nP_up {c p : Nat} (hp : p < 12) (hk : kd p = 0) : nP (fu kd p (c + 1)) c = nP kd c + 1 :=
  ct_up (i := p) hp (fun j hj hne => by rw [fu_n _ hne]) (by simp [hk]) (by simp [fu])
theorem nP_ne {c p v : Nat} (hk : kd p ≠ c + 1) (hv : v ≠ c + 1) : nP (fu kd p v) c = nP kd c := by
  refine ct_eq (fun j hj => ?_)
  by_cases e : j = p
  · subst e; simp [fu, hk, hv]
  · rw [fu_n _ e]
theorem zmul {c : Nat} (hc : c < 4) (n : Nat) : zc c * (n + 1) = zc c * n + zc c := Nat.mul_succ _ _
theorem O_rm (O : O0 kd pc op ct) {c p : Nat} (hc : c < 4) (hp : p < 12) (hk : kd p = c + 1) (hop : op c = 0 ∨ op c = p + 1) (h2 : 2 ≤ pc p) (hct : 1 ≤ ct c) : O0 kd (fu pc p (pc p - 1)) (fu op c (p + 1)) (fu ct c (ct c - 1)) := by
  obtain ⟨o1, o2, o3⟩ := O
  have gp := o1 p hp (by omega)
  rw [hk, Nat.add_sub_cancel] at gp
  refine ⟨?_, ?_, ?_⟩
  · intro q hq hkq
    by_cases e : q = p
    · subst e
      rw [fu_s, hk, Nat.add_sub_cancel, fu_s]
      exact ⟨by omega, by omega, fun _ => rfl⟩
    · rw [fu_n _ e]
      have gq := o1 q hq hkq
      refine ⟨gq.1, gq.2.1, fun h => ?_⟩
      have := gq.2.2 h
      by_cases e2 : kd q - 1 = c
      · rw [e2] at this; omega
      · rw [fu_n _ e2]; exact this
  · intro c' hc' ho
    by_cases e : c' = c
    · subst e
      simp only [fu_s, Nat.add_sub_cancel]
      exact ⟨by omega, hk, by omega⟩
    · rw [fu_n _ e] at ho ⊢
      have g := o2 c' hc' ho
      refine ⟨g.1, g.2.1, ?_⟩
      rw [fu_n]
      · exact g.2.2
      · intro e2; rw [e2, hk] at g; omega
  · intro c' hc'
    have g := o3 c' hc'
    by_cases e : c' = c
    · subst e
      simp only [fu_s, Nat.add_sub_cancel, Nat.zero_lt_succ, if_true]
      rcases hop with ho | ho
      · rw [ho, if_neg (by omega)] at g
        have : pc p = zc c' := by
          rcases Nat.lt_or_ge (pc p) (zc c') with h | h
          · have := gp.2.2 h; omega
          · omega
        omega
      · rw [ho, if_pos (by omega), Nat.add_sub_cancel] at g
        omega
    · rw [fu_n _ e, fu_n _ e, g]
      by_cases h0 : 0 < op c'
      · rw [if_pos h0, if_pos h0, fu_n]
        intro e2
        have := (o2 c' hc' h0).2.1
        rw [e2, hk] at this; omega
      · rw [if_neg h0, if_neg h0]
theorem O_rmE (O : O0 kd pc op ct) {c p : Nat} (hc : c < 4) (hp : p < 12) (hk : kd p = c + 1) (hop : op c = 0 ∨ op c = p + 1) (h2 : pc p = 1) (hct : 1 ≤ ct c) : O0 (fu kd p 0) (fu pc p (pc p - 1)) (fu op c 0) (fu ct c (ct c - 1)) := by
  obtain ⟨o1, o2, o3⟩ := O
  have gp := o1 p hp (by omega)
  rw [hk, Nat.add_sub_cancel] at gp
  refine ⟨?_, ?_, ?_⟩
  · intro q hq hkq
    by_cases e : q = p
    · subst e; simp [fu] at hkq
    · rw [fu_n _ e] at hkq
      rw [fu_n _ e, fu_n _ e]
      have gq := o1 q hq hkq
      refine ⟨gq.1, gq.2.1, fun h => ?_⟩
      have := gq.2.2 h
      by_cases e2 : kd q - 1 = c
      · rw [e2] at this; omega
      · rw [fu_n _ e2]; exact this
  · intro c' hc' ho
    by_cases e : c' = c
    · subst e; simp [fu] at ho
    · rw [fu_n _ e] at ho ⊢
      have g := o2 c' hc' ho
      have e2 : op c' - 1 ≠ p := by intro e2; rw [e2, hk] at g; omega
      rw [fu_n _ e2, fu_n _ e2]
      exact g
  · intro c' hc'
    have g := o3 c' hc'
    by_cases e : c' = c
    · subst e
      simp only [fu_s, Nat.lt_irrefl, if_false]
      have hn := nP_dn (kd := kd) hp hk
      rw [← hn, zmul hc] at g
      rcases hop with ho | ho
      · rw [ho, if_neg (by omega)] at g
        have : pc p = zc c' := by
          rcases Nat.lt_or_ge (pc p) (zc c') with h | h
          · have := gp.2.2 h; omega
          · omega
        omega
      · rw [ho, if_pos (by omega), Nat.add_sub_cancel] at g
        omega
    · rw [fu_n _ e, fu_n _ e, nP_ne (by omega) (by omega), g]
      by_cases h0 : 0 < op c'
      · rw [if_pos h0, if_pos h0, fu_n]
        intro e2
        have := (o2 c' hc' h0).2.1
        rw [e2, hk] at this; omega
      · rw [if_neg h0, if_neg h0]
theorem O_pl (O : O0 kd pc op ct) {c p : Nat} (hc : c < 4) (hop : op c = p + 1) (h2 : pc p + 1 < zc c) : O0 kd (fu pc p (pc p + 1)) op (fu ct c (ct c + 1)) := by
  obtain ⟨o1, o2, o3⟩ := O
  have gc := o2 c hc (by omega)
  rw [hop, Nat.add_sub_cancel] at gc
  have gp := o1 p (by omega) (by omega)
  rw [gc.2.1, Nat.add_sub_cancel] at gp
  refine ⟨?_, ?_, ?_⟩
  · intro q hq hkq
    by_cases e : q = p
    · subst e
      rw [fu_s, gc.2.1, Nat.add_sub_cancel]
      exact ⟨by omega, by omega, fun _ => hop⟩
    · rw [fu_n _ e]; exact o1 q hq hkq
  · intro c' hc' ho
    have g := o2 c' hc' ho
    refine ⟨g.1, g.2.1, ?_⟩
    by_cases e : op c' - 1 = p
    · rw [e, fu_s]
      rw [e, gc.2.1] at g
      have : c' = c := by omega
      subst this
      exact h2
    · rw [fu_n _ e]; exact g.2.2
  · intro c' hc'
    have g := o3 c' hc'
    by_cases e : c' = c
    · subst e
      rw [hop, if_pos (by omega), Nat.add_sub_cancel] at g ⊢
      rw [fu_s, fu_s]
      omega
    · rw [fu_n _ e, g]
      by_cases h0 : 0 < op c'
      · rw [if_pos h0, if_pos h0, fu_n]
        intro e2
        have := (o2 c' hc' h0).2.1
        rw [e2, gc.2.1] at this; omega
      · rw [if_neg h0, if_neg h0]
theorem O_plF (O : O0 kd pc op ct) {c p : Nat} (hc : c < 4) (hop : op c = p + 1) (h2 : pc p + 1 = zc c) : O0 kd (fu pc p (pc p + 1)) (fu op c 0) (fu ct c (ct c + 1)) := by
  obtain ⟨o1, o2, o3⟩ := O
  have gc := o2 c hc (by omega)
  rw [hop, Nat.add_sub_cancel] at gc
  have gp := o1 p (by omega) (by omega)
  rw [gc.2.1, Nat.add_sub_cancel] at gp
  refine ⟨?_, ?_, ?_⟩
  · intro q hq hkq
    by_cases e : q = p
    · subst e
      rw [fu_s, gc.2.1, Nat.add_sub_cancel]
      exact ⟨by omega, by omega, fun h => absurd h (by omega)⟩
    · rw [fu_n _ e]
      have gq := o1 q hq hkq
      refine ⟨gq.1, gq.2.1, fun h => ?_⟩
      have := gq.2.2 h
      by_cases e2 : kd q - 1 = c
      · rw [e2] at this; omega
      · rw [fu_n _ e2]; exact this
  · intro c' hc' ho
    by_cases e : c' = c
    · subst e; simp [fu] at ho
    · rw [fu_n _ e] at ho ⊢
      have g := o2 c' hc' ho
      have e2 : op c' - 1 ≠ p := by intro e2; rw [e2, gc.2.1] at g; omega
      rw [fu_n _ e2]
      exact g
  · intro c' hc'
    have g := o3 c' hc'
    by_cases e : c' = c
    · subst e
      rw [hop, if_pos (by omega), Nat.add_sub_cancel] at g
      rw [fu_s, fu_s, if_neg (by omega)]
      omega
    · rw [fu_n _ e, fu_n _ e, g]
      by_cases h0 : 0 < op c'
      · rw [if_pos h0, if_pos h0, fu_n]
        intro e2
        have := (o2 c' hc' h0).2.1
        rw [e2, gc.2.1] at this; omega
      · rw [if_neg h0, if_neg h0]
theorem O_nw (O : O0 kd pc op ct) {c p : Nat} (hc : c < 4) (hp : p < 12) (hk : kd p = 0) (hop : op c = 0) (h2 : 1 < zc c) : O0 (fu kd p (c + 1)) (fu pc p 1) (fu op c (p + 1)) (fu ct c (ct c + 1)) := by
  obtain ⟨o1, o2, o3⟩ := O
  refine ⟨?_, ?_, ?_⟩
  · intro q hq hkq
    by_cases e : q = p
    · subst e
      simp only [fu_s, Nat.add_sub_cancel]
      exact ⟨by omega, by omega, fun _ => trivial⟩
    · rw [fu_n _ e] at hkq
      rw [fu_n _ e, fu_n _ e]
      have gq := o1 q hq hkq
      refine ⟨gq.1, gq.2.1, fun h => ?_⟩
      have := gq.2.2 h
      by_cases e2 : kd q - 1 = c
      · rw [e2] at this; omega
      · rw [fu_n _ e2]; exact this
  · intro c' hc' ho
    by_cases e : c' = c
    · subst e
      simp only [fu_s, Nat.add_sub_cancel]
      exact ⟨by omega, trivial, h2⟩
    · rw [fu_n _ e] at ho ⊢
      have g := o2 c' hc' ho
      have e2 : op c' - 1 ≠ p := by intro e2; rw [e2, hk] at g; omega
      rw [fu_n _ e2, fu_n _ e2]
      exact g
  · intro c' hc'
    have g := o3 c' hc'
    by_cases e : c' = c
    · subst e
      rw [hop, if_neg (by omega)] at g
      simp only [fu_s, Nat.add_sub_cancel, Nat.zero_lt_succ, if_true]
      rw [nP_up hp hk, zmul hc, g]
      omega
    · rw [fu_n _ e, fu_n _ e, nP_ne (by omega) (by omega), g]
      by_cases h0 : 0 < op c'
      · rw [if_pos h0, if_pos h0, fu_n]
        intro e2
        have := (o2 c' hc' h0).2.1
        rw [e2, hk] at this; omega
      · rw [if_neg h0, if_neg h0]
theorem O_nwF (O : O0 kd pc op ct) {c p : Nat} (hc : c < 4) (hp : p < 12) (hk : kd p = 0) (hop : op c = 0) (h2 : 1 = zc c) : O0 (fu kd p (c + 1)) (fu pc p 1) op (fu ct c (ct c + 1)) := by
  obtain ⟨o1, o2, o3⟩ := O
  refine ⟨?_, ?_, ?_⟩
  · intro q hq hkq
    by_cases e : q = p
    · subst e
      simp only [fu_s, Nat.add_sub_cancel]
      exact ⟨by omega, by omega, fun h => absurd h (by omega)⟩
    · rw [fu_n _ e] at hkq
      rw [fu_n _ e, fu_n _ e]
      exact o1 q hq hkq
  · intro c' hc' ho
    have g := o2 c' hc' ho
    have e2 : op c' - 1 ≠ p := by intro e2; rw [e2, hk] at g; omega
    rw [fu_n _ e2, fu_n _ e2]
    exact g
  · intro c' hc'
    have g := o3 c' hc'
    by_cases e : c' = c
    · subst e
      rw [hop, if_neg (by omega)] at g ⊢
      rw [fu_s, nP_up hp hk, zmul hc, g]
      omega
    · rw [fu_n _ e, nP_ne (by omega) (by omega), g]
      by_cases h0 : 0 < op c'
      · rw [if_pos h0, if_pos h0, fu_n]
        intro e2
        have := (o2 c' hc' h0).2.1
        rw [e2, hk] at this; omega
      · rw [if_neg h0, if_neg h0]
end OINV
end
section
set_option maxRecDepth 100000
/-! the state of a CompactFit by its numbers (kinds, owners, open pages one up: 0 is none), the state of a CompactFitModel -/
def mkX (P fp lc : Nat) (ls pg pl kd pc ow ct op : Nat → Nat) (mem scr : Nat → Int32) : St := fun k i =>
  match k with
  | 0 => mem i
  | 1 => nI (kd i) - 1
  | 2 => nI (pc i)
  | 3 => nI (ow i) - 1
  | 4 => nI (pg i)
  | 5 => nI (pl i)
  | 6 => nI (ls i)
  | 7 => nI (op i) - 1
  | 8 => nI (ct i)
  | 9 => scr i
  | 10 => (match i with | 0 => nI P | 1 => nI fp | 2 => nI lc | _ => 0)
  | _ => 0
def mkM (P : Nat) (ls : Nat → Nat) (wd : Nat → Int32) : St := fun k i =>
  match k with
  | 0 => nI (ls i)
  | 1 => wd i
  | 10 => (match i with | 0 => nI P | _ => 0)
  | _ => 0
theorem up_eq {σ ρ : St} {k i : Nat} {v : Int32} (h1 : ρ k i = v) (h2 : ∀ j, j ≠ i → ρ k j = σ k j) (h3 : ∀ k', k' ≠ k → ρ k' = σ k') : up σ k i v = ρ := by
  funext k' j
  by_cases hk : k' = k
  · subst hk
    by_cases hj : j = i
    · subst hj; simp [up, h1]
    · simp [up, hj, h2 j hj]
  · simp [up, hk, h3 k' hk]
theorem nIm0 : (-1 : Int32) = nI 0 - 1 := by decide +kernel
theorem nIm_iff {a : Nat} (h : a < 2 ^ 31) : nI a - 1 = -1 ↔ a = 0 := by
  constructor
  · intro e
    rcases Nat.eq_zero_or_pos a with z | z
    · exact z
    · obtain ⟨b, rfl⟩ : ∃ b, a = b + 1 := ⟨a - 1, by omega⟩
      rw [nI_pred] at e
      have g := nI_pos' (n := b) (by omega)
      rw [e] at g
      exact absurd g (by decide +kernel)
  · rintro rfl; exact nIm0.symm
theorem nI_dec {a : Nat} (h : 1 ≤ a) : nI a - 1 = nI (a - 1) := by
  obtain ⟨b, rfl⟩ : ∃ b, a = b + 1 := ⟨a - 1, by omega⟩
  rw [nI_pred, Nat.add_sub_cancel]
/-- a branch on 'is none' -/
theorem pk_none {x : Int32} {A B : Prop} (a : Nat) (f : a = 0 → A) (g : 0 < a → B) (hx : x = nI a - 1 := by rfl) (ha : a < 2 ^ 31 := by omega) : (x = -1 → A) ∧ (¬ x = -1 → B) := by
  subst hx
  rw [nIm_iff ha]
  exact ⟨f, fun z => g (by omega)⟩
section ENC
variable {P fp lc : Nat} {ls pg pl kd pc ow ct op : Nat → Nat} {mem scr wd : Nat → Int32} {i v : Nat}
theorem mu_0 (x : Int32) : up (mkX P fp lc ls pg pl kd pc ow ct op mem scr) 0 i x = mkX P fp lc ls pg pl kd pc ow ct op (upd mem i x) scr :=
  up_eq (by simp [mkX, upd]) (fun j hj => by simp [mkX, upd, hj]) (fun k' hk => match k', hk with
    | 0, h => absurd rfl h
    | 1, _ => rfl
    | 2, _ => rfl
    | 3, _ => rfl
    | 4, _ => rfl
    | 5, _ => rfl
    | 6, _ => rfl
    | 7, _ => rfl
    | 8, _ => rfl
    | 9, _ => rfl
    | 10, _ => rfl
    | n + 11, _ => rfl)
theorem mu_9 (x : Int32) : up (mkX P fp lc ls pg pl kd pc ow ct op mem scr) 9 i x = mkX P fp lc ls pg pl kd pc ow ct op mem (upd scr i x) :=
  up_eq (by simp [mkX, upd]) (fun j hj => by simp [mkX, upd, hj]) (fun k' hk => match k', hk with
    | 0, _ => rfl
    | 1, _ => rfl
    | 2, _ => rfl
    | 3, _ => rfl
    | 4, _ => rfl
    | 5, _ => rfl
    | 6, _ => rfl
    | 7, _ => rfl
    | 8, _ => rfl
    | 9, h => absurd rfl h
    | 10, _ => rfl
    | n + 11, _ => rfl)
theorem mu_2 : up (mkX P fp lc ls pg pl kd pc ow ct op mem scr) 2 i (nI v) = mkX P fp lc ls pg pl kd (fu pc i v) ow ct op mem scr :=
  up_eq (congrArg nI (fu_s pc i v)) (fun j hj => congrArg nI (fu_n v hj)) (fun k' hk => match k', hk with
    | 0, _ => rfl
    | 1, _ => rfl
    | 2, h => absurd rfl h
    | 3, _ => rfl
    | 4, _ => rfl
    | 5, _ => rfl
    | 6, _ => rfl
    | 7, _ => rfl
    | 8, _ => rfl
    | 9, _ => rfl
    | 10, _ => rfl
    | n + 11, _ => rfl)
theorem mu_4 : up (mkX P fp lc ls pg pl kd pc ow ct op mem scr) 4 i (nI v) = mkX P fp lc ls (fu pg i v) pl kd pc ow ct op mem scr :=
  up_eq (congrArg nI (fu_s pg i v)) (fun j hj => congrArg nI (fu_n v hj)) (fun k' hk => match k', hk with
    | 0, _ => rfl
    | 1, _ => rfl
    | 2, _ => rfl
    | 3, _ => rfl
    | 4, h => absurd rfl h
    | 5, _ => rfl
    | 6, _ => rfl
    | 7, _ => rfl
    | 8, _ => rfl
    | 9, _ => rfl
    | 10, _ => rfl
    | n + 11, _ => rfl)
theorem mu_5 : up (mkX P fp lc ls pg pl kd pc ow ct op mem scr) 5 i (nI v) = mkX P fp lc ls pg (fu pl i v) kd pc ow ct op mem scr :=
  up_eq (congrArg nI (fu_s pl i v)) (fun j hj => congrArg nI (fu_n v hj)) (fun k' hk => match k', hk with
    | 0, _ => rfl
    | 1, _ => rfl
    | 2, _ => rfl
    | 3, _ => rfl
    | 4, _ => rfl
    | 5, h => absurd rfl h
    | 6, _ => rfl
    | 7, _ => rfl
    | 8, _ => rfl
    | 9, _ => rfl
    | 10, _ => rfl
    | n + 11, _ => rfl)
theorem mu_6 : up (mkX P fp lc ls pg pl kd pc ow ct op mem scr) 6 i (nI v) = mkX P fp lc (fu ls i v) pg pl kd pc ow ct op mem scr :=
  up_eq (congrArg nI (fu_s ls i v)) (fun j hj => congrArg nI (fu_n v hj)) (fun k' hk => match k', hk with
    | 0, _ => rfl
    | 1, _ => rfl
    | 2, _ => rfl
    | 3, _ => rfl
    | 4, _ => rfl
    | 5, _ => rfl
    | 6, h => absurd rfl h
    | 7, _ => rfl
    | 8, _ => rfl
    | 9, _ => rfl
    | 10, _ => rfl
    | n + 11, _ => rfl)
theorem mu_8 : up (mkX P fp lc ls pg pl kd pc ow ct op mem scr) 8 i (nI v) = mkX P fp lc ls pg pl kd pc ow (fu ct i v) op mem scr :=
  up_eq (congrArg nI (fu_s ct i v)) (fun j hj => congrArg nI (fu_n v hj)) (fun k' hk => match k', hk with
    | 0, _ => rfl
    | 1, _ => rfl
    | 2, _ => rfl
    | 3, _ => rfl
    | 4, _ => rfl
    | 5, _ => rfl
    | 6, _ => rfl
    | 7, _ => rfl
    | 8, h => absurd rfl h
    | 9, _ => rfl
    | 10, _ => rfl
    | n + 11, _ => rfl)
theorem mu_1 : up (mkX P fp lc ls pg pl kd pc ow ct op mem scr) 1 i (nI v) = mkX P fp lc ls pg pl (fu kd i (v + 1)) pc ow ct op mem scr :=
  up_eq ((congrArg (fun n => nI n - 1) (fu_s kd i (v + 1))).trans (nI_pred v)) (fun j hj => congrArg (fun n => nI n - 1) (fu_n (v + 1) hj)) (fun k' hk => match k', hk with
    | 0, _ => rfl
    | 1, h => absurd rfl h
    | 2, _ => rfl
    | 3, _ => rfl
    | 4, _ => rfl
    | 5, _ => rfl
    | 6, _ => rfl
    | 7, _ => rfl
    | 8, _ => rfl
    | 9, _ => rfl
    | 10, _ => rfl
    | n + 11, _ => rfl)
theorem mu_1n : up (mkX P fp lc ls pg pl kd pc ow ct op mem scr) 1 i (-1) = mkX P fp lc ls pg pl (fu kd i 0) pc ow ct op mem scr :=
  up_eq ((congrArg (fun n => nI n - 1) (fu_s kd i 0)).trans nIm0.symm) (fun j hj => congrArg (fun n => nI n - 1) (fu_n 0 hj)) (fun k' hk => match k', hk with
    | 0, _ => rfl
    | 1, h => absurd rfl h
    | 2, _ => rfl
    | 3, _ => rfl
    | 4, _ => rfl
    | 5, _ => rfl
    | 6, _ => rfl
    | 7, _ => rfl
    | 8, _ => rfl
    | 9, _ => rfl
    | 10, _ => rfl
    | n + 11, _ => rfl)
theorem mu_3 : up (mkX P fp lc ls pg pl kd pc ow ct op mem scr) 3 i (nI v) = mkX P fp lc ls pg pl kd pc (fu ow i (v + 1)) ct op mem scr :=
  up_eq ((congrArg (fun n => nI n - 1) (fu_s ow i (v + 1))).trans (nI_pred v)) (fun j hj => congrArg (fun n => nI n - 1) (fu_n (v + 1) hj)) (fun k' hk => match k', hk with
    | 0, _ => rfl
    | 1, _ => rfl
    | 2, _ => rfl
    | 3, h => absurd rfl h
    | 4, _ => rfl
    | 5, _ => rfl
    | 6, _ => rfl
    | 7, _ => rfl
    | 8, _ => rfl
    | 9, _ => rfl
    | 10, _ => rfl
    | n + 11, _ => rfl)
theorem mu_3n : up (mkX P fp lc ls pg pl kd pc ow ct op mem scr) 3 i (-1) = mkX P fp lc ls pg pl kd pc (fu ow i 0) ct op mem scr :=
  up_eq ((congrArg (fun n => nI n - 1) (fu_s ow i 0)).trans nIm0.symm) (fun j hj => congrArg (fun n => nI n - 1) (fu_n 0 hj)) (fun k' hk => match k', hk with
    | 0, _ => rfl
    | 1, _ => rfl
    | 2, _ => rfl
    | 3, h => absurd rfl h
    | 4, _ => rfl
    | 5, _ => rfl
    | 6, _ => rfl
    | 7, _ => rfl
    | 8, _ => rfl
    | 9, _ => rfl
    | 10, _ => rfl
    | n + 11, _ => rfl)
theorem mu_7 : up (mkX P fp lc ls pg pl kd pc ow ct op mem scr) 7 i (nI v) = mkX P fp lc ls pg pl kd pc ow ct (fu op i (v + 1)) mem scr :=
  up_eq ((congrArg (fun n => nI n - 1) (fu_s op i (v + 1))).trans (nI_pred v)) (fun j hj => congrArg (fun n => nI n - 1) (fu_n (v + 1) hj)) (fun k' hk => match k', hk with
    | 0, _ => rfl
    | 1, _ => rfl
    | 2, _ => rfl
    | 3, _ => rfl
    | 4, _ => rfl
    | 5, _ => rfl
    | 6, _ => rfl
    | 7, h => absurd rfl h
    | 8, _ => rfl
    | 9, _ => rfl
    | 10, _ => rfl
    | n + 11, _ => rfl)
theorem mu_7n : up (mkX P fp lc ls pg pl kd pc ow ct op mem scr) 7 i (-1) = mkX P fp lc ls pg pl kd pc ow ct (fu op i 0) mem scr :=
  up_eq ((congrArg (fun n => nI n - 1) (fu_s op i 0)).trans nIm0.symm) (fun j hj => congrArg (fun n => nI n - 1) (fu_n 0 hj)) (fun k' hk => match k', hk with
    | 0, _ => rfl
    | 1, _ => rfl
    | 2, _ => rfl
    | 3, _ => rfl
    | 4, _ => rfl
    | 5, _ => rfl
    | 6, _ => rfl
    | 7, h => absurd rfl h
    | 8, _ => rfl
    | 9, _ => rfl
    | 10, _ => rfl
    | n + 11, _ => rfl)
theorem mu_2i : up (mkX P fp lc ls pg pl kd pc ow ct op mem scr) 2 i (mkX P fp lc ls pg pl kd pc ow ct op mem scr 2 i + 1) = mkX P fp lc ls pg pl kd (fu pc i (pc i + 1)) ow ct op mem scr := by
  rw [show mkX P fp lc ls pg pl kd pc ow ct op mem scr 2 i + 1 = nI (pc i + 1) from nI_1 (pc i), mu_2]
theorem mu_2d (h : 1 ≤ pc i) : up (mkX P fp lc ls pg pl kd pc ow ct op mem scr) 2 i (mkX P fp lc ls pg pl kd pc ow ct op mem scr 2 i - 1) = mkX P fp lc ls pg pl kd (fu pc i (pc i - 1)) ow ct op mem scr := by
  rw [show mkX P fp lc ls pg pl kd pc ow ct op mem scr 2 i - 1 = nI (pc i - 1) from nI_dec h, mu_2]
theorem mu_8i : up (mkX P fp lc ls pg pl kd pc ow ct op mem scr) 8 i (mkX P fp lc ls pg pl kd pc ow ct op mem scr 8 i + 1) = mkX P fp lc ls pg pl kd pc ow (fu ct i (ct i + 1)) op mem scr := by
  rw [show mkX P fp lc ls pg pl kd pc ow ct op mem scr 8 i + 1 = nI (ct i + 1) from nI_1 (ct i), mu_8]
theorem mu_8d (h : 1 ≤ ct i) : up (mkX P fp lc ls pg pl kd pc ow ct op mem scr) 8 i (mkX P fp lc ls pg pl kd pc ow ct op mem scr 8 i - 1) = mkX P fp lc ls pg pl kd pc ow (fu ct i (ct i - 1)) op mem scr := by
  rw [show mkX P fp lc ls pg pl kd pc ow ct op mem scr 8 i - 1 = nI (ct i - 1) from nI_dec h, mu_8]
theorem mu_f0 : up (mkX P fp lc ls pg pl kd pc ow ct op mem scr) 10 0 (nI v) = mkX v fp lc ls pg pl kd pc ow ct op mem scr :=
  up_eq rfl (fun j hj => match j, hj with
    | 0, h => absurd rfl h
    | 1, _ => rfl
    | 2, _ => rfl
    | n + 3, _ => rfl) (fun k' hk => match k', hk with
    | 0, _ => rfl
    | 1, _ => rfl
    | 2, _ => rfl
    | 3, _ => rfl
    | 4, _ => rfl
    | 5, _ => rfl
    | 6, _ => rfl
    | 7, _ => rfl
    | 8, _ => rfl
    | 9, _ => rfl
    | 10, h => absurd rfl h
    | n + 11, _ => rfl)
theorem mu_f1 : up (mkX P fp lc ls pg pl kd pc ow ct op mem scr) 10 1 (nI v) = mkX P v lc ls pg pl kd pc ow ct op mem scr :=
  up_eq rfl (fun j hj => match j, hj with
    | 0, _ => rfl
    | 1, h => absurd rfl h
    | 2, _ => rfl
    | n + 3, _ => rfl) (fun k' hk => match k', hk with
    | 0, _ => rfl
    | 1, _ => rfl
    | 2, _ => rfl
    | 3, _ => rfl
    | 4, _ => rfl
    | 5, _ => rfl
    | 6, _ => rfl
    | 7, _ => rfl
    | 8, _ => rfl
    | 9, _ => rfl
    | 10, h => absurd rfl h
    | n + 11, _ => rfl)
theorem mu_f2 : up (mkX P fp lc ls pg pl kd pc ow ct op mem scr) 10 2 (nI v) = mkX P fp v ls pg pl kd pc ow ct op mem scr :=
  up_eq rfl (fun j hj => match j, hj with
    | 0, _ => rfl
    | 1, _ => rfl
    | 2, h => absurd rfl h
    | n + 3, _ => rfl) (fun k' hk => match k', hk with
    | 0, _ => rfl
    | 1, _ => rfl
    | 2, _ => rfl
    | 3, _ => rfl
    | 4, _ => rfl
    | 5, _ => rfl
    | 6, _ => rfl
    | 7, _ => rfl
    | 8, _ => rfl
    | 9, _ => rfl
    | 10, h => absurd rfl h
    | n + 11, _ => rfl)
theorem mu_f1i : up (mkX P fp lc ls pg pl kd pc ow ct op mem scr) 10 1 (mkX P fp lc ls pg pl kd pc ow ct op mem scr 10 1 + 1) = mkX P (fp + 1) lc ls pg pl kd pc ow ct op mem scr := by
  rw [show mkX P fp lc ls pg pl kd pc ow ct op mem scr 10 1 + 1 = nI (fp + 1) from nI_1 fp, mu_f1]
theorem mu_f1d (h : 1 ≤ fp) : up (mkX P fp lc ls pg pl kd pc ow ct op mem scr) 10 1 (mkX P fp lc ls pg pl kd pc ow ct op mem scr 10 1 - 1) = mkX P (fp - 1) lc ls pg pl kd pc ow ct op mem scr := by
  rw [show mkX P fp lc ls pg pl kd pc ow ct op mem scr 10 1 - 1 = nI (fp - 1) from nI_dec h, mu_f1]
theorem mu_f2i : up (mkX P fp lc ls pg pl kd pc ow ct op mem scr) 10 2 (mkX P fp lc ls pg pl kd pc ow ct op mem scr 10 2 + 1) = mkX P fp (lc + 1) ls pg pl kd pc ow ct op mem scr := by
  rw [show mkX P fp lc ls pg pl kd pc ow ct op mem scr 10 2 + 1 = nI (lc + 1) from nI_1 lc, mu_f2]
theorem mu_f2d (h : 1 ≤ lc) : up (mkX P fp lc ls pg pl kd pc ow ct op mem scr) 10 2 (mkX P fp lc ls pg pl kd pc ow ct op mem scr 10 2 - 1) = mkX P fp (lc - 1) ls pg pl kd pc ow ct op mem scr := by
  rw [show mkX P fp lc ls pg pl kd pc ow ct op mem scr 10 2 - 1 = nI (lc - 1) from nI_dec h, mu_f2]
theorem mm_0 : up (mkM P ls wd) 0 i (nI v) = mkM P (fu ls i v) wd :=
  up_eq (congrArg nI (fu_s ls i v)) (fun j hj => congrArg nI (fu_n v hj)) (fun k' hk => match k', hk with
    | 0, h => absurd rfl h
    | 1, _ => rfl
    | 2, _ => rfl
    | 3, _ => rfl
    | 4, _ => rfl
    | 5, _ => rfl
    | 6, _ => rfl
    | 7, _ => rfl
    | 8, _ => rfl
    | 9, _ => rfl
    | 10, _ => rfl
    | n + 11, _ => rfl)
theorem mm_1 (x : Int32) : up (mkM P ls wd) 1 i x = mkM P ls (upd wd i x) :=
  up_eq (by simp [mkM, upd]) (fun j hj => by simp [mkM, upd, hj]) (fun k' hk => match k', hk with
    | 0, _ => rfl
    | 1, h => absurd rfl h
    | 2, _ => rfl
    | 3, _ => rfl
    | 4, _ => rfl
    | 5, _ => rfl
    | 6, _ => rfl
    | 7, _ => rfl
    | 8, _ => rfl
    | 9, _ => rfl
    | 10, _ => rfl
    | n + 11, _ => rfl)
theorem mm_f : up (mkM P ls wd) 10 0 (nI v) = mkM v ls wd :=
  up_eq rfl (fun j hj => match j, hj with
    | 0, h => absurd rfl h
    | n + 1, _ => rfl) (fun k' hk => match k', hk with
    | 0, _ => rfl
    | 1, _ => rfl
    | 2, _ => rfl
    | 3, _ => rfl
    | 4, _ => rfl
    | 5, _ => rfl
    | 6, _ => rfl
    | 7, _ => rfl
    | 8, _ => rfl
    | 9, _ => rfl
    | 10, h => absurd rfl h
    | n + 11, _ => rfl)
end ENC
end
section
set_option maxRecDepth 100000
/-! the small methods of CompactFit -/
def IV (P fp lc : Nat) (ls pg pl kd pc ow ct op : Nat → Nat) : Prop := J0 P fp lc ls pg pl kd pc ow ct ∧ O0 kd pc op ct
/-- the place of word k of an object in page p at place s, of kind c -/
def ad (p s c k : Nat) : Nat := 16 * p + (s * zw c + k)
theorem cap_eq : ∀ c, c < 4 → (8 : Int32) >>> (nI c &&& 31) = nI (zc c) := by decide +kernel
theorem wid_eq : ∀ c, c < 4 → (2 : Int32) <<< ((nI (c + 1) - 1) &&& 31) = nI (zw c) := by decide +kernel
theorem base_eq : ∀ s, s < 8 → ∀ c, c < 4 → nI s <<< (((nI (c + 1) - 1) + 1) &&& 31) = nI (s * zw c) := by decide +kernel
theorem m8 (a b : Nat) : (8 : Int32) * nI a + nI b = nI (8 * a + b) := by
  rw [show (8 : Int32) = nI 8 from rfl, pk_mul, nI_add]
theorem m16 (a b : Nat) : (16 : Int32) * nI a + nI b = nI (16 * a + b) := by
  rw [show (16 : Int32) = nI 16 from rfl, pk_mul, nI_add]
/-- is x the handle of a live object? -/
theorem gd_or (ls : Nat → Nat) (x : Int32) : (∃ h, h < 64 ∧ x = nI h ∧ 0 < ls h) ∨ (∀ h, h < 64 → x = nI h → ls h = 0) := by
  by_cases e : ∃ h, h < 64 ∧ x = nI h ∧ 0 < ls h
  · exact Or.inl e
  · exact Or.inr (fun h hh ex => Nat.eq_zero_of_not_pos (fun z => e ⟨h, hh, ex, z⟩))
theorem kd_or (x : Int32) : (∃ c, c < 4 ∧ x = nI c) ∨ x < 0 ∨ (¬ x < 0 ∧ 3 < x) := by
  by_cases h : x < 0
  · exact Or.inr (Or.inl h)
  · obtain ⟨j, hj, rfl⟩ := nI_of h
    rcases Nat.lt_or_ge j 4 with z | z
    · exact Or.inl ⟨j, z, rfl⟩
    · exact Or.inr (Or.inr ⟨h, show nI 3 < nI j from nI_lt (by omega) hj⟩)
theorem sz_or (x : Int32) : (∃ n, 0 < n ∧ n ≤ 16 ∧ x = nI n) ∨ x < 1 ∨ (¬ x < 1 ∧ 16 < x) := by
  by_cases h : x < 1
  · exact Or.inr (Or.inl h)
  · have h0 : ¬ x < 0 := by
      rw [Int32.lt_iff_toInt_lt] at h ⊢
      have e0 : (0 : Int32).toInt = 0 := by decide +kernel
      have e1 : (1 : Int32).toInt = 1 := by decide +kernel
      omega
    obtain ⟨j, hj, rfl⟩ := nI_of h0
    have h1 : 0 < j := by
      rcases Nat.eq_zero_or_pos j with z | z
      · exact absurd (show nI j < nI 1 from nI_lt (by omega) (by omega)) h
      · exact z
    rcases Nat.lt_or_ge 16 j with z | z
    · exact Or.inr (Or.inr ⟨h, show nI 16 < nI j from nI_lt z hj⟩)
    · exact Or.inl ⟨j, h1, z, rfl⟩
section BASX
variable {P fp lc : Nat} {ls pg pl kd pc ow ct op : Nat → Nat} {mem scr : Nat → Int32}
theorem x_good1 {h : Nat} {K : Int32 → St → Prop} (hh : h < 64) (hl : 0 < ls h) (h7 : ls h ≤ 16) (hK : K 1 (mkX P fp lc ls pg pl kd pc ow ct op mem scr)) : X1_isGood (nI h) (mkX P fp lc ls pg pl kd pc ow ct op mem scr) K := by
  unfold X1_isGood
  refine br_f (nI_pos (by omega)) (br_f (show ¬ nI 64 ≤ nI h from nI_ge hh (by omega)) ⟨h, rfl, hh, ?_⟩)
  exact br_f (show ¬ nI (ls h) ≤ nI 0 from nI_ge hl (by omega)) hK
theorem x_good0 {x : Int32} {K : Int32 → St → Prop} (hx : ∀ h, h < 64 → x = nI h → ls h = 0) (hK : K 0 (mkX P fp lc ls pg pl kd pc ow ct op mem scr)) : X1_isGood x (mkX P fp lc ls pg pl kd pc ow ct op mem scr) K := by
  unfold X1_isGood
  refine ⟨fun _ => hK, fun h0 => ⟨fun _ => hK, fun h1 => ?_⟩⟩
  rcases pk_ix x (n := 64) (by omega) with a | a | ⟨j, hj, rfl⟩
  · exact absurd a h0
  · exact absurd a h1
  · refine ⟨j, rfl, hj, br_t (show nI (ls j) ≤ nI 0 from ?_) hK⟩
    rw [hx j hj rfl]
    exact nI_le (Nat.le_refl _) (by omega)
theorem x_kind {n : Nat} {σ : St} {K : Int32 → St → Prop} (hn : n ≤ 16) (hK : K (nI (zk n)) σ) : X1_kindOf (nI n) σ K := by
  unfold X1_kindOf
  refine pk_lt 2 n (fun a => pk_lt 4 n (fun b => pk_lt 8 n (fun c => ?_) (fun c => ?_)) (fun b => ?_)) (fun a => ?_)
  · rw [show zk n = 3 by unfold zk; rw [if_neg (by omega), if_neg (by omega), if_neg (by omega)]] at hK
    exact hK
  · rw [show zk n = 2 by unfold zk; rw [if_neg (by omega), if_neg (by omega), if_pos (by omega)]] at hK
    exact hK
  · rw [show zk n = 1 by unfold zk; rw [if_neg (by omega), if_pos (by omega)]] at hK
    exact hK
  · rw [show zk n = 0 by unfold zk; rw [if_pos (by omega)]] at hK
    exact hK
theorem x_cap {c : Nat} {σ : St} {K : Int32 → St → Prop} (hc : c < 4) (hK : K (nI (zc c)) σ) : X1_capacity (nI c) σ K := by
  unfold X1_capacity
  rw [cap_eq c hc]
  exact hK
theorem x_kd1 {c : Nat} {σ : St} {K : Int32 → St → Prop} (hc : c < 4) (hK : K 1 σ) : X1_isKind (nI c) σ K := by
  unfold X1_isKind
  exact br_f (nI_pos (by omega)) (br_f (show ¬ nI 3 < nI c from nI_nlt (by omega) (by omega)) hK)
theorem x_kd0 {x : Int32} {σ : St} {K : Int32 → St → Prop} (hx : x < 0 ∨ (¬ x < 0 ∧ 3 < x)) (hK : K 0 σ) : X1_isKind x σ K := by
  unfold X1_isKind
  rcases hx with h | ⟨h1, h2⟩
  · exact br_t h hK
  · exact br_f h1 (br_t h2 hK)
theorem x_sz1 {n : Nat} {σ : St} {K : Int32 → St → Prop} (hn : 0 < n) (hn2 : n ≤ 16) (hK : K 1 σ) : X1_isSize (nI n) σ K := by
  unfold X1_isSize
  exact br_f (show ¬ nI n < nI 1 from nI_nlt (by omega) (by omega)) (br_f (show ¬ nI 16 < nI n from nI_nlt (by omega) (by omega)) hK)
theorem x_sz0 {x : Int32} {σ : St} {K : Int32 → St → Prop} (hx : x < 1 ∨ (¬ x < 1 ∧ 16 < x)) (hK : K 0 σ) : X1_isSize x σ K := by
  unfold X1_isSize
  rcases hx with h | ⟨h1, h2⟩
  · exact br_t h hK
  · exact br_f h1 (br_t h2 hK)
theorem x_base {h c : Nat} {K : Int32 → St → Prop} (hh : h < 64) (hp : pg h < 12) (hs : pl h < 8) (hc : c < 4) (hk : kd (pg h) = c + 1) (hK : K (nI (16 * pg h + pl h * zw c)) (mkX P fp lc ls pg pl kd pc ow ct op mem scr)) : X1_baseOf (nI h) (mkX P fp lc ls pg pl kd pc ow ct op mem scr) K := by
  unfold X1_baseOf
  refine ⟨h, rfl, hh, h, rfl, hh, h, rfl, hh, pg h, rfl, hp, ?_⟩
  have e : (16 : Int32) * nI (pg h) + (nI (pl h) <<< (((nI (kd (pg h)) - 1) + 1) &&& 31)) = nI (16 * pg h + pl h * zw c) := by
    rw [hk, base_eq _ hs _ hc, m16]
  show K ((16 : Int32) * nI (pg h) + (nI (pl h) <<< (((nI (kd (pg h)) - 1) + 1) &&& 31))) _
  rw [e]
  exact hK
theorem x_word {h c k : Nat} {K : Int32 → St → Prop} (hh : h < 64) (hp : pg h < 12) (hs : pl h < 8) (hc : c < 4) (hkd : kd (pg h) = c + 1) (hk : pl h * zw c + k < 16) (hK : K (mem (ad (pg h) (pl h) c k)) (mkX P fp lc ls pg pl kd pc ow ct op mem scr)) : X1_word (nI h) (nI k) (mkX P fp lc ls pg pl kd pc ow ct op mem scr) K := by
  unfold X1_word
  refine x_base hh hp hs hc hkd ?_
  refine ⟨ad (pg h) (pl h) c k, ?_, ?_, hK⟩
  · rw [nI_add, ad, Nat.add_assoc]
  · unfold ad; omega
theorem x_wipeL {B t : Nat} {K : St → Prop} (hB : B + t ≤ 192) : ∀ (d i : Nat) (m : Nat → Int32), t ≤ i + d → i < 1000 → (∀ m' : Nat → Int32, (∀ a, m' a = if B + i ≤ a ∧ a < B + t then 0 else m a) → K (mkX P fp lc ls pg pl kd pc ow ct op m' scr)) → X1_wipe_L10 K (d + 1) (nI t) (nI B) (nI i) (mkX P fp lc ls pg pl kd pc ow ct op m scr) := by
  intro d
  induction d with
  | zero =>
    intro i m h hi hK
    rw [X1_wipe_L10]
    refine pk_le t i (fun _ => hK m (fun a => (if_neg (by omega)).symm)) (fun q => absurd q (by omega))
  | succ d ih =>
    intro i m h hi hK
    rw [X1_wipe_L10]
    refine pk_le t i (fun _ => hK m (fun a => (if_neg (by omega)).symm)) (fun q => ?_)
    refine ⟨B + i, nI_add B i, by omega, ?_⟩
    rintro _ rfl _ rfl
    rw [mu_0, nI_1]
    refine ih (i + 1) _ (by omega) (by omega) (fun m' hm => hK m' (fun a => ?_))
    rw [hm a]
    unfold upd
    (repeat' split) <;> first | rfl | (exfalso; omega)
theorem x_wipe {h c fr t : Nat} {K : St → Prop} (hh : h < 64) (hp : pg h < 12) (hs : pl h < 8) (hc : c < 4) (hkd : kd (pg h) = c + 1) (ht : pl h * zw c + t ≤ 16) (hf : fr ≤ 16) (hK : ∀ m' : Nat → Int32, (∀ a, m' a = if 16 * pg h + pl h * zw c + fr ≤ a ∧ a < 16 * pg h + pl h * zw c + t then 0 else mem a) → K (mkX P fp lc ls pg pl kd pc ow ct op m' scr)) : X1_wipe (nI h) (nI fr) (nI t) (mkX P fp lc ls pg pl kd pc ow ct op mem scr) K := by
  unfold X1_wipe
  refine x_base hh hp hs hc hkd ?_
  exact ⟨17, x_wipeL (by omega) 16 fr mem (by omega) (by omega) hK⟩
theorem x_least {h : Nat} {K : Int32 → St → Prop} (hh : h < 64) (hz : ls h = 0) (hl : ∀ j, j < h → 0 < ls j) (h7 : J7 ls) (hK : K (nI h) (mkX P fp lc ls pg pl kd pc ow ct op mem scr)) : X1_leastFree (mkX P fp lc ls pg pl kd pc ow ct op mem scr) K := by
  have key : ∀ d i : Nat, i + d = h → X1_leastFree_L2 K (d + 1) (nI i) (mkX P fp lc ls pg pl kd pc ow ct op mem scr) := by
    intro d
    induction d with
    | zero =>
      intro i e
      have ei : i = h := by omega
      subst ei
      rw [X1_leastFree_L2]
      refine br_f (show ¬ nI 64 ≤ nI i from nI_ge hh (by omega)) ⟨i, rfl, hh, ?_⟩
      exact pk_eq (ls i) 0 (fun _ => hK) (fun q => absurd hz q)
    | succ d ih =>
      intro i e
      have h6 := h7 i (by omega)
      have h5 := hl i (by omega)
      rw [X1_leastFree_L2]
      refine br_f (show ¬ nI 64 ≤ nI i from nI_ge (by omega) (by omega)) ⟨i, rfl, by omega, ?_⟩
      refine pk_eq (ls i) 0 (fun q => absurd q (by omega)) (fun q => ?_)
      rintro _ rfl
      rw [nI_1]
      exact ih (i + 1) (by omega)
  exact ⟨h + 1, key h 0 (by omega)⟩
/-- what is known of a live object -/
theorem zlv (I : J0 P fp lc ls pg pl kd pc ow ct) {h : Nat} (hh : h < 64) (hl : 0 < ls h) : pg h < 12 ∧ pl h < 8 ∧ zk (ls h) < 4 ∧ kd (pg h) = zk (ls h) + 1 ∧ pl h < zc (zk (ls h)) ∧ ls h ≤ 16 ∧ ls h ≤ zw (zk (ls h)) ∧ pl h * zw (zk (ls h)) + zw (zk (ls h)) ≤ 16 ∧ pg h < P := by
  have g := I.1 h hh hl
  have g1 := J_pl I.1 hh hl
  have g2 := I.2.2.2.2.2.1
  have g3 := I.2.2.2.2.2.2 h hh
  have g4 := zk_lt (ls h)
  have g5 := zw_pos (zk (ls h))
  have g6 := zcw (c := zk (ls h)) (s := pl h) (k := zw (zk (ls h)) - 1) g4 g.2.1 (by omega)
  exact ⟨by have := g2.2.2; omega, g1, g4, g.2.2.1, g.2.1, g3, zw_zk g3, by omega, g.1⟩
theorem ad_ne (I : J0 P fp lc ls pg pl kd pc ow ct) {x y k k' : Nat} (hx : x < 64) (hlx : 0 < ls x) (hy : y < 64) (hly : 0 < ls y) (hne : x ≠ y) (hk : k < zw (zk (ls x))) (hk' : k' < zw (zk (ls y))) : ad (pg x) (pl x) (zk (ls x)) k ≠ ad (pg y) (pl y) (zk (ls y)) k' := by
  intro e
  have g := zlv I hx hlx
  have g' := zlv I hy hly
  unfold ad at e
  have e1 : pg x = pg y := by omega
  have e2 : zk (ls x) = zk (ls y) := by
    have a := g.2.2.2.1
    have b := g'.2.2.2.1
    rw [e1, b] at a
    omega
  rw [e2] at e hk
  have e3 := zcw_inj g'.2.2.1 hk hk' (s := pl x) (s' := pl y) (by omega)
  exact hne (J_one I.1 hx hlx hy hly e1 e3.1)
end BASX
end
section
set_option maxRecDepth 100000
/-! the small methods of CompactFitModel -/
/-- the pages that so many objects of each kind need -/
def zn (N : Nat → Nat) : Nat := 0 + (N 0 + zc 0 - 1) / zc 0 + (N 1 + zc 1 - 1) / zc 1 + (N 2 + zc 2 - 1) / zc 2 + (N 3 + zc 3 - 1) / zc 3
theorem zn_eq (N : Nat → Nat) : zn N = (N 0 + 7) / 8 + (N 1 + 3) / 4 + (N 2 + 1) / 2 + N 3 := by
  simp [zn, zc]
def zv (ls : Nat → Nat) (x1 x2 x3 x4 : Int32) (c : Nat) : Int32 :=
  if nI c = x3 then (if nI c = x1 then nI (cntK ls c) + x2 else nI (cntK ls c)) - x4 else (if nI c = x1 then nI (cntK ls c) + x2 else nI (cntK ls c))
theorem cntK_le (ls : Nat → Nat) (c : Nat) : cntK ls c ≤ 64 := fb_ct_le _ 64
theorem cntL_le (ls : Nat → Nat) : cntL ls ≤ 64 := fb_ct_le _ 64
theorem zn_tail {w : Int32} {S M c : Nat} {A : Int32 → Int32 → Prop} {B : Int32 → Prop} (hc : c < 4) (hw : w = nI M) (hM : M < 1000) (ih : A (nI (S + (M + zc c - 1) / zc c)) (nI (c + 1))) :
    ∀ x38 : Int32, x38 = ((8 : Int32) >>> (nI c &&& 31)) → ((1 ≤ x38 → ((¬ (x38 : Int32) = 0) ∧ (∀ x41 : Int32, x41 = (nI S + (((w + x38) - 1) / x38)) → (∀ x42 : Int32, x42 = nI c + 1 → A x41 x42)))) ∧ (¬ 1 ≤ x38 → B x38)) := by
  rintro _ rfl
  have z := zc_pos c
  rw [cap_eq c hc, hw]
  refine br_t (show nI 1 ≤ nI (zc c) from nI_le z.1 (by omega)) ⟨nI_ne0 (by omega) (by omega), ?_⟩
  rintro _ rfl _ rfl
  rw [nI_add, nI_dec (by omega), pk_div (by omega) (by omega) (by omega), nI_add, nI_1]
  exact ih
section BASM
variable {P : Nat} {ls : Nat → Nat} {wd : Nat → Int32}
theorem m_bad0 {h : Nat} {K : Int32 → St → Prop} (hh : h < 64) (hl : 0 < ls h) (h7 : ls h ≤ 16) (hK : K 0 (mkM P ls wd)) : X2_bad (nI h) (mkM P ls wd) K := by
  unfold X2_bad
  refine br_f (nI_pos (by omega)) (br_f (show ¬ nI 63 < nI h from nI_nlt (by omega) (by omega)) ⟨h, rfl, hh, ?_⟩)
  exact br_f (show ¬ nI (ls h) = nI 0 from nI_ne0 hl (by omega)) hK
theorem m_bad1 {x : Int32} {K : Int32 → St → Prop} (hx : ∀ h, h < 64 → x = nI h → ls h = 0) (hK : K 1 (mkM P ls wd)) : X2_bad x (mkM P ls wd) K := by
  unfold X2_bad
  refine ⟨fun _ => hK, fun h0 => ⟨fun _ => hK, fun h1 => ?_⟩⟩
  rcases pk_ix x (n := 64) (by omega) with a | a | ⟨j, hj, rfl⟩
  · exact absurd a h0
  · obtain ⟨j, hj, rfl⟩ := nI_of h0
    have a2 := (nI_leI (by omega) hj).mp a
    exact absurd (show nI 63 < nI j from nI_lt (by omega) hj) h1
  · refine ⟨j, rfl, hj, br_t (show nI (ls j) = nI 0 from ?_) hK⟩
    rw [hx j hj rfl]
theorem m_kind {n : Nat} {σ : St} {K : Int32 → St → Prop} (hn : n ≤ 16) (hK : K (nI (zk n)) σ) : X2_kindOf (nI n) σ K := by
  unfold X2_kindOf
  refine pk_le 3 n (fun a => pk_le 5 n (fun b => pk_le 9 n (fun c => ?_) (fun c => ?_)) (fun b => ?_)) (fun a => ?_)
  · rw [show zk n = 3 by unfold zk; rw [if_neg (by omega), if_neg (by omega), if_neg (by omega)]] at hK
    exact hK
  · rw [show zk n = 2 by unfold zk; rw [if_neg (by omega), if_neg (by omega), if_pos (by omega)]] at hK
    exact hK
  · rw [show zk n = 1 by unfold zk; rw [if_neg (by omega), if_pos (by omega)]] at hK
    exact hK
  · rw [show zk n = 0 by unfold zk; rw [if_pos (by omega)]] at hK
    exact hK
theorem m_alive {c : Nat} {K : Int32 → St → Prop} (hc : c < 4) (h7 : J7 ls) (hK : K (nI (cntK ls c)) (mkM P ls wd)) : X2_alive (nI c) (mkM P ls wd) K := by
  have key : ∀ d i : Nat, i + d = 64 → X2_alive_L4 K (d + 1) (nI c) (nI (fb_ct (fun h => decide (0 < ls h ∧ zk (ls h) = c)) i)) (nI i) (mkM P ls wd) := by
    intro d
    induction d with
    | zero =>
      intro i e
      have ei : i = 64 := by omega
      subst ei
      rw [X2_alive_L4]
      exact br_t (show nI 64 ≤ nI 64 from nI_le (Nat.le_refl _) (by omega)) hK
    | succ d ih =>
      intro i e
      have h6 := h7 i (by omega)
      have hz := zk_lt (ls i)
      have hn := ih (i + 1) (by omega)
      rw [fb_ct_succ] at hn
      rw [X2_alive_L4]
      refine br_f (show ¬ nI 64 ≤ nI i from nI_ge (by omega) (by omega)) ⟨i, rfl, by omega, ?_⟩
      refine pk_le (ls i) 0 (fun q => ?_) (fun q => ⟨i, rfl, by omega, m_kind h6 ?_⟩)
      · rintro _ rfl
        rw [nI_1]
        rw [if_neg (by simp; omega)] at hn
        exact hn
      · refine pk_eq (zk (ls i)) c (fun q2 => ?_) (fun q2 => ?_)
        · rintro _ rfl _ rfl
          rw [nI_1, nI_1]
          rw [if_pos (by simp [q, q2])] at hn
          exact hn
        · rintro _ rfl
          rw [nI_1]
          rw [if_neg (by simp [q2])] at hn
          exact hn
  exact ⟨65, key 64 0 (by omega)⟩
theorem m_needsS {x1 x2 x3 x4 : Int32} {N : Nat → Nat} {K : Int32 → St → Prop} {n S c : Nat} (h7 : J7 ls) (hc : c < 4) (hN : N c < 1000) (hv : zv ls x1 x2 x3 x4 c = nI (N c)) (ih : X2_needs_L6 K n x1 x2 x3 x4 (nI (S + (N c + zc c - 1) / zc c)) (nI (c + 1)) (mkM P ls wd)) : X2_needs_L6 K (n + 1) x1 x2 x3 x4 (nI S) (nI c) (mkM P ls wd) := by
  rw [X2_needs_L6]
  refine br_f (show ¬ nI 4 ≤ nI c from nI_ge (by omega) (by omega)) (m_alive hc h7 ?_)
  unfold zv at hv
  refine ⟨fun a => ?_, fun a => ?_⟩
  · rintro _ rfl
    rw [if_pos a] at hv
    refine ⟨fun b => ?_, fun b => ?_⟩
    · rintro _ rfl
      rw [if_pos b] at hv
      exact zn_tail hc hv hN ih
    · rw [if_neg b] at hv
      exact zn_tail hc hv hN ih
  · rw [if_neg a] at hv
    refine ⟨fun b => ?_, fun b => ?_⟩
    · rintro _ rfl
      rw [if_pos b] at hv
      exact zn_tail hc hv hN ih
    · rw [if_neg b] at hv
      exact zn_tail hc hv hN ih
theorem m_needs {x1 x2 x3 x4 : Int32} {N : Nat → Nat} {K : Int32 → St → Prop} (h7 : J7 ls) (hN : ∀ c, c < 4 → N c < 1000) (hv : ∀ c, c < 4 → zv ls x1 x2 x3 x4 c = nI (N c)) (hK : K (nI (zn N)) (mkM P ls wd)) : X2_needs x1 x2 x3 x4 (mkM P ls wd) K := by
  refine ⟨5, ?_⟩
  refine m_needsS (S := 0) (c := 0) h7 (by omega) (hN 0 (by omega)) (hv 0 (by omega)) ?_
  refine m_needsS (c := 1) h7 (by omega) (hN 1 (by omega)) (hv 1 (by omega)) ?_
  refine m_needsS (c := 2) h7 (by omega) (hN 2 (by omega)) (hv 2 (by omega)) ?_
  refine m_needsS (c := 3) h7 (by omega) (hN 3 (by omega)) (hv 3 (by omega)) ?_
  rw [X2_needs_L6]
  exact br_t (show nI 4 ≤ nI 4 from nI_le (Nat.le_refl _) (by omega)) hK
theorem nI_nm1 {c : Nat} (h : c < 2 ^ 31) : ¬ nI c = -1 := by
  intro e
  have g := nI_pos' h
  rw [e] at g
  exact absurd g (by decide +kernel)
/-- so many more of one kind -/
theorem m_more {k m : Nat} {ct : Nat → Nat} {K : Int32 → St → Prop} (h7 : J7 ls) (hk : k < 4) (hm : m ≤ 96) (hct : ∀ c, c < 4 → ct c = cntK ls c) (hK : K (nI (zn (fu ct k (ct k + m)))) (mkM P ls wd)) : X2_needs (nI k) (nI m) (-1) 0 (mkM P ls wd) K := by
  refine m_needs (N := fu ct k (ct k + m)) h7 (fun c hc => ?_) (fun c hc => ?_) hK
  · have a := cntK_le ls c
    have b := cntK_le ls k
    have a1 := hct c hc
    have b1 := hct k hk
    unfold fu
    split <;> omega
  · unfold zv
    rw [if_neg (nI_nm1 (by omega))]
    by_cases e : c = k
    · subst e
      rw [if_pos rfl, nI_add, fu_s, hct c hc]
    · rw [if_neg (fun q => e ((nI_eq (by omega) (by omega)).mp q)), fu_n _ e, hct c hc]
theorem m_none {ct : Nat → Nat} {K : Int32 → St → Prop} (h7 : J7 ls) (hct : ∀ c, c < 4 → ct c = cntK ls c) (hK : K (nI (zn ct)) (mkM P ls wd)) : X2_needs (-1) 0 (-1) 0 (mkM P ls wd) K := by
  refine m_needs (N := ct) h7 (fun c hc => ?_) (fun c hc => ?_) hK
  · have a := cntK_le ls c
    have a1 := hct c hc
    omega
  · unfold zv
    rw [if_neg (nI_nm1 (by omega)), if_neg (nI_nm1 (by omega)), hct c hc]
/-- one more of kind k, one less of kind j -/
theorem m_swap {k j : Nat} {ct : Nat → Nat} {K : Int32 → St → Prop} (h7 : J7 ls) (hk : k < 4) (hj : j < 4) (hct : ∀ c, c < 4 → ct c = cntK ls c) (h1 : 1 ≤ ct j) (hK : K (nI (zn (if k = j then ct else fu (fu ct j (ct j - 1)) k (ct k + 1)))) (mkM P ls wd)) : X2_needs (nI k) 1 (nI j) 1 (mkM P ls wd) K := by
  refine m_needs (N := if k = j then ct else fu (fu ct j (ct j - 1)) k (ct k + 1)) h7 (fun c hc => ?_) (fun c hc => ?_) hK
  · have a := cntK_le ls c
    have b := cntK_le ls k
    have d := cntK_le ls j
    have a1 := hct c hc
    have b1 := hct k hk
    have d1 := hct j hj
    by_cases e : k = j
    · rw [if_pos e]; omega
    · rw [if_neg e]
      unfold fu
      (repeat' split) <;> omega
  · unfold zv
    by_cases e : k = j
    · subst e
      rw [if_pos rfl]
      by_cases e2 : c = k
      · subst e2
        rw [if_pos rfl, if_pos rfl, nI_1, nI_pred, hct c hc]
      · have n2 : ¬ nI c = nI k := fun q => e2 ((nI_eq (by omega) (by omega)).mp q)
        rw [if_neg n2, if_neg n2, hct c hc]
    · rw [if_neg e]
      by_cases e2 : c = k
      · subst e2
        have n2 : ¬ nI c = nI j := fun q => e ((nI_eq (by omega) (by omega)).mp q)
        rw [if_neg n2, if_pos rfl, fu_s, nI_1, hct c hc]
      · have n2 : ¬ nI c = nI k := fun q => e2 ((nI_eq (by omega) (by omega)).mp q)
        rw [if_neg n2, fu_n _ e2]
        by_cases e3 : c = j
        · subst e3
          rw [if_pos rfl, fu_s, nI_dec (by have := hct c hc; omega), hct c hc]
        · have n3 : ¬ nI c = nI j := fun q => e3 ((nI_eq (by omega) (by omega)).mp q)
          rw [if_neg n3, fu_n _ e3, hct c hc]
theorem m_least {h : Nat} {K : Int32 → St → Prop} (hh : h < 64) (hz : ls h = 0) (hl : ∀ j, j < h → 0 < ls j) (h7 : J7 ls) (hK : K (nI h) (mkM P ls wd)) : X2_leastFree (mkM P ls wd) K := by
  have key : ∀ d i : Nat, i + d = h → X2_leastFree_L2 K (d + 1) (nI i) (mkM P ls wd) := by
    intro d
    induction d with
    | zero =>
      intro i e
      have ei : i = h := by omega
      subst ei
      rw [X2_leastFree_L2]
      refine br_f (show ¬ nI 64 ≤ nI i from nI_ge hh (by omega)) ⟨i, rfl, hh, ?_⟩
      exact pk_eq (ls i) 0 (fun _ => hK) (fun q => absurd hz q)
    | succ d ih =>
      intro i e
      have h6 := h7 i (by omega)
      have h5 := hl i (by omega)
      rw [X2_leastFree_L2]
      refine br_f (show ¬ nI 64 ≤ nI i from nI_ge (by omega) (by omega)) ⟨i, rfl, by omega, ?_⟩
      refine pk_eq (ls i) 0 (fun q => absurd q (by omega)) (fun q => ?_)
      rintro _ rfl
      rw [nI_1]
      exact ih (i + 1) (by omega)
  exact ⟨h + 1, key h 0 (by omega)⟩
theorem m_least0 {K : Int32 → St → Prop} (hl : ∀ j, j < 64 → 0 < ls j) (h7 : J7 ls) (hK : K (-1) (mkM P ls wd)) : X2_leastFree (mkM P ls wd) K := by
  have key : ∀ d i : Nat, i + d = 64 → X2_leastFree_L2 K (d + 1) (nI i) (mkM P ls wd) := by
    intro d
    induction d with
    | zero =>
      intro i e
      have ei : i = 64 := by omega
      subst ei
      rw [X2_leastFree_L2]
      exact br_t (show nI 64 ≤ nI 64 from nI_le (Nat.le_refl _) (by omega)) hK
    | succ d ih =>
      intro i e
      have h6 := h7 i (by omega)
      have h5 := hl i (by omega)
      rw [X2_leastFree_L2]
      refine br_f (show ¬ nI 64 ≤ nI i from nI_ge (by omega) (by omega)) ⟨i, rfl, by omega, ?_⟩
      refine pk_eq (ls i) 0 (fun q => absurd q (by omega)) (fun q => ?_)
      rintro _ rfl
      rw [nI_1]
      exact ih (i + 1) (by omega)
  exact ⟨65, key 64 0 (by omega)⟩
/-- words cleared from 16 * h + fr up to 16 * h + 16 -/
theorem m_wipeL {h : Nat} {K : St → Prop} (hh : h < 64) : ∀ (d i : Nat) (w : Nat → Int32), i + d = 16 → (∀ w' : Nat → Int32, (∀ a, w' a = if 16 * h + i ≤ a ∧ a < 16 * h + 16 then 0 else w a) → K (mkM P ls w')) → X2_wipe_L9 K (d + 1) (nI h) (nI i) (mkM P ls w) := by
  intro d
  induction d with
  | zero =>
    intro i w e hK
    have ei : i = 16 := by omega
    subst ei
    rw [X2_wipe_L9]
    exact br_t (show nI 16 ≤ nI 16 from nI_le (Nat.le_refl _) (by omega)) (hK w (fun a => (if_neg (by omega)).symm))
  | succ d ih =>
    intro i w e hK
    rw [X2_wipe_L9]
    refine br_f (show ¬ nI 16 ≤ nI i from nI_ge (by omega) (by omega)) ⟨16 * h + i, m16 h i, by omega, ?_⟩
    rintro _ rfl _ rfl
    rw [mm_1, nI_1]
    refine ih (i + 1) _ (by omega) (fun w' hw => hK w' (fun a => ?_))
    rw [hw a]
    unfold upd
    (repeat' split) <;> first | rfl | (exfalso; omega)
theorem m_wipe {h : Nat} {K : St → Prop} (hh : h < 64) (hK : ∀ w' : Nat → Int32, (∀ a, w' a = if 16 * h ≤ a ∧ a < 16 * h + 16 then 0 else wd a) → K (mkM P (fu ls h 0) w')) : X2_wipe (nI h) (mkM P ls wd) K := by
  unfold X2_wipe
  refine ⟨h, rfl, hh, ?_⟩
  rintro _ rfl
  rw [show (0 : Int32) = nI 0 from rfl, mm_0]
  exact ⟨17, m_wipeL hh 16 0 wd (by omega) hK⟩
end BASM
end
section
set_option maxRecDepth 100000
section PLACE
variable {P fp lc : Nat} {ls L pg pl kd pc ow ct op : Nat → Nat} {mem scr : Nat → Int32}
theorem x_pl107 {h c p s : Nat} {K : St → Prop} (hh : h < 64) (hc : c < 4) (hp : p < 12) (hs : s < 8) (hpc : pc p < 1000)
    (hK1 : pc p + 1 = zc c → K (mkX P fp (lc + 1) L (fu pg h p) (fu pl h s) kd (fu pc p (pc p + 1)) (fu ow (8 * p + s) (h + 1)) (fu ct c (ct c + 1)) (fu op c 0) mem scr))
    (hK2 : pc p + 1 ≠ zc c → K (mkX P fp (lc + 1) L (fu pg h p) (fu pl h s) kd (fu pc p (pc p + 1)) (fu ow (8 * p + s) (h + 1)) (fu ct c (ct c + 1)) op mem scr)) :
    X1_placeObject_B107 K (nI h) (nI c) (nI p) (nI (zc c)) (nI s) (mkX P fp lc L pg pl kd pc ow ct op mem scr) := by
  have z := zc_pos c
  unfold X1_placeObject_B107
  refine ⟨8 * p + s, m8 p s, by omega, ?_⟩
  rintro _ rfl
  rw [mu_3]
  refine ⟨h, rfl, hh, ?_⟩
  rintro _ rfl
  rw [mu_4]
  refine ⟨h, rfl, hh, ?_⟩
  rintro _ rfl
  rw [mu_5]
  refine ⟨p, rfl, hp, p, rfl, hp, ?_⟩
  rintro _ rfl
  rw [mu_2i]
  refine ⟨c, rfl, hc, c, rfl, hc, ?_⟩
  rintro _ rfl
  rw [mu_8i]
  rintro _ rfl
  rw [mu_f2i]
  refine ⟨p, rfl, hp, ?_⟩
  refine pk_eq (pc p + 1) (zc c) (fun e => ?_) (fun e => hK2 e) (congrArg nI (fu_s pc p (pc p + 1)))
  refine ⟨c, rfl, hc, ?_⟩
  rintro _ rfl
  rw [mu_7n]
  exact hK1 e
theorem x_pl76 {h c p s : Nat} {K : St → Prop} (hc : c < 4) (hp : p < 12) (hs : s < zc c) (hz : ow (8 * p + s) = 0) (hl : ∀ j, j < s → 0 < ow (8 * p + j) ∧ ow (8 * p + j) ≤ 64) (hK : X1_placeObject_B107 K (nI h) (nI c) (nI p) (nI (zc c)) (nI s) (mkX P fp lc L pg pl kd pc ow ct op mem scr)) :
    ∀ d i : Nat, i + d = s → X1_placeObject_L76 K (d + 1) (nI h) (nI c) (nI p) (nI (zc c)) (nI i) (mkX P fp lc L pg pl kd pc ow ct op mem scr) := by
  have z := zc_pos c
  intro d
  induction d with
  | zero =>
    intro i e
    have ei : i = s := by omega
    subst ei
    rw [X1_placeObject_L76, nI_dec (by omega)]
    refine pk_le (zc c - 1) i (fun _ => hK) (fun _ => ⟨8 * p + i, m8 p i, by omega, ?_⟩)
    exact pk_none (ow (8 * p + i)) (fun _ => hK) (fun q => absurd q (by omega))
  | succ d ih =>
    intro i e
    have g := hl i (by omega)
    rw [X1_placeObject_L76, nI_dec (by omega)]
    refine br_f (nI_ge (by omega) (by omega)) ⟨8 * p + i, m8 p i, by omega, ?_⟩
    refine pk_none (ow (8 * p + i)) (fun q => absurd q (by omega)) (fun q => ?_)
    rintro _ rfl
    rw [nI_1]
    exact ih (i + 1) (by omega)
theorem x_pl67 {h c p s : Nat} {K : St → Prop} (hc : c < 4) (hp : p < 12) (hs : s < zc c) (hz : ow (8 * p + s) = 0) (hl : ∀ j, j < s → 0 < ow (8 * p + j) ∧ ow (8 * p + j) ≤ 64) (hK : X1_placeObject_B107 K (nI h) (nI c) (nI p) (nI (zc c)) (nI s) (mkX P fp lc L pg pl kd pc ow ct op mem scr)) :
    X1_placeObject_B67 K (nI h) (nI c) (nI p) (mkX P fp lc L pg pl kd pc ow ct op mem scr) := by
  unfold X1_placeObject_B67
  refine x_cap hc ?_
  exact ⟨s + 1, x_pl76 hc hp hs hz hl hK s 0 (by omega)⟩
theorem x_pl14 {h c p : Nat} {K : St → Prop} (hp : p < 12) (hz : kd p = 0) (hl : ∀ j, j < p → 0 < kd j ∧ kd j ≤ 4) (hK : X1_placeObject_B36 K (nI h) (nI c) (nI p) (mkX P fp lc L pg pl kd pc ow ct op mem scr)) :
    ∀ d i : Nat, i + d = p → X1_placeObject_L14 K (d + 1) (nI h) (nI c) (nI i) (mkX P fp lc L pg pl kd pc ow ct op mem scr) := by
  intro d
  induction d with
  | zero =>
    intro i e
    have ei : i = p := by omega
    subst ei
    rw [X1_placeObject_L14]
    refine pk_le 11 i (fun _ => hK) (fun _ => ⟨i, rfl, by omega, ?_⟩)
    exact pk_none (kd i) (fun _ => hK) (fun q => absurd q (by omega))
  | succ d ih =>
    intro i e
    have g := hl i (by omega)
    rw [X1_placeObject_L14]
    refine br_f (show ¬ nI 11 ≤ nI i from nI_ge (by omega) (by omega)) ⟨i, rfl, by omega, ?_⟩
    refine pk_none (kd i) (fun q => absurd q (by omega)) (fun q => ?_)
    rintro _ rfl
    rw [nI_1]
    exact ih (i + 1) (by omega)
/-- a free place in an open page -/
theorem J_slot (I : J0 P fp lc ls pg pl kd pc ow ct) {c p : Nat} (hc : c < 4) (hp : p < 12) (hk : kd p = c + 1) (hpc : pc p < zc c) : ∃ s, s < zc c ∧ ow (8 * p + s) = 0 ∧ ∀ j, j < s → 0 < ow (8 * p + j) ∧ ow (8 * p + j) ≤ 64 := by
  obtain ⟨h1, h2, h3, h4, h5, h6, h7⟩ := I
  have z := zc_pos c
  have e4 := h4 p hp (by omega)
  have hex : ∃ s, s < zc c ∧ ow (8 * p + s) = 0 := by
    refine Classical.byContradiction fun hx => ?_
    have ha : fb_ct (fun s => decide (0 < ow (8 * p + s))) (zc c) = zc c := fb_ct_all.mpr (fun k hk => by
      have : ¬ ow (8 * p + k) = 0 := fun e => hx ⟨k, hk, e⟩
      simp; omega)
    have hm := fb_ct_mono (fun s => decide (0 < ow (8 * p + s))) z.2
    omega
  obtain ⟨s, ⟨hs, hz⟩, hl⟩ := pk_least (fun s => s < zc c ∧ ow (8 * p + s) = 0) hex
  refine ⟨s, hs, hz, fun j hj => ?_⟩
  have hn := hl j hj
  have hpos : 0 < ow (8 * p + j) := by
    rcases Nat.eq_zero_or_pos (ow (8 * p + j)) with e | e
    · exact absurd ⟨by omega, e⟩ hn
    · exact e
  exact ⟨hpos, (h2 (8 * p + j) (by omega) hpos).1⟩
/-- a page of no kind, the first -/
theorem J_page (I : J0 P fp lc ls pg pl kd pc ow ct) (hf : 0 < fp) : ∃ p, p < P ∧ kd p = 0 ∧ ∀ j, j < p → 0 < kd j ∧ kd j ≤ 4 := by
  obtain ⟨h1, h2, h3, h4, h5, h6, h7⟩ := I
  have hP := h6.2.2
  have hex : ∃ p, p < P ∧ kd p = 0 := by
    refine Classical.byContradiction fun hx => ?_
    have ha : fb_ct (fun p => decide (0 < kd p)) P = P := fb_ct_all.mpr (fun k hk => by
      have : ¬ kd k = 0 := fun e => hx ⟨k, hk, e⟩
      simp; omega)
    have hm := fb_ct_mono (fun p => decide (0 < kd p)) hP
    have := h6.1
    omega
  obtain ⟨p, ⟨hp, hz⟩, hl⟩ := pk_least (fun p => p < P ∧ kd p = 0) hex
  refine ⟨p, hp, hz, fun j hj => ?_⟩
  have hn := hl j hj
  refine ⟨?_, (h3 j (by omega)).1⟩
  rcases Nat.eq_zero_or_pos (kd j) with e | e
  · exact absurd ⟨by omega, e⟩ hn
  · exact e
theorem x_place (I : IV P fp lc ls pg pl kd pc ow ct op) {h n : Nat} {K : St → Prop} (hh : h < 64) (hl : ls h = 0) (hn : 0 < n) (hn2 : n ≤ 16) (hroom : 0 < op (zk n) ∨ 0 < fp)
    (hK : ∀ (fp' lc' : Nat) (pg' pl' kd' pc' ow' ct' op' : Nat → Nat), IV P fp' lc' (fu ls h n) pg' pl' kd' pc' ow' ct' op' → (∀ x, x ≠ h → pg' x = pg x ∧ pl' x = pl x) → K (mkX P fp' lc' L pg' pl' kd' pc' ow' ct' op' mem scr)) :
    X1_placeObject (nI h) (nI (zk n)) (mkX P fp lc L pg pl kd pc ow ct op mem scr) K := by
  obtain ⟨IJ, OI⟩ := I
  have hc := zk_lt n
  have z := zc_pos (zk n)
  have hP := IJ.2.2.2.2.2.1.2.2
  have hfr : ∀ (p s x : Nat), x ≠ h → fu pg h p x = pg x ∧ fu pl h s x = pl x := fun p s x hx => ⟨fu_n _ hx, fu_n _ hx⟩
  have hopb : op (zk n) ≤ 12 := by
    rcases Nat.eq_zero_or_pos (op (zk n)) with e | e
    · omega
    · exact (OI.2.1 _ hc e).1
  unfold X1_placeObject
  refine ⟨zk n, rfl, hc, ?_⟩
  rintro _ rfl
  refine pk_none (op (zk n)) (fun e => ?_) (fun e => ?_)
  · have hf : 0 < fp := by omega
    obtain ⟨p, hp, hz, hlp⟩ := J_page IJ hf
    have JN := J0_N IJ hp hz hc
    have hem := J_empty IJ (p := p) (s := 0) (by omega) hz (by omega)
    refine ⟨p + 1, x_pl14 (by omega) hz hlp ?_ p 0 (by omega)⟩
    unfold X1_placeObject_B36
    refine ⟨p, rfl, by omega, ?_⟩
    rintro _ rfl
    rw [mu_1]
    refine ⟨p, rfl, by omega, ?_⟩
    rintro _ rfl
    rw [show (0 : Int32) = nI 0 from rfl, mu_2]
    rintro _ rfl
    rw [mu_f1d hf]
    refine ⟨zk n, rfl, hc, ?_⟩
    rintro _ rfl
    rw [mu_7]
    have JL := J0_L JN.2 (h := h) (n := n) (p := p) (s := 0) hh hl hn hn2 hp (by omega) (fu_s _ _ _) hem
    rw [fu_s, fu_fu] at JL
    refine x_pl67 (s := 0) hc (by omega) (by omega) hem (fun j hj => absurd hj (Nat.not_lt_zero j)) ?_
    refine x_pl107 hh hc (by omega) (by omega) (by rw [fu_s]; omega) (fun e2 => ?_) (fun e2 => ?_)
    · rw [fu_s] at e2 ⊢
      rw [fu_fu, fu_fu, fu_id e]
      exact hK _ _ _ _ _ _ _ _ _ ⟨JL, O_nwF OI hc (by omega) hz e (by omega)⟩ (hfr p 0)
    · rw [fu_s] at e2 ⊢
      rw [fu_fu]
      exact hK _ _ _ _ _ _ _ _ _ ⟨JL, O_nw OI hc (by omega) hz e (by omega)⟩ (hfr p 0)
  · obtain ⟨p, ep⟩ : ∃ p, op (zk n) = p + 1 := ⟨op (zk n) - 1, by omega⟩
    have gO := OI.2.1 _ hc e
    rw [ep, Nat.add_sub_cancel] at gO
    have hp12 : p < 12 := by omega
    have hpP : p < P := by
      rcases Nat.lt_or_ge p P with q | q
      · exact q
      · have := (IJ.2.2.1 p hp12).2 q; omega
    obtain ⟨s, hs, hz, hls⟩ := J_slot IJ hc hp12 gO.2.1 gO.2.2
    have JL := J0_L IJ (h := h) (n := n) (p := p) (s := s) hh hl hn hn2 hpP hs gO.2.1 hz
    rw [show mkX P fp lc L pg pl kd pc ow ct op mem scr 7 (zk n) = nI p from (congrArg (fun q => nI q - 1) ep).trans (nI_pred p)]
    refine x_pl67 hc hp12 hs hz hls ?_
    refine x_pl107 hh hc hp12 (by omega) (by omega) (fun e2 => ?_) (fun e2 => ?_)
    · exact hK _ _ _ _ _ _ _ _ _ ⟨JL, O_plF OI hc ep e2⟩ (hfr p s)
    · exact hK _ _ _ _ _ _ _ _ _ ⟨JL, O_pl OI hc ep (by omega)⟩ (hfr p s)
end PLACE
end
section
set_option maxRecDepth 100000
section MOVE
variable {P fp lc : Nat} {ls L pg pl kd pc ow ct op : Nat → Nat} {mem scr : Nat → Int32}
/-- the last object of page q, at place t, of handle g, goes to place s of page p; the words go along -/
theorem x_mv58 {q p s t g c : Nat} {K : St → Prop} (hc : c < 4) (hq : q < 12) (hp : p < 12) (hne : p ≠ q) (hs : s < zc c) (ht : t < zc c) (hg : g < 64) (hpq : 1 ≤ pc q)
    (hK : ∀ m' : Nat → Int32, (∀ a, m' a = if 16 * p + s * zw c ≤ a ∧ a < 16 * p + s * zw c + zw c then mem (16 * q + t * zw c + (a - (16 * p + s * zw c))) else mem a) →
      K (mkX P fp lc L (fu pg g p) (fu pl g s) kd (fu (fu pc q (pc q - 1)) p (pc p + 1)) (fu (fu ow (8 * q + t) 0) (8 * p + s) (g + 1)) ct op m' scr)) :
    ∀ (d i : Nat) (m : Nat → Int32), i + d = zw c → (∀ a, m a = if 16 * p + s * zw c ≤ a ∧ a < 16 * p + s * zw c + i then mem (16 * q + t * zw c + (a - (16 * p + s * zw c))) else mem a) →
      X1_moveOne_L58 K (d + 1) (nI q) (nI p) (nI s) (nI t) (nI g) (nI (zw c)) (nI i) (mkX P fp lc L pg pl kd pc ow ct op m scr) := by
  have z := zc_pos c
  have zz := zw_pos c
  have b1 := zcw (c := c) (s := s) (k := zw c - 1) hc hs (by omega)
  have b2 := zcw (c := c) (s := t) (k := zw c - 1) hc ht (by omega)
  intro d
  induction d with
  | zero =>
    intro i m e hm
    have ei : i = zw c := by omega
    subst ei
    rw [X1_moveOne_L58]
    refine br_t (nI_le (Nat.le_refl _) (by omega)) ?_
    refine ⟨8 * q + t, m8 q t, by omega, ?_⟩
    rintro _ rfl
    rw [mu_3n]
    refine ⟨8 * p + s, m8 p s, by omega, ?_⟩
    rintro _ rfl
    rw [mu_3]
    refine ⟨g, rfl, hg, ?_⟩
    rintro _ rfl
    rw [mu_4]
    refine ⟨g, rfl, hg, ?_⟩
    rintro _ rfl
    rw [mu_5]
    refine ⟨q, rfl, hq, q, rfl, hq, ?_⟩
    rintro _ rfl
    rw [mu_2d hpq]
    refine ⟨p, rfl, hp, p, rfl, hp, ?_⟩
    rintro _ rfl
    rw [mu_2i, fu_n _ hne]
    exact hK m hm
  | succ d ih =>
    intro i m e hm
    rw [X1_moveOne_L58]
    refine br_f (nI_ge (by omega) (by omega)) ?_
    refine ⟨16 * q + t * zw c + i, by rw [pk_mul, m16, nI_add], by omega, 16 * p + s * zw c + i, by rw [pk_mul, m16, nI_add], by omega, ?_⟩
    rintro _ rfl _ rfl
    rw [mu_0, nI_1]
    refine ih (i + 1) _ (by omega) (fun a => ?_)
    have hsrc : m (16 * q + t * zw c + i) = mem (16 * q + t * zw c + i) := by
      rw [hm, if_neg (by omega)]
    show (if a = 16 * p + s * zw c + i then m (16 * q + t * zw c + i) else m a) = _
    rw [hsrc, hm a]
    by_cases ea : a = 16 * p + s * zw c + i
    · subst ea
      rw [if_pos rfl, if_pos (by omega), Nat.add_sub_cancel_left]
    · rw [if_neg ea]
      by_cases eb : 16 * p + s * zw c ≤ a ∧ a < 16 * p + s * zw c + i
      · rw [if_pos eb, if_pos (by omega)]
      · rw [if_neg eb, if_neg (by omega)]
theorem x_move {q p s t g c : Nat} {K : St → Prop} (hc : c < 4) (hq : q < 12) (hp : p < 12) (hne : p ≠ q) (hs : s < zc c) (ht : t < zc c) (hg : g < 64) (hpq : 1 ≤ pc q) (hkd : kd p = c + 1)
    (how : ow (8 * q + t) = g + 1) (hlast : ∀ j, t < j → j < 8 → ow (8 * q + j) = 0)
    (hK : ∀ m' : Nat → Int32, (∀ a, m' a = if 16 * p + s * zw c ≤ a ∧ a < 16 * p + s * zw c + zw c then mem (16 * q + t * zw c + (a - (16 * p + s * zw c))) else mem a) →
      K (mkX P fp lc L (fu pg g p) (fu pl g s) kd (fu (fu pc q (pc q - 1)) p (pc p + 1)) (fu (fu ow (8 * q + t) 0) (8 * p + s) (g + 1)) ct op m' scr)) :
    X1_moveOne (nI q) (nI p) (nI s) (mkX P fp lc L pg pl kd pc ow ct op mem scr) K := by
  have z := zc_pos c
  have hB : X1_moveOne_B31 K (nI q) (nI p) (nI s) (nI t) (mkX P fp lc L pg pl kd pc ow ct op mem scr) := by
    unfold X1_moveOne_B31
    refine ⟨8 * q + t, m8 q t, by omega, ?_⟩
    rintro _ rfl
    refine ⟨p, rfl, hp, ?_⟩
    rintro _ rfl
    rw [show mkX P fp lc L pg pl kd pc ow ct op mem scr 3 (8 * q + t) = nI g from (congrArg (fun q => nI q - 1) how).trans (nI_pred g), show mkX P fp lc L pg pl kd pc ow ct op mem scr 1 p = nI (c + 1) - 1 from congrArg (fun q => nI q - 1) hkd, wid_eq c hc]
    exact ⟨zw c + 1, x_mv58 hc hq hp hne hs ht hg hpq hK (zw c) 0 mem (by omega) (fun a => (if_neg (by omega)).symm)⟩
  have key : ∀ d i : Nat, i = t + d → i < 8 → X1_moveOne_L4 K (d + 1) (nI q) (nI p) (nI s) (nI i) (mkX P fp lc L pg pl kd pc ow ct op mem scr) := by
    intro d
    induction d with
    | zero =>
      intro i e hi
      have ei : i = t := by omega
      subst ei
      rw [X1_moveOne_L4]
      refine ⟨fun _ => hB, fun _ => ⟨8 * q + i, m8 q i, by omega, ?_⟩⟩
      exact pk_none (ow (8 * q + i)) (fun a => absurd a (by omega)) (fun _ => hB)
    | succ d ih =>
      intro i e hi
      obtain ⟨j, rfl⟩ : ∃ j, i = j + 1 := ⟨i - 1, by omega⟩
      rw [X1_moveOne_L4]
      refine br_f (nI_nle (by omega) (by omega)) ⟨8 * q + (j + 1), m8 q (j + 1), by omega, ?_⟩
      have hz := hlast (j + 1) (by omega) hi
      refine pk_none (ow (8 * q + (j + 1))) (fun _ => ?_) (fun a => absurd a (by omega))
      rintro _ rfl
      rw [pk_m1]
      exact ih j (by omega) (by omega)
  unfold X1_moveOne
  exact ⟨7 - t + 1, key (7 - t) 7 (by omega) (by omega)⟩
/-- the last object of a page that isn't empty -/
theorem J_last (I : J0 P fp lc ls pg pl kd pc ow ct) {q : Nat} (hq : q < 12) (hk : 0 < kd q) (h1 : 1 ≤ pc q) : ∃ t g, t < 8 ∧ g < 64 ∧ ow (8 * q + t) = g + 1 ∧ 0 < ls g ∧ pg g = q ∧ pl g = t ∧ (∀ j, t < j → j < 8 → ow (8 * q + j) = 0) := by
  have I0 := I
  obtain ⟨i1, i2, i3, i4, i5, i6, i7⟩ := I
  have e4 := i4 q hq hk
  obtain ⟨k, hk8, hkp⟩ := fb_ct_pos.mp (show 0 < fb_ct (fun s => decide (0 < ow (8 * q + s))) 8 by omega)
  have hkp : 0 < ow (8 * q + k) := by simpa using hkp
  obtain ⟨r, ⟨hr, hrp⟩, hrl⟩ := pk_least (fun r => r < 8 ∧ 0 < ow (8 * q + (7 - r))) ⟨7 - k, by omega, by rw [show 7 - (7 - k) = k by omega]; exact hkp⟩
  have g2 := i2 (8 * q + (7 - r)) (by omega) hrp
  have g1 := i1 (ow (8 * q + (7 - r)) - 1) (by omega) g2.2.1
  have gl := J_pl i1 (h := ow (8 * q + (7 - r)) - 1) (by omega) g2.2.1
  refine ⟨7 - r, ow (8 * q + (7 - r)) - 1, by omega, by omega, by omega, g2.2.1, by omega, by omega, fun j hj hj8 => ?_⟩
  rcases Nat.eq_zero_or_pos (ow (8 * q + j)) with e | e
  · exact e
  · exact absurd ⟨by omega, by rw [show 7 - (7 - j) = j by omega]; exact e⟩ (hrl (7 - j) (by omega))
end MOVE
end
section
set_option maxRecDepth 100000
section REMOVE
theorem fu_pc3 {f : Nat → Nat} {p q : Nat} (hne : p ≠ q) (h : 1 ≤ f p) : fu (fu (fu f p (f p - 1)) q (fu f p (f p - 1) q - 1)) p (fu f p (f p - 1) p + 1) = fu f q (f q - 1) := by
  funext x
  by_cases a : x = p
  · subst a
    rw [fu_s, fu_s, fu_n _ hne]
    omega
  · rw [fu_n _ a]
    by_cases b : x = q
    · subst b
      rw [fu_s, fu_s, fu_n _ a]
    · rw [fu_n _ b, fu_n _ b, fu_n _ a]
theorem fu_ct3 {f : Nat → Nat} {c : Nat} (h : 2 ≤ f c) : fu (fu (fu f c (f c - 1)) c (fu f c (f c - 1) c - 1)) c (fu (fu f c (f c - 1)) c (fu f c (f c - 1) c - 1) c + 1) = fu f c (f c - 1) := by
  simp only [fu_fu, fu_s]
  rw [show f c - 1 - 1 + 1 = f c - 1 by omega]
variable {P fp lc : Nat} {ls L pg pl kd pc ow ct op : Nat → Nat} {mem scr : Nat → Int32}
/-- the words of the objects other than h are kept -/
def KP (ls pg pl : Nat → Nat) (mem : Nat → Int32) (pg' pl' : Nat → Nat) (mem' : Nat → Int32) (h : Nat) : Prop :=
  ∀ x, x < 64 → x ≠ h → 0 < ls x → ∀ k, k < zw (zk (ls x)) → mem' (ad (pg' x) (pl' x) (zk (ls x)) k) = mem (ad (pg x) (pl x) (zk (ls x)) k)
theorem x_rm108 {q c : Nat} {K : St → Prop} (hc : c < 4) (hq : q < 12) (hpc : pc q < 1000)
    (hK1 : pc q = 0 → K (mkX P (fp + 1) lc L pg pl (fu kd q 0) pc ow ct (fu op c 0) mem scr))
    (hK2 : 0 < pc q → K (mkX P fp lc L pg pl kd pc ow ct op mem scr)) :
    X1_removeObject_B108 K (nI c) (nI q) (mkX P fp lc L pg pl kd pc ow ct op mem scr) := by
  unfold X1_removeObject_B108
  refine ⟨q, rfl, hq, ?_⟩
  refine pk_eq (pc q) 0 (fun e => ?_) (fun e => hK2 (by omega))
  refine ⟨q, rfl, hq, ?_⟩
  rintro _ rfl
  rw [mu_1n]
  refine ⟨c, rfl, hc, ?_⟩
  rintro _ rfl
  rw [mu_7n]
  rintro _ rfl
  rw [mu_f1i]
  exact hK1 e
theorem x_remove (I : IV P fp lc ls pg pl kd pc ow ct op) {h : Nat} {K : St → Prop} (hh : h < 64) (hl : 0 < ls h)
    (hK : ∀ (fp' lc' : Nat) (pg' pl' kd' pc' ow' ct' op' : Nat → Nat) (mem' : Nat → Int32), IV P fp' lc' (fu ls h 0) pg' pl' kd' pc' ow' ct' op' → KP ls pg pl mem pg' pl' mem' h → K (mkX P fp' lc' ls pg' pl' kd' pc' ow' ct' op' mem' scr)) :
    X1_removeObject (nI h) (mkX P fp lc ls pg pl kd pc ow ct op mem scr) K := by
  obtain ⟨IJ, OI⟩ := I
  have g := zlv IJ hh hl
  have gp := J0_pos IJ hh hl
  have JU := J0_U IJ hh hl
  obtain ⟨c, ec⟩ : ∃ c, zk (ls h) = c := ⟨_, rfl⟩
  obtain ⟨p, ep⟩ : ∃ p, pg h = p := ⟨_, rfl⟩
  obtain ⟨s, es⟩ : ∃ s, pl h = s := ⟨_, rfl⟩
  rw [ec, ep, es] at g JU
  rw [ec, ep] at gp
  obtain ⟨hp, hs8, hc, hkd, hs, hn16, hnw, hsw, hpP⟩ := g
  have z := zc_pos c
  have hO1 := OI.1 p hp (by omega)
  rw [hkd, Nat.add_sub_cancel] at hO1
  have hopb : op c ≤ 12 := by
    rcases Nat.eq_zero_or_pos (op c) with e | e
    · omega
    · exact (OI.2.1 _ hc e).1
  have hkeep : KP ls pg pl mem pg pl mem h := fun x _ _ _ k _ => rfl
  unfold X1_removeObject
  refine ⟨h, rfl, hh, ?_⟩
  rintro _ rfl
  refine ⟨h, rfl, hh, ?_⟩
  rintro _ rfl
  rw [show mkX P fp lc ls pg pl kd pc ow ct op mem scr 4 h = nI p from congrArg nI ep, show mkX P fp lc ls pg pl kd pc ow ct op mem scr 5 h = nI s from congrArg nI es]
  refine ⟨p, rfl, hp, ?_⟩
  rintro _ rfl
  rw [show mkX P fp lc ls pg pl kd pc ow ct op mem scr 1 p = nI c from (congrArg (fun q => nI q - 1) hkd).trans (nI_pred c)]
  refine ⟨8 * p + s, m8 p s, by omega, ?_⟩
  rintro _ rfl
  rw [mu_3n]
  refine ⟨p, rfl, hp, p, rfl, hp, ?_⟩
  rintro _ rfl
  rw [mu_2d gp.1]
  refine ⟨c, rfl, hc, c, rfl, hc, ?_⟩
  rintro _ rfl
  rw [mu_8d gp.2.1]
  rintro _ rfl
  rw [mu_f2d gp.2.2]
  refine ⟨c, rfl, hc, ?_⟩
  rintro _ rfl
  refine pk_none (op c) (fun e => ?_) (fun e => ?_)
  · refine ⟨c, rfl, hc, ?_⟩
    rintro _ rfl
    rw [mu_7]
    refine x_rm108 hc hp (by rw [fu_s]; omega) (fun e2 => ?_) (fun e2 => ?_)
    · rw [fu_s] at e2
      rw [fu_fu]
      exact hK _ _ _ _ _ _ _ _ _ _ ⟨J0_F JU hp (by omega) (by rw [fu_s]; exact e2), O_rmE OI hc hp hkd (Or.inl e) (by omega) gp.2.1⟩ hkeep
    · rw [fu_s] at e2
      exact hK _ _ _ _ _ _ _ _ _ _ ⟨JU, O_rm OI hc hp hkd (Or.inl e) (by omega) gp.2.1⟩ hkeep
  · obtain ⟨q, eqq⟩ : ∃ q, op c = q + 1 := ⟨op c - 1, by omega⟩
    have gO := OI.2.1 _ hc e
    rw [eqq, Nat.add_sub_cancel] at gO
    have hq12 : q < 12 := by omega
    have hO1q := OI.1 q hq12 (by omega)
    have hid : fu op c (q + 1) = op := fu_id eqq
    rw [show mkX P fp (lc - 1) ls pg pl kd (fu pc p (pc p - 1)) (fu ow (8 * p + s) 0) (fu ct c (ct c - 1)) op mem scr 7 c = nI q from (congrArg (fun q => nI q - 1) eqq).trans (nI_pred q)]
    refine pk_eq q p (fun e3 => ?_) (fun e3 => ?_)
    · subst e3
      refine x_rm108 hc hp (by rw [fu_s]; omega) (fun e2 => ?_) (fun e2 => ?_)
      · rw [fu_s] at e2
        exact hK _ _ _ _ _ _ _ _ _ _ ⟨J0_F JU hp (by omega) (by rw [fu_s]; exact e2), O_rmE OI hc hp hkd (Or.inr eqq) (by omega) gp.2.1⟩ hkeep
      · rw [fu_s] at e2
        have OO := O_rm OI hc hp hkd (Or.inr eqq) (by omega) gp.2.1
        rw [hid] at OO
        exact hK _ _ _ _ _ _ _ _ _ _ ⟨JU, OO⟩ hkeep
    · have hpf : pc p = zc c := by
        rcases Nat.lt_or_ge (pc p) (zc c) with a | a
        · have := hO1.2.2 a; omega
        · omega
      obtain ⟨t, y, ht8, hy, howy, hly, hpgy, hply, hlast⟩ := J_last IJ hq12 (by omega) hO1q.1
      have gy := zlv IJ hy hly
      have hcy : zk (ls y) = c := by
        have a := gy.2.2.2.1
        rw [hpgy, gO.2.1] at a
        omega
      have hyh : y ≠ h := by
        intro a; subst a; omega
      have hlsy : fu ls h 0 y = ls y := fu_n _ hyh
      rw [hpgy, hply, hcy] at gy
      have ht : t < zc c := gy.2.2.2.2.1
      have hne : p ≠ q := fun a => e3 a.symm
      have hpq : fu pc p (pc p - 1) q = pc q := fu_n _ e3
      -- the numbers behind the move
      have JU2 := J0_U JU hy (by rw [hlsy]; exact hly)
      have gp2 := J0_pos JU hy (by rw [hlsy]; exact hly)
      rw [hlsy, hcy, hpgy, hply] at JU2
      rw [hlsy, hcy, hpgy, fu_s] at gp2
      have JL := J0_L JU2 (h := y) (n := ls y) (p := p) (s := s) hy (fu_s _ _ _) hly gy.2.2.2.2.2.1 hpP (by rw [hcy]; exact hs) (by rw [hcy]; exact hkd) (by rw [fu_n _ (by omega), fu_s])
      rw [hcy, fu_ct3 (by omega), fu_fu (fu ls h 0), fu_id hlsy, show lc - 1 - 1 + 1 = lc - 1 by omega, fu_n (f := fu pc p (pc p - 1)) _ hne, fu_pc3 hne gp.1] at JL
      refine x_move hc hq12 hp hne hs ht hy (by rw [hpq]; exact hO1q.1) hkd (by rw [fu_n _ (by omega)]; exact howy) (fun j hj hj8 => by rw [fu_n _ (by omega)]; exact hlast j hj hj8) ?_
      intro m' hm
      rw [fu_pc3 hne gp.1]
      have hkp : KP ls pg pl mem (fu pg y p) (fu pl y s) m' h := by
        intro x hx hxh hlx k hk
        by_cases exy : x = y
        · subst exy
          rw [hcy] at hk ⊢
          rw [fu_s, fu_s, hpgy, hply, hm, if_pos (by unfold ad; omega)]
          congr 1
          unfold ad
          omega
        · rw [fu_n _ exy, fu_n _ exy, hm, if_neg]
          intro hin
          obtain ⟨A, eA⟩ : ∃ A, ad (pg x) (pl x) (zk (ls x)) k = A := ⟨_, rfl⟩
          rw [eA] at hin
          have ha := ad_ne IJ hx hlx hh hl hxh hk (k' := A - (16 * p + s * zw c)) (by rw [ec]; omega)
          apply ha
          rw [ec, ep, es, eA]
          unfold ad
          omega
      refine x_rm108 hc hq12 (by rw [fu_s]; have := hO1q.2.1; have := zc_pos (kd q - 1); omega) (fun e2 => ?_) (fun e2 => ?_)
      · rw [fu_s] at e2
        exact hK _ _ _ _ _ _ _ _ _ _ ⟨J0_F JL hq12 (by omega) (by rw [fu_s]; exact e2), O_rmE OI hc hq12 gO.2.1 (Or.inr eqq) (by omega) gp.2.1⟩ hkp
      · rw [fu_s] at e2
        have OO := O_rm OI hc hq12 gO.2.1 (Or.inr eqq) (by omega) gp.2.1
        rw [hid] at OO
        exact hK _ _ _ _ _ _ _ _ _ _ ⟨JL, OO⟩ hkp
end REMOVE
end
section
set_option maxRecDepth 100000
section NUMS
variable {P fp lc : Nat} {ls L pg pl kd pc ow ct op : Nat → Nat} {mem scr : Nat → Int32}
theorem ct_sum (kd : Nat → Nat) : ∀ n, (∀ p, p < n → kd p ≤ 4) → fb_ct (fun p => decide (0 < kd p)) n = fb_ct (fun p => decide (kd p = 0 + 1)) n + fb_ct (fun p => decide (kd p = 1 + 1)) n + fb_ct (fun p => decide (kd p = 2 + 1)) n + fb_ct (fun p => decide (kd p = 3 + 1)) n
  | 0, _ => rfl
  | n + 1, h => by
    have ih := ct_sum kd n (fun p hp => h p (by omega))
    have hn := h n (by omega)
    rw [fb_ct_succ, fb_ct_succ, fb_ct_succ, fb_ct_succ, fb_ct_succ, ih]
    rcases (show kd n = 0 ∨ kd n = 1 ∨ kd n = 2 ∨ kd n = 3 ∨ kd n = 4 by omega) with e | e | e | e | e <;> simp [e] <;> omega
/-- how many places of the open page of a kind are free -/
def zD (pc op : Nat → Nat) (c : Nat) : Nat := if 0 < op c then zc c - pc (op c - 1) else 0
theorem zD_0 {pc op : Nat → Nat} {c : Nat} (h : op c = 0) : zD pc op c = 0 := if_neg (by omega)
theorem iv_D (O : O0 kd pc op ct) {c : Nat} (hc : c < 4) : zc c * nP kd c = ct c + zD pc op c ∧ zD pc op c < zc c ∧ (0 < op c → 0 < zD pc op c ∧ zD pc op c = zc c - pc (op c - 1) ∧ 1 ≤ pc (op c - 1) ∧ pc (op c - 1) < zc c ∧ op c ≤ 12) := by
  obtain ⟨o1, o2, o3⟩ := O
  have z := zc_pos c
  refine ⟨o3 c hc, ?_, ?_⟩
  · unfold zD
    split
    · rename_i h
      have g := o2 c hc h
      have g1 := o1 (op c - 1) (by omega) (by omega)
      omega
    · omega
  · intro h
    have g := o2 c hc h
    have g1 := o1 (op c - 1) (by omega) (by omega)
    have e : zD pc op c = zc c - pc (op c - 1) := if_pos h
    omega
theorem iv_nd (I : IV P fp lc ls pg pl kd pc ow ct op) : fp + zn ct = P := by
  have d0 := iv_D I.2 (c := 0) (by omega)
  have d1 := iv_D I.2 (c := 1) (by omega)
  have d2 := iv_D I.2 (c := 2) (by omega)
  have d3 := iv_D I.2 (c := 3) (by omega)
  have s := ct_sum kd 12 (fun p hp => (I.1.2.2.1 p hp).1)
  have j := I.1.2.2.2.2.2.1.1
  rw [s] at j
  rw [zn_eq]
  simp only [show zc 0 = 8 from rfl, show zc 1 = 4 from rfl, show zc 2 = 2 from rfl, show zc 3 = 1 from rfl] at d0 d1 d2 d3
  unfold nP at d0 d1 d2 d3
  omega
theorem iv_up (I : IV P fp lc ls pg pl kd pc ow ct op) {c : Nat} (hc : c < 4) : zn (fu ct c (ct c + 1)) = zn ct + (if op c = 0 then 1 else 0) := by
  have d := iv_D I.2 hc
  have d0 := zD_0 (pc := pc) (op := op) (c := c)
  rw [zn_eq, zn_eq]
  by_cases e : op c = 0
  · have d1 := d0 e
    rw [if_pos e]
    rcases (show c = 0 ∨ c = 1 ∨ c = 2 ∨ c = 3 by omega) with rfl | rfl | rfl | rfl <;> simp [fu, zc] at * <;> omega
  · have d1 := d.2.2 (by omega)
    rw [if_neg e]
    rcases (show c = 0 ∨ c = 1 ∨ c = 2 ∨ c = 3 by omega) with rfl | rfl | rfl | rfl <;> simp [fu, zc] at * <;> omega
theorem iv_more (I : IV P fp lc ls pg pl kd pc ow ct op) {c : Nat} (hc : c < 4) (m : Nat) : zn (fu ct c (ct c + m)) ≤ P ↔ m ≤ fp * zc c + zD pc op c := by
  have d := iv_D I.2 hc
  have n := iv_nd I
  have d1 := d.1
  have d2 := d.2.1
  rw [zn_eq] at n ⊢
  generalize zD pc op c = D at *
  clear d I
  rcases (show c = 0 ∨ c = 1 ∨ c = 2 ∨ c = 3 by omega) with rfl | rfl | rfl | rfl <;> simp [fu, zc] at * <;> omega
theorem iv_sw (I : IV P fp lc ls pg pl kd pc ow ct op) {j k : Nat} (hj : j < 4) (hk : k < 4) (hne : k ≠ j) (h1 : 1 ≤ ct j) : zn (fu (fu ct j (ct j - 1)) k (ct k + 1)) + (if zD pc op j = zc j - 1 then 1 else 0) = zn ct + (if op k = 0 then 1 else 0) := by
  have dj := iv_D I.2 hj
  have dk := iv_D I.2 hk
  have d1 := dj.1
  have d2 := dj.2.1
  have k1 := dk.1
  have k2 := dk.2.1
  have k3 : (if op k = 0 then 1 else 0) = (if zD pc op k = 0 then 1 else 0) := by
    by_cases e : op k = 0
    · rw [if_pos e, if_pos (zD_0 e)]
    · have := dk.2.2 (by omega)
      rw [if_neg e, if_neg (by omega)]
  rw [k3, zn_eq, zn_eq]
  generalize zD pc op k = E at *
  generalize zD pc op j = D at *
  clear dj dk k3 I
  rcases (show j = 0 ∨ j = 1 ∨ j = 2 ∨ j = 3 by omega) with rfl | rfl | rfl | rfl <;> rcases (show k = 0 ∨ k = 1 ∨ k = 2 ∨ k = 3 by omega) with rfl | rfl | rfl | rfl <;> simp [fu, zc] at * <;> (repeat' split) <;> omega
theorem zn_pos {N : Nat → Nat} {c : Nat} (hc : c < 4) (h : 1 ≤ N c) : 1 ≤ zn N := by
  rw [zn_eq]
  rcases (show c = 0 ∨ c = 1 ∨ c = 2 ∨ c = 3 by omega) with rfl | rfl | rfl | rfl <;> omega
theorem x_ndB58 (I : IV P fp lc ls pg pl kd pc ow ct op) {k v : Nat} {K : Int32 → St → Prop} (hk : k < 4) (hK : K (nI (v + if op k = 0 then 1 else 0)) (mkX P fp lc ls pg pl kd pc ow ct op mem scr)) : X1_neededAfter_B58 K (nI k) (nI (zc k)) (nI v) (mkX P fp lc ls pg pl kd pc ow ct op mem scr) := by
  have d := iv_D I.2 hk
  have z := zc_pos k
  have hb : op k ≤ 12 := by
    rcases Nat.eq_zero_or_pos (op k) with e | e
    · omega
    · exact (d.2.2 e).2.2.2.2
  unfold X1_neededAfter_B58
  refine ⟨k, rfl, hk, pk_none (op k) (fun e => ?_) (fun e => ⟨k, rfl, hk, op k - 1, nI_dec e, by omega, ?_⟩)⟩
  · rintro _ rfl
    rw [if_pos e] at hK
    rw [nI_1]
    exact hK
  · have d3 := d.2.2 e
    rw [if_neg (by omega)] at hK
    exact pk_eq (pc (op k - 1)) (zc k) (fun a => absurd a (by omega)) (fun _ => hK)
theorem x_needA (I : IV P fp lc ls pg pl kd pc ow ct op) {j k : Nat} {K : Int32 → St → Prop} (hj : j < 4) (hk : k < 4) (hne : k ≠ j) (h1 : 1 ≤ ct j) (hK : K (nI (zn (fu (fu ct j (ct j - 1)) k (ct k + 1)))) (mkX P fp lc ls pg pl kd pc ow ct op mem scr)) : X1_neededAfter (nI j) (nI k) (mkX P fp lc ls pg pl kd pc ow ct op mem scr) K := by
  have sw := iv_sw I hj hk hne h1
  have n := iv_nd I
  have dj := iv_D I.2 hj
  have zj := zc_pos j
  have zp := zn_pos hj h1
  have hb : op j ≤ 12 := by
    rcases Nat.eq_zero_or_pos (op j) with e | e
    · omega
    · exact (dj.2.2 e).2.2.2.2
  have b55 : zD pc op j = zc j - 1 → X1_neededAfter_B55 K (nI k) (nI (zc k)) (nI (zn ct)) (mkX P fp lc ls pg pl kd pc ow ct op mem scr) := by
    intro e
    unfold X1_neededAfter_B55
    rintro _ rfl
    obtain ⟨v, ev⟩ : ∃ v, zn ct = v + 1 := ⟨zn ct - 1, by omega⟩
    rw [ev, pk_m1]
    refine x_ndB58 I hk ?_
    rw [if_pos e] at sw
    rw [show (v + if op k = 0 then 1 else 0) = zn (fu (fu ct j (ct j - 1)) k (ct k + 1)) by omega]
    exact hK
  have b58 : zD pc op j ≠ zc j - 1 → X1_neededAfter_B58 K (nI k) (nI (zc k)) (nI (zn ct)) (mkX P fp lc ls pg pl kd pc ow ct op mem scr) := by
    intro e
    refine x_ndB58 I hk ?_
    rw [if_neg e, Nat.add_zero] at sw
    rw [← sw]
    exact hK
  unfold X1_neededAfter
  refine x_cap hj (x_cap hk ?_)
  rintro _ rfl
  rw [show mkX P fp lc ls pg pl kd pc ow ct op mem scr 10 0 - mkX P fp lc ls pg pl kd pc ow ct op mem scr 10 1 = nI (zn ct) from (pk_sub (a := P) (b := fp) (by omega)).trans (congrArg nI (by omega))]
  refine ⟨j, rfl, hj, pk_none (op j) (fun e => ?_) (fun e => ⟨j, rfl, hj, op j - 1, nI_dec e, by omega, ?_⟩)⟩
  · have e0 := zD_0 (pc := pc) e
    exact pk_eq (zc j) 1 (fun a => b55 (by omega)) (fun a => b58 (by omega))
  · have d3 := dj.2.2 e
    exact pk_eq (pc (op j - 1)) 1 (fun a => b55 (by omega)) (fun a => b58 (by omega))
end NUMS
end
section
set_option maxRecDepth 100000
/-! the two states side by side -/
def MM (ls pg pl : Nat → Nat) (mem wd : Nat → Int32) : Prop := ∀ h, h < 64 → ∀ k, k < 16 → wd (16 * h + k) = if k < ls h then mem (ad (pg h) (pl h) (zk (ls h)) k) else 0
def RR (σ τ : St) : Prop := ∃ (P fp lc : Nat) (ls pg pl kd pc ow ct op : Nat → Nat) (mem scr wd : Nat → Int32), σ = (mkX P fp lc ls pg pl kd pc ow ct op mem scr) ∧ τ = (mkM P ls wd) ∧ IV P fp lc ls pg pl kd pc ow ct op ∧ MM ls pg pl mem wd
theorem one_ne : ¬ (1 : Int32) = 0 := by decide +kernel
section SIMA
variable {P fp lc : Nat} {ls pg pl kd pc ow ct op : Nat → Nat} {mem scr wd : Nat → Int32}
theorem RR_mk (I : IV P fp lc ls pg pl kd pc ow ct op) (M : MM ls pg pl mem wd) : RR (mkX P fp lc ls pg pl kd pc ow ct op mem scr) (mkM P ls wd) := ⟨P, fp, lc, ls, pg, pl, kd, pc, ow, ct, op, mem, scr, wd, rfl, rfl, I, M⟩
theorem s_pages (I : IV P fp lc ls pg pl kd pc ow ct op) (M : MM ls pg pl mem wd) : X1_pages (mkX P fp lc ls pg pl kd pc ow ct op mem scr) (fun r1 σ1 => X2_pages (mkM P ls wd) (fun r2 τ1 => r1 = r2 ∧ RR σ1 τ1)) := by
  unfold X1_pages X2_pages
  exact ⟨rfl, RR_mk I M⟩
theorem s_read (I : IV P fp lc ls pg pl kd pc ow ct op) (M : MM ls pg pl mem wd) (x1 x2 : Int32) : X1_read x1 x2 (mkX P fp lc ls pg pl kd pc ow ct op mem scr) (fun r1 σ1 => X2_read x1 x2 (mkM P ls wd) (fun r2 τ1 => r1 = r2 ∧ RR σ1 τ1)) := by
  unfold X1_read X2_read
  rcases gd_or ls x1 with ⟨h, hh, rfl, hl⟩ | hb
  · obtain ⟨g1, g2, g3, g4, g5, g6, g7, g8, g9⟩ := zlv I.1 hh hl
    refine x_good1 hh hl g6 (br_f one_ne ?_)
    by_cases hx : x2 < 0
    · refine br_t hx ?_
      exact m_bad0 hh hl g6 (br_t rfl (br_t hx ⟨rfl, RR_mk I M⟩))
    · refine br_f hx ?_
      obtain ⟨k, hk, rfl⟩ := nI_of hx
      refine ⟨h, rfl, hh, pk_le (ls h) k (fun a => ?_) (fun a => ?_)⟩
      · refine m_bad0 hh hl g6 (br_t rfl (br_f hx ⟨h, rfl, hh, ?_⟩))
        exact pk_lt k (ls h) (fun b => absurd b (by omega)) (fun _ => ⟨rfl, RR_mk I M⟩)
      · refine x_word hh g1 g2 g3 g4 (by omega) ?_
        refine m_bad0 hh hl g6 (br_t rfl (br_f hx ⟨h, rfl, hh, ?_⟩))
        refine pk_lt k (ls h) (fun _ => ⟨16 * h + k, m16 h k, by omega, ?_, RR_mk I M⟩) (fun b => absurd b (by omega))
        exact ((M h hh k (by omega)).trans (if_pos a)).symm
  · exact x_good0 hb (br_t rfl (m_bad1 hb (br_f one_ne ⟨rfl, RR_mk I M⟩)))
theorem s_size (I : IV P fp lc ls pg pl kd pc ow ct op) (M : MM ls pg pl mem wd) (x1 : Int32) : X1_size x1 (mkX P fp lc ls pg pl kd pc ow ct op mem scr) (fun r1 σ1 => X2_size x1 (mkM P ls wd) (fun r2 τ1 => r1 = r2 ∧ RR σ1 τ1)) := by
  unfold X1_size X2_size
  rcases gd_or ls x1 with ⟨h, hh, rfl, hl⟩ | hb
  · have g6 := (zlv I.1 hh hl).2.2.2.2.2.1
    refine x_good1 hh hl g6 (br_f one_ne ⟨h, rfl, hh, ?_⟩)
    exact m_bad0 hh hl g6 (br_t rfl ⟨h, rfl, hh, rfl, RR_mk I M⟩)
  · exact x_good0 hb (br_t rfl (m_bad1 hb (br_f one_ne ⟨rfl, RR_mk I M⟩)))
theorem m_live {K : Int32 → St → Prop} (h7 : J7 ls) (hK : K (nI (cntL ls)) (mkM P ls wd)) : X2_live (mkM P ls wd) K := by
  have key : ∀ d i : Nat, i + d = 64 → X2_live_L4 K (d + 1) (nI (fb_ct (fun h => decide (0 < ls h)) i)) (nI i) (mkM P ls wd) := by
    intro d
    induction d with
    | zero =>
      intro i e
      have ei : i = 64 := by omega
      subst ei
      rw [X2_live_L4]
      exact br_t (show nI 64 ≤ nI 64 from nI_le (Nat.le_refl _) (by omega)) hK
    | succ d ih =>
      intro i e
      have h6 := h7 i (by omega)
      have hn := ih (i + 1) (by omega)
      rw [fb_ct_succ] at hn
      rw [X2_live_L4]
      refine br_f (show ¬ nI 64 ≤ nI i from nI_ge (by omega) (by omega)) ⟨i, rfl, by omega, ?_⟩
      refine pk_le (ls i) 0 (fun q => ?_) (fun q => ?_)
      · rintro _ rfl
        rw [nI_1]
        rw [if_neg (by simp; omega)] at hn
        exact hn
      · rintro _ rfl _ rfl
        rw [nI_1, nI_1]
        rw [if_pos (by simp [q])] at hn
        exact hn
  exact ⟨65, key 64 0 (by omega)⟩
theorem s_live (I : IV P fp lc ls pg pl kd pc ow ct op) (M : MM ls pg pl mem wd) : X1_live (mkX P fp lc ls pg pl kd pc ow ct op mem scr) (fun r1 σ1 => X2_live (mkM P ls wd) (fun r2 τ1 => r1 = r2 ∧ RR σ1 τ1)) := by
  unfold X1_live
  exact m_live I.1.2.2.2.2.2.2 ⟨congrArg nI I.1.2.2.2.2.1.2, RR_mk I M⟩
theorem s_liveIn (I : IV P fp lc ls pg pl kd pc ow ct op) (M : MM ls pg pl mem wd) (x1 : Int32) : X1_liveIn x1 (mkX P fp lc ls pg pl kd pc ow ct op mem scr) (fun r1 σ1 => X2_liveIn x1 (mkM P ls wd) (fun r2 τ1 => r1 = r2 ∧ RR σ1 τ1)) := by
  unfold X1_liveIn X2_liveIn
  rcases kd_or x1 with ⟨c, hc, rfl⟩ | hb
  · refine x_kd1 hc (br_f one_ne ⟨c, rfl, hc, ?_⟩)
    refine br_f (nI_pos (by omega)) (br_t (show nI c ≤ nI 3 from nI_le (by omega) (by omega)) ?_)
    exact m_alive hc I.1.2.2.2.2.2.2 ⟨congrArg nI (I.1.2.2.2.2.1.1 c hc), RR_mk I M⟩
  · refine x_kd0 hb (br_t rfl ?_)
    rcases hb with h | ⟨h1, h2⟩
    · exact br_t h ⟨rfl, RR_mk I M⟩
    · refine br_f h1 (br_f ?_ ⟨rfl, RR_mk I M⟩)
      rw [Int32.lt_iff_toInt_lt] at h2
      rw [Int32.le_iff_toInt_le]
      omega
theorem s_needed (I : IV P fp lc ls pg pl kd pc ow ct op) (M : MM ls pg pl mem wd) : X1_needed (mkX P fp lc ls pg pl kd pc ow ct op mem scr) (fun r1 σ1 => X2_needed (mkM P ls wd) (fun r2 τ1 => r1 = r2 ∧ RR σ1 τ1)) := by
  unfold X1_needed X2_needed
  have n := iv_nd I
  refine m_none I.1.2.2.2.2.2.2 I.1.2.2.2.2.1.1 ⟨?_, RR_mk I M⟩
  exact (pk_sub (a := P) (b := fp) (by omega)).trans (congrArg nI (by omega))
theorem iv_T (I : IV P fp lc ls pg pl kd pc ow ct op) {c : Nat} (hc : c < 4) : fp * zc c + zD pc op c ≤ 96 := by
  refine Classical.byContradiction fun hx => ?_
  have a := (iv_more I hc 97).mpr (by omega)
  have b := I.1.2.2.2.2.2.1.2.2
  rw [zn_eq] at a
  clear hx I
  rcases (show c = 0 ∨ c = 1 ∨ c = 2 ∨ c = 3 by omega) with rfl | rfl | rfl | rfl <;> simp [fu] at a <;> omega
theorem m_room (I : IV P fp lc ls pg pl kd pc ow ct op) {c : Nat} {K : Int32 → St → Prop} (hc : c < 4) (hK : K (nI (fp * zc c + zD pc op c)) (mkM P ls wd)) : X2_roomFor (nI c) (mkM P ls wd) K := by
  have hT := iv_T I hc
  have hP := I.1.2.2.2.2.2.1.2.2
  have key : ∀ d i : Nat, i + d = 97 → 1 ≤ i → X2_roomFor_L15 K (d + 1) (nI c) (nI (min (i - 1) (fp * zc c + zD pc op c))) (nI i) (mkM P ls wd) := by
    intro d
    induction d with
    | zero =>
      intro i e h1
      have ei : i = 97 := by omega
      subst ei
      rw [X2_roomFor_L15, show min (97 - 1) (fp * zc c + zD pc op c) = fp * zc c + zD pc op c by omega]
      exact br_t (show nI 96 < nI 97 from nI_lt (by omega) (by omega)) hK
    | succ d ih =>
      intro i e h1
      have hn := ih (i + 1) (by omega) (by omega)
      rw [Nat.add_sub_cancel] at hn
      have hm := iv_more I hc i
      have hz : zn (fu ct c (ct c + i)) < 2 ^ 31 := by
        have a := cntK_le ls
        have b := I.1.2.2.2.2.1.1
        have b0 := b 0 (by omega)
        have b1 := b 1 (by omega)
        have b2 := b 2 (by omega)
        have b3 := b 3 (by omega)
        have a0 := a 0
        have a1 := a 1
        have a2 := a 2
        have a3 := a 3
        have bc := b c hc
        have ac := a c
        rw [zn_eq]
        unfold fu
        (repeat' split) <;> omega
      rw [X2_roomFor_L15]
      refine br_f (show ¬ nI 96 < nI i from nI_nlt (by omega) (by omega)) ?_
      refine m_more I.1.2.2.2.2.2.2 hc (by omega) I.1.2.2.2.2.1.1 ?_
      refine pk_lt P (zn (fu ct c (ct c + i))) (fun q => ?_) (fun q => ?_)
      · rintro _ rfl
        rw [nI_1]
        rw [show min i (fp * zc c + zD pc op c) = min (i - 1) (fp * zc c + zD pc op c) by omega] at hn
        exact hn
      · rintro _ rfl
        rw [nI_1]
        rw [show min i (fp * zc c + zD pc op c) = i by omega] at hn
        exact hn
  unfold X2_roomFor
  refine br_f (nI_pos (by omega)) (br_t (show nI c ≤ nI 3 from nI_le (by omega) (by omega)) ⟨97, ?_⟩)
  have k1 := key 96 1 (by omega) (by omega)
  rw [show min (1 - 1) (fp * zc c + zD pc op c) = 0 by omega] at k1
  exact k1
theorem s_roomFor (I : IV P fp lc ls pg pl kd pc ow ct op) (M : MM ls pg pl mem wd) (x1 : Int32) : X1_roomFor x1 (mkX P fp lc ls pg pl kd pc ow ct op mem scr) (fun r1 σ1 => X2_roomFor x1 (mkM P ls wd) (fun r2 τ1 => r1 = r2 ∧ RR σ1 τ1)) := by
  unfold X1_roomFor
  rcases kd_or x1 with ⟨c, hc, rfl⟩ | hb
  · have d := iv_D I.2 hc
    have hb : op c ≤ 12 := by
      rcases Nat.eq_zero_or_pos (op c) with e | e
      · omega
      · exact (d.2.2 e).2.2.2.2
    refine x_kd1 hc (br_f one_ne (x_cap hc ?_))
    rintro _ rfl
    rw [show mkX P fp lc ls pg pl kd pc ow ct op mem scr 10 1 * nI (zc c) = nI (fp * zc c) from pk_mul fp (zc c)]
    refine ⟨c, rfl, hc, pk_none (op c) (fun e => ?_) (fun e => ⟨c, rfl, hc, op c - 1, nI_dec e, by omega, ?_⟩)⟩
    · refine m_room I hc ⟨?_, RR_mk I M⟩
      rw [zD_0 e, Nat.add_zero]
    · rintro _ rfl
      have d3 := d.2.2 e
      refine m_room I hc ⟨?_, RR_mk I M⟩
      show nI (fp * zc c) + (nI (zc c) - nI (pc (op c - 1))) = _
      rw [pk_sub (by omega), nI_add, d3.2.1]
  · refine x_kd0 hb (br_t rfl ?_)
    unfold X2_roomFor
    rcases hb with h | ⟨h1, h2⟩
    · exact br_t h ⟨rfl, RR_mk I M⟩
    · refine br_f h1 (br_f ?_ ⟨rfl, RR_mk I M⟩)
      rw [Int32.lt_iff_toInt_lt] at h2
      rw [Int32.le_iff_toInt_le]
      omega
end SIMA
end
section
set_option maxRecDepth 100000
/-- a running sum of ints -/
def zs (f : Nat → Int32) : Nat → Int32
  | 0 => 0
  | n + 1 => zs f n + f n
theorem zs_succ (f : Nat → Int32) (n : Nat) : zs f (n + 1) = zs f n + f n := rfl
theorem zs_zero (f : Nat → Int32) (n : Nat) : ∀ d, (∀ k, n ≤ k → k < n + d → f k = 0) → zs f (n + d) = zs f n
  | 0, _ => rfl
  | d + 1, h => by
    have ih := zs_zero f n d (fun k h1 h2 => h k h1 (by omega))
    show zs f (n + d) + f (n + d) = _
    rw [ih, h (n + d) (by omega) (by omega), Int32.add_zero]
/-- a running sum of numbers -/
def zt (f : Nat → Nat) : Nat → Nat
  | 0 => 0
  | n + 1 => zt f n + f n
theorem zt_succ (f : Nat → Nat) (n : Nat) : zt f (n + 1) = zt f n + f n := rfl
section SIMB
variable {P fp lc : Nat} {ls pg pl kd pc ow ct op : Nat → Nat} {mem scr wd : Nat → Int32}
theorem MM_get (M : MM ls pg pl mem wd) {h k : Nat} (hh : h < 64) (hk : k < 16) (hl : k < ls h) : mem (ad (pg h) (pl h) (zk (ls h)) k) = wd (16 * h + k) := ((M h hh k hk).trans (if_pos hl)).symm
/-- one object's words are written -/
theorem MM_obj (I : IV P fp lc ls pg pl kd pc ow ct op) (M : MM ls pg pl mem wd) {h : Nat} {f : Nat → Int32} {mem' wd' : Nat → Int32} (hh : h < 64) (hl : 0 < ls h)
    (hm : ∀ a, mem' a = if 16 * pg h + pl h * zw (zk (ls h)) ≤ a ∧ a < 16 * pg h + pl h * zw (zk (ls h)) + ls h then f (a - (16 * pg h + pl h * zw (zk (ls h)))) else mem a)
    (hw : ∀ a, wd' a = if 16 * h ≤ a ∧ a < 16 * h + ls h then f (a - 16 * h) else wd a) : MM ls pg pl mem' wd' := by
  obtain ⟨g1, g2, g3, g4, g5, g6, g7, g8, g9⟩ := zlv I.1 hh hl
  intro x hx k hk
  by_cases e : x = h
  · subst e
    rw [hw]
    by_cases ek : k < ls x
    · rw [if_pos (by omega), if_pos ek, hm, if_pos (by unfold ad; omega)]
      congr 1
      unfold ad
      omega
    · rw [if_neg (by omega), M x hx k hk, if_neg ek, if_neg ek]
  · rw [hw, if_neg (by omega), M x hx k hk]
    by_cases ek : k < ls x
    · obtain ⟨y1, y2, y3, y4, y5, y6, y7, y8, y9⟩ := zlv I.1 hx (show 0 < ls x by omega)
      rw [if_pos ek, if_pos ek, hm, if_neg]
      intro hin
      obtain ⟨A, eA⟩ : ∃ A, ad (pg x) (pl x) (zk (ls x)) k = A := ⟨_, rfl⟩
      rw [eA] at hin
      have ha := ad_ne I.1 hx (show 0 < ls x by omega) hh hl e (k := k) (by omega) (k' := A - (16 * pg h + pl h * zw (zk (ls h)))) (by omega)
      apply ha
      rw [eA]
      unfold ad
      omega
    · rw [if_neg ek, if_neg ek]
theorem s_write (I : IV P fp lc ls pg pl kd pc ow ct op) (M : MM ls pg pl mem wd) (x1 x2 x3 : Int32) : X1_write x1 x2 x3 (mkX P fp lc ls pg pl kd pc ow ct op mem scr) (fun r1 σ1 => X2_write x1 x2 x3 (mkM P ls wd) (fun r2 τ1 => r1 = r2 ∧ RR σ1 τ1)) := by
  unfold X1_write X2_write
  rcases gd_or ls x1 with ⟨h, hh, rfl, hl⟩ | hb
  · obtain ⟨g1, g2, g3, g4, g5, g6, g7, g8, g9⟩ := zlv I.1 hh hl
    refine x_good1 hh hl g6 (br_f one_ne ?_)
    by_cases hx : x2 < 0
    · refine br_t hx ?_
      exact m_bad0 hh hl g6 (br_t rfl (br_t hx ⟨rfl, RR_mk I M⟩))
    · refine br_f hx ?_
      obtain ⟨k, hk, rfl⟩ := nI_of hx
      refine ⟨h, rfl, hh, pk_lt k (ls h) (fun a => ?_) (fun a => ?_)⟩
      · refine x_base hh g1 g2 g3 g4 ?_
        refine ⟨16 * pg h + pl h * zw (zk (ls h)) + k, nI_add _ _, by omega, ?_⟩
        rintro _ rfl
        rw [mu_0]
        refine m_bad0 hh hl g6 (br_t rfl (br_f hx ⟨h, rfl, hh, ?_⟩))
        refine pk_lt k (ls h) (fun _ => ⟨16 * h + k, m16 h k, by omega, ?_⟩) (fun b => absurd b (by omega))
        rintro _ rfl
        rw [mm_1]
        refine ⟨rfl, RR_mk I (MM_obj I M hh hl (f := fun i => if i = k then x3 else wd (16 * h + i)) (fun b => ?_) (fun b => ?_))⟩
        · unfold upd
          by_cases e : b = 16 * pg h + pl h * zw (zk (ls h)) + k
          · rw [if_pos e, if_pos (by omega), if_pos (by omega)]
          · rw [if_neg e]
            by_cases e2 : 16 * pg h + pl h * zw (zk (ls h)) ≤ b ∧ b < 16 * pg h + pl h * zw (zk (ls h)) + ls h
            · rw [if_pos e2, if_neg (by omega), ← MM_get M hh (by omega) (by omega)]
              congr 1
              unfold ad
              omega
            · rw [if_neg e2]
        · unfold upd
          by_cases e : b = 16 * h + k
          · rw [if_pos e, if_pos (by omega), if_pos (by omega)]
          · rw [if_neg e]
            by_cases e2 : 16 * h ≤ b ∧ b < 16 * h + ls h
            · rw [if_pos e2, if_neg (by omega)]
              congr 1
              omega
            · rw [if_neg e2]
      · refine m_bad0 hh hl g6 (br_t rfl (br_f hx ⟨h, rfl, hh, ?_⟩))
        exact pk_lt k (ls h) (fun b => absurd b (by omega)) (fun _ => ⟨rfl, RR_mk I M⟩)
  · exact x_good0 hb (br_t rfl (m_bad1 hb (br_f one_ne ⟨rfl, RR_mk I M⟩)))
theorem x_fillL {h B : Nat} {v st : Int32} {K : Int32 → St → Prop} (hh : h < 64) (h6 : ls h ≤ 16) (hB : B + ls h ≤ 192)
    (hK : ∀ m' : Nat → Int32, (∀ a, m' a = if B ≤ a ∧ a < B + ls h then v + nI (a - B) * st else mem a) → K (nI (ls h)) (mkX P fp lc ls pg pl kd pc ow ct op m' scr)) :
    ∀ (d i : Nat) (m : Nat → Int32), i + d = ls h → (∀ a, m a = if B ≤ a ∧ a < B + i then v + nI (a - B) * st else mem a) → X1_fill_L20 K (d + 1) (nI h) v st (nI B) (nI i) (mkX P fp lc ls pg pl kd pc ow ct op m scr) := by
  intro d
  induction d with
  | zero =>
    intro i m e hm
    have ei : i = ls h := by omega
    subst ei
    rw [X1_fill_L20]
    refine ⟨h, rfl, hh, pk_le (ls h) (ls h) (fun _ => ⟨h, rfl, hh, hK m hm⟩) (fun b => absurd b (by omega))⟩
  | succ d ih =>
    intro i m e hm
    rw [X1_fill_L20]
    refine ⟨h, rfl, hh, pk_le (ls h) i (fun b => absurd b (by omega)) (fun _ => ⟨B + i, nI_add B i, by omega, ?_⟩)⟩
    rintro _ rfl _ rfl
    rw [mu_0, nI_1]
    refine ih (i + 1) _ (by omega) (fun a => ?_)
    unfold upd
    by_cases ea : a = B + i
    · rw [if_pos ea, if_pos (by omega), ea, Nat.add_sub_cancel_left]
    · rw [if_neg ea, hm a]
      by_cases eb : B ≤ a ∧ a < B + i
      · rw [if_pos eb, if_pos (by omega)]
      · rw [if_neg eb, if_neg (by omega)]
theorem m_fillL {h : Nat} {v st : Int32} {K : Int32 → St → Prop} (hh : h < 64) (h6 : ls h ≤ 16)
    (hK : ∀ w' : Nat → Int32, (∀ a, w' a = if 16 * h ≤ a ∧ a < 16 * h + ls h then v + nI (a - 16 * h) * st else wd a) → K (nI (ls h)) (mkM P ls w')) :
    ∀ (d i : Nat) (w : Nat → Int32), i + d = ls h → (∀ a, w a = if 16 * h ≤ a ∧ a < 16 * h + i then v + nI (a - 16 * h) * st else wd a) → X2_fill_L13 K (d + 1) (nI h) v st (nI i) (mkM P ls w) := by
  intro d
  induction d with
  | zero =>
    intro i w e hw
    have ei : i = ls h := by omega
    subst ei
    rw [X2_fill_L13]
    refine ⟨h, rfl, hh, pk_le (ls h) (ls h) (fun _ => ⟨h, rfl, hh, hK w hw⟩) (fun b => absurd b (by omega))⟩
  | succ d ih =>
    intro i w e hw
    rw [X2_fill_L13]
    refine ⟨h, rfl, hh, pk_le (ls h) i (fun b => absurd b (by omega)) (fun _ => br_f (show ¬ nI 16 ≤ nI i from nI_ge (by omega) (by omega)) ⟨16 * h + i, m16 h i, by omega, ?_⟩)⟩
    rintro _ rfl _ rfl
    rw [mm_1, nI_1]
    refine ih (i + 1) _ (by omega) (fun a => ?_)
    unfold upd
    by_cases ea : a = 16 * h + i
    · rw [if_pos ea, if_pos (by omega), ea, Nat.add_sub_cancel_left]
    · rw [if_neg ea, hw a]
      by_cases eb : 16 * h ≤ a ∧ a < 16 * h + i
      · rw [if_pos eb, if_pos (by omega)]
      · rw [if_neg eb, if_neg (by omega)]
theorem s_fill (I : IV P fp lc ls pg pl kd pc ow ct op) (M : MM ls pg pl mem wd) (x1 x2 x3 : Int32) : X1_fill x1 x2 x3 (mkX P fp lc ls pg pl kd pc ow ct op mem scr) (fun r1 σ1 => X2_fill x1 x2 x3 (mkM P ls wd) (fun r2 τ1 => r1 = r2 ∧ RR σ1 τ1)) := by
  unfold X1_fill X2_fill
  rcases gd_or ls x1 with ⟨h, hh, rfl, hl⟩ | hb
  · obtain ⟨g1, g2, g3, g4, g5, g6, g7, g8, g9⟩ := zlv I.1 hh hl
    refine x_good1 hh hl g6 (br_f one_ne (x_base hh g1 g2 g3 g4 ⟨ls h + 1, ?_⟩))
    refine x_fillL hh g6 (by omega) (fun m' hm => ?_) (ls h) 0 mem (by omega) (fun a => (if_neg (by omega)).symm)
    refine m_bad0 hh hl g6 (br_t rfl ⟨ls h + 1, ?_⟩)
    refine m_fillL hh g6 (fun w' hw => ?_) (ls h) 0 wd (by omega) (fun a => (if_neg (by omega)).symm)
    exact ⟨rfl, RR_mk I (MM_obj I M hh hl (f := fun i => x2 + nI i * x3) hm hw)⟩
  · exact x_good0 hb (br_t rfl (m_bad1 hb (br_f one_ne ⟨rfl, RR_mk I M⟩)))
theorem s_sum (I : IV P fp lc ls pg pl kd pc ow ct op) (M : MM ls pg pl mem wd) (x1 : Int32) : X1_sum x1 (mkX P fp lc ls pg pl kd pc ow ct op mem scr) (fun r1 σ1 => X2_sum x1 (mkM P ls wd) (fun r2 τ1 => r1 = r2 ∧ RR σ1 τ1)) := by
  unfold X1_sum X2_sum
  rcases gd_or ls x1 with ⟨h, hh, rfl, hl⟩ | hb
  · obtain ⟨g1, g2, g3, g4, g5, g6, g7, g8, g9⟩ := zlv I.1 hh hl
    have key : ∀ (K : Int32 → St → Prop), K (zs (fun k => wd (16 * h + k)) (ls h)) (mkX P fp lc ls pg pl kd pc ow ct op mem scr) → ∀ d i : Nat, i + d = ls h → X1_sum_L14 K (d + 1) (nI h) (zs (fun k => wd (16 * h + k)) i) (nI i) (mkX P fp lc ls pg pl kd pc ow ct op mem scr) := by
      intro K hK d
      induction d with
      | zero =>
        intro i e
        have ei : i = ls h := by omega
        subst ei
        rw [X1_sum_L14]
        exact ⟨h, rfl, hh, pk_le (ls h) (ls h) (fun _ => hK) (fun b => absurd b (by omega))⟩
      | succ d ih =>
        intro i e
        rw [X1_sum_L14]
        refine ⟨h, rfl, hh, pk_le (ls h) i (fun b => absurd b (by omega)) (fun _ => x_word hh g1 g2 g3 g4 (by omega) ?_)⟩
        rintro _ rfl _ rfl
        rw [nI_1, MM_get M hh (by omega) (by omega)]
        exact ih (i + 1) (by omega)
    have key2 : ∀ (K : Int32 → St → Prop), K (zs (fun k => wd (16 * h + k)) 16) (mkM P ls wd) → ∀ d i : Nat, i + d = 16 → X2_sum_L14 K (d + 1) (nI h) (zs (fun k => wd (16 * h + k)) i) (nI i) (mkM P ls wd) := by
      intro K hK d
      induction d with
      | zero =>
        intro i e
        have ei : i = 16 := by omega
        subst ei
        rw [X2_sum_L14]
        exact br_t (show nI 16 ≤ nI 16 from nI_le (Nat.le_refl _) (by omega)) hK
      | succ d ih =>
        intro i e
        rw [X2_sum_L14]
        refine br_f (show ¬ nI 16 ≤ nI i from nI_ge (by omega) (by omega)) ⟨16 * h + i, m16 h i, by omega, ?_⟩
        rintro _ rfl _ rfl
        rw [nI_1]
        exact ih (i + 1) (by omega)
    have hz : zs (fun k => wd (16 * h + k)) 16 = zs (fun k => wd (16 * h + k)) (ls h) := by
      have := zs_zero (fun k => wd (16 * h + k)) (ls h) (16 - ls h) (fun k h1 h2 => (M h hh k (by omega)).trans (if_neg (by omega)))
      rwa [Nat.add_sub_cancel' g6] at this
    refine x_good1 hh hl g6 (br_f one_ne ⟨ls h + 1, key _ ?_ (ls h) 0 (by omega)⟩)
    refine m_bad0 hh hl g6 (br_t rfl ⟨17, key2 _ ?_ 16 0 (by omega)⟩)
    exact ⟨hz.symm, RR_mk I M⟩
  · exact x_good0 hb (br_t rfl (m_bad1 hb (br_f one_ne ⟨rfl, RR_mk I M⟩)))
theorem next_from (x : Int32) : ∃ f : Nat, f < 2 ^ 31 ∧ (∀ i, i < 64 → (nI i < x ↔ i < f)) ∧ (0 ≤ x → x = nI f) ∧ (¬ 0 ≤ x → f = 0) := by
  by_cases h : x < 0
  · refine ⟨0, by omega, fun i hi => ⟨fun a => ?_, fun a => absurd a (Nat.not_lt_zero i)⟩, fun a => ?_, fun _ => rfl⟩
    · have p := nI_pos' (n := i) (by omega)
      rw [Int32.lt_iff_toInt_lt] at h a
      rw [Int32.le_iff_toInt_le] at p
      omega
    · rw [Int32.lt_iff_toInt_lt] at h
      rw [Int32.le_iff_toInt_le] at a
      omega
  · obtain ⟨f, hf, rfl⟩ := nI_of h
    exact ⟨f, hf, fun i hi => nI_ltI (by omega) hf, fun _ => rfl, fun a => absurd (nI_pos' hf) a⟩
theorem s_next (I : IV P fp lc ls pg pl kd pc ow ct op) (M : MM ls pg pl mem wd) (x1 : Int32) : X1_next x1 (mkX P fp lc ls pg pl kd pc ow ct op mem scr) (fun r1 σ1 => X2_next x1 (mkM P ls wd) (fun r2 τ1 => r1 = r2 ∧ RR σ1 τ1)) := by
  obtain ⟨f, hf, hlt, hge, hneg⟩ := next_from x1
  have h7 := I.1.2.2.2.2.2.2
  have go : ∀ (K : Int32 → St → Prop), (∃ n, X1_next_L10 K n (nI f) (mkX P fp lc ls pg pl kd pc ow ct op mem scr)) → X1_next x1 (mkX P fp lc ls pg pl kd pc ow ct op mem scr) K := by
    intro K hK
    unfold X1_next
    refine ⟨fun a => ?_, fun a => ?_⟩
    · rw [hge a]; exact hK
    · have e := hneg a
      subst e
      exact hK
  by_cases hex : ∃ h, f ≤ h ∧ h < 64 ∧ 0 < ls h
  · obtain ⟨h, ⟨hfh, hh, hl⟩, hleast⟩ := pk_least (fun h => f ≤ h ∧ h < 64 ∧ 0 < ls h) hex
    have dead : ∀ j, f ≤ j → j < h → ls j = 0 := fun j h1 h2 => Nat.eq_zero_of_not_pos (fun z => hleast j h2 ⟨h1, by omega, z⟩)
    have k1 : ∀ (K : Int32 → St → Prop), K (nI h) (mkX P fp lc ls pg pl kd pc ow ct op mem scr) → ∀ d i : Nat, i + d = h → f ≤ i → X1_next_L10 K (d + 1) (nI i) (mkX P fp lc ls pg pl kd pc ow ct op mem scr) := by
      intro K hK d
      induction d with
      | zero =>
        intro i e hi
        have ei : i = h := by omega
        subst ei
        have h6 := h7 i hh
        rw [X1_next_L10]
        refine br_f (show ¬ nI 64 ≤ nI i from nI_ge (by omega) (by omega)) ⟨i, rfl, hh, ?_⟩
        exact pk_le (ls i) 0 (fun b => absurd b (by omega)) (fun _ => hK)
      | succ d ih =>
        intro i e hi
        have h6 := dead i hi (by omega)
        rw [X1_next_L10]
        refine br_f (show ¬ nI 64 ≤ nI i from nI_ge (by omega) (by omega)) ⟨i, rfl, by omega, ?_⟩
        refine pk_le (ls i) 0 (fun _ => ?_) (fun b => absurd b (by omega))
        rintro _ rfl
        rw [nI_1]
        exact ih (i + 1) (by omega) (by omega)
    have k2 : ∀ (K : Int32 → St → Prop), K (nI h) (mkM P ls wd) → ∀ d i : Nat, i + d = h → X2_next_L2 K (d + 1) x1 (nI i) (mkM P ls wd) := by
      intro K hK d
      induction d with
      | zero =>
        intro i e
        have ei : i = h := by omega
        subst ei
        have h6 := h7 i hh
        rw [X2_next_L2]
        refine br_f (show ¬ nI 64 ≤ nI i from nI_ge (by omega) (by omega)) (br_f (fun a => absurd ((hlt i hh).mp a) (by omega)) ⟨i, rfl, hh, ?_⟩)
        exact pk_le (ls i) 0 (fun b => absurd b (by omega)) (fun _ => hK)
      | succ d ih =>
        intro i e
        rw [X2_next_L2]
        refine br_f (show ¬ nI 64 ≤ nI i from nI_ge (by omega) (by omega)) ⟨fun a => ?_, fun a => ⟨i, rfl, by omega, ?_⟩⟩
        · rintro _ rfl
          rw [nI_1]
          exact ih (i + 1) (by omega)
        · have h6 := dead i (Nat.le_of_not_lt (fun z => a ((hlt i (by omega)).mpr z))) (by omega)
          refine pk_le (ls i) 0 (fun _ => ?_) (fun b => absurd b (by omega))
          rintro _ rfl
          rw [nI_1]
          exact ih (i + 1) (by omega)
    refine go _ ⟨h - f + 1, k1 _ ?_ (h - f) f (by omega) (Nat.le_refl _)⟩
    unfold X2_next
    exact ⟨h + 1, k2 _ ⟨rfl, RR_mk I M⟩ h 0 (by omega)⟩
  · have dead : ∀ j, f ≤ j → j < 64 → ls j = 0 := fun j h1 h2 => Nat.eq_zero_of_not_pos (fun z => hex ⟨j, h1, h2, z⟩)
    have k1 : ∀ (K : Int32 → St → Prop), K (-1) (mkX P fp lc ls pg pl kd pc ow ct op mem scr) → ∀ d i : Nat, 64 ≤ i + d → f ≤ i → i < 2 ^ 31 → X1_next_L10 K (d + 1) (nI i) (mkX P fp lc ls pg pl kd pc ow ct op mem scr) := by
      intro K hK d
      induction d with
      | zero =>
        intro i e hi hi2
        rw [X1_next_L10]
        exact br_t (show nI 64 ≤ nI i from nI_le (by omega) hi2) hK
      | succ d ih =>
        intro i e hi hi2
        rw [X1_next_L10]
        refine pk_le 64 i (fun _ => hK) (fun b => ⟨i, rfl, b, ?_⟩)
        have h6 := dead i hi b
        refine pk_le (ls i) 0 (fun _ => ?_) (fun b => absurd b (by omega))
        rintro _ rfl
        rw [nI_1]
        exact ih (i + 1) (by omega) (by omega) (by omega)
    have k2 : ∀ (K : Int32 → St → Prop), K (-1) (mkM P ls wd) → ∀ d i : Nat, i + d = 64 → X2_next_L2 K (d + 1) x1 (nI i) (mkM P ls wd) := by
      intro K hK d
      induction d with
      | zero =>
        intro i e
        have ei : i = 64 := by omega
        subst ei
        rw [X2_next_L2]
        exact br_t (show nI 64 ≤ nI 64 from nI_le (Nat.le_refl _) (by omega)) hK
      | succ d ih =>
        intro i e
        rw [X2_next_L2]
        refine br_f (show ¬ nI 64 ≤ nI i from nI_ge (by omega) (by omega)) ⟨fun a => ?_, fun a => ⟨i, rfl, by omega, ?_⟩⟩
        · rintro _ rfl
          rw [nI_1]
          exact ih (i + 1) (by omega)
        · have h6 := dead i (Nat.le_of_not_lt (fun z => a ((hlt i (by omega)).mpr z))) (by omega)
          refine pk_le (ls i) 0 (fun _ => ?_) (fun b => absurd b (by omega))
          rintro _ rfl
          rw [nI_1]
          exact ih (i + 1) (by omega)
    refine go _ ⟨65, k1 _ ?_ 64 f (by omega) (Nat.le_refl _) hf⟩
    unfold X2_next
    exact ⟨65, k2 _ ⟨rfl, RR_mk I M⟩ 64 0 (by omega)⟩
end SIMB
end
section
set_option maxRecDepth 100000
section SIMC
variable {P fp lc : Nat} {ls pg pl kd pc ow ct op : Nat → Nat} {mem scr wd : Nat → Int32}
theorem x_cntI (I : IV P fp lc ls pg pl kd pc ow ct op) (M : MM ls pg pl mem wd) {h a : Nat} {v : Int32} {X : Int32 → Int32 → Int32 → St → Prop} (hh : h < 64) (hX : X v (nI (a + fb_ct (fun k => decide (wd (16 * h + k) = v)) (ls h))) (nI h) (mkX P fp lc ls pg pl kd pc ow ct op mem scr)) :
    ∀ d i : Nat, i + d = ls h → X1_count_L13 X (d + 1) v (nI (a + fb_ct (fun k => decide (wd (16 * h + k) = v)) i)) (nI h) (nI i) (mkX P fp lc ls pg pl kd pc ow ct op mem scr) := by
  have h6 := I.1.2.2.2.2.2.2 h hh
  intro d
  induction d with
  | zero =>
    intro i e
    have ei : i = ls h := by omega
    subst ei
    rw [X1_count_L13]
    exact ⟨h, rfl, hh, pk_le (ls h) (ls h) (fun _ => hX) (fun b => absurd b (by omega))⟩
  | succ d ih =>
    intro i e
    obtain ⟨g1, g2, g3, g4, g5, g6, g7, g8, g9⟩ := zlv I.1 hh (show 0 < ls h by omega)
    have hn := ih (i + 1) (by omega)
    rw [fb_ct_succ] at hn
    rw [X1_count_L13]
    refine ⟨h, rfl, hh, pk_le (ls h) i (fun b => absurd b (by omega)) (fun _ => x_word hh g1 g2 g3 g4 (by omega) ?_)⟩
    rw [MM_get M hh (by omega) (by omega)]
    refine ⟨fun b => ?_, fun b => ?_⟩
    · rintro _ rfl _ rfl
      rw [if_pos (by simp [b])] at hn
      rw [nI_1, nI_1, Nat.add_assoc]
      exact hn
    · rintro _ rfl
      rw [if_neg (by simp [b]), Nat.add_zero] at hn
      rw [nI_1]
      exact hn
theorem m_cntI {h a : Nat} {v : Int32} {X : Int32 → Int32 → Int32 → St → Prop} (h7 : J7 ls) (hh : h < 64) (hX : X v (nI (a + fb_ct (fun k => decide (wd (16 * h + k) = v)) (ls h))) (nI h) (mkM P ls wd)) :
    ∀ d i : Nat, i + d = ls h → X2_count_L13 X (d + 1) v (nI (a + fb_ct (fun k => decide (wd (16 * h + k) = v)) i)) (nI h) (nI i) (mkM P ls wd) := by
  have h6 := h7 h hh
  intro d
  induction d with
  | zero =>
    intro i e
    have ei : i = ls h := by omega
    subst ei
    rw [X2_count_L13]
    exact ⟨h, rfl, hh, pk_le (ls h) (ls h) (fun _ => hX) (fun b => absurd b (by omega))⟩
  | succ d ih =>
    intro i e
    have hn := ih (i + 1) (by omega)
    rw [fb_ct_succ] at hn
    rw [X2_count_L13]
    refine ⟨h, rfl, hh, pk_le (ls h) i (fun b => absurd b (by omega)) (fun _ => br_f (show ¬ nI 16 ≤ nI i from nI_ge (by omega) (by omega)) ⟨16 * h + i, m16 h i, by omega, ?_⟩)⟩
    refine ⟨fun b => ?_, fun b => ?_⟩
    · rintro _ rfl _ rfl
      have b : wd (16 * h + i) = v := b
      rw [if_pos (by simp [b])] at hn
      rw [nI_1, nI_1, Nat.add_assoc]
      exact hn
    · rintro _ rfl
      have b : ¬ wd (16 * h + i) = v := b
      rw [if_neg (by simp [b]), Nat.add_zero] at hn
      rw [nI_1]
      exact hn
theorem s_count (I : IV P fp lc ls pg pl kd pc ow ct op) (M : MM ls pg pl mem wd) (x1 : Int32) : X1_count x1 (mkX P fp lc ls pg pl kd pc ow ct op mem scr) (fun r1 σ1 => X2_count x1 (mkM P ls wd) (fun r2 τ1 => r1 = r2 ∧ RR σ1 τ1)) := by
  have h7 := I.1.2.2.2.2.2.2
  have k1 : ∀ (K : Int32 → St → Prop), K (nI (zt (fun h => fb_ct (fun k => decide (wd (16 * h + k) = x1)) (ls h)) 64)) (mkX P fp lc ls pg pl kd pc ow ct op mem scr) → ∀ d i : Nat, i + d = 64 → X1_count_L4 K (d + 1) x1 (nI (zt (fun h => fb_ct (fun k => decide (wd (16 * h + k) = x1)) (ls h)) i)) (nI i) (mkX P fp lc ls pg pl kd pc ow ct op mem scr) := by
    intro K hK d
    induction d with
    | zero =>
      intro i e
      have ei : i = 64 := by omega
      subst ei
      rw [X1_count_L4]
      exact br_t (show nI 64 ≤ nI 64 from nI_le (Nat.le_refl _) (by omega)) hK
    | succ d ih =>
      intro i e
      have hn := ih (i + 1) (by omega)
      rw [X1_count_L4]
      refine br_f (show ¬ nI 64 ≤ nI i from nI_ge (by omega) (by omega)) ⟨ls i + 1, ?_⟩
      refine x_cntI I M (h := i) (a := zt (fun h => fb_ct (fun k => decide (wd (16 * h + k) = x1)) (ls h)) i) (by omega) ?_ (ls i) 0 (by omega)
      rintro _ rfl
      rw [nI_1]
      exact hn
  have k2 : ∀ (K : Int32 → St → Prop), K (nI (zt (fun h => fb_ct (fun k => decide (wd (16 * h + k) = x1)) (ls h)) 64)) (mkM P ls wd) → ∀ d i : Nat, i + d = 64 → X2_count_L4 K (d + 1) x1 (nI (zt (fun h => fb_ct (fun k => decide (wd (16 * h + k) = x1)) (ls h)) i)) (nI i) (mkM P ls wd) := by
    intro K hK d
    induction d with
    | zero =>
      intro i e
      have ei : i = 64 := by omega
      subst ei
      rw [X2_count_L4]
      exact br_t (show nI 64 ≤ nI 64 from nI_le (Nat.le_refl _) (by omega)) hK
    | succ d ih =>
      intro i e
      have hn := ih (i + 1) (by omega)
      rw [X2_count_L4]
      refine br_f (show ¬ nI 64 ≤ nI i from nI_ge (by omega) (by omega)) ⟨ls i + 1, ?_⟩
      refine m_cntI (h := i) (a := zt (fun h => fb_ct (fun k => decide (wd (16 * h + k) = x1)) (ls h)) i) h7 (by omega) ?_ (ls i) 0 (by omega)
      rintro _ rfl
      rw [nI_1]
      exact hn
  refine ⟨65, k1 _ ?_ 64 0 (by omega)⟩
  exact ⟨65, k2 _ ⟨rfl, RR_mk I M⟩ 64 0 (by omega)⟩
theorem x_strang (I : IV P fp lc ls pg pl kd pc ow ct op) {p : Nat} {K : Int32 → St → Prop} (hp : p < 12) (hK : K 0 (mkX P fp lc ls pg pl kd pc ow ct op mem scr)) : X1_strangers (nI p) (mkX P fp lc ls pg pl kd pc ow ct op mem scr) K := by
  obtain ⟨IJ, OI⟩ := I
  have key : ∀ d i : Nat, i + d = 8 → X1_strangers_L4 K (d + 1) (nI p) 0 (nI i) (mkX P fp lc ls pg pl kd pc ow ct op mem scr) := by
    intro d
    induction d with
    | zero =>
      intro i e
      have ei : i = 8 := by omega
      subst ei
      rw [X1_strangers_L4]
      exact br_t (show nI 8 ≤ nI 8 from nI_le (Nat.le_refl _) (by omega)) hK
    | succ d ih =>
      intro i e
      have hn := ih (i + 1) (by omega)
      rw [X1_strangers_L4]
      refine br_f (show ¬ nI 8 ≤ nI i from nI_ge (by omega) (by omega)) ⟨8 * p + i, m8 p i, by omega, ?_⟩
      rintro _ rfl
      have hb : ow (8 * p + i) ≤ 64 := by
        rcases Nat.eq_zero_or_pos (ow (8 * p + i)) with a | a
        · omega
        · exact (IJ.2.1 (8 * p + i) (by omega) a).1
      refine pk_none (ow (8 * p + i)) (fun a => ?_) (fun a => ?_)
      · rintro _ rfl
        rw [nI_1]
        exact hn
      · have g := IJ.2.1 (8 * p + i) (by omega) a
        obtain ⟨y, ey⟩ : ∃ y, ow (8 * p + i) = y + 1 := ⟨ow (8 * p + i) - 1, by omega⟩
        rw [ey, Nat.add_sub_cancel] at g
        obtain ⟨g1, g2, g3, g4, g5, g6, g7, g8, g9⟩ := zlv IJ (show y < 64 by omega) g.2.1
        have e1 : pg y = p := by omega
        have e2 : pl y = i := by omega
        rw [e1] at g4
        rw [show mkX P fp lc ls pg pl kd pc ow ct op mem scr 3 (8 * p + i) = nI y from (congrArg (fun q => nI q - 1) ey).trans (nI_pred y)]
        refine ⟨y, rfl, by omega, br_t (congrArg nI e1) ⟨y, rfl, by omega, br_t (congrArg nI e2) ⟨y, rfl, by omega, x_kind g6 ⟨p, rfl, hp, br_t ?_ ?_⟩⟩⟩⟩
        · exact ((congrArg (fun q => nI q - 1) g4).trans (nI_pred _)).symm
        · rintro _ rfl
          rw [nI_1]
          exact hn
  exact ⟨9, key 8 0 (by omega)⟩
theorem s_faults (I : IV P fp lc ls pg pl kd pc ow ct op) (M : MM ls pg pl mem wd) : X1_faults (mkX P fp lc ls pg pl kd pc ow ct op mem scr) (fun r1 σ1 => X2_faults (mkM P ls wd) (fun r2 τ1 => r1 = r2 ∧ RR σ1 τ1)) := by
  have hP := I.1.2.2.2.2.2.1.2.2
  have key : ∀ (K : Int32 → St → Prop), K 0 (mkX P fp lc ls pg pl kd pc ow ct op mem scr) → ∀ d i : Nat, i + d = P → X1_faults_L4 K (d + 1) 0 (nI i) (mkX P fp lc ls pg pl kd pc ow ct op mem scr) := by
    intro K hK d
    induction d with
    | zero =>
      intro i e
      have ei : i = P := by omega
      subst ei
      rw [X1_faults_L4]
      exact pk_le i i (fun _ => hK) (fun b => absurd b (by omega))
    | succ d ih =>
      intro i e
      have hn := ih (i + 1) (by omega)
      have hk4 := (I.1.2.2.1 i (by omega)).1
      rw [X1_faults_L4]
      refine pk_le P i (fun b => absurd b (by omega)) (fun _ => ⟨i, rfl, by omega, pk_none (kd i) (fun a => ?_) (fun a => ⟨i, rfl, by omega, ?_⟩)⟩)
      · rintro _ rfl
        rw [nI_1]
        exact hn
      · obtain ⟨c, ec⟩ : ∃ c, kd i = c + 1 := ⟨kd i - 1, by omega⟩
        have hc : c < 4 := by omega
        have z := zc_pos c
        have o1 := I.2.1 i (by omega) a
        rw [ec, Nat.add_sub_cancel] at o1
        have e1 : mkX P fp lc ls pg pl kd pc ow ct op mem scr 1 i = nI c := (congrArg (fun q => nI q - 1) ec).trans (nI_pred c)
        rw [e1]
        have hst : X1_strangers (nI i) (mkX P fp lc ls pg pl kd pc ow ct op mem scr) (fun r18 σ17 => (r18 ≤ 0 → (∀ x20 : Int32, x20 = nI i + 1 → (X1_faults_L4 K (d + 1) 0 x20 σ17))) ∧ (¬ r18 ≤ 0 → (∀ x21 : Int32, x21 = 0 + 1 → (∀ x22 : Int32, x22 = nI i + 1 → (X1_faults_L4 K (d + 1) x21 x22 σ17))))) := by
          refine x_strang I (by omega) (br_t (by decide +kernel) ?_)
          rintro _ rfl
          rw [nI_1]
          exact hn
        refine x_cap hc ⟨i, rfl, by omega, pk_le (zc c) (pc i) (fun b => ?_) (fun b => ?_)⟩
        · exact ⟨i, rfl, by omega, pk_eq (pc i) 0 (fun q => absurd q (by omega)) (fun _ => br_t rfl hst)⟩
        · have eo : op c = i + 1 := o1.2.2 b
          refine ⟨i, rfl, by omega, c, e1, hc, br_t ((congrArg (fun q => nI q - 1) eo).trans (nI_pred i)) ?_⟩
          exact ⟨i, rfl, by omega, pk_eq (pc i) 0 (fun q => absurd q (by omega)) (fun _ => br_t rfl hst)⟩
  refine ⟨P + 1, key _ ?_ P 0 (by omega)⟩
  unfold X2_faults
  exact ⟨rfl, RR_mk I M⟩
end SIMC
end
section
set_option maxRecDepth 100000
/-- the values at a and b change places -/
def sw (f : Nat → Nat) (a b : Nat) : Nat → Nat := fu (fu f a (f b)) b (f a)
theorem sw_b (f : Nat → Nat) (a b : Nat) : sw f a b b = f a := fu_s _ _ _
theorem sw_a (f : Nat → Nat) (a b : Nat) : sw f a b a = f b := by
  unfold sw
  by_cases e : a = b
  · subst e; rw [fu_s]
  · rw [fu_n _ e, fu_s]
theorem sw_o (f : Nat → Nat) {a b x : Nat} (h1 : x ≠ a) (h2 : x ≠ b) : sw f a b x = f x := by
  unfold sw
  rw [fu_n _ h2, fu_n _ h1]
theorem sw_id (f : Nat → Nat) (a : Nat) : sw f a a = f := by
  unfold sw
  rw [fu_fu, fu_id rfl]
theorem ct_fu (g : Nat → Bool) (f : Nat → Nat) {a n : Nat} (v : Nat) (ha : a < n) : fb_ct (fun h => g (fu f a v h)) n + (if g (f a) then 1 else 0) = fb_ct (fun h => g (f h)) n + (if g v then 1 else 0) := by
  rw [← fb_ct_upd (fun h => g (f h)) (g v) ha]
  congr 1
  refine fb_ct_cong (fun k hk => ?_)
  by_cases e : k = a
  · subst e; simp [fu]
  · simp [fu, e]
theorem ct_sw (g : Nat → Bool) (f : Nat → Nat) {a b n : Nat} (ha : a < n) (hb : b < n) : fb_ct (fun h => g (sw f a b h)) n = fb_ct (fun h => g (f h)) n := by
  have h1 := ct_fu g f (f b) ha
  have h2 := ct_fu g (fu f a (f b)) (f a) hb
  have e : fu f a (f b) b = f b := by
    by_cases e : b = a
    · subst e; rw [fu_s]
    · rw [fu_n _ e]
  rw [e] at h2
  have e2 : (fun h => g (sw f a b h)) = (fun h => g (fu (fu f a (f b)) b (f a) h)) := rfl
  rw [e2]
  omega
section EXCH
variable {P fp lc : Nat} {ls pg pl kd pc ow ct op : Nat → Nat} {mem scr wd : Nat → Int32} {i j : Nat}
theorem mu_4c : up (mkX P fp lc ls pg pl kd pc ow ct op mem scr) 4 i (mkX P fp lc ls pg pl kd pc ow ct op mem scr 4 j) = mkX P fp lc ls (fu pg i (pg j)) pl kd pc ow ct op mem scr := mu_4
theorem mu_5c : up (mkX P fp lc ls pg pl kd pc ow ct op mem scr) 5 i (mkX P fp lc ls pg pl kd pc ow ct op mem scr 5 j) = mkX P fp lc ls pg (fu pl i (pl j)) kd pc ow ct op mem scr := mu_5
theorem mu_6c : up (mkX P fp lc ls pg pl kd pc ow ct op mem scr) 6 i (mkX P fp lc ls pg pl kd pc ow ct op mem scr 6 j) = mkX P fp lc (fu ls i (ls j)) pg pl kd pc ow ct op mem scr := mu_6
theorem mm_0c : up (mkM P ls wd) 0 i (mkM P ls wd 0 j) = mkM P (fu ls i (ls j)) wd := mm_0
theorem J0_X (I : J0 P fp lc ls pg pl kd pc ow ct) {a b : Nat} (ha : a < 64) (hla : 0 < ls a) (hb : b < 64) (hlb : 0 < ls b) :
    J0 P fp lc (sw ls a b) (sw pg a b) (sw pl a b) kd pc (fu (fu ow (8 * pg b + pl b) (a + 1)) (8 * pg a + pl a) (b + 1)) ct := by
  by_cases hab : a = b
  · subst hab
    have e := (I.1 a ha hla).2.2.2
    rw [sw_id, sw_id, sw_id, fu_fu, fu_id e]
    exact I
  have I0 := I
  obtain ⟨i1, i2, i3, i4, i5, i6, i7⟩ := I
  have ga := i1 a ha hla
  have gb := i1 b hb hlb
  have la := J_pl i1 ha hla
  have lb := J_pl i1 hb hlb
  have hne : 8 * pg b + pl b ≠ 8 * pg a + pl a := fun e => hab (J_one i1 ha hla hb hlb (by omega) (by omega))
  refine ⟨?_, ?_, i3, ?_, ?_, i6, ?_⟩
  · intro x hx hlx
    by_cases ea : x = a
    · subst ea
      rw [sw_a, sw_a, sw_a]
      refine ⟨gb.1, gb.2.1, gb.2.2.1, ?_⟩
      rw [fu_n _ hne, fu_s]
    · by_cases eb : x = b
      · subst eb
        rw [sw_b, sw_b, sw_b]
        refine ⟨ga.1, ga.2.1, ga.2.2.1, ?_⟩
        rw [fu_s]
      · rw [sw_o _ ea eb] at hlx
        rw [sw_o _ ea eb, sw_o _ ea eb, sw_o _ ea eb]
        have gx := i1 x hx hlx
        have lx := J_pl i1 hx hlx
        refine ⟨gx.1, gx.2.1, gx.2.2.1, ?_⟩
        rw [fu_n, fu_n]
        · exact gx.2.2.2
        · intro e; exact eb (J_one i1 hx hlx hb hlb (by omega) (by omega))
        · intro e; exact ea (J_one i1 hx hlx ha hla (by omega) (by omega))
  · intro q hq ho
    by_cases e2 : q = 8 * pg a + pl a
    · subst e2
      rw [fu_s, Nat.add_sub_cancel, sw_b, sw_b, sw_b]
      exact ⟨by omega, hla, rfl⟩
    · rw [fu_n _ e2] at ho ⊢
      by_cases e1 : q = 8 * pg b + pl b
      · subst e1
        rw [fu_s, Nat.add_sub_cancel, sw_a, sw_a, sw_a]
        exact ⟨by omega, hlb, rfl⟩
      · rw [fu_n _ e1] at ho ⊢
        have gq := i2 q hq ho
        have na : ow q - 1 ≠ a := fun e => by rw [e] at gq; omega
        have nb : ow q - 1 ≠ b := fun e => by rw [e] at gq; omega
        rw [sw_o _ na nb, sw_o _ na nb, sw_o _ na nb]
        exact gq
  · intro p hp hk
    rw [i4 p hp hk]
    refine ct_eq (fun s hs => ?_)
    by_cases e2 : 8 * p + s = 8 * pg a + pl a
    · rw [e2, fu_s, ga.2.2.2]; simp
    · rw [fu_n _ e2]
      by_cases e1 : 8 * p + s = 8 * pg b + pl b
      · rw [e1, fu_s, gb.2.2.2]; simp
      · rw [fu_n _ e1]
  · refine ⟨fun c hc => ?_, ?_⟩
    · rw [i5.1 c hc]
      exact (ct_sw (fun n => decide (0 < n ∧ zk n = c)) ls ha hb).symm
    · rw [i5.2]
      exact (ct_sw (fun n => decide (0 < n)) ls ha hb).symm
  · intro x hx
    by_cases ea : x = a
    · subst ea; rw [sw_a]; exact i7 b hb
    · by_cases eb : x = b
      · subst eb; rw [sw_b]; exact i7 a ha
      · rw [sw_o _ ea eb]; exact i7 x hx
theorem m_exL {a b : Nat} {K : Int32 → St → Prop} (ha : a < 64) (hb : b < 64)
    (hK : ∀ w' : Nat → Int32, (∀ x, w' x = if 16 * a ≤ x ∧ x < 16 * a + 16 then wd (16 * b + (x - 16 * a)) else if 16 * b ≤ x ∧ x < 16 * b + 16 then wd (16 * a + (x - 16 * b)) else wd x) → K 0 (mkM P ls w')) :
    ∀ (d i : Nat) (w : Nat → Int32), i + d = 16 → (∀ x, w x = if 16 * a ≤ x ∧ x < 16 * a + i then wd (16 * b + (x - 16 * a)) else if 16 * b ≤ x ∧ x < 16 * b + i then wd (16 * a + (x - 16 * b)) else wd x) → X2_exchange_L47 K (d + 1) (nI a) (nI b) (nI i) (mkM P ls w) := by
  intro d
  induction d with
  | zero =>
    intro i w e hw
    have ei : i = 16 := by omega
    subst ei
    rw [X2_exchange_L47]
    exact br_t (show nI 16 ≤ nI 16 from nI_le (Nat.le_refl _) (by omega)) (hK w hw)
  | succ d ih =>
    intro i w e hw
    rw [X2_exchange_L47]
    refine br_f (show ¬ nI 16 ≤ nI i from nI_ge (by omega) (by omega)) ⟨16 * a + i, m16 a i, by omega, ?_⟩
    rintro _ rfl
    refine ⟨16 * b + i, m16 b i, by omega, 16 * a + i, m16 a i, by omega, ?_⟩
    rintro _ rfl
    rw [mm_1]
    refine ⟨16 * b + i, m16 b i, by omega, ?_⟩
    rintro _ rfl _ rfl
    rw [mm_1, nI_1]
    have wa : w (16 * a + i) = wd (16 * a + i) := by rw [hw, if_neg (by omega), if_neg (by omega)]
    have wb : w (16 * b + i) = wd (16 * b + i) := by rw [hw, if_neg (by omega), if_neg (by omega)]
    refine ih (i + 1) _ (by omega) (fun x => ?_)
    show (if x = 16 * b + i then w (16 * a + i) else if x = 16 * a + i then w (16 * b + i) else w x) = _
    rw [wa, wb, hw x]
    by_cases xb : x = 16 * b + i
    · rw [if_pos xb]
      by_cases xa : x = 16 * a + i
      · have eab : a = b := by omega
        rw [if_pos (by omega), show 16 * b + (x - 16 * a) = 16 * a + i by omega]
      · rw [if_neg (by omega), if_pos (by omega), show 16 * a + (x - 16 * b) = 16 * a + i by omega]
    · rw [if_neg xb]
      by_cases xa : x = 16 * a + i
      · rw [if_pos xa, if_pos (by omega), show 16 * b + (x - 16 * a) = 16 * b + i by omega]
      · rw [if_neg xa]
        by_cases c1 : 16 * a ≤ x ∧ x < 16 * a + i
        · rw [if_pos c1, if_pos (by omega)]
        · rw [if_neg c1, if_neg (show ¬ (16 * a ≤ x ∧ x < 16 * a + (i + 1)) by omega)]
          by_cases c2 : 16 * b ≤ x ∧ x < 16 * b + i
          · rw [if_pos c2, if_pos (by omega)]
          · rw [if_neg c2, if_neg (by omega)]
theorem MM_X (M : MM ls pg pl mem wd) {a b : Nat} {wd' : Nat → Int32} (ha : a < 64) (hb : b < 64) (hw : ∀ x, wd' x = if 16 * a ≤ x ∧ x < 16 * a + 16 then wd (16 * b + (x - 16 * a)) else if 16 * b ≤ x ∧ x < 16 * b + 16 then wd (16 * a + (x - 16 * b)) else wd x) : MM (sw ls a b) (sw pg a b) (sw pl a b) mem wd' := by
  intro x hx k hk
  rw [hw]
  by_cases ea : x = a
  · subst ea
    rw [sw_a, sw_a, sw_a, if_pos (by omega), show 16 * b + (16 * x + k - 16 * x) = 16 * b + k by omega]
    exact M b hb k hk
  · rw [if_neg (by omega)]
    by_cases eb : x = b
    · subst eb
      rw [sw_b, sw_b, sw_b, if_pos (by omega), show 16 * a + (16 * x + k - 16 * x) = 16 * a + k by omega]
      exact M a ha k hk
    · rw [if_neg (by omega), sw_o _ ea eb, sw_o _ ea eb, sw_o _ ea eb]
      exact M x hx k hk
theorem s_exchange (I : IV P fp lc ls pg pl kd pc ow ct op) (M : MM ls pg pl mem wd) (x1 x2 : Int32) : X1_exchange x1 x2 (mkX P fp lc ls pg pl kd pc ow ct op mem scr) (fun r1 σ1 => X2_exchange x1 x2 (mkM P ls wd) (fun r2 τ1 => r1 = r2 ∧ RR σ1 τ1)) := by
  unfold X1_exchange X2_exchange
  rcases gd_or ls x1 with ⟨a, ha, rfl, hla⟩ | hb
  · rcases gd_or ls x2 with ⟨b, hb, rfl, hlb⟩ | hb
    · obtain ⟨g1, g2, g3, g4, g5, g6, g7, g8, g9⟩ := zlv I.1 ha hla
      obtain ⟨y1, y2, y3, y4, y5, y6, y7, y8, y9⟩ := zlv I.1 hb hlb
      have q1 : 8 * sw pg a b a + sw pl a b a = 8 * pg b + pl b := by rw [sw_a, sw_a]
      have q2 : 8 * sw pg a b b + sw pl a b b = 8 * pg a + pl a := by rw [sw_b, sw_b]
      refine x_good1 ha hla g6 (br_f one_ne (x_good1 hb hlb y6 (br_f one_ne ?_)))
      refine ⟨a, rfl, ha, ?_⟩
      rintro _ rfl
      refine ⟨a, rfl, ha, ?_⟩
      rintro _ rfl
      refine ⟨a, rfl, ha, ?_⟩
      rintro _ rfl
      rw [show mkX P fp lc ls pg pl kd pc ow ct op mem scr 4 a = nI (pg a) from rfl, show mkX P fp lc ls pg pl kd pc ow ct op mem scr 5 a = nI (pl a) from rfl, show mkX P fp lc ls pg pl kd pc ow ct op mem scr 6 a = nI (ls a) from rfl]
      refine ⟨b, rfl, hb, a, rfl, ha, ?_⟩
      rintro _ rfl
      rw [mu_4c]
      refine ⟨b, rfl, hb, a, rfl, ha, ?_⟩
      rintro _ rfl
      rw [mu_5c]
      refine ⟨b, rfl, hb, a, rfl, ha, ?_⟩
      rintro _ rfl
      rw [mu_6c]
      refine ⟨b, rfl, hb, ?_⟩
      rintro _ rfl
      rw [mu_4]
      refine ⟨b, rfl, hb, ?_⟩
      rintro _ rfl
      rw [mu_5]
      refine ⟨b, rfl, hb, ?_⟩
      rintro _ rfl
      rw [mu_6]
      refine ⟨a, rfl, ha, a, rfl, ha, 8 * pg b + pl b, (m8 (sw pg a b a) (sw pl a b a)).trans (congrArg nI q1), by omega, ?_⟩
      rintro _ rfl
      rw [mu_3]
      refine ⟨b, rfl, hb, b, rfl, hb, 8 * pg a + pl a, (m8 (sw pg a b b) (sw pl a b b)).trans (congrArg nI q2), by omega, ?_⟩
      rintro _ rfl
      rw [mu_3]
      refine m_bad0 ha hla g6 (br_t rfl (m_bad0 hb hlb y6 (br_t rfl ?_)))
      refine ⟨a, rfl, ha, ?_⟩
      rintro _ rfl
      refine ⟨b, rfl, hb, a, rfl, ha, ?_⟩
      rintro _ rfl
      rw [mm_0c, show mkM P ls wd 0 a = nI (ls a) from rfl]
      refine ⟨b, rfl, hb, ?_⟩
      rintro _ rfl
      rw [mm_0]
      refine ⟨17, m_exL (wd := wd) ha hb (fun w' hw => ?_) 16 0 wd (by omega) (fun x => ?_)⟩
      · exact ⟨rfl, RR_mk ⟨J0_X I.1 ha hla hb hlb, I.2⟩ (MM_X M ha hb hw)⟩
      · rw [if_neg (by omega), if_neg (by omega)]
    · have g6 := (zlv I.1 ha hla).2.2.2.2.2.1
      refine x_good1 ha hla g6 (br_f one_ne (x_good0 hb (br_t rfl ?_)))
      exact m_bad0 ha hla g6 (br_t rfl (m_bad1 hb (br_f one_ne ⟨rfl, RR_mk I M⟩)))
  · exact x_good0 hb (br_t rfl (m_bad1 hb (br_f one_ne ⟨rfl, RR_mk I M⟩)))
end EXCH
end
section
set_option maxRecDepth 100000
section ALLOC
variable {P fp lc : Nat} {ls pg pl kd pc ow ct op : Nat → Nat} {mem scr wd : Nat → Int32}
/-- one object of new size n at a new place; the others as they were -/
theorem MM_chg (M : MM ls pg pl mem wd) {h n : Nat} {pg' pl' : Nat → Nat} {mem' wd' : Nat → Int32} (h7 : J7 ls) (kp : KP ls pg pl mem pg' pl' mem' h)
    (w1 : ∀ x, x < 64 → x ≠ h → ∀ k, k < 16 → wd' (16 * x + k) = wd (16 * x + k))
    (w2 : ∀ k, k < 16 → wd' (16 * h + k) = if k < n then mem' (ad (pg' h) (pl' h) (zk n) k) else 0) : MM (fu ls h n) pg' pl' mem' wd' := by
  intro x hx k hk
  by_cases e : x = h
  · subst e
    rw [fu_s]
    exact w2 k hk
  · rw [fu_n _ e, w1 x hx e k hk, M x hx k hk]
    by_cases ek : k < ls x
    · have z := zw_zk (h7 x hx)
      rw [if_pos ek, if_pos ek, kp x hx e (by omega) k (by omega)]
    · rw [if_neg ek, if_neg ek]
theorem x_alloc (I : IV P fp lc ls pg pl kd pc ow ct op) {n : Nat} {K : Int32 → St → Prop} (hn : 0 < n) (hn2 : n ≤ 16)
    (hfull : (∀ j, j < 64 → 0 < ls j) → K (-2) (mkX P fp lc ls pg pl kd pc ow ct op mem scr))
    (hno : ∀ h, h < 64 → ls h = 0 → (∀ j, j < h → 0 < ls j) → op (zk n) = 0 → fp = 0 → K (-3) (mkX P fp lc ls pg pl kd pc ow ct op mem scr))
    (hok : ∀ h, h < 64 → ls h = 0 → (∀ j, j < h → 0 < ls j) → (0 < op (zk n) ∨ 0 < fp) → ∀ (fp' lc' : Nat) (pg' pl' kd' pc' ow' ct' op' : Nat → Nat) (mem' : Nat → Int32), IV P fp' lc' (fu ls h n) pg' pl' kd' pc' ow' ct' op' → KP ls pg pl mem pg' pl' mem' h → (∀ k, k < n → mem' (ad (pg' h) (pl' h) (zk n) k) = 0) → K (nI h) (mkX P fp' lc' (fu ls h n) pg' pl' kd' pc' ow' ct' op' mem' scr)) :
    X1_allocate (nI n) (mkX P fp lc ls pg pl kd pc ow ct op mem scr) K := by
  have h7 := I.1.2.2.2.2.2.2
  have hlc := I.1.2.2.2.2.1.2
  have hcl := cntL_le ls
  have hc := zk_lt n
  have d := iv_D I.2 hc
  have hnd := iv_nd I
  have hP := I.1.2.2.2.2.2.1.2.2
  have hopb : op (zk n) ≤ 12 := by
    rcases Nat.eq_zero_or_pos (op (zk n)) with e | e
    · omega
    · exact (d.2.2 e).2.2.2.2
  unfold X1_allocate
  refine x_sz1 hn hn2 (br_f one_ne ?_)
  refine pk_eq lc 64 (fun e => ?_) (fun e => ?_)
  · refine hfull (fun j hj => ?_)
    have a := fb_ct_all.mp (show fb_ct (fun h => decide (0 < ls h)) 64 = 64 from hlc.symm.trans e) j hj
    simpa using a
  · have hex : ∃ h, h < 64 ∧ ls h = 0 := by
      refine Classical.byContradiction fun hx => ?_
      have a : fb_ct (fun h => decide (0 < ls h)) 64 = 64 := fb_ct_all.mpr (fun k hk => by
        have : ¬ ls k = 0 := fun q => hx ⟨k, hk, q⟩
        simp; omega)
      unfold cntL at hlc
      omega
    obtain ⟨h, ⟨hh, hz⟩, hleast⟩ := pk_least (fun h => h < 64 ∧ ls h = 0) hex
    have hl : ∀ j, j < h → 0 < ls j := fun j hj => Nat.pos_of_ne_zero (fun q => hleast j hj ⟨by omega, q⟩)
    have b46 : (0 < op (zk n) ∨ 0 < fp) → X1_allocate_B46 K (nI n) (nI (zk n)) (mkX P fp lc ls pg pl kd pc ow ct op mem scr) := by
      intro hroom
      unfold X1_allocate_B46
      refine x_least hh hz hl h7 ⟨h, rfl, hh, ?_⟩
      rintro _ rfl
      rw [mu_6]
      refine x_place I hh hz hn hn2 hroom (fun fp' lc' pg' pl' kd' pc' ow' ct' op' I' hfr => ?_)
      have g := zlv I'.1 hh (by rw [fu_s]; exact hn)
      rw [fu_s] at g
      obtain ⟨g1, g2, g3, g4, g5, g6, g7, g8, g9⟩ := g
      refine x_wipe (c := zk n) (fr := 0) hh g1 g2 g3 g4 (by omega) (by omega) (fun m' hm => ?_)
      refine hok h hh hz hl hroom fp' lc' pg' pl' kd' pc' ow' ct' op' m' I' ?_ ?_
      · intro x hx hxh hlx k hk
        have f := hfr x hxh
        rw [hm, if_neg, f.1, f.2]
        intro hin
        obtain ⟨A, eA⟩ : ∃ A, ad (pg' x) (pl' x) (zk (ls x)) k = A := ⟨_, rfl⟩
        rw [eA] at hin
        have ha := ad_ne I'.1 hx (by rw [fu_n _ hxh]; exact hlx) hh (by rw [fu_s]; exact hn) hxh (k := k) (by rw [fu_n _ hxh]; exact hk) (k' := A - (16 * pg' h + pl' h * zw (zk n))) (by rw [fu_s]; omega)
        apply ha
        rw [fu_n _ hxh, fu_s, eA]
        unfold ad
        omega
      · intro k hk
        rw [hm, if_pos]
        unfold ad
        omega
    refine x_kind hn2 ⟨zk n, rfl, hc, pk_none (op (zk n)) (fun e1 => ?_) (fun e1 => b46 (Or.inl e1))⟩
    exact pk_eq fp 0 (fun e2 => hno h hh hz hl e1 e2) (fun e2 => b46 (Or.inr (by omega)))
theorem m_allocF {n : Nat} {K : Int32 → St → Prop} (h7 : J7 ls) (hn : 0 < n) (hn2 : n ≤ 16) (hf : ∀ j, j < 64 → 0 < ls j) (hK : K (-2) (mkM P ls wd)) : X2_allocate (nI n) (mkM P ls wd) K := by
  unfold X2_allocate
  refine br_f (show ¬ nI n < nI 1 from nI_nlt (by omega) (by omega)) (br_t (show nI n ≤ nI 16 from nI_le hn2 (by omega)) ?_)
  exact m_least0 hf h7 (br_f (by decide +kernel) hK)
theorem m_allocN {n h : Nat} {K : Int32 → St → Prop} (h7 : J7 ls) (hct : ∀ c, c < 4 → ct c = cntK ls c) (hn : 0 < n) (hn2 : n ≤ 16) (hP : P ≤ 12) (hh : h < 64) (hz : ls h = 0) (hl : ∀ j, j < h → 0 < ls j) (hb : zn (fu ct (zk n) (ct (zk n) + 1)) < 2 ^ 31) (hgt : P < zn (fu ct (zk n) (ct (zk n) + 1))) (hK : K (-3) (mkM P ls wd)) : X2_allocate (nI n) (mkM P ls wd) K := by
  unfold X2_allocate
  refine br_f (show ¬ nI n < nI 1 from nI_nlt (by omega) (by omega)) (br_t (show nI n ≤ nI 16 from nI_le hn2 (by omega)) ?_)
  refine m_least hh hz hl h7 (br_t (nI_pos' (by omega)) (m_kind hn2 ?_))
  refine m_more (m := 1) h7 (zk_lt n) (by omega) hct ?_
  exact pk_le (zn (fu ct (zk n) (ct (zk n) + 1))) P (fun a => absurd a (by omega)) (fun _ => hK)
theorem m_allocS {n h : Nat} {K : Int32 → St → Prop} (h7 : J7 ls) (hct : ∀ c, c < 4 → ct c = cntK ls c) (hn : 0 < n) (hn2 : n ≤ 16) (hP : P ≤ 12) (hh : h < 64) (hz : ls h = 0) (hl : ∀ j, j < h → 0 < ls j) (hle : zn (fu ct (zk n) (ct (zk n) + 1)) ≤ P) (hK : ∀ w' : Nat → Int32, (∀ a, w' a = if 16 * h ≤ a ∧ a < 16 * h + 16 then 0 else wd a) → K (nI h) (mkM P (fu ls h n) w')) : X2_allocate (nI n) (mkM P ls wd) K := by
  unfold X2_allocate
  refine br_f (show ¬ nI n < nI 1 from nI_nlt (by omega) (by omega)) (br_t (show nI n ≤ nI 16 from nI_le hn2 (by omega)) ?_)
  refine m_least hh hz hl h7 (br_t (nI_pos' (by omega)) (m_kind hn2 ?_))
  refine m_more (m := 1) h7 (zk_lt n) (by omega) hct ?_
  refine pk_le (zn (fu ct (zk n) (ct (zk n) + 1))) P (fun _ => m_wipe hh (fun w' hw => ⟨h, rfl, hh, ?_⟩)) (fun a => absurd a (by omega))
  rintro _ rfl
  rw [mm_0, fu_fu]
  exact hK w' hw
theorem s_allocate (I : IV P fp lc ls pg pl kd pc ow ct op) (M : MM ls pg pl mem wd) (x1 : Int32) : X1_allocate x1 (mkX P fp lc ls pg pl kd pc ow ct op mem scr) (fun r1 σ1 => X2_allocate x1 (mkM P ls wd) (fun r2 τ1 => r1 = r2 ∧ RR σ1 τ1)) := by
  have h7 := I.1.2.2.2.2.2.2
  have hct := I.1.2.2.2.2.1.1
  have hP := I.1.2.2.2.2.2.1.2.2
  have hnd := iv_nd I
  rcases sz_or x1 with ⟨n, hn, hn2, rfl⟩ | hb
  · have hu := iv_up I (zk_lt n)
    refine x_alloc I hn hn2 (fun hf => ?_) (fun h hh hz hl e1 e2 => ?_) (fun h hh hz hl hr fp' lc' pg' pl' kd' pc' ow' ct' op' mem' I' kp hzero => ?_)
    · exact m_allocF h7 hn hn2 hf ⟨rfl, RR_mk I M⟩
    · rw [if_pos e1] at hu
      exact m_allocN h7 hct hn hn2 hP hh hz hl (by omega) (by omega) ⟨rfl, RR_mk I M⟩
    · have hle : zn (fu ct (zk n) (ct (zk n) + 1)) ≤ P := by
        rw [hu]
        split <;> omega
      refine m_allocS h7 hct hn hn2 hP hh hz hl hle (fun w' hw => ⟨rfl, RR_mk I' (MM_chg M h7 kp ?_ ?_)⟩)
      · intro x hx hxh k hk
        rw [hw, if_neg (by omega)]
      · intro k hk
        rw [hw, if_pos (by omega)]
        by_cases ek : k < n
        · rw [if_pos ek, hzero k ek]
        · rw [if_neg ek]
  · unfold X1_allocate
    refine x_sz0 hb (br_t rfl ?_)
    unfold X2_allocate
    rcases hb with h | ⟨h1, h2⟩
    · exact br_t h ⟨rfl, RR_mk I M⟩
    · refine br_f h1 (br_f ?_ ⟨rfl, RR_mk I M⟩)
      rw [Int32.lt_iff_toInt_lt] at h2
      rw [Int32.le_iff_toInt_le]
      omega
theorem s_free (I : IV P fp lc ls pg pl kd pc ow ct op) (M : MM ls pg pl mem wd) (x1 : Int32) : X1_free x1 (mkX P fp lc ls pg pl kd pc ow ct op mem scr) (fun r1 σ1 => X2_free x1 (mkM P ls wd) (fun r2 τ1 => r1 = r2 ∧ RR σ1 τ1)) := by
  have h7 := I.1.2.2.2.2.2.2
  unfold X1_free X2_free
  rcases gd_or ls x1 with ⟨h, hh, rfl, hl⟩ | hb
  · have g6 := (zlv I.1 hh hl).2.2.2.2.2.1
    refine x_good1 hh hl g6 (br_f one_ne ⟨h, rfl, hh, ?_⟩)
    rintro _ rfl
    refine x_remove I hh hl (fun fp' lc' pg' pl' kd' pc' ow' ct' op' mem' I' kp => ⟨h, rfl, hh, ?_⟩)
    rintro _ rfl
    rw [show (0 : Int32) = nI 0 from rfl, mu_6]
    refine m_bad0 hh hl g6 (br_t rfl ⟨h, rfl, hh, ?_⟩)
    rintro _ rfl
    refine m_wipe hh (fun w' hw => ⟨rfl, RR_mk I' (MM_chg M h7 kp ?_ ?_)⟩)
    · intro x hx hxh k hk
      rw [hw, if_neg (by omega)]
    · intro k hk
      rw [hw, if_pos (by omega), if_neg (Nat.not_lt_zero k)]
  · exact x_good0 hb (br_t rfl (m_bad1 hb (br_f one_ne ⟨rfl, RR_mk I M⟩)))
theorem x_copyL {n F B r : Nat} {K : Int32 → St → Prop} (hn : n ≤ 16) (hF : F + n ≤ 192) (hB : B + n ≤ 192) (hd : ∀ i, i < n → ¬ (B ≤ F + i ∧ F + i < B + n))
    (hK : ∀ m' : Nat → Int32, (∀ a, m' a = if B ≤ a ∧ a < B + n then mem (F + (a - B)) else mem a) → K (nI r) (mkX P fp lc ls pg pl kd pc ow ct op m' scr)) :
    ∀ (d i : Nat) (m : Nat → Int32), i + d = n → (∀ a, m a = if B ≤ a ∧ a < B + i then mem (F + (a - B)) else mem a) → X1_copy_L46 K (d + 1) (nI n) (nI r) (nI F) (nI B) (nI i) (mkX P fp lc ls pg pl kd pc ow ct op m scr) := by
  intro d
  induction d with
  | zero =>
    intro i m e hm
    have ei : i = n := by omega
    subst ei
    rw [X1_copy_L46]
    exact br_t (nI_le (Nat.le_refl _) (by omega)) (hK m hm)
  | succ d ih =>
    intro i m e hm
    rw [X1_copy_L46]
    refine br_f (nI_ge (by omega) (by omega)) ⟨F + i, nI_add F i, by omega, B + i, nI_add B i, by omega, ?_⟩
    rintro _ rfl _ rfl
    rw [mu_0, nI_1]
    have hsrc : m (F + i) = mem (F + i) := by
      rw [hm, if_neg]
      have := hd i (by omega)
      omega
    refine ih (i + 1) _ (by omega) (fun a => ?_)
    show (if a = B + i then m (F + i) else m a) = _
    rw [hsrc, hm a]
    by_cases ea : a = B + i
    · rw [if_pos ea, if_pos (by omega), ea, Nat.add_sub_cancel_left]
    · rw [if_neg ea]
      by_cases eb : B ≤ a ∧ a < B + i
      · rw [if_pos eb, if_pos (by omega)]
      · rw [if_neg eb, if_neg (by omega)]
theorem m_copyL {h y : Nat} {K : Int32 → St → Prop} (hh : h < 64) (hy : y < 64) (hne : y ≠ h)
    (hK : ∀ w' : Nat → Int32, (∀ a, w' a = if 16 * y ≤ a ∧ a < 16 * y + 16 then wd (16 * h + (a - 16 * y)) else wd a) → K (nI y) (mkM P ls w')) :
    ∀ (d i : Nat) (w : Nat → Int32), i + d = 16 → (∀ a, w a = if 16 * y ≤ a ∧ a < 16 * y + i then wd (16 * h + (a - 16 * y)) else wd a) → X2_copy_L29 K (d + 1) (nI h) (nI y) (nI i) (mkM P ls w) := by
  intro d
  induction d with
  | zero =>
    intro i w e hw
    have ei : i = 16 := by omega
    subst ei
    rw [X2_copy_L29]
    exact br_t (show nI 16 ≤ nI 16 from nI_le (Nat.le_refl _) (by omega)) (hK w hw)
  | succ d ih =>
    intro i w e hw
    rw [X2_copy_L29]
    refine br_f (show ¬ nI 16 ≤ nI i from nI_ge (by omega) (by omega)) ⟨16 * h + i, m16 h i, by omega, 16 * y + i, m16 y i, by omega, ?_⟩
    rintro _ rfl _ rfl
    rw [mm_1, nI_1]
    have hsrc : w (16 * h + i) = wd (16 * h + i) := by rw [hw, if_neg (by omega)]
    refine ih (i + 1) _ (by omega) (fun a => ?_)
    show (if a = 16 * y + i then w (16 * h + i) else w a) = _
    rw [hsrc, hw a]
    by_cases ea : a = 16 * y + i
    · rw [if_pos ea, if_pos (by omega), ea, Nat.add_sub_cancel_left]
    · rw [if_neg ea]
      by_cases eb : 16 * y ≤ a ∧ a < 16 * y + i
      · rw [if_pos eb, if_pos (by omega)]
      · rw [if_neg eb, if_neg (by omega)]
theorem s_copy (I : IV P fp lc ls pg pl kd pc ow ct op) (M : MM ls pg pl mem wd) (x1 : Int32) : X1_copy x1 (mkX P fp lc ls pg pl kd pc ow ct op mem scr) (fun r1 σ1 => X2_copy x1 (mkM P ls wd) (fun r2 τ1 => r1 = r2 ∧ RR σ1 τ1)) := by
  have h7 := I.1.2.2.2.2.2.2
  have hct := I.1.2.2.2.2.1.1
  have hP := I.1.2.2.2.2.2.1.2.2
  have hnd := iv_nd I
  unfold X1_copy X2_copy
  rcases gd_or ls x1 with ⟨h, hh, rfl, hl⟩ | hb
  · obtain ⟨g1, g2, g3, g4, g5, g6, g7, g8, g9⟩ := zlv I.1 hh hl
    have hu := iv_up I (zk_lt (ls h))
    refine x_good1 hh hl g6 (br_f one_ne ⟨h, rfl, hh, ?_⟩)
    rintro _ rfl
    refine x_alloc I hl g6 (fun hf => ?_) (fun y hy hz hly e1 e2 => ?_) (fun y hy hz hly hr fp' lc' pg' pl' kd' pc' ow' ct' op' mem' I' kp hzero => ?_)
    · refine br_f (by decide +kernel) ?_
      exact m_bad0 hh hl g6 (br_t rfl ⟨h, rfl, hh, m_allocF h7 hl g6 hf (br_f (by decide +kernel) ⟨rfl, RR_mk I M⟩)⟩)
    · refine br_f (by decide +kernel) ?_
      rw [if_pos e1] at hu
      exact m_bad0 hh hl g6 (br_t rfl ⟨h, rfl, hh, m_allocN h7 hct hl g6 hP hy hz hly (by omega) (by omega) (br_f (by decide +kernel) ⟨rfl, RR_mk I M⟩)⟩)
    · have hle : zn (fu ct (zk (ls h)) (ct (zk (ls h)) + 1)) ≤ P := by
        rw [hu]
        split <;> omega
      have hne : y ≠ h := fun e => by rw [e] at hz; omega
      have hhy : h ≠ y := fun e => hne e.symm
      have gh := zlv I'.1 hh (by rw [fu_n _ hhy]; exact hl)
      rw [fu_n _ hhy] at gh
      have gy := zlv I'.1 hy (by rw [fu_s]; exact hl)
      rw [fu_s] at gy
      obtain ⟨a1, a2, a3, a4, a5, a6, a7, a8, a9⟩ := gh
      obtain ⟨b1, b2, b3, b4, b5, b6, b7, b8, b9⟩ := gy
      -- the words of y lie apart from those of h, and of any other
      have apart : ∀ x, x < 64 → x ≠ y → 0 < ls x → ∀ k, k < zw (zk (ls x)) → ¬ (16 * pg' y + pl' y * zw (zk (ls h)) ≤ ad (pg' x) (pl' x) (zk (ls x)) k ∧ ad (pg' x) (pl' x) (zk (ls x)) k < 16 * pg' y + pl' y * zw (zk (ls h)) + ls h) := by
        intro x hx hxy hlx k hk hin
        obtain ⟨A, eA⟩ : ∃ A, ad (pg' x) (pl' x) (zk (ls x)) k = A := ⟨_, rfl⟩
        rw [eA] at hin
        have ha := ad_ne I'.1 hx (by rw [fu_n _ hxy]; exact hlx) hy (by rw [fu_s]; exact hl) hxy (k := k) (by rw [fu_n _ hxy]; exact hk) (k' := A - (16 * pg' y + pl' y * zw (zk (ls h)))) (by rw [fu_s]; omega)
        apply ha
        rw [fu_n _ hxy, fu_s, eA]
        unfold ad
        omega
      refine br_t (nI_pos' (by omega)) (x_base (c := zk (ls h)) hh a1 a2 a3 a4 (x_base (c := zk (ls h)) hy b1 b2 b3 b4 ⟨ls h + 1, ?_⟩))
      refine x_copyL (mem := mem') g6 (by omega) (by omega) (fun i hi => ?_) (fun m' hm => ?_) (ls h) 0 mem' (by omega) (fun a => (if_neg (by omega)).symm)
      · have q := apart h hh hhy hl i (by omega)
        unfold ad at q
        omega
      · refine m_bad0 hh hl g6 (br_t rfl ⟨h, rfl, hh, m_allocS h7 hct hl g6 hP hy hz hly hle (fun w' hw => br_t (nI_pos' (by omega)) ⟨17, ?_⟩)⟩)
        refine m_copyL (wd := w') hh hy hne (fun w2 hw2 => ⟨rfl, RR_mk I' (MM_chg M h7 ?_ ?_ ?_)⟩) 16 0 w' (by omega) (fun a => (if_neg (by omega)).symm)
        · intro x hx hxy hlx k hk
          rw [hm, if_neg (apart x hx hxy hlx k hk)]
          exact kp x hx hxy hlx k hk
        · intro x hx hxy k hk
          rw [hw2, if_neg (by omega), hw, if_neg (by omega)]
        · intro k hk
          rw [hw2, if_pos (by omega), show 16 * h + (16 * y + k - 16 * y) = 16 * h + k by omega, hw, if_neg (by omega), M h hh k hk]
          by_cases ek : k < ls h
          · rw [if_pos ek, if_pos ek, hm, if_pos (by unfold ad; omega)]
            rw [← kp h hh hhy hl k (by omega)]
            congr 1
            unfold ad
            omega
          · rw [if_neg ek, if_neg ek]
  · exact x_good0 hb (br_t rfl (m_bad1 hb (br_f one_ne ⟨rfl, RR_mk I M⟩)))
end ALLOC
end
section
set_option maxRecDepth 100000
theorem zn_cong {N N' : Nat → Nat} (h : ∀ c, c < 4 → N c = N' c) : zn N = zn N' := by
  rw [zn_eq, zn_eq, h 0 (by omega), h 1 (by omega), h 2 (by omega), h 3 (by omega)]
theorem cntK_fu (ls : Nat → Nat) {h : Nat} (v c : Nat) (hh : h < 64) : cntK (fu ls h v) c + (if 0 < ls h ∧ zk (ls h) = c then 1 else 0) = cntK ls c + (if 0 < v ∧ zk v = c then 1 else 0) := by
  have a := ct_fu (fun n => decide (0 < n ∧ zk n = c)) ls v hh
  simp only [decide_eq_true_eq] at a
  exact a
theorem cntL_fu (ls : Nat → Nat) {h : Nat} (v : Nat) (hh : h < 64) : cntL (fu ls h v) + (if 0 < ls h then 1 else 0) = cntL ls + (if 0 < v then 1 else 0) := by
  have a := ct_fu (fun n => decide (0 < n)) ls v hh
  simp only [decide_eq_true_eq] at a
  exact a
section RESIZE
variable {P fp lc : Nat} {ls pg pl kd pc ow ct op : Nat → Nat} {mem scr wd : Nat → Int32}
/-- another size of the same kind -/
theorem J0_S (I : J0 P fp lc ls pg pl kd pc ow ct) {h n : Nat} (hh : h < 64) (hl : 0 < ls h) (hn : 0 < n) (hn2 : n ≤ 16) (hk : zk n = zk (ls h)) : J0 P fp lc (fu ls h n) pg pl kd pc ow ct := by
  obtain ⟨i1, i2, i3, i4, i5, i6, i7⟩ := I
  refine ⟨?_, ?_, i3, i4, ?_, i6, ?_⟩
  · intro x hx hlx
    by_cases e : x = h
    · subst e
      rw [fu_s, hk]
      exact i1 x hx hl
    · rw [fu_n _ e] at hlx ⊢
      exact i1 x hx hlx
  · intro q hq ho
    have g := i2 q hq ho
    refine ⟨g.1, ?_, g.2.2⟩
    by_cases e : ow q - 1 = h
    · rw [e, fu_s]; exact hn
    · rw [fu_n _ e]; exact g.2.1
  · refine ⟨fun c hc => ?_, ?_⟩
    · have a := cntK_fu ls n c hh
      rw [hk] at a
      have b := i5.1 c hc
      by_cases e : zk (ls h) = c
      · rw [if_pos ⟨hl, e⟩, if_pos ⟨hn, e⟩] at a
        omega
      · rw [if_neg (fun q => e q.2), if_neg (fun q => e q.2)] at a
        omega
    · have a := cntL_fu ls n hh
      rw [if_pos hl, if_pos hn] at a
      have b := i5.2
      omega
  · intro x hx
    by_cases e : x = h
    · subst e; rw [fu_s]; exact hn2
    · rw [fu_n _ e]; exact i7 x hx
theorem m_rszL {h n r : Nat} {K : Int32 → St → Prop} (hh : h < 64)
    (hK : ∀ w' : Nat → Int32, (∀ a, w' a = if 16 * h + n ≤ a ∧ a < 16 * h + 16 then 0 else wd a) → K (nI r) (mkM P (fu ls h n) w')) :
    ∀ (d i : Nat) (w : Nat → Int32), i + d = 16 → n ≤ i → (∀ a, w a = if 16 * h + n ≤ a ∧ a < 16 * h + i then 0 else wd a) → X2_resize_L72 K (d + 1) (nI h) (nI n) (nI r) (nI i) (mkM P ls w) := by
  intro d
  induction d with
  | zero =>
    intro i w e hi hw
    have ei : i = 16 := by omega
    subst ei
    rw [X2_resize_L72]
    refine br_t (show nI 16 ≤ nI 16 from nI_le (Nat.le_refl _) (by omega)) ⟨h, rfl, hh, ?_⟩
    rintro _ rfl
    rw [mm_0]
    exact hK w hw
  | succ d ih =>
    intro i w e hi hw
    rw [X2_resize_L72]
    refine br_f (show ¬ nI 16 ≤ nI i from nI_ge (by omega) (by omega)) ⟨16 * h + i, m16 h i, by omega, ?_⟩
    rintro _ rfl _ rfl
    rw [mm_1, nI_1]
    refine ih (i + 1) _ (by omega) (by omega) (fun a => ?_)
    show (if a = 16 * h + i then 0 else w a) = _
    rw [hw a]
    (repeat' split) <;> first | rfl | (exfalso; omega)
theorem m_rszN {h n : Nat} {K : Int32 → St → Prop} (h7 : J7 ls) (hct : ∀ c, c < 4 → ct c = cntK ls c) (hP : P ≤ 12) (hh : h < 64) (hl : 0 < ls h) (hn : 0 < n) (hn2 : n ≤ 16) (h1 : 1 ≤ ct (zk (ls h)))
    (hb : zn (if zk n = zk (ls h) then ct else fu (fu ct (zk (ls h)) (ct (zk (ls h)) - 1)) (zk n) (ct (zk n) + 1)) < 2 ^ 31)
    (hgt : P < zn (if zk n = zk (ls h) then ct else fu (fu ct (zk (ls h)) (ct (zk (ls h)) - 1)) (zk n) (ct (zk n) + 1))) (hK : K (-3) (mkM P ls wd)) : X2_resize (nI h) (nI n) (mkM P ls wd) K := by
  have g6 := h7 h hh
  unfold X2_resize
  refine m_bad0 hh hl g6 (br_t rfl (br_f (show ¬ nI n < nI 1 from nI_nlt (by omega) (by omega)) (br_t (show nI n ≤ nI 16 from nI_le hn2 (by omega)) (m_kind hn2 ⟨h, rfl, hh, m_kind (n := ls h) g6 ?_⟩))))
  refine m_swap h7 (zk_lt n) (zk_lt (ls h)) hct h1 ?_
  exact pk_le _ P (fun a => absurd a (Nat.not_le_of_lt hgt)) (fun _ => hK) rfl rfl hb
theorem m_rszS {h n : Nat} {K : Int32 → St → Prop} (h7 : J7 ls) (hct : ∀ c, c < 4 → ct c = cntK ls c) (hP : P ≤ 12) (hh : h < 64) (hl : 0 < ls h) (hn : 0 < n) (hn2 : n ≤ 16) (h1 : 1 ≤ ct (zk (ls h)))
    (hle : zn (if zk n = zk (ls h) then ct else fu (fu ct (zk (ls h)) (ct (zk (ls h)) - 1)) (zk n) (ct (zk n) + 1)) ≤ P)
    (hK : ∀ w' : Nat → Int32, (∀ a, w' a = if 16 * h + n ≤ a ∧ a < 16 * h + 16 then 0 else wd a) → K (nI (ls h)) (mkM P (fu ls h n) w')) : X2_resize (nI h) (nI n) (mkM P ls wd) K := by
  have g6 := h7 h hh
  unfold X2_resize
  refine m_bad0 hh hl g6 (br_t rfl (br_f (show ¬ nI n < nI 1 from nI_nlt (by omega) (by omega)) (br_t (show nI n ≤ nI 16 from nI_le hn2 (by omega)) (m_kind hn2 ⟨h, rfl, hh, m_kind (n := ls h) g6 ?_⟩))))
  refine m_swap h7 (zk_lt n) (zk_lt (ls h)) hct h1 ?_
  refine br_t (nI_le hle (by omega)) ⟨h, rfl, hh, ?_⟩
  rintro _ rfl
  exact ⟨16 - n + 1, m_rszL hh hK (16 - n) n wd (by omega) (Nat.le_refl _) (fun a => (if_neg (by omega)).symm)⟩
/-- the words go from scratch to the new place -/
theorem x_rsz133 {n B r : Nat} {K : Int32 → St → Prop} (hn : n ≤ 16) (hB : B + n ≤ 192)
    (hK : ∀ m' : Nat → Int32, (∀ a, m' a = if B ≤ a ∧ a < B + n then scr (a - B) else mem a) → K (nI r) (mkX P fp lc ls pg pl kd pc ow ct op m' scr)) :
    ∀ (d i : Nat) (m : Nat → Int32), i + d = n → (∀ a, m a = if B ≤ a ∧ a < B + i then scr (a - B) else mem a) → X1_resize_L133 K (d + 1) (nI n) (nI r) (nI B) (nI i) (mkX P fp lc ls pg pl kd pc ow ct op m scr) := by
  intro d
  induction d with
  | zero =>
    intro i m e hm
    have ei : i = n := by omega
    subst ei
    rw [X1_resize_L133]
    exact br_t (nI_le (Nat.le_refl _) (by omega)) (hK m hm)
  | succ d ih =>
    intro i m e hm
    rw [X1_resize_L133]
    refine br_f (nI_ge (by omega) (by omega)) ⟨i, rfl, by omega, B + i, nI_add B i, by omega, ?_⟩
    rintro _ rfl _ rfl
    rw [mu_0, nI_1]
    refine ih (i + 1) _ (by omega) (fun a => ?_)
    show (if a = B + i then scr i else m a) = _
    rw [hm a]
    by_cases ea : a = B + i
    · rw [if_pos ea, if_pos (by omega), ea, Nat.add_sub_cancel_left]
    · rw [if_neg ea]
      by_cases eb : B ≤ a ∧ a < B + i
      · rw [if_pos eb, if_pos (by omega)]
      · rw [if_neg eb, if_neg (by omega)]
theorem s_resize (I : IV P fp lc ls pg pl kd pc ow ct op) (M : MM ls pg pl mem wd) (x1 x2 : Int32) : X1_resize x1 x2 (mkX P fp lc ls pg pl kd pc ow ct op mem scr) (fun r1 σ1 => X2_resize x1 x2 (mkM P ls wd) (fun r2 τ1 => r1 = r2 ∧ RR σ1 τ1)) := by
  have h7 := I.1.2.2.2.2.2.2
  have hct := I.1.2.2.2.2.1.1
  have hP := I.1.2.2.2.2.2.1.2.2
  have hnd := iv_nd I
  unfold X1_resize
  rcases gd_or ls x1 with ⟨h, hh, rfl, hl⟩ | hb
  · obtain ⟨g1, g2, g3, g4, g5, g6, g7, g8, g9⟩ := zlv I.1 hh hl
    have gp := J0_pos I.1 hh hl
    rcases sz_or x2 with ⟨n, hn, hn2, rfl⟩ | hb
    · have hc := zk_lt n
      have hzn := zw_zk hn2
      refine x_good1 hh hl g6 (br_f one_ne (x_sz1 hn hn2 (br_f one_ne ⟨h, rfl, hh, ?_⟩)))
      rintro _ rfl
      refine x_kind (n := ls h) g6 (x_kind hn2 ?_)
      refine pk_eq (zk (ls h)) (zk n) (fun e => ⟨h, rfl, hh, ?_⟩) (fun e => ?_)
      · -- the same kind
        rintro _ rfl
        rw [mu_6]
        rw [← e] at hzn
        refine x_wipe (c := zk (ls h)) (fr := ls h) hh g1 g2 g3 g4 (by omega) g6 (fun m' hm => ?_)
        refine m_rszS h7 hct hP hh hl hn hn2 gp.2.1 (by rw [if_pos e.symm]; omega) (fun w' hw => ⟨rfl, RR_mk ⟨J0_S I.1 hh hl hn hn2 e.symm, I.2⟩ (MM_chg M h7 ?_ ?_ ?_)⟩)
        · intro x hx hxh hlx k hk
          rw [hm, if_neg]
          intro hin
          obtain ⟨A, eA⟩ : ∃ A, ad (pg x) (pl x) (zk (ls x)) k = A := ⟨_, rfl⟩
          rw [eA] at hin
          have ha := ad_ne I.1 hx hlx hh hl hxh hk (k' := A - (16 * pg h + pl h * zw (zk (ls h)))) (by omega)
          apply ha
          rw [eA]
          unfold ad
          omega
        · intro x hx hxh k hk
          rw [hw, if_neg (by omega)]
        · intro k hk
          rw [hw, ← e, hm]
          by_cases ek : k < n
          · rw [if_neg (by omega), if_pos ek, M h hh k hk]
            by_cases ek2 : k < ls h
            · rw [if_pos ek2, if_neg (by unfold ad; omega)]
            · rw [if_neg ek2, if_pos (by unfold ad; omega)]
          · rw [if_pos (by omega), if_neg ek]
      · -- another kind
        have hne : zk n ≠ zk (ls h) := fun q => e q.symm
        have hbd : zn (fu (fu ct (zk (ls h)) (ct (zk (ls h)) - 1)) (zk n) (ct (zk n) + 1)) ≤ zn ct + 1 := by
          have a := iv_sw I (zk_lt (ls h)) hc hne gp.2.1
          have b : (if op (zk n) = 0 then 1 else 0) ≤ 1 := by split <;> omega
          omega
        refine x_needA I (zk_lt (ls h)) hc hne gp.2.1 ?_
        refine pk_le (zn (fu (fu ct (zk (ls h)) (ct (zk (ls h)) - 1)) (zk n) (ct (zk n) + 1))) P (fun hle => ⟨17, ?_⟩) (fun hgt => ?_)
        · have key : ∀ (d i : Nat) (sc : Nat → Int32), i + d = 16 → (∀ k, k < i → sc k = wd (16 * h + k)) → X1_resize_L67 (fun r1 σ1 => X2_resize (nI h) (nI n) (mkM P ls wd) (fun r2 τ1 => r1 = r2 ∧ RR σ1 τ1)) (d + 1) (nI h) (nI n) (nI (ls h)) (nI (zk n)) (nI i) (mkX P fp lc ls pg pl kd pc ow ct op mem sc) := by
            intro d
            induction d with
            | zero =>
              intro i sc ei hs
              have ei2 : i = 16 := by omega
              subst ei2
              rw [X1_resize_L67]
              refine br_t (show nI 16 ≤ nI 16 from nI_le (Nat.le_refl _) (by omega)) ?_
              refine x_remove I hh hl (fun fp1 lc1 pg1 pl1 kd1 pc1 ow1 ct1 op1 mem1 I1 kp1 => ⟨h, rfl, hh, ?_⟩)
              rintro _ rfl
              rw [mu_6]
              have hroom : 0 < op1 (zk n) ∨ 0 < fp1 := by
                have u := iv_up I1 hc
                have nd1 := iv_nd I1
                have ez : zn (fu ct1 (zk n) (ct1 (zk n) + 1)) = zn (fu (fu ct (zk (ls h)) (ct (zk (ls h)) - 1)) (zk n) (ct (zk n) + 1)) := by
                  have hcc : ∀ c, c < 4 → ct1 c = fu ct (zk (ls h)) (ct (zk (ls h)) - 1) c := by
                    intro c hc4
                    have a := cntK_fu ls 0 c hh
                    rw [if_neg (show ¬ (0 < 0 ∧ zk 0 = c) by omega)] at a
                    have b := I1.1.2.2.2.2.1.1 c hc4
                    have b2 := hct c hc4
                    by_cases q : c = zk (ls h)
                    · rw [if_pos ⟨hl, q.symm⟩] at a
                      rw [q, fu_s]
                      rw [q] at a b b2
                      omega
                    · rw [if_neg (fun z => q z.2.symm)] at a
                      rw [fu_n _ q]
                      omega
                  refine zn_cong (fun c hc4 => ?_)
                  by_cases q : c = zk n
                  · subst q
                    rw [fu_s, fu_s, hcc _ hc4, fu_n _ hne]
                  · rw [fu_n _ q, fu_n _ q]
                    exact hcc c hc4
                rw [ez] at u
                by_cases q : op1 (zk n) = 0
                · rw [if_pos q] at u
                  right
                  omega
                · left
                  omega
              refine x_place I1 hh (fu_s _ _ _) hn hn2 hroom (fun fp2 lc2 pg2 pl2 kd2 pc2 ow2 ct2 op2 I2 hfr => ?_)
              rw [fu_fu] at I2
              have gg := zlv I2.1 hh (by rw [fu_s]; exact hn)
              rw [fu_s] at gg
              obtain ⟨a1, a2, a3, a4, a5, a6, a7, a8, a9⟩ := gg
              refine x_base (c := zk n) hh a1 a2 a3 a4 ⟨n + 1, ?_⟩
              refine x_rsz133 (mem := mem1) hn2 (by omega) (fun m' hm => ?_) n 0 mem1 (by omega) (fun a => (if_neg (by omega)).symm)
              refine m_rszS h7 hct hP hh hl hn hn2 gp.2.1 (by rw [if_neg hne]; exact hle) (fun w' hw => ⟨rfl, RR_mk I2 (MM_chg M h7 ?_ ?_ ?_)⟩)
              · intro x hx hxh hlx k hk
                have f := hfr x hxh
                have kp := kp1 x hx hxh hlx k hk
                rw [hm, if_neg, f.1, f.2, kp]
                intro hin
                obtain ⟨A, eA⟩ : ∃ A, ad (pg2 x) (pl2 x) (zk (ls x)) k = A := ⟨_, rfl⟩
                rw [eA] at hin
                have ha := ad_ne I2.1 hx (by rw [fu_n _ hxh]; exact hlx) hh (by rw [fu_s]; exact hn) hxh (k := k) (by rw [fu_n _ hxh]; exact hk) (k' := A - (16 * pg2 h + pl2 h * zw (zk n))) (by rw [fu_s]; omega)
                apply ha
                rw [fu_n _ hxh, fu_s, eA]
                unfold ad
                omega
              · intro x hx hxh k hk
                rw [hw, if_neg (by omega)]
              · intro k hk
                rw [hw]
                by_cases ek : k < n
                · rw [if_neg (by omega), if_pos ek, hm, if_pos (by unfold ad; omega), ← hs k hk]
                  congr 1
                  unfold ad
                  omega
                · rw [if_pos (by omega), if_neg ek]
            | succ d ih =>
              intro i sc ei hs
              have hstep : ∀ v : Int32, v = wd (16 * h + i) → ∀ k, k < i + 1 → upd sc i v k = wd (16 * h + k) := by
                intro v hv k hk
                unfold upd
                by_cases q : k = i
                · rw [if_pos q, hv, q]
                · rw [if_neg q]; exact hs k (by omega)
              rw [X1_resize_L67]
              refine br_f (show ¬ nI 16 ≤ nI i from nI_ge (by omega) (by omega)) (pk_le (ls h) i (fun a => ⟨i, rfl, by omega, ?_⟩) (fun a => ?_))
              · rintro _ rfl _ rfl
                rw [mu_9, nI_1]
                exact ih (i + 1) _ (by omega) (hstep 0 ((M h hh i (by omega)).trans (if_neg (by omega))).symm)
              · refine x_word hh g1 g2 g3 g4 (by omega) ⟨i, rfl, by omega, ?_⟩
                rintro _ rfl _ rfl
                rw [mu_9, nI_1]
                exact ih (i + 1) _ (by omega) (hstep _ (MM_get M hh (by omega) a))
          exact key 16 0 scr (by omega) (fun k hk => absurd hk (Nat.not_lt_zero k))
        · exact m_rszN h7 hct hP hh hl hn hn2 gp.2.1 (by rw [if_neg hne]; omega) (by rw [if_neg hne]; exact hgt) ⟨rfl, RR_mk I M⟩
    · refine x_good1 hh hl g6 (br_f one_ne (x_sz0 hb (br_t rfl ?_)))
      unfold X2_resize
      refine m_bad0 hh hl g6 (br_t rfl ?_)
      rcases hb with q | ⟨q1, q2⟩
      · exact br_t q ⟨rfl, RR_mk I M⟩
      · refine br_f q1 (br_f ?_ ⟨rfl, RR_mk I M⟩)
        rw [Int32.lt_iff_toInt_lt] at q2
        rw [Int32.le_iff_toInt_le]
        omega
  · refine x_good0 hb (br_t rfl ?_)
    unfold X2_resize
    exact m_bad1 hb (br_f one_ne ⟨rfl, RR_mk I M⟩)
end RESIZE
end
section
set_option maxRecDepth 100000
/-- how many from i on have a property -/
def cn (q : Nat → Bool) : Nat → Nat → Nat
  | _, 0 => 0
  | i, d + 1 => (if q i then 1 else 0) + cn q (i + 1) d
theorem cn_succ (q : Nat → Bool) (i d : Nat) : cn q i (d + 1) = (if q i then 1 else 0) + cn q (i + 1) d := rfl
theorem cn_cong {q q' : Nat → Bool} : ∀ (d i : Nat), (∀ h, i ≤ h → q h = q' h) → cn q i d = cn q' i d
  | 0, _, _ => rfl
  | d + 1, i, h => by
    rw [cn_succ, cn_succ, h i (Nat.le_refl _), cn_cong d (i + 1) (fun x hx => h x (by omega))]
/-- from i on, the objects of a kind are gone -/
def fcl (kind : Nat) (ls : Nat → Nat) (i : Nat) : Nat → Nat := fun h => if i ≤ h ∧ h < 64 ∧ 0 < ls h ∧ zk (ls h) = kind then 0 else ls h
def fq (kind : Nat) (ls : Nat → Nat) : Nat → Bool := fun h => decide (0 < ls h ∧ zk (ls h) = kind)
theorem fcl_skip {kind i : Nat} {ls : Nat → Nat} (h : ¬ (0 < ls i ∧ zk (ls i) = kind)) : fcl kind ls (i + 1) = fcl kind ls i := by
  funext x
  unfold fcl
  by_cases e : x = i
  · subst e
    rw [if_neg (by omega), if_neg (fun q => h q.2.2)]
  · by_cases c1 : i + 1 ≤ x ∧ x < 64 ∧ 0 < ls x ∧ zk (ls x) = kind
    · rw [if_pos c1, if_pos ⟨by omega, c1.2⟩]
    · rw [if_neg c1, if_neg (fun q => c1 ⟨by omega, q.2⟩)]
theorem fcl_take {kind i : Nat} {ls : Nat → Nat} (hi : i < 64) (h : 0 < ls i ∧ zk (ls i) = kind) : fcl kind (fu ls i 0) (i + 1) = fcl kind ls i := by
  funext x
  unfold fcl
  by_cases e : x = i
  · subst e
    rw [if_neg (by omega), if_pos ⟨Nat.le_refl _, hi, h⟩, fu_s]
  · rw [fu_n _ e]
    by_cases c1 : i + 1 ≤ x ∧ x < 64 ∧ 0 < ls x ∧ zk (ls x) = kind
    · rw [if_pos c1, if_pos ⟨by omega, c1.2⟩]
    · rw [if_neg c1, if_neg (fun q => c1 ⟨by omega, q.2⟩)]
theorem fq_take {kind i : Nat} {ls : Nat → Nat} (d : Nat) : cn (fq kind (fu ls i 0)) (i + 1) d = cn (fq kind ls) (i + 1) d := by
  refine cn_cong d (i + 1) (fun x hx => ?_)
  unfold fq
  rw [fu_n _ (by omega)]
section FCLASS
variable {P fp lc : Nat} {ls pg pl kd pc ow ct op : Nat → Nat} {mem scr wd : Nat → Int32}
theorem x_fcL {kind : Nat} {K : Int32 → St → Prop} (hk : kind < 4) : ∀ (d i a fp lc : Nat) (ls pg pl kd pc ow ct op : Nat → Nat) (mem : Nat → Int32), i + d = 64 → IV P fp lc ls pg pl kd pc ow ct op →
    (∀ (fp' lc' : Nat) (pg' pl' kd' pc' ow' ct' op' : Nat → Nat) (mem' : Nat → Int32), IV P fp' lc' (fcl kind ls i) pg' pl' kd' pc' ow' ct' op' → (∀ x, x < 64 → 0 < fcl kind ls i x → ∀ k, k < zw (zk (ls x)) → mem' (ad (pg' x) (pl' x) (zk (ls x)) k) = mem (ad (pg x) (pl x) (zk (ls x)) k)) → K (nI (a + cn (fq kind ls) i d)) (mkX P fp' lc' (fcl kind ls i) pg' pl' kd' pc' ow' ct' op' mem' scr)) →
    X1_freeClass_L13 K (d + 1) (nI kind) (nI a) (nI i) (mkX P fp lc ls pg pl kd pc ow ct op mem scr) := by
  intro d
  induction d with
  | zero =>
    intro i a fp lc ls pg pl kd pc ow ct op mem e I hK
    have ei : i = 64 := by omega
    subst ei
    have ef : fcl kind ls 64 = ls := by
      funext x
      exact if_neg (by omega)
    rw [ef] at hK
    rw [X1_freeClass_L13]
    exact br_t (show nI 64 ≤ nI 64 from nI_le (Nat.le_refl _) (by omega)) (hK fp lc pg pl kd pc ow ct op mem I (fun x _ _ k _ => rfl))
  | succ d ih =>
    intro i a fp lc ls pg pl kd pc ow ct op mem e I hK
    have h6 := I.1.2.2.2.2.2.2 i (by omega)
    rw [X1_freeClass_L13]
    refine br_f (show ¬ nI 64 ≤ nI i from nI_ge (by omega) (by omega)) ⟨i, rfl, by omega, pk_le (ls i) 0 (fun q => ?_) (fun q => ?_)⟩
    · rintro _ rfl
      rw [nI_1]
      refine ih (i + 1) a fp lc ls pg pl kd pc ow ct op mem (by omega) I ?_
      rw [fcl_skip (fun z => absurd z.1 (by omega))]
      rw [cn_succ, if_neg (by unfold fq; simp; omega), Nat.zero_add] at hK
      exact hK
    · obtain ⟨g1, g2, g3, g4, g5, g6, g7, g8, g9⟩ := zlv I.1 (show i < 64 by omega) q
      refine ⟨i, rfl, by omega, pg i, rfl, g1, ?_⟩
      refine pk_eq (zk (ls i)) kind (fun q2 => ?_) (fun q2 => ?_) ((congrArg (fun z => nI z - 1) g4).trans (nI_pred _))
      · refine x_remove I (show i < 64 by omega) q (fun fp1 lc1 pg1 pl1 kd1 pc1 ow1 ct1 op1 mem1 I1 kp1 => ⟨i, rfl, by omega, ?_⟩)
        rintro _ rfl
        rw [show (0 : Int32) = nI 0 from rfl, mu_6]
        rintro _ rfl _ rfl
        rw [nI_1, nI_1]
        refine ih (i + 1) (a + 1) fp1 lc1 (fu ls i 0) pg1 pl1 kd1 pc1 ow1 ct1 op1 mem1 (by omega) I1 ?_
        rw [fcl_take (by omega) ⟨q, q2⟩, fq_take]
        rw [cn_succ, if_pos (by unfold fq; simp [q, q2]), ← Nat.add_assoc] at hK
        intro fp' lc' pg' pl' kd' pc' ow' ct' op' mem' I' hm
        refine hK fp' lc' pg' pl' kd' pc' ow' ct' op' mem' I' (fun x hx hlx k hk => ?_)
        have hxi : x ≠ i := by
          intro z
          subst z
          have : fcl kind ls x x = 0 := if_pos ⟨Nat.le_refl _, hx, q, q2⟩
          omega
        have hlx2 : 0 < ls x := by
          unfold fcl at hlx
          split at hlx
          · omega
          · exact hlx
        have hm2 := hm x hx hlx k
        rw [fu_n _ hxi] at hm2
        rw [hm2 hk]
        exact kp1 x hx hxi hlx2 k hk
      · rintro _ rfl
        rw [nI_1]
        refine ih (i + 1) a fp lc ls pg pl kd pc ow ct op mem (by omega) I ?_
        rw [fcl_skip (fun z => absurd z.2 q2)]
        rw [cn_succ, if_neg (by unfold fq; simp [q2]), Nat.zero_add] at hK
        exact hK
theorem m_fcL {kind : Nat} {K : Int32 → St → Prop} (hk : kind < 4) : ∀ (d i a : Nat) (ls : Nat → Nat) (w : Nat → Int32), i + d = 64 → J7 ls →
    (∀ w' : Nat → Int32, (∀ x, x < 64 → ∀ k, k < 16 → w' (16 * x + k) = if i ≤ x ∧ 0 < ls x ∧ zk (ls x) = kind then 0 else w (16 * x + k)) → K (nI (a + cn (fq kind ls) i d)) (mkM P (fcl kind ls i) w')) →
    X2_freeClass_L15 K (d + 1) (nI kind) (nI a) (nI i) (mkM P ls w) := by
  intro d
  induction d with
  | zero =>
    intro i a ls w e h7 hK
    have ei : i = 64 := by omega
    subst ei
    have ef : fcl kind ls 64 = ls := by
      funext x
      exact if_neg (by omega)
    rw [ef] at hK
    rw [X2_freeClass_L15]
    exact br_t (show nI 64 ≤ nI 64 from nI_le (Nat.le_refl _) (by omega)) (hK w (fun x hx k _ => (if_neg (by omega)).symm))
  | succ d ih =>
    intro i a ls w e h7 hK
    have h6 := h7 i (by omega)
    rw [X2_freeClass_L15]
    have skip : ¬ (0 < ls i ∧ zk (ls i) = kind) → X2_freeClass_L15 K (d + 1) (nI kind) (nI a) (nI (i + 1)) (mkM P ls w) := by
      intro hn
      refine ih (i + 1) a ls w (by omega) h7 ?_
      rw [fcl_skip hn]
      rw [cn_succ, if_neg (by unfold fq; simpa using hn), Nat.zero_add] at hK
      intro w' hw
      refine hK w' (fun x hx k hk => ?_)
      rw [hw x hx k hk]
      by_cases ex : x = i
      · subst ex
        rw [if_neg (by omega), if_neg (fun z => hn z.2)]
      · by_cases c1 : i + 1 ≤ x ∧ 0 < ls x ∧ zk (ls x) = kind
        · rw [if_pos c1, if_pos ⟨by omega, c1.2⟩]
        · rw [if_neg c1, if_neg (fun z => c1 ⟨by omega, z.2⟩)]
    refine br_f (show ¬ nI 64 ≤ nI i from nI_ge (by omega) (by omega)) ⟨i, rfl, by omega, pk_le (ls i) 0 (fun q => ?_) (fun q => ⟨i, rfl, by omega, m_kind (n := ls i) h6 ?_⟩)⟩
    · rintro _ rfl
      rw [nI_1]
      exact skip (by omega)
    · have hz := zk_lt (ls i)
      refine pk_eq (zk (ls i)) kind (fun q2 => ?_) (fun q2 => ?_)
      · refine m_wipe (show i < 64 by omega) (fun w1 hw1 => ?_)
        rintro _ rfl _ rfl
        rw [nI_1, nI_1]
        have h71 : J7 (fu ls i 0) := by
          intro x hx
          by_cases ex : x = i
          · subst ex; rw [fu_s]; omega
          · rw [fu_n _ ex]; exact h7 x hx
        refine ih (i + 1) (a + 1) (fu ls i 0) w1 (by omega) h71 ?_
        rw [fcl_take (by omega) ⟨q, q2⟩, fq_take]
        rw [cn_succ, if_pos (by unfold fq; simp [q, q2]), ← Nat.add_assoc] at hK
        intro w' hw
        refine hK w' (fun x hx k hk => ?_)
        rw [hw x hx k hk]
        by_cases ex : x = i
        · subst ex
          rw [if_neg (by omega), if_pos ⟨Nat.le_refl _, q, q2⟩, hw1, if_pos (by omega)]
        · rw [fu_n _ ex, hw1, if_neg (show ¬ (16 * i ≤ 16 * x + k ∧ 16 * x + k < 16 * i + 16) by omega)]
          by_cases c1 : i + 1 ≤ x ∧ 0 < ls x ∧ zk (ls x) = kind
          · rw [if_pos c1, if_pos ⟨by omega, c1.2⟩]
          · rw [if_neg c1, if_neg (fun z => c1 ⟨by omega, z.2⟩)]
      · rintro _ rfl
        rw [nI_1]
        exact skip (fun z => q2 z.2)
theorem s_freeClass (I : IV P fp lc ls pg pl kd pc ow ct op) (M : MM ls pg pl mem wd) (x1 : Int32) : X1_freeClass x1 (mkX P fp lc ls pg pl kd pc ow ct op mem scr) (fun r1 σ1 => X2_freeClass x1 (mkM P ls wd) (fun r2 τ1 => r1 = r2 ∧ RR σ1 τ1)) := by
  have h7 := I.1.2.2.2.2.2.2
  unfold X1_freeClass
  rcases kd_or x1 with ⟨c, hc, rfl⟩ | hb
  · refine x_kd1 hc (br_f one_ne ⟨65, ?_⟩)
    refine x_fcL hc 64 0 0 fp lc ls pg pl kd pc ow ct op mem (by omega) I (fun fp' lc' pg' pl' kd' pc' ow' ct' op' mem' I' hm => ?_)
    unfold X2_freeClass
    refine br_f (nI_pos (by omega)) (br_t (show nI c ≤ nI 3 from nI_le (by omega) (by omega)) ⟨65, ?_⟩)
    refine m_fcL hc 64 0 0 ls wd (by omega) h7 (fun w' hw => ⟨rfl, RR_mk I' ?_⟩)
    intro x hx k hk
    rw [hw x hx k hk]
    by_cases c1 : 0 < ls x ∧ zk (ls x) = c
    · have ez : fcl c ls 0 x = 0 := if_pos ⟨Nat.zero_le _, hx, c1⟩
      rw [if_pos ⟨Nat.zero_le _, c1⟩, ez, if_neg (Nat.not_lt_zero k)]
    · have ez : fcl c ls 0 x = ls x := if_neg (fun z => c1 z.2.2)
      rw [if_neg (fun z => c1 z.2), ez, M x hx k hk]
      by_cases ek : k < ls x
      · have z := zw_zk (h7 x hx)
        rw [if_pos ek, if_pos ek, hm x hx (by rw [ez]; omega) k (by omega)]
      · rw [if_neg ek, if_neg ek]
  · refine x_kd0 hb (br_t rfl ?_)
    unfold X2_freeClass
    rcases hb with h | ⟨h1, h2⟩
    · exact br_t h ⟨rfl, RR_mk I M⟩
    · refine br_f h1 (br_f ?_ ⟨rfl, RR_mk I M⟩)
      rw [Int32.lt_iff_toInt_lt] at h2
      rw [Int32.le_iff_toInt_le]
      omega
end FCLASS
end
section
set_option maxRecDepth 100000
/-! the start -/
/-- none before i, what no cell holds behind -/
def zi (i : Nat) : Nat → Nat := fun j => if j < i then 0 else 1
theorem zi_fu (i : Nat) : fu (zi i) i 0 = zi (i + 1) := by
  funext j
  unfold fu zi
  (repeat' split) <;> first | rfl | (exfalso; omega)
theorem zi_lt {i j : Nat} (h : j < i) : zi i j = 0 := if_pos h
theorem ini_eq : (fun _ _ => 0 : St) = mkX 0 0 0 (fun _ => 0) (fun _ => 0) (fun _ => 0) (zi 0) (fun _ => 0) (zi 0) (fun _ => 0) (zi 0) (fun _ => 0) (fun _ => 0) := by
  funext k i
  match k with
  | 0 => rfl
  | 1 => exact (nI_pred 0).symm
  | 2 => rfl
  | 3 => exact (nI_pred 0).symm
  | 4 => rfl
  | 5 => rfl
  | 6 => rfl
  | 7 => exact (nI_pred 0).symm
  | 8 => rfl
  | 9 => rfl
  | 10 =>
    match i with
    | 0 => rfl
    | 1 => rfl
    | 2 => rfl
    | n + 3 => rfl
  | n + 11 => rfl
theorem inm_eq : (fun _ _ => 0 : St) = mkM 0 (fun _ => 0) (fun _ => 0) := by
  funext k i
  match k with
  | 0 => rfl
  | 1 => rfl
  | 2 => rfl
  | 3 => rfl
  | 4 => rfl
  | 5 => rfl
  | 6 => rfl
  | 7 => rfl
  | 8 => rfl
  | 9 => rfl
  | 10 =>
    match i with
    | 0 => rfl
    | n + 1 => rfl
  | n + 11 => rfl
theorem ini_IV {P : Nat} (h2 : 2 ≤ P) (h12 : P ≤ 12) : IV P P 0 (fun _ => 0) (fun _ => 0) (fun _ => 0) (zi 12) (fun _ => 0) (zi 96) (fun _ => 0) (zi 4) := by
  refine ⟨⟨?_, ?_, ?_, ?_, ⟨?_, ?_⟩, ⟨?_, h2, h12⟩, ?_⟩, ?_, ?_, ?_⟩
  · intro h _ hl
    exact absurd hl (Nat.lt_irrefl 0)
  · intro q hq ho
    rw [zi_lt hq] at ho
    exact absurd ho (Nat.lt_irrefl 0)
  · intro p hp
    rw [zi_lt hp]
    exact ⟨by omega, fun _ => rfl⟩
  · intro p hp hk
    rw [zi_lt hp] at hk
    exact absurd hk (Nat.lt_irrefl 0)
  · intro c hc
    exact (fb_ct_zero.mpr (fun k hk => by simp)).symm
  · exact (fb_ct_zero.mpr (fun k hk => by simp)).symm
  · rw [fb_ct_zero.mpr (fun k hk => by rw [zi_lt hk]; rfl), Nat.add_zero]
  · intro h _
    exact Nat.zero_le _
  · intro p hp hk
    rw [zi_lt hp] at hk
    exact absurd hk (Nat.lt_irrefl 0)
  · intro c hc ho
    rw [zi_lt hc] at ho
    exact absurd ho (Nat.lt_irrefl 0)
  · intro c hc
    have e : nP (zi 12) c = 0 := fb_ct_zero.mpr (fun k hk => by rw [zi_lt hk]; simp)
    rw [e, zi_lt hc]
    simp
section INI
variable {P fp lc : Nat} {ls pg pl kd pc ow ct op : Nat → Nat} {mem scr wd : Nat → Int32}
theorem x_ini164 {K : St → Prop} (hK : K (mkX P fp lc ls pg pl kd pc ow ct (zi 4) mem scr)) : ∀ d i : Nat, i + d = 4 → X1_init_L164 K (d + 1) (nI i) (mkX P fp lc ls pg pl kd pc ow ct (zi i) mem scr) := by
  intro d
  induction d with
  | zero =>
    intro i e
    have ei : i = 4 := by omega
    subst ei
    rw [X1_init_L164]
    exact br_t (show nI 4 ≤ nI 4 from nI_le (Nat.le_refl _) (by omega)) hK
  | succ d ih =>
    intro i e
    rw [X1_init_L164]
    refine br_f (show ¬ nI 4 ≤ nI i from nI_ge (by omega) (by omega)) ⟨i, rfl, by omega, ?_⟩
    rintro _ rfl _ rfl
    rw [mu_7n, zi_fu, nI_1]
    exact ih (i + 1) (by omega)
theorem x_ini143 {K : St → Prop} (hK : ∃ n, X1_init_L164 K n 0 (mkX P fp lc ls pg pl kd pc (zi 96) ct op mem scr)) : ∀ d i : Nat, i + d = 96 → X1_init_L143 K (d + 1) (nI i) (mkX P fp lc ls pg pl kd pc (zi i) ct op mem scr) := by
  intro d
  induction d with
  | zero =>
    intro i e
    have ei : i = 96 := by omega
    subst ei
    rw [X1_init_L143]
    exact br_t (show nI 96 ≤ nI 96 from nI_le (Nat.le_refl _) (by omega)) hK
  | succ d ih =>
    intro i e
    rw [X1_init_L143]
    refine br_f (show ¬ nI 96 ≤ nI i from nI_ge (by omega) (by omega)) ⟨i, rfl, by omega, ?_⟩
    rintro _ rfl _ rfl
    rw [mu_3n, zi_fu, nI_1]
    exact ih (i + 1) (by omega)
theorem x_ini122 {K : St → Prop} (hK : ∃ n, X1_init_L143 K n 0 (mkX P fp lc ls pg pl (zi 12) pc ow ct op mem scr)) : ∀ d i : Nat, i + d = 12 → X1_init_L122 K (d + 1) (nI i) (mkX P fp lc ls pg pl (zi i) pc ow ct op mem scr) := by
  intro d
  induction d with
  | zero =>
    intro i e
    have ei : i = 12 := by omega
    subst ei
    rw [X1_init_L122]
    exact br_t (show nI 12 ≤ nI 12 from nI_le (Nat.le_refl _) (by omega)) hK
  | succ d ih =>
    intro i e
    rw [X1_init_L122]
    refine br_f (show ¬ nI 12 ≤ nI i from nI_ge (by omega) (by omega)) ⟨i, rfl, by omega, ?_⟩
    rintro _ rfl _ rfl
    rw [mu_1n, zi_fu, nI_1]
    exact ih (i + 1) (by omega)
theorem x_ini112 {K : St → Prop} (h2 : 2 ≤ P) (h12 : P ≤ 12) (hK : K (mkX P P 0 (fun _ => 0) (fun _ => 0) (fun _ => 0) (zi 12) (fun _ => 0) (zi 96) (fun _ => 0) (zi 4) (fun _ => 0) (fun _ => 0))) :
    X1_init_B112 K (mkX P 0 0 (fun _ => 0) (fun _ => 0) (fun _ => 0) (zi 0) (fun _ => 0) (zi 0) (fun _ => 0) (zi 0) (fun _ => 0) (fun _ => 0)) := by
  unfold X1_init_B112
  rintro _ rfl
  rw [show mkX P 0 0 (fun _ => 0) (fun _ => 0) (fun _ => 0) (zi 0) (fun _ => 0) (zi 0) (fun _ => 0) (zi 0) (fun _ => 0) (fun _ => 0) 10 0 = nI P from rfl, mu_f1]
  exact ⟨13, x_ini122 ⟨97, x_ini143 ⟨5, x_ini164 hK 4 0 (by omega)⟩ 96 0 (by omega)⟩ 12 0 (by omega)⟩
end INI
theorem ini_RR {P : Nat} (h2 : 2 ≤ P) (h12 : P ≤ 12) : RR (mkX P P 0 (fun _ => 0) (fun _ => 0) (fun _ => 0) (zi 12) (fun _ => 0) (zi 96) (fun _ => 0) (zi 4) (fun _ => 0) (fun _ => 0)) (mkM P (fun _ => 0) (fun _ => 0)) :=
  RR_mk (ini_IV h2 h12) (fun h _ k _ => (if_neg (Nat.not_lt_zero k)).symm)
theorem law_ini (x : Int32) : X1_init x (fun _ _ => 0) (fun σ => X2_init x (fun _ _ => 0) (fun τ => RR σ τ)) := by
  rw [ini_eq]
  have hx : ¬ (2 : Int32) ≤ x ∨ (∃ n, 2 ≤ n ∧ n < 2 ^ 31 ∧ x = nI n) := by
    by_cases h : (2 : Int32) ≤ x
    · right
      have h0 : ¬ x < 0 := by
        rw [Int32.lt_iff_toInt_lt]
        rw [Int32.le_iff_toInt_le] at h
        have e0 : (0 : Int32).toInt = 0 := by decide +kernel
        have e2 : (2 : Int32).toInt = 2 := by decide +kernel
        omega
      obtain ⟨n, hn, rfl⟩ := nI_of h0
      exact ⟨n, (nI_leI (by omega) hn).mp h, hn, rfl⟩
    · exact Or.inl h
  unfold X1_init
  rcases hx with hx | ⟨n, hn, hn2, rfl⟩
  · refine br_f hx ?_
    rintro _ rfl
    rw [show (2 : Int32) = nI 2 from rfl, mu_f0]
    refine br_t (show nI 2 ≤ nI 12 from nI_le (by omega) (by omega)) (x_ini112 (by omega) (by omega) ?_)
    unfold X2_init
    refine br_f hx ?_
    rintro _ rfl
    rw [← ini_eq, inm_eq, show (2 : Int32) = nI 2 from rfl, mm_f]
    exact ini_RR (by omega) (by omega)
  · refine br_t (show nI 2 ≤ nI n from nI_le hn hn2) ?_
    rintro _ rfl
    rw [mu_f0]
    refine pk_le n 12 (fun a => x_ini112 hn a ?_) (fun a => ?_)
    · unfold X2_init
      refine br_t (show nI 2 ≤ nI n from nI_le hn hn2) (br_t (show nI n ≤ nI 12 from nI_le a (by omega)) ?_)
      rintro _ rfl
      rw [← ini_eq, inm_eq, mm_f]
      exact ini_RR hn a
    · rintro _ rfl
      rw [show (12 : Int32) = nI 12 from rfl, mu_f0]
      refine x_ini112 (by omega) (by omega) ?_
      unfold X2_init
      refine br_t (show nI 2 ≤ nI n from nI_le hn hn2) (br_f (show ¬ nI n ≤ nI 12 from nI_ge a hn2) ?_)
      rintro _ rfl
      rw [← ini_eq, inm_eq, show (12 : Int32) = nI 12 from rfl, mm_f]
      exact ini_RR (by omega) (by omega)
theorem law_sim (σ τ : St) (h : RR σ τ) : SIM RR σ τ := by
  obtain ⟨P, fp, lc, ls, pg, pl, kd, pc, ow, ct, op, mem, scr, wd, rfl, rfl, I, M⟩ := h
  exact ⟨s_pages I M, s_allocate I M, s_free I M, s_resize I M, s_copy I M, s_freeClass I M, s_read I M, s_write I M, s_fill I M, s_exchange I M, s_size I M, s_live I M, s_liveIn I M, s_needed I M, s_roomFor I M, s_sum I M, s_next I M, s_count I M, s_faults I M⟩
end
section
set_option maxRecDepth 100000
/-- from the entry, for every script of at most 257 ints, the law comes to its end with true -/
theorem whole_start {p : Program} {e : Env} {s : State} {m : MethodId} {below : List Frame} {meth : Method} {c : Code} (l : Launch) {b L : Nat} {xs : Nat → Int32} (hL : L ≤ 257) (C0 : lw_At p s m meth c b L xs) : W p l e room_1 s m #[Value.ref b] below meth c s.heap [] 0 0 (lw_Z below #[Value.ref b] s) (entryFrame m ([Value.ref b] : List Value).toArray 4) := whole_of_sim l law_ini law_sim hL C0
set_option maxHeartbeats 4000000 in
theorem lw_walk (l : Launch) (b : Addr) (xs : List Int32) : MetFree l x (headSpec (Jvm.Cond.code x code maxLocals ret :: tables_1) room_1) (lw_P b xs) (fun _ _ _ _ _ => True) lw_Q := by
  refine MetFree.of_bodyS (code := code) (maxLocals := maxLocals) (ret := ret) (by decide) ?_ ?_
  · intro args s m h hn
    obtain ⟨meth, c, h1, h2, h3, h4, h5, h6, -, -⟩ := Cond.code_spec hn (atoms_spec (ws := Jvm.Cond.code x code maxLocals ret :: tables_1) h _ List.mem_cons_self)
    exact ⟨meth, c, h1, h2, h3, h4, h5, h6⟩
  · intro p e s m args below meth c s₁ B hml0 hP _
    obtain ⟨rfl, hx, hbd, hgv⟩ := hP
    obtain ⟨scr, harrAt, hlist, hof, hsmall⟩ := hx
    obtain ⟨hcb, hkn, -, -⟩ := State.arrayAt?_spec harrAt
    have hown : s.vm.findClass R_law = some m.cls := findClass_of_methodNamed B.named
    have hts0 : ∀ c ∈ (Jvm.Cond.code x code maxLocals ret :: tables_1), c.before #[Value.ref b] s = true := atoms_spec (ws := Jvm.Cond.code x code maxLocals ret :: tables_1) B.pre
    have hts : ∀ w ∈ lw_tbl, w.before #[Value.ref b] s = true := k2_hts_sels lw_privs (fun w hw => hts0 w (List.mem_cons_of_mem _ hw)) lw_privs_ok
    have hml : c.maxLocals = 4 := B.maxLocals_eq (hts0 _ List.mem_cons_self)
    have X₀ : Stand p l e room_1 s m #[Value.ref b] below meth c s₁ [] 0 0 := Stand.of_body B
    have hh0 : s₁.heap = s.heap := by rw [B.state]; rfl
    have hsz : scr.slots.size = xs.length := by rw [← Array.length_toList, hlist, List.length_map]
    have hval : ∀ j : Nat, j < xs.length → scr.slots[j]? = some (.int (xs.getD j 0)) := fun j hj => by
      rw [← Array.getElem?_toList, hlist]
      simp [hj]
    have hbl : b < s.heap.size := (Array.getElem?_eq_some_iff.mp hcb).1
    have hX : va_X b xs.length (fun j => xs.getD j 0) s s.heap := ⟨scr, hcb, hof, hkn, hsz, hval⟩
    have K : W p l e room_1 s m #[Value.ref b] below meth c s₁.heap [] 0 0 (lw_Z below #[Value.ref b] s) (entryFrame m ([Value.ref b] : List Value).toArray 4) := by
      rw [hh0]
      exact whole_start l hbd ⟨B.exec, B.bytes, B.returns, hml, hown, hts, hX, hbl, B.notSynchronized, hgv⟩
    obtain ⟨t, a1, o, b1, b2, b3⟩ := K s₁ rfl X₀
    exact ⟨t, o, a1, b1, b2, b3⟩
theorem lw_pre_spec {args : Array Value} {s : State} (h : (Jvm.Cond.and given_1 narrow_1).before args s = true) (hr : rest_1_c.before args s = true) : ∃ (b : Addr) (xs : List Int32), lw_P b xs args s := by
  have hs := flat_of_before _ h
  have hq := flat_of_before _ hr
  have hc : (Cond.count 1).before args s = true := hs _ (by decide +kernel)
  have harr : (Cond.arrayOf (.arg 0) .int).before args s = true := hs _ (by decide +kernel)
  have hle : (Cond.le (.length (.arg 0)) (.int 257)).before args s = true := hs _ (by decide +kernel)
  have hlen : (Cond.isInt (.length (.arg 0))).before args s = true := hq _ (by decide +kernel)
  have hall : (Cond.all (.arg 0) (.isInt (.elem (.arg 0) (.index 0)))).before args s = true := hq _ (by decide +kernel)
  obtain ⟨b, xs, hb, hx⟩ := State.ints_of_pre rfl harr hlen hall
  have hsm : xs.length < 2 ^ 31 := hx.choose_spec.2.2.2
  have hev : (Term.length (.arg 0)).eval args s none [] s = some (.int xs.length.toInt32) := hx.length_eval hb
  have hv := Cond.le_ints hev (show (Term.int 257).eval args s none [] s = some (.int 257) from rfl)
  have hd : xs.length.toInt32 ≤ 257 := by
    simpa [Cond.before, Cond.holds, hv] using hle
  have hN : xs.length ≤ 257 := (Int32.ofNat_le_ofNat hsm (by decide)).mp (show Int32.ofNat xs.length ≤ Int32.ofNat 257 from hd)
  exact ⟨b, xs, Cond.one_arg hc (show args[0]? = some (.ref b) from hb), hx, hN, h⟩
theorem lw_comes (l : Launch) : Comes l x (Jvm.Cond.code x code maxLocals ret :: tables_1) room_1 (fun tb e args s => Calls_1 tb e args s ∧ rest_1 tb e args s ∧ Pre_1 tb e args s)
    (fun _ _ args s o t => lw_Q args s o t) := by
  intro p e ha hc hk s m args below hf hfit hheap happ hpre
  obtain ⟨b, xs, hP⟩ := lw_pre_spec hpre.2.2 hpre.2.1
  obtain ⟨k, o, h1, h2, h3, hQ⟩ := lw_walk l b xs p e ha hc hk s m args below hf ((Spec.applies_iff_loose hf).mp happ).1 hP trivial
  exact ⟨k, o, h1, h2, h3, hQ⟩
theorem lw_frame {s t : State} {o : Outcome} {args : Array Value} (h : Framed s o t [] 600000 7290000) :
    Framed s o t (fieldLocs frame_1_writes args s ++ arrayLocs frame_1_arrays args s ++ staticLocs frame_1_statics s) 600000 7290000 := h
theorem lw_limb (L : Cond) (hL : ∀ (args : Array Value) (s t : State), L.after args s (.returned (some (.int 1))) t = true) :
    ArmFor flags0 classFile x code maxLocals ret World_1 tables_1 room_1 Calls_1 rest_1 Pre_1
      (fun tb e a s o t => postC L tb e a s o t ∧ Framed s o t (fieldLocs frame_1_writes a s ++ arrayLocs frame_1_arrays a s ++ staticLocs frame_1_statics s) 600000 7290000) := by
  intro l _ _ _ p e ha hc hk s m args below hf hfit hheap happ hpre
  obtain ⟨k, o, h1, h2, h3, rfl, hF⟩ := lw_comes l p e ha hc hk s m args below hf hfit hheap happ hpre
  exact ⟨k, _, h1, h2, h3, hL args s _, lw_frame hF⟩
theorem i_vc : Claimed_1_1 ∧ Claimed_1_2 := ⟨lw_limb limb_1_1 (fun args s t => by simp [limb_1_1, Cond.after, Cond.holds, Cond.value]), lw_limb limb_1_2 (fun args s t => Cond.after_iff.mpr (by
  first | (rw [show limb_1_2 = Cond.eq .result (.int 1) from rfl, Cond.eq_ints (x := 1) (y := 1) rfl rfl]; simp; done) | (simp [limb_1_2, Cond.value, Term.eval]; done)))⟩
end
