section
-- ===== PART A: goes FIRST, ahead of the names: the tables' words, and 'selects' of the private methods out of them =====
/-- a private method of a class that the tables say can be made, by its rows of tables_1 -/
def lw_okq (q : MethodName × Nat) : Prop := (q.1.cls ≠ "java/lang/invoke/MethodHandle" ∧ q.1.cls ≠ "java/lang/invoke/VarHandle") ∧ Cond.instantiable q.1.cls q.2 ∈ tables_1 ∧ Cond.privateMethod q.1 ∈ tables_1 ∧ Cond.instanceMethod q.1 ∈ tables_1
set_option maxRecDepth 100000
theorem lw_t1 {w : Cond} (h : w ∈ tables_1_1) : w ∈ tables_1 := List.mem_append_left _ h
theorem lw_t2 {w : Cond} (h : w ∈ tables_1_2) : w ∈ tables_1 := List.mem_append_right _ h
theorem lw_p0 : lw_okq (⟨"LeakageMeter", "branch", "(II)V"⟩, 16) := ⟨⟨by decide +kernel, by decide +kernel⟩, lw_t1 (List.mem_of_getElem? (i := 4) rfl), lw_t1 (List.mem_of_getElem? (i := 73) rfl), lw_t1 (List.mem_of_getElem? (i := 74) rfl)⟩
theorem lw_p1 : lw_okq (⟨"LeakageMeter", "anyBit", "(I)J"⟩, 16) := ⟨⟨by decide +kernel, by decide +kernel⟩, lw_t1 (List.mem_of_getElem? (i := 4) rfl), lw_t1 (List.mem_of_getElem? (i := 77) rfl), lw_t1 (List.mem_of_getElem? (i := 78) rfl)⟩
theorem lw_p2 : lw_okq (⟨"LeakageMeter", "putOut", "(I)V"⟩, 16) := ⟨⟨by decide +kernel, by decide +kernel⟩, lw_t1 (List.mem_of_getElem? (i := 4) rfl), lw_t1 (List.mem_of_getElem? (i := 81) rfl), lw_t1 (List.mem_of_getElem? (i := 82) rfl)⟩
theorem lw_p3 : lw_okq (⟨"LeakageMeter", "valueFor", "(II)I"⟩, 16) := ⟨⟨by decide +kernel, by decide +kernel⟩, lw_t1 (List.mem_of_getElem? (i := 4) rfl), lw_t1 (List.mem_of_getElem? (i := 85) rfl), lw_t1 (List.mem_of_getElem? (i := 86) rfl)⟩
theorem lw_p4 : lw_okq (⟨"LeakageMeter", "compute", "(III)V"⟩, 16) := ⟨⟨by decide +kernel, by decide +kernel⟩, lw_t1 (List.mem_of_getElem? (i := 4) rfl), lw_t1 (List.mem_of_getElem? (i := 89) rfl), lw_t1 (List.mem_of_getElem? (i := 90) rfl)⟩
theorem lw_p5 : lw_okq (⟨"LeakageMeter", "addPlanes", "(II)V"⟩, 16) := ⟨⟨by decide +kernel, by decide +kernel⟩, lw_t1 (List.mem_of_getElem? (i := 4) rfl), lw_t1 (List.mem_of_getElem? (i := 93) rfl), lw_t1 (List.mem_of_getElem? (i := 94) rfl)⟩
theorem lw_p6 : lw_okq (⟨"LeakageMeter", "subtractPlanes", "(II)J"⟩, 16) := ⟨⟨by decide +kernel, by decide +kernel⟩, lw_t1 (List.mem_of_getElem? (i := 4) rfl), lw_t1 (List.mem_of_getElem? (i := 97) rfl), lw_t1 (List.mem_of_getElem? (i := 98) rfl)⟩
theorem lw_p7 : lw_okq (⟨"LeakageMeter", "multiplyPlanes", "(II)V"⟩, 16) := ⟨⟨by decide +kernel, by decide +kernel⟩, lw_t1 (List.mem_of_getElem? (i := 4) rfl), lw_t1 (List.mem_of_getElem? (i := 101) rfl), lw_t1 (List.mem_of_getElem? (i := 102) rfl)⟩
theorem lw_p8 : lw_okq (⟨"LeakageMeter", "addShifted", "(IIJ)V"⟩, 16) := ⟨⟨by decide +kernel, by decide +kernel⟩, lw_t1 (List.mem_of_getElem? (i := 4) rfl), lw_t1 (List.mem_of_getElem? (i := 105) rfl), lw_t1 (List.mem_of_getElem? (i := 106) rfl)⟩
theorem lw_p9 : lw_okq (⟨"LeakageMeter", "combinePlanes", "(III)V"⟩, 16) := ⟨⟨by decide +kernel, by decide +kernel⟩, lw_t1 (List.mem_of_getElem? (i := 4) rfl), lw_t1 (List.mem_of_getElem? (i := 109) rfl), lw_t1 (List.mem_of_getElem? (i := 110) rfl)⟩
theorem lw_p10 : lw_okq (⟨"LeakageMeter", "shiftPlanes", "(II)V"⟩, 16) := ⟨⟨by decide +kernel, by decide +kernel⟩, lw_t1 (List.mem_of_getElem? (i := 4) rfl), lw_t1 (List.mem_of_getElem? (i := 113) rfl), lw_t1 (List.mem_of_getElem? (i := 114) rfl)⟩
theorem lw_p11 : lw_okq (⟨"LeakageMeter", "setTruth", "(J)V"⟩, 16) := ⟨⟨by decide +kernel, by decide +kernel⟩, lw_t1 (List.mem_of_getElem? (i := 4) rfl), lw_t1 (List.mem_of_getElem? (i := 117) rfl), lw_t1 (List.mem_of_getElem? (i := 118) rfl)⟩
theorem lw_p12 : lw_okq (⟨"LeakageMeter", "keepResult", "(I)V"⟩, 16) := ⟨⟨by decide +kernel, by decide +kernel⟩, lw_t1 (List.mem_of_getElem? (i := 4) rfl), lw_t1 (List.mem_of_getElem? (i := 121) rfl), lw_t1 (List.mem_of_getElem? (i := 122) rfl)⟩
theorem lw_p13 : lw_okq (⟨"LeakageMeter", "sortViews", "()V"⟩, 16) := ⟨⟨by decide +kernel, by decide +kernel⟩, lw_t1 (List.mem_of_getElem? (i := 4) rfl), lw_t1 (List.mem_of_getElem? (i := 134) rfl), lw_t1 (List.mem_of_getElem? (i := 135) rfl)⟩
theorem lw_p14 : lw_okq (⟨"LeakageMeter", "placeInTable", "(I)I"⟩, 16) := ⟨⟨by decide +kernel, by decide +kernel⟩, lw_t1 (List.mem_of_getElem? (i := 4) rfl), lw_t1 (List.mem_of_getElem? (i := 138) rfl), lw_t1 (List.mem_of_getElem? (i := 139) rfl)⟩
theorem lw_p15 : lw_okq (⟨"LeakageMeterModel", "hasElse", "()Z"⟩, 8) := ⟨⟨by decide +kernel, by decide +kernel⟩, lw_t1 (List.mem_of_getElem? (i := 167) rfl), lw_t1 (List.mem_of_getElem? (i := 206) rfl), lw_t1 (List.mem_of_getElem? (i := 207) rfl)⟩
def lw_privs_1 : List (MethodName × Nat) := [(⟨"LeakageMeter", "branch", "(II)V"⟩, 16), (⟨"LeakageMeter", "anyBit", "(I)J"⟩, 16), (⟨"LeakageMeter", "putOut", "(I)V"⟩, 16), (⟨"LeakageMeter", "valueFor", "(II)I"⟩, 16), (⟨"LeakageMeter", "compute", "(III)V"⟩, 16), (⟨"LeakageMeter", "addPlanes", "(II)V"⟩, 16), (⟨"LeakageMeter", "subtractPlanes", "(II)J"⟩, 16), (⟨"LeakageMeter", "multiplyPlanes", "(II)V"⟩, 16), (⟨"LeakageMeter", "addShifted", "(IIJ)V"⟩, 16), (⟨"LeakageMeter", "combinePlanes", "(III)V"⟩, 16), (⟨"LeakageMeter", "shiftPlanes", "(II)V"⟩, 16), (⟨"LeakageMeter", "setTruth", "(J)V"⟩, 16), (⟨"LeakageMeter", "keepResult", "(I)V"⟩, 16), (⟨"LeakageMeter", "sortViews", "()V"⟩, 16), (⟨"LeakageMeter", "placeInTable", "(I)I"⟩, 16), (⟨"LeakageMeterModel", "hasElse", "()Z"⟩, 8)]
theorem lw_r1 : ∀ q ∈ lw_privs_1, lw_okq q := List.forall_mem_cons.mpr ⟨lw_p0, List.forall_mem_cons.mpr ⟨lw_p1, List.forall_mem_cons.mpr ⟨lw_p2, List.forall_mem_cons.mpr ⟨lw_p3, List.forall_mem_cons.mpr ⟨lw_p4, List.forall_mem_cons.mpr ⟨lw_p5, List.forall_mem_cons.mpr ⟨lw_p6, List.forall_mem_cons.mpr ⟨lw_p7, List.forall_mem_cons.mpr ⟨lw_p8, List.forall_mem_cons.mpr ⟨lw_p9, List.forall_mem_cons.mpr ⟨lw_p10, List.forall_mem_cons.mpr ⟨lw_p11, List.forall_mem_cons.mpr ⟨lw_p12, List.forall_mem_cons.mpr ⟨lw_p13, List.forall_mem_cons.mpr ⟨lw_p14, List.forall_mem_cons.mpr ⟨lw_p15, fun _ h => absurd h List.not_mem_nil⟩⟩⟩⟩⟩⟩⟩⟩⟩⟩⟩⟩⟩⟩⟩⟩
theorem lw_p16 : lw_okq (⟨"LeakageMeterModel", "runAll", "()V"⟩, 8) := ⟨⟨by decide +kernel, by decide +kernel⟩, lw_t1 (List.mem_of_getElem? (i := 167) rfl), lw_t1 (List.mem_of_getElem? (i := 219) rfl), lw_t1 (List.mem_of_getElem? (i := 220) rfl)⟩
theorem lw_p17 : lw_okq (⟨"LeakageMeterModel", "run", "(I)V"⟩, 8) := ⟨⟨by decide +kernel, by decide +kernel⟩, lw_t1 (List.mem_of_getElem? (i := 167) rfl), lw_t1 (List.mem_of_getElem? (i := 223) rfl), lw_t1 (List.mem_of_getElem? (i := 224) rfl)⟩
theorem lw_p18 : lw_okq (⟨"LeakageMeterModel", "show", "(II)V"⟩, 8) := ⟨⟨by decide +kernel, by decide +kernel⟩, lw_t1 (List.mem_of_getElem? (i := 167) rfl), lw_t1 (List.mem_of_getElem? (i := 233) rfl), lw_t1 (List.mem_of_getElem? (i := 234) rfl)⟩
theorem lw_p19 : lw_okq (⟨"LeakageMeterModel", "behind", "(IZ)I"⟩, 8) := ⟨⟨by decide +kernel, by decide +kernel⟩, lw_t1 (List.mem_of_getElem? (i := 167) rfl), lw_t1 (List.mem_of_getElem? (i := 237) rfl), lw_t1 (List.mem_of_getElem? (i := 238) rfl)⟩
theorem lw_p20 : lw_okq (⟨"LeakageMeterModel", "different", "(II)I"⟩, 8) := ⟨⟨by decide +kernel, by decide +kernel⟩, lw_t1 (List.mem_of_getElem? (i := 167) rfl), lw_t2 (List.mem_of_getElem? (i := 1) rfl), lw_t2 (List.mem_of_getElem? (i := 2) rfl)⟩
theorem lw_p21 : lw_okq (⟨"LeakageMeterModel", "same", "(II)Z"⟩, 8) := ⟨⟨by decide +kernel, by decide +kernel⟩, lw_t1 (List.mem_of_getElem? (i := 167) rfl), lw_t2 (List.mem_of_getElem? (i := 5) rfl), lw_t2 (List.mem_of_getElem? (i := 6) rfl)⟩
def lw_privs_2 : List (MethodName × Nat) := [(⟨"LeakageMeterModel", "runAll", "()V"⟩, 8), (⟨"LeakageMeterModel", "run", "(I)V"⟩, 8), (⟨"LeakageMeterModel", "show", "(II)V"⟩, 8), (⟨"LeakageMeterModel", "behind", "(IZ)I"⟩, 8), (⟨"LeakageMeterModel", "different", "(II)I"⟩, 8), (⟨"LeakageMeterModel", "same", "(II)Z"⟩, 8)]
theorem lw_r2 : ∀ q ∈ lw_privs_2, lw_okq q := List.forall_mem_cons.mpr ⟨lw_p16, List.forall_mem_cons.mpr ⟨lw_p17, List.forall_mem_cons.mpr ⟨lw_p18, List.forall_mem_cons.mpr ⟨lw_p19, List.forall_mem_cons.mpr ⟨lw_p20, List.forall_mem_cons.mpr ⟨lw_p21, fun _ h => absurd h List.not_mem_nil⟩⟩⟩⟩⟩⟩
def lw_privs : List (MethodName × Nat) := lw_privs_1 ++ (lw_privs_2)
def lw_tbl : List Cond := k2_sels lw_privs ++ tables_1
theorem lw_privs_ok : ∀ q ∈ lw_privs, lw_okq q := by
  show ∀ q ∈ lw_privs_1 ++ (lw_privs_2), lw_okq q
  exact List.forall_mem_append.mpr ⟨lw_r1, lw_r2⟩
-- ===== ONE list of words for every method: the tables' words that hold all through a run =====
def lw_all : List Cond := lw_tbl.filter goodWord
/-- a word of the tables by its place: claim/WORDS.tsv -/
theorem lw_w {w : Cond} (i : Nat) (h : lw_tbl[i]? = some w) (g : goodWord w = true) : w ∈ lw_all := List.mem_filter.mpr ⟨List.mem_of_getElem? h, g⟩
theorem lw_all_tbl {w : Cond} (h : w ∈ lw_all) : w ∈ lw_tbl := (List.mem_filter.mp h).1
theorem lw_self : GoodIn lw_all lw_all := fun w h => ⟨h, good_of_word (List.mem_filter.mp h).2⟩
/-- a class's field words, by their places -/
theorem lw_in (ws : List Cond) (ps : List Nat) (hp : ws = ps.filterMap (fun i => lw_tbl[i]?)) (hg : ws.all goodWord = true) : ∀ w ∈ ws, w ∈ lw_all := by
  intro w h
  have h1 := List.all_eq_true.mp hg w h
  rw [hp] at h
  obtain ⟨i, -, hi⟩ := List.mem_filterMap.mp h
  exact lw_w i hi h1
/-- the words of a contract for the method y with code b, L locals, answer r -/
abbrev ws_ (y : MethodName) (b : ByteArray) (L : Nat) (r : Option FieldType) : List Cond := Cond.code y b L r :: lw_all
theorem lw_meth {y : MethodName} {b : ByteArray} {L : Nat} {r : Option FieldType} (h : Cond.code y b L r ∈ lw_all) : GoodIn lw_all (ws_ y b L r) := by
  intro w hw
  rcases List.mem_cons.mp hw with e | e
  · rw [e]
    exact lw_self _ h
  · exact lw_self _ e
theorem lw_app {a c : List Cond} (ha : ∀ w ∈ a, w ∈ lw_all) (hc : GoodIn lw_all c) : GoodIn lw_all (a ++ c) := by
  intro w hw
  rcases List.mem_append.mp hw with e | e
  · exact lw_self w (ha w e)
  · exact hc w e
/-- what a call through an object asks: cwV n hts (lw_V ..) -/
theorem lw_V {own : String} {idx : Nat} {C : String} {y : MethodName} {b : ByteArray} {L : Nat} {r : Option FieldType} (h1 : Cond.methodLink own idx y ∈ lw_all) (h2 : Cond.instanceMethod y ∈ lw_all) (h3 : Cond.selects C y y ∈ lw_all) (h4 : Cond.initialized C ∈ lw_all) (h5 : Cond.code y b L r ∈ lw_all) : GoodIn lw_all (wsV own idx C y (ws_ y b L r)) := by
  refine lw_app ?_ (lw_meth h5)
  intro w hw
  simp only [List.mem_cons, List.not_mem_nil, or_false] at hw
  rcases hw with e | e | e | e
  · rw [e]; exact h1
  · rw [e]; exact h2
  · rw [e]; exact h3
  · rw [e]; exact h4
/-- what a static call asks: va_cwS n hts (lw_S ..) -/
theorem lw_S {own : String} {idx : Nat} {y : MethodName} {b : ByteArray} {L : Nat} {r : Option FieldType} (h1 : Cond.methodLink own idx y ∈ lw_all) (h2 : Cond.static y ∈ lw_all) (h3 : Cond.initialized y.cls ∈ lw_all) (h4 : Cond.code y b L r ∈ lw_all) : GoodIn lw_all (va_wsS own idx y (ws_ y b L r)) := by
  refine lw_app ?_ (lw_meth h4)
  intro w hw
  simp only [List.mem_cons, List.not_mem_nil, or_false] at hw
  rcases hw with e | e | e
  · rw [e]; exact h1
  · rw [e]; exact h2
  · rw [e]; exact h3
/-- the words of a contract for a method WITH HANDLERS (hh: its table) -/
abbrev wsW_ (y : MethodName) (b : ByteArray) (L : Nat) (r : Option FieldType) (hh : List (Nat × Nat × Nat × Nat)) : List Cond := Cond.codeWith y b L r hh :: lw_all
theorem lw_methW {y : MethodName} {b : ByteArray} {L : Nat} {r : Option FieldType} {hh : List (Nat × Nat × Nat × Nat)} (h : Cond.codeWith y b L r hh ∈ lw_all) : GoodIn lw_all (wsW_ y b L r hh) := by
  intro w hw
  rcases List.mem_cons.mp hw with e | e
  · rw [e]
    exact lw_self _ h
  · exact lw_self _ e
/-- any list of words by their places (lw_in), good -/
theorem lw_good {ws : List Cond} (h : ∀ w ∈ ws, w ∈ lw_all) : GoodIn lw_all ws := fun w hw => lw_self w (h w hw)
/-- what a call of a method with handlers asks: vx_cwVW n hts (lw_VW ..), vx_cwSW n hts (lw_SW ..) -/
theorem lw_VW {own : String} {idx : Nat} {C : String} {y : MethodName} {b : ByteArray} {L : Nat} {r : Option FieldType} {hh : List (Nat × Nat × Nat × Nat)} (h1 : Cond.methodLink own idx y ∈ lw_all) (h2 : Cond.instanceMethod y ∈ lw_all) (h3 : Cond.selects C y y ∈ lw_all) (h4 : Cond.initialized C ∈ lw_all) (h5 : Cond.codeWith y b L r hh ∈ lw_all) : GoodIn lw_all (wsV own idx C y (wsW_ y b L r hh)) := by
  refine lw_app ?_ (lw_methW h5)
  intro w hw
  simp only [List.mem_cons, List.not_mem_nil, or_false] at hw
  rcases hw with e | e | e | e
  · rw [e]; exact h1
  · rw [e]; exact h2
  · rw [e]; exact h3
  · rw [e]; exact h4
theorem lw_SW {own : String} {idx : Nat} {y : MethodName} {b : ByteArray} {L : Nat} {r : Option FieldType} {hh : List (Nat × Nat × Nat × Nat)} (h1 : Cond.methodLink own idx y ∈ lw_all) (h2 : Cond.static y ∈ lw_all) (h3 : Cond.initialized y.cls ∈ lw_all) (h4 : Cond.codeWith y b L r hh ∈ lw_all) : GoodIn lw_all (va_wsS own idx y (wsW_ y b L r hh)) := by
  refine lw_app ?_ (lw_methW h4)
  intro w hw
  simp only [List.mem_cons, List.not_mem_nil, or_false] at hw
  rcases hw with e | e | e
  · rw [e]; exact h1
  · rw [e]; exact h2
  · rw [e]; exact h3
/-- a word by its place in its run of the tables -/
theorem lw_at {r : List Cond} (hr : ∀ w ∈ r, w ∈ lw_tbl) {w : Cond} (i : Nat) (h : r[i]? = some w) : w ∈ lw_tbl := hr w (List.mem_of_getElem? h)
theorem lw_g {w : Cond} (h : w ∈ lw_tbl) (g : goodWord w = true) : w ∈ lw_all := List.mem_filter.mpr ⟨h, g⟩
theorem lw_ms : ∀ w ∈ k2_sels lw_privs, w ∈ lw_tbl := fun w h => show w ∈ k2_sels lw_privs ++ tables_1 from List.mem_append_left _ h
theorem lw_m1 : ∀ w ∈ tables_1_1, w ∈ lw_tbl := fun w h => show w ∈ k2_sels lw_privs ++ tables_1 from List.mem_append_right (k2_sels lw_privs) (show w ∈ tables_1 from List.mem_append_left _ h)
theorem lw_m2 : ∀ w ∈ tables_1_2, w ∈ lw_tbl := fun w h => show w ∈ k2_sels lw_privs ++ tables_1 from List.mem_append_right (k2_sels lw_privs) (show w ∈ tables_1 from List.mem_append_right _ h)
theorem qs0 : (Cond.selects "LeakageMeter" ⟨"LeakageMeter", "branch", "(II)V"⟩ ⟨"LeakageMeter", "branch", "(II)V"⟩) ∈ lw_all := lw_g (lw_at lw_ms 0 rfl) rfl
theorem qs1 : (Cond.selects "LeakageMeter" ⟨"LeakageMeter", "anyBit", "(I)J"⟩ ⟨"LeakageMeter", "anyBit", "(I)J"⟩) ∈ lw_all := lw_g (lw_at lw_ms 1 rfl) rfl
theorem qs2 : (Cond.selects "LeakageMeter" ⟨"LeakageMeter", "putOut", "(I)V"⟩ ⟨"LeakageMeter", "putOut", "(I)V"⟩) ∈ lw_all := lw_g (lw_at lw_ms 2 rfl) rfl
theorem qs3 : (Cond.selects "LeakageMeter" ⟨"LeakageMeter", "valueFor", "(II)I"⟩ ⟨"LeakageMeter", "valueFor", "(II)I"⟩) ∈ lw_all := lw_g (lw_at lw_ms 3 rfl) rfl
theorem qs4 : (Cond.selects "LeakageMeter" ⟨"LeakageMeter", "compute", "(III)V"⟩ ⟨"LeakageMeter", "compute", "(III)V"⟩) ∈ lw_all := lw_g (lw_at lw_ms 4 rfl) rfl
theorem qs5 : (Cond.selects "LeakageMeter" ⟨"LeakageMeter", "addPlanes", "(II)V"⟩ ⟨"LeakageMeter", "addPlanes", "(II)V"⟩) ∈ lw_all := lw_g (lw_at lw_ms 5 rfl) rfl
theorem qs6 : (Cond.selects "LeakageMeter" ⟨"LeakageMeter", "subtractPlanes", "(II)J"⟩ ⟨"LeakageMeter", "subtractPlanes", "(II)J"⟩) ∈ lw_all := lw_g (lw_at lw_ms 6 rfl) rfl
theorem qs7 : (Cond.selects "LeakageMeter" ⟨"LeakageMeter", "multiplyPlanes", "(II)V"⟩ ⟨"LeakageMeter", "multiplyPlanes", "(II)V"⟩) ∈ lw_all := lw_g (lw_at lw_ms 7 rfl) rfl
theorem qs8 : (Cond.selects "LeakageMeter" ⟨"LeakageMeter", "addShifted", "(IIJ)V"⟩ ⟨"LeakageMeter", "addShifted", "(IIJ)V"⟩) ∈ lw_all := lw_g (lw_at lw_ms 8 rfl) rfl
theorem qs9 : (Cond.selects "LeakageMeter" ⟨"LeakageMeter", "combinePlanes", "(III)V"⟩ ⟨"LeakageMeter", "combinePlanes", "(III)V"⟩) ∈ lw_all := lw_g (lw_at lw_ms 9 rfl) rfl
theorem qs10 : (Cond.selects "LeakageMeter" ⟨"LeakageMeter", "shiftPlanes", "(II)V"⟩ ⟨"LeakageMeter", "shiftPlanes", "(II)V"⟩) ∈ lw_all := lw_g (lw_at lw_ms 10 rfl) rfl
theorem qs11 : (Cond.selects "LeakageMeter" ⟨"LeakageMeter", "setTruth", "(J)V"⟩ ⟨"LeakageMeter", "setTruth", "(J)V"⟩) ∈ lw_all := lw_g (lw_at lw_ms 11 rfl) rfl
theorem qs12 : (Cond.selects "LeakageMeter" ⟨"LeakageMeter", "keepResult", "(I)V"⟩ ⟨"LeakageMeter", "keepResult", "(I)V"⟩) ∈ lw_all := lw_g (lw_at lw_ms 12 rfl) rfl
theorem qs13 : (Cond.selects "LeakageMeter" ⟨"LeakageMeter", "sortViews", "()V"⟩ ⟨"LeakageMeter", "sortViews", "()V"⟩) ∈ lw_all := lw_g (lw_at lw_ms 13 rfl) rfl
theorem qs14 : (Cond.selects "LeakageMeter" ⟨"LeakageMeter", "placeInTable", "(I)I"⟩ ⟨"LeakageMeter", "placeInTable", "(I)I"⟩) ∈ lw_all := lw_g (lw_at lw_ms 14 rfl) rfl
theorem qs15 : (Cond.selects "LeakageMeterModel" ⟨"LeakageMeterModel", "hasElse", "()Z"⟩ ⟨"LeakageMeterModel", "hasElse", "()Z"⟩) ∈ lw_all := lw_g (lw_at lw_ms 15 rfl) rfl
theorem qs16 : (Cond.selects "LeakageMeterModel" ⟨"LeakageMeterModel", "runAll", "()V"⟩ ⟨"LeakageMeterModel", "runAll", "()V"⟩) ∈ lw_all := lw_g (lw_at lw_ms 16 rfl) rfl
theorem qs17 : (Cond.selects "LeakageMeterModel" ⟨"LeakageMeterModel", "run", "(I)V"⟩ ⟨"LeakageMeterModel", "run", "(I)V"⟩) ∈ lw_all := lw_g (lw_at lw_ms 17 rfl) rfl
theorem qs18 : (Cond.selects "LeakageMeterModel" ⟨"LeakageMeterModel", "show", "(II)V"⟩ ⟨"LeakageMeterModel", "show", "(II)V"⟩) ∈ lw_all := lw_g (lw_at lw_ms 18 rfl) rfl
theorem qs19 : (Cond.selects "LeakageMeterModel" ⟨"LeakageMeterModel", "behind", "(IZ)I"⟩ ⟨"LeakageMeterModel", "behind", "(IZ)I"⟩) ∈ lw_all := lw_g (lw_at lw_ms 19 rfl) rfl
theorem qs20 : (Cond.selects "LeakageMeterModel" ⟨"LeakageMeterModel", "different", "(II)I"⟩ ⟨"LeakageMeterModel", "different", "(II)I"⟩) ∈ lw_all := lw_g (lw_at lw_ms 20 rfl) rfl
theorem qs21 : (Cond.selects "LeakageMeterModel" ⟨"LeakageMeterModel", "same", "(II)Z"⟩ ⟨"LeakageMeterModel", "same", "(II)Z"⟩) ∈ lw_all := lw_g (lw_at lw_ms 21 rfl) rfl
end
section
/-! LeakageMeter -/
set_option maxRecDepth 100000
def RX0 : String := "LeakageMeter"
def TX0 : u_T := fun k => match k with
  | 0 => ("LeakageMeter", "statements", "I", false)
  | 1 => ("LeakageMeter", "parts", "I", false)
  | 2 => ("LeakageMeter", "hasElse", "[Z", true)
  | 3 => ("LeakageMeter", "plane", "[J", true)
  | 4 => ("LeakageMeter", "work", "[J", true)
  | 5 => ("LeakageMeter", "active", "J", false)
  | 6 => ("LeakageMeter", "around", "[J", true)
  | 7 => ("LeakageMeter", "otherwise", "[J", true)
  | 8 => ("LeakageMeter", "count", "[I", true)
  | 9 => ("LeakageMeter", "trace", "[J", true)
  | 10 => ("LeakageMeter", "sorted", "Z", false)
  | 11 => ("LeakageMeter", "classCount", "I", false)
  | 12 => ("LeakageMeter", "leader", "[I", true)
  | 13 => ("LeakageMeter", "members", "[I", true)
  | 14 => ("LeakageMeter", "table", "[I", true)
  | _ => ("LeakageMeter", "met", "[Z", true)
def tyX0 : Nat → FieldType := fun k => match k with
  | 0 => .int
  | 1 => .int
  | 2 => .array .boolean
  | 3 => .array .long
  | 4 => .array .long
  | 5 => .long
  | 6 => .array .long
  | 7 => .array .long
  | 8 => .array .int
  | 9 => .array .long
  | 10 => .boolean
  | 11 => .int
  | 12 => .array .int
  | 13 => .array .int
  | 14 => .array .int
  | _ => .array .boolean
abbrev wsX00 : List Cond := u_ws RX0 TX0 16
set_option maxRecDepth 100000 in
theorem nmX0 : ∀ a, a < 16 → ∀ b, b < 16 → a ≠ b → (TX0 a).2.1 ≠ (TX0 b).2.1 := by decide +kernel
set_option maxRecDepth 100000 in
theorem tyX0_ok : ∀ k, k < 16 → parseFieldDescriptor (TX0 k).2.2.1 = some (tyX0 k) := by decide +kernel
abbrev cX0_init : ByteArray := prog_1_method_1_code
def yX0_init : MethodName := ⟨RX0, "<init>", "()V"⟩
theorem dX0_init_0 : decode cX0_init 0 = .ok (.aload_n 0, 1) := by decide +kernel
theorem dX0_init_1 : decode cX0_init 1 = .ok (.invokespecial 1, 3) := by decide +kernel
theorem dX0_init_4 : decode cX0_init 4 = .ok (.aload_n 0, 1) := by decide +kernel
theorem dX0_init_5 : decode cX0_init 5 = .ok (.iconst 4, 1) := by decide +kernel
theorem dX0_init_6 : decode cX0_init 6 = .ok (.newarray .boolean, 2) := by decide +kernel
theorem dX0_init_8 : decode cX0_init 8 = .ok (.putfield 7, 3) := by decide +kernel
theorem dX0_init_11 : decode cX0_init 11 = .ok (.aload_n 0, 1) := by decide +kernel
theorem dX0_init_12 : decode cX0_init 12 = .ok (.bipush 32, 2) := by decide +kernel
theorem dX0_init_14 : decode cX0_init 14 = .ok (.newarray .long, 2) := by decide +kernel
theorem dX0_init_16 : decode cX0_init 16 = .ok (.putfield 13, 3) := by decide +kernel
theorem dX0_init_19 : decode cX0_init 19 = .ok (.aload_n 0, 1) := by decide +kernel
theorem dX0_init_20 : decode cX0_init 20 = .ok (.bipush 8, 2) := by decide +kernel
theorem dX0_init_22 : decode cX0_init 22 = .ok (.newarray .long, 2) := by decide +kernel
theorem dX0_init_24 : decode cX0_init 24 = .ok (.putfield 17, 3) := by decide +kernel
theorem dX0_init_27 : decode cX0_init 27 = .ok (.aload_n 0, 1) := by decide +kernel
theorem dX0_init_28 : decode cX0_init 28 = .ok (.iconst 4, 1) := by decide +kernel
theorem dX0_init_29 : decode cX0_init 29 = .ok (.newarray .long, 2) := by decide +kernel
theorem dX0_init_31 : decode cX0_init 31 = .ok (.putfield 20, 3) := by decide +kernel
theorem dX0_init_34 : decode cX0_init 34 = .ok (.aload_n 0, 1) := by decide +kernel
theorem dX0_init_35 : decode cX0_init 35 = .ok (.iconst 4, 1) := by decide +kernel
theorem dX0_init_36 : decode cX0_init 36 = .ok (.newarray .long, 2) := by decide +kernel
theorem dX0_init_38 : decode cX0_init 38 = .ok (.putfield 23, 3) := by decide +kernel
theorem dX0_init_41 : decode cX0_init 41 = .ok (.aload_n 0, 1) := by decide +kernel
theorem dX0_init_42 : decode cX0_init 42 = .ok (.bipush 64, 2) := by decide +kernel
theorem dX0_init_44 : decode cX0_init 44 = .ok (.newarray .int, 2) := by decide +kernel
theorem dX0_init_46 : decode cX0_init 46 = .ok (.putfield 26, 3) := by decide +kernel
theorem dX0_init_49 : decode cX0_init 49 = .ok (.aload_n 0, 1) := by decide +kernel
theorem dX0_init_50 : decode cX0_init 50 = .ok (.bipush 64, 2) := by decide +kernel
theorem dX0_init_52 : decode cX0_init 52 = .ok (.newarray .long, 2) := by decide +kernel
theorem dX0_init_54 : decode cX0_init 54 = .ok (.putfield 30, 3) := by decide +kernel
theorem dX0_init_57 : decode cX0_init 57 = .ok (.aload_n 0, 1) := by decide +kernel
theorem dX0_init_58 : decode cX0_init 58 = .ok (.bipush 64, 2) := by decide +kernel
theorem dX0_init_60 : decode cX0_init 60 = .ok (.newarray .int, 2) := by decide +kernel
theorem dX0_init_62 : decode cX0_init 62 = .ok (.putfield 33, 3) := by decide +kernel
theorem dX0_init_65 : decode cX0_init 65 = .ok (.aload_n 0, 1) := by decide +kernel
theorem dX0_init_66 : decode cX0_init 66 = .ok (.bipush 64, 2) := by decide +kernel
theorem dX0_init_68 : decode cX0_init 68 = .ok (.newarray .int, 2) := by decide +kernel
theorem dX0_init_70 : decode cX0_init 70 = .ok (.putfield 36, 3) := by decide +kernel
theorem dX0_init_73 : decode cX0_init 73 = .ok (.aload_n 0, 1) := by decide +kernel
theorem dX0_init_74 : decode cX0_init 74 = .ok (.sipush 128, 3) := by decide +kernel
theorem dX0_init_77 : decode cX0_init 77 = .ok (.newarray .int, 2) := by decide +kernel
theorem dX0_init_79 : decode cX0_init 79 = .ok (.putfield 39, 3) := by decide +kernel
theorem dX0_init_82 : decode cX0_init 82 = .ok (.aload_n 0, 1) := by decide +kernel
theorem dX0_init_83 : decode cX0_init 83 = .ok (.bipush 64, 2) := by decide +kernel
theorem dX0_init_85 : decode cX0_init 85 = .ok (.newarray .boolean, 2) := by decide +kernel
theorem dX0_init_87 : decode cX0_init 87 = .ok (.putfield 42, 3) := by decide +kernel
theorem dX0_init_90 : decode cX0_init 90 = .ok (.aload_n 0, 1) := by decide +kernel
theorem dX0_init_91 : decode cX0_init 91 = .ok (.invokevirtual 45, 3) := by decide +kernel
theorem dX0_init_94 : decode cX0_init 94 = .ok (.return_, 1) := by decide +kernel
abbrev cX0_clear : ByteArray := prog_1_method_3_code
def yX0_clear : MethodName := ⟨RX0, "clear", "()V"⟩
theorem dX0_clear_0 : decode cX0_clear 0 = .ok (.aload_n 0, 1) := by decide +kernel
theorem dX0_clear_1 : decode cX0_clear 1 = .ok (.iconst 0, 1) := by decide +kernel
theorem dX0_clear_2 : decode cX0_clear 2 = .ok (.putfield 48, 3) := by decide +kernel
theorem dX0_clear_5 : decode cX0_clear 5 = .ok (.aload_n 0, 1) := by decide +kernel
theorem dX0_clear_6 : decode cX0_clear 6 = .ok (.iconst 0, 1) := by decide +kernel
theorem dX0_clear_7 : decode cX0_clear 7 = .ok (.putfield 52, 3) := by decide +kernel
theorem dX0_clear_10 : decode cX0_clear 10 = .ok (.aload_n 0, 1) := by decide +kernel
theorem dX0_clear_11 : decode cX0_clear 11 = .ok (.ldc2_w 70, 3) := by decide +kernel
theorem dX0_clear_14 : decode cX0_clear 14 = .ok (.putfield 72, 3) := by decide +kernel
theorem dX0_clear_17 : decode cX0_clear 17 = .ok (.aload_n 0, 1) := by decide +kernel
theorem dX0_clear_18 : decode cX0_clear 18 = .ok (.iconst 0, 1) := by decide +kernel
theorem dX0_clear_19 : decode cX0_clear 19 = .ok (.putfield 76, 3) := by decide +kernel
theorem dX0_clear_22 : decode cX0_clear 22 = .ok (.iconst 0, 1) := by decide +kernel
theorem dX0_clear_23 : decode cX0_clear 23 = .ok (.istore_n 1, 1) := by decide +kernel
theorem dX0_clear_24 : decode cX0_clear 24 = .ok (.iload_n 1, 1) := by decide +kernel
theorem dX0_clear_25 : decode cX0_clear 25 = .ok (.bipush 32, 2) := by decide +kernel
theorem dX0_clear_27 : decode cX0_clear 27 = .ok (.if_icmp .ge 16, 3) := by decide +kernel
theorem dX0_clear_30 : decode cX0_clear 30 = .ok (.aload_n 0, 1) := by decide +kernel
theorem dX0_clear_31 : decode cX0_clear 31 = .ok (.getfield 13, 3) := by decide +kernel
theorem dX0_clear_34 : decode cX0_clear 34 = .ok (.iload_n 1, 1) := by decide +kernel
theorem dX0_clear_35 : decode cX0_clear 35 = .ok (.lconst 0, 1) := by decide +kernel
theorem dX0_clear_36 : decode cX0_clear 36 = .ok (.lastore, 1) := by decide +kernel
theorem dX0_clear_37 : decode cX0_clear 37 = .ok (.iinc 1 1, 3) := by decide +kernel
theorem dX0_clear_40 : decode cX0_clear 40 = .ok (.goto (-16), 3) := by decide +kernel
theorem dX0_clear_43 : decode cX0_clear 43 = .ok (.iconst 0, 1) := by decide +kernel
theorem dX0_clear_44 : decode cX0_clear 44 = .ok (.istore_n 1, 1) := by decide +kernel
theorem dX0_clear_45 : decode cX0_clear 45 = .ok (.iload_n 1, 1) := by decide +kernel
theorem dX0_clear_46 : decode cX0_clear 46 = .ok (.bipush 64, 2) := by decide +kernel
theorem dX0_clear_48 : decode cX0_clear 48 = .ok (.if_icmp .ge 54, 3) := by decide +kernel
theorem dX0_clear_51 : decode cX0_clear 51 = .ok (.aload_n 0, 1) := by decide +kernel
theorem dX0_clear_52 : decode cX0_clear 52 = .ok (.getfield 26, 3) := by decide +kernel
theorem dX0_clear_55 : decode cX0_clear 55 = .ok (.iload_n 1, 1) := by decide +kernel
theorem dX0_clear_56 : decode cX0_clear 56 = .ok (.iconst 0, 1) := by decide +kernel
theorem dX0_clear_57 : decode cX0_clear 57 = .ok (.iastore, 1) := by decide +kernel
theorem dX0_clear_58 : decode cX0_clear 58 = .ok (.aload_n 0, 1) := by decide +kernel
theorem dX0_clear_59 : decode cX0_clear 59 = .ok (.getfield 30, 3) := by decide +kernel
theorem dX0_clear_62 : decode cX0_clear 62 = .ok (.iload_n 1, 1) := by decide +kernel
theorem dX0_clear_63 : decode cX0_clear 63 = .ok (.lconst 0, 1) := by decide +kernel
theorem dX0_clear_64 : decode cX0_clear 64 = .ok (.lastore, 1) := by decide +kernel
theorem dX0_clear_65 : decode cX0_clear 65 = .ok (.iconst 0, 1) := by decide +kernel
theorem dX0_clear_66 : decode cX0_clear 66 = .ok (.istore_n 2, 1) := by decide +kernel
theorem dX0_clear_67 : decode cX0_clear 67 = .ok (.iload_n 2, 1) := by decide +kernel
theorem dX0_clear_68 : decode cX0_clear 68 = .ok (.bipush 6, 2) := by decide +kernel
theorem dX0_clear_70 : decode cX0_clear 70 = .ok (.if_icmp .ge 26, 3) := by decide +kernel
theorem dX0_clear_73 : decode cX0_clear 73 = .ok (.aload_n 0, 1) := by decide +kernel
theorem dX0_clear_74 : decode cX0_clear 74 = .ok (.getfield 13, 3) := by decide +kernel
theorem dX0_clear_77 : decode cX0_clear 77 = .ok (.iload_n 2, 1) := by decide +kernel
theorem dX0_clear_78 : decode cX0_clear 78 = .ok (.dup2, 1) := by decide +kernel
theorem dX0_clear_79 : decode cX0_clear 79 = .ok (.laload, 1) := by decide +kernel
theorem dX0_clear_80 : decode cX0_clear 80 = .ok (.iload_n 1, 1) := by decide +kernel
theorem dX0_clear_81 : decode cX0_clear 81 = .ok (.iload_n 2, 1) := by decide +kernel
theorem dX0_clear_82 : decode cX0_clear 82 = .ok (.iushr, 1) := by decide +kernel
theorem dX0_clear_83 : decode cX0_clear 83 = .ok (.iconst 1, 1) := by decide +kernel
theorem dX0_clear_84 : decode cX0_clear 84 = .ok (.iand, 1) := by decide +kernel
theorem dX0_clear_85 : decode cX0_clear 85 = .ok (.i2l, 1) := by decide +kernel
theorem dX0_clear_86 : decode cX0_clear 86 = .ok (.iload_n 1, 1) := by decide +kernel
theorem dX0_clear_87 : decode cX0_clear 87 = .ok (.lshl, 1) := by decide +kernel
theorem dX0_clear_88 : decode cX0_clear 88 = .ok (.lor, 1) := by decide +kernel
theorem dX0_clear_89 : decode cX0_clear 89 = .ok (.lastore, 1) := by decide +kernel
theorem dX0_clear_90 : decode cX0_clear 90 = .ok (.iinc 2 1, 3) := by decide +kernel
theorem dX0_clear_93 : decode cX0_clear 93 = .ok (.goto (-26), 3) := by decide +kernel
theorem dX0_clear_96 : decode cX0_clear 96 = .ok (.iinc 1 1, 3) := by decide +kernel
theorem dX0_clear_99 : decode cX0_clear 99 = .ok (.goto (-54), 3) := by decide +kernel
theorem dX0_clear_102 : decode cX0_clear 102 = .ok (.return_, 1) := by decide +kernel
abbrev cX0_add : ByteArray := prog_1_method_2_code
def yX0_add : MethodName := ⟨RX0, "add", "(III)I"⟩
theorem dX0_add_0 : decode cX0_add 0 = .ok (.iload_n 1, 1) := by decide +kernel
theorem dX0_add_1 : decode cX0_add 1 = .ok (.ifCond .lt 18, 3) := by decide +kernel
theorem dX0_add_4 : decode cX0_add 4 = .ok (.iload_n 1, 1) := by decide +kernel
theorem dX0_add_5 : decode cX0_add 5 = .ok (.bipush 15, 2) := by decide +kernel
theorem dX0_add_7 : decode cX0_add 7 = .ok (.if_icmp .gt 12, 3) := by decide +kernel
theorem dX0_add_10 : decode cX0_add 10 = .ok (.aload_n 0, 1) := by decide +kernel
theorem dX0_add_11 : decode cX0_add 11 = .ok (.getfield 48, 3) := by decide +kernel
theorem dX0_add_14 : decode cX0_add 14 = .ok (.bipush 40, 2) := by decide +kernel
theorem dX0_add_16 : decode cX0_add 16 = .ok (.if_icmp .lt 5, 3) := by decide +kernel
theorem dX0_add_19 : decode cX0_add 19 = .ok (.iconst (-1), 1) := by decide +kernel
theorem dX0_add_20 : decode cX0_add 20 = .ok (.ireturn, 1) := by decide +kernel
theorem dX0_add_21 : decode cX0_add 21 = .ok (.iload_n 1, 1) := by decide +kernel
theorem dX0_add_22 : decode cX0_add 22 = .ok (.bipush 13, 2) := by decide +kernel
theorem dX0_add_24 : decode cX0_add 24 = .ok (.if_icmp .ne 13, 3) := by decide +kernel
theorem dX0_add_27 : decode cX0_add 27 = .ok (.aload_n 0, 1) := by decide +kernel
theorem dX0_add_28 : decode cX0_add 28 = .ok (.getfield 52, 3) := by decide +kernel
theorem dX0_add_31 : decode cX0_add 31 = .ok (.iconst 4, 1) := by decide +kernel
theorem dX0_add_32 : decode cX0_add 32 = .ok (.if_icmp .lt 5, 3) := by decide +kernel
theorem dX0_add_35 : decode cX0_add 35 = .ok (.iconst (-1), 1) := by decide +kernel
theorem dX0_add_36 : decode cX0_add 36 = .ok (.ireturn, 1) := by decide +kernel
theorem dX0_add_37 : decode cX0_add 37 = .ok (.iload_n 1, 1) := by decide +kernel
theorem dX0_add_38 : decode cX0_add 38 = .ok (.bipush 14, 2) := by decide +kernel
theorem dX0_add_40 : decode cX0_add 40 = .ok (.if_icmp .eq 9, 3) := by decide +kernel
theorem dX0_add_43 : decode cX0_add 43 = .ok (.iload_n 1, 1) := by decide +kernel
theorem dX0_add_44 : decode cX0_add 44 = .ok (.bipush 15, 2) := by decide +kernel
theorem dX0_add_46 : decode cX0_add 46 = .ok (.if_icmp .ne 12, 3) := by decide +kernel
theorem dX0_add_49 : decode cX0_add 49 = .ok (.aload_n 0, 1) := by decide +kernel
theorem dX0_add_50 : decode cX0_add 50 = .ok (.getfield 52, 3) := by decide +kernel
theorem dX0_add_53 : decode cX0_add 53 = .ok (.ifCond .ne 5, 3) := by decide +kernel
theorem dX0_add_56 : decode cX0_add 56 = .ok (.iconst (-1), 1) := by decide +kernel
theorem dX0_add_57 : decode cX0_add 57 = .ok (.ireturn, 1) := by decide +kernel
theorem dX0_add_58 : decode cX0_add 58 = .ok (.iload_n 1, 1) := by decide +kernel
theorem dX0_add_59 : decode cX0_add 59 = .ok (.bipush 14, 2) := by decide +kernel
theorem dX0_add_61 : decode cX0_add 61 = .ok (.if_icmp .ne 19, 3) := by decide +kernel
theorem dX0_add_64 : decode cX0_add 64 = .ok (.aload_n 0, 1) := by decide +kernel
theorem dX0_add_65 : decode cX0_add 65 = .ok (.getfield 7, 3) := by decide +kernel
theorem dX0_add_68 : decode cX0_add 68 = .ok (.aload_n 0, 1) := by decide +kernel
theorem dX0_add_69 : decode cX0_add 69 = .ok (.getfield 52, 3) := by decide +kernel
theorem dX0_add_72 : decode cX0_add 72 = .ok (.iconst 1, 1) := by decide +kernel
theorem dX0_add_73 : decode cX0_add 73 = .ok (.isub, 1) := by decide +kernel
theorem dX0_add_74 : decode cX0_add 74 = .ok (.baload, 1) := by decide +kernel
theorem dX0_add_75 : decode cX0_add 75 = .ok (.ifCond .eq 5, 3) := by decide +kernel
theorem dX0_add_78 : decode cX0_add 78 = .ok (.iconst (-1), 1) := by decide +kernel
theorem dX0_add_79 : decode cX0_add 79 = .ok (.ireturn, 1) := by decide +kernel
theorem dX0_add_80 : decode cX0_add 80 = .ok (.aload_n 0, 1) := by decide +kernel
theorem dX0_add_81 : decode cX0_add 81 = .ok (.dup, 1) := by decide +kernel
theorem dX0_add_82 : decode cX0_add 82 = .ok (.getfield 48, 3) := by decide +kernel
theorem dX0_add_85 : decode cX0_add 85 = .ok (.iconst 1, 1) := by decide +kernel
theorem dX0_add_86 : decode cX0_add 86 = .ok (.iadd, 1) := by decide +kernel
theorem dX0_add_87 : decode cX0_add 87 = .ok (.putfield 48, 3) := by decide +kernel
theorem dX0_add_90 : decode cX0_add 90 = .ok (.iload_n 1, 1) := by decide +kernel
theorem dX0_add_91 : decode cX0_add 91 = .ok (.bipush 13, 2) := by decide +kernel
theorem dX0_add_93 : decode cX0_add 93 = .ok (.if_icmp .lt 14, 3) := by decide +kernel
theorem dX0_add_96 : decode cX0_add 96 = .ok (.aload_n 0, 1) := by decide +kernel
theorem dX0_add_97 : decode cX0_add 97 = .ok (.iload_n 1, 1) := by decide +kernel
theorem dX0_add_98 : decode cX0_add 98 = .ok (.iload_n 2, 1) := by decide +kernel
theorem dX0_add_99 : decode cX0_add 99 = .ok (.iconst 3, 1) := by decide +kernel
theorem dX0_add_100 : decode cX0_add 100 = .ok (.iand, 1) := by decide +kernel
theorem dX0_add_101 : decode cX0_add 101 = .ok (.invokevirtual 55, 3) := by decide +kernel
theorem dX0_add_104 : decode cX0_add 104 = .ok (.goto 35, 3) := by decide +kernel
theorem dX0_add_107 : decode cX0_add 107 = .ok (.iload_n 1, 1) := by decide +kernel
theorem dX0_add_108 : decode cX0_add 108 = .ok (.bipush 12, 2) := by decide +kernel
theorem dX0_add_110 : decode cX0_add 110 = .ok (.if_icmp .ne 13, 3) := by decide +kernel
theorem dX0_add_113 : decode cX0_add 113 = .ok (.aload_n 0, 1) := by decide +kernel
theorem dX0_add_114 : decode cX0_add 114 = .ok (.iload_n 2, 1) := by decide +kernel
theorem dX0_add_115 : decode cX0_add 115 = .ok (.iconst 3, 1) := by decide +kernel
theorem dX0_add_116 : decode cX0_add 116 = .ok (.iand, 1) := by decide +kernel
theorem dX0_add_117 : decode cX0_add 117 = .ok (.invokevirtual 59, 3) := by decide +kernel
theorem dX0_add_120 : decode cX0_add 120 = .ok (.goto 19, 3) := by decide +kernel
theorem dX0_add_123 : decode cX0_add 123 = .ok (.aload_n 0, 1) := by decide +kernel
theorem dX0_add_124 : decode cX0_add 124 = .ok (.iload_n 1, 1) := by decide +kernel
theorem dX0_add_125 : decode cX0_add 125 = .ok (.iload_n 2, 1) := by decide +kernel
theorem dX0_add_126 : decode cX0_add 126 = .ok (.iconst 3, 1) := by decide +kernel
theorem dX0_add_127 : decode cX0_add 127 = .ok (.iand, 1) := by decide +kernel
theorem dX0_add_128 : decode cX0_add 128 = .ok (.iload_n 3, 1) := by decide +kernel
theorem dX0_add_129 : decode cX0_add 129 = .ok (.invokevirtual 63, 3) := by decide +kernel
theorem dX0_add_132 : decode cX0_add 132 = .ok (.aload_n 0, 1) := by decide +kernel
theorem dX0_add_133 : decode cX0_add 133 = .ok (.iload_n 2, 1) := by decide +kernel
theorem dX0_add_134 : decode cX0_add 134 = .ok (.iconst 3, 1) := by decide +kernel
theorem dX0_add_135 : decode cX0_add 135 = .ok (.iand, 1) := by decide +kernel
theorem dX0_add_136 : decode cX0_add 136 = .ok (.invokevirtual 67, 3) := by decide +kernel
theorem dX0_add_139 : decode cX0_add 139 = .ok (.aload_n 0, 1) := by decide +kernel
theorem dX0_add_140 : decode cX0_add 140 = .ok (.getfield 48, 3) := by decide +kernel
theorem dX0_add_143 : decode cX0_add 143 = .ok (.ireturn, 1) := by decide +kernel
abbrev cX0_branch : ByteArray := prog_1_method_13_code
def yX0_branch : MethodName := ⟨RX0, "branch", "(II)V"⟩
theorem dX0_branch_0 : decode cX0_branch 0 = .ok (.iload_n 1, 1) := by decide +kernel
theorem dX0_branch_1 : decode cX0_branch 1 = .ok (.bipush 13, 2) := by decide +kernel
theorem dX0_branch_3 : decode cX0_branch 3 = .ok (.if_icmp .ne 74, 3) := by decide +kernel
theorem dX0_branch_6 : decode cX0_branch 6 = .ok (.aload_n 0, 1) := by decide +kernel
theorem dX0_branch_7 : decode cX0_branch 7 = .ok (.iload_n 2, 1) := by decide +kernel
theorem dX0_branch_8 : decode cX0_branch 8 = .ok (.invokevirtual 90, 3) := by decide +kernel
theorem dX0_branch_11 : decode cX0_branch 11 = .ok (.lstore_n 3, 1) := by decide +kernel
theorem dX0_branch_12 : decode cX0_branch 12 = .ok (.aload_n 0, 1) := by decide +kernel
theorem dX0_branch_13 : decode cX0_branch 13 = .ok (.getfield 20, 3) := by decide +kernel
theorem dX0_branch_16 : decode cX0_branch 16 = .ok (.aload_n 0, 1) := by decide +kernel
theorem dX0_branch_17 : decode cX0_branch 17 = .ok (.getfield 52, 3) := by decide +kernel
theorem dX0_branch_20 : decode cX0_branch 20 = .ok (.aload_n 0, 1) := by decide +kernel
theorem dX0_branch_21 : decode cX0_branch 21 = .ok (.getfield 72, 3) := by decide +kernel
theorem dX0_branch_24 : decode cX0_branch 24 = .ok (.lastore, 1) := by decide +kernel
theorem dX0_branch_25 : decode cX0_branch 25 = .ok (.aload_n 0, 1) := by decide +kernel
theorem dX0_branch_26 : decode cX0_branch 26 = .ok (.getfield 23, 3) := by decide +kernel
theorem dX0_branch_29 : decode cX0_branch 29 = .ok (.aload_n 0, 1) := by decide +kernel
theorem dX0_branch_30 : decode cX0_branch 30 = .ok (.getfield 52, 3) := by decide +kernel
theorem dX0_branch_33 : decode cX0_branch 33 = .ok (.aload_n 0, 1) := by decide +kernel
theorem dX0_branch_34 : decode cX0_branch 34 = .ok (.getfield 72, 3) := by decide +kernel
theorem dX0_branch_37 : decode cX0_branch 37 = .ok (.lload_n 3, 1) := by decide +kernel
theorem dX0_branch_38 : decode cX0_branch 38 = .ok (.ldc2_w 70, 3) := by decide +kernel
theorem dX0_branch_41 : decode cX0_branch 41 = .ok (.lxor, 1) := by decide +kernel
theorem dX0_branch_42 : decode cX0_branch 42 = .ok (.land, 1) := by decide +kernel
theorem dX0_branch_43 : decode cX0_branch 43 = .ok (.lastore, 1) := by decide +kernel
theorem dX0_branch_44 : decode cX0_branch 44 = .ok (.aload_n 0, 1) := by decide +kernel
theorem dX0_branch_45 : decode cX0_branch 45 = .ok (.getfield 7, 3) := by decide +kernel
theorem dX0_branch_48 : decode cX0_branch 48 = .ok (.aload_n 0, 1) := by decide +kernel
theorem dX0_branch_49 : decode cX0_branch 49 = .ok (.getfield 52, 3) := by decide +kernel
theorem dX0_branch_52 : decode cX0_branch 52 = .ok (.iconst 0, 1) := by decide +kernel
theorem dX0_branch_53 : decode cX0_branch 53 = .ok (.bastore, 1) := by decide +kernel
theorem dX0_branch_54 : decode cX0_branch 54 = .ok (.aload_n 0, 1) := by decide +kernel
theorem dX0_branch_55 : decode cX0_branch 55 = .ok (.dup, 1) := by decide +kernel
theorem dX0_branch_56 : decode cX0_branch 56 = .ok (.getfield 72, 3) := by decide +kernel
theorem dX0_branch_59 : decode cX0_branch 59 = .ok (.lload_n 3, 1) := by decide +kernel
theorem dX0_branch_60 : decode cX0_branch 60 = .ok (.land, 1) := by decide +kernel
theorem dX0_branch_61 : decode cX0_branch 61 = .ok (.putfield 72, 3) := by decide +kernel
theorem dX0_branch_64 : decode cX0_branch 64 = .ok (.aload_n 0, 1) := by decide +kernel
theorem dX0_branch_65 : decode cX0_branch 65 = .ok (.dup, 1) := by decide +kernel
theorem dX0_branch_66 : decode cX0_branch 66 = .ok (.getfield 52, 3) := by decide +kernel
theorem dX0_branch_69 : decode cX0_branch 69 = .ok (.iconst 1, 1) := by decide +kernel
theorem dX0_branch_70 : decode cX0_branch 70 = .ok (.iadd, 1) := by decide +kernel
theorem dX0_branch_71 : decode cX0_branch 71 = .ok (.putfield 52, 3) := by decide +kernel
theorem dX0_branch_74 : decode cX0_branch 74 = .ok (.goto 62, 3) := by decide +kernel
theorem dX0_branch_77 : decode cX0_branch 77 = .ok (.iload_n 1, 1) := by decide +kernel
theorem dX0_branch_78 : decode cX0_branch 78 = .ok (.bipush 14, 2) := by decide +kernel
theorem dX0_branch_80 : decode cX0_branch 80 = .ok (.if_icmp .ne 33, 3) := by decide +kernel
theorem dX0_branch_83 : decode cX0_branch 83 = .ok (.aload_n 0, 1) := by decide +kernel
theorem dX0_branch_84 : decode cX0_branch 84 = .ok (.aload_n 0, 1) := by decide +kernel
theorem dX0_branch_85 : decode cX0_branch 85 = .ok (.getfield 23, 3) := by decide +kernel
theorem dX0_branch_88 : decode cX0_branch 88 = .ok (.aload_n 0, 1) := by decide +kernel
theorem dX0_branch_89 : decode cX0_branch 89 = .ok (.getfield 52, 3) := by decide +kernel
theorem dX0_branch_92 : decode cX0_branch 92 = .ok (.iconst 1, 1) := by decide +kernel
theorem dX0_branch_93 : decode cX0_branch 93 = .ok (.isub, 1) := by decide +kernel
theorem dX0_branch_94 : decode cX0_branch 94 = .ok (.laload, 1) := by decide +kernel
theorem dX0_branch_95 : decode cX0_branch 95 = .ok (.putfield 72, 3) := by decide +kernel
theorem dX0_branch_98 : decode cX0_branch 98 = .ok (.aload_n 0, 1) := by decide +kernel
theorem dX0_branch_99 : decode cX0_branch 99 = .ok (.getfield 7, 3) := by decide +kernel
theorem dX0_branch_102 : decode cX0_branch 102 = .ok (.aload_n 0, 1) := by decide +kernel
theorem dX0_branch_103 : decode cX0_branch 103 = .ok (.getfield 52, 3) := by decide +kernel
theorem dX0_branch_106 : decode cX0_branch 106 = .ok (.iconst 1, 1) := by decide +kernel
theorem dX0_branch_107 : decode cX0_branch 107 = .ok (.isub, 1) := by decide +kernel
theorem dX0_branch_108 : decode cX0_branch 108 = .ok (.iconst 1, 1) := by decide +kernel
theorem dX0_branch_109 : decode cX0_branch 109 = .ok (.bastore, 1) := by decide +kernel
theorem dX0_branch_110 : decode cX0_branch 110 = .ok (.goto 26, 3) := by decide +kernel
theorem dX0_branch_113 : decode cX0_branch 113 = .ok (.aload_n 0, 1) := by decide +kernel
theorem dX0_branch_114 : decode cX0_branch 114 = .ok (.dup, 1) := by decide +kernel
theorem dX0_branch_115 : decode cX0_branch 115 = .ok (.getfield 52, 3) := by decide +kernel
theorem dX0_branch_118 : decode cX0_branch 118 = .ok (.iconst 1, 1) := by decide +kernel
theorem dX0_branch_119 : decode cX0_branch 119 = .ok (.isub, 1) := by decide +kernel
theorem dX0_branch_120 : decode cX0_branch 120 = .ok (.putfield 52, 3) := by decide +kernel
theorem dX0_branch_123 : decode cX0_branch 123 = .ok (.aload_n 0, 1) := by decide +kernel
theorem dX0_branch_124 : decode cX0_branch 124 = .ok (.aload_n 0, 1) := by decide +kernel
theorem dX0_branch_125 : decode cX0_branch 125 = .ok (.getfield 20, 3) := by decide +kernel
theorem dX0_branch_128 : decode cX0_branch 128 = .ok (.aload_n 0, 1) := by decide +kernel
theorem dX0_branch_129 : decode cX0_branch 129 = .ok (.getfield 52, 3) := by decide +kernel
theorem dX0_branch_132 : decode cX0_branch 132 = .ok (.laload, 1) := by decide +kernel
theorem dX0_branch_133 : decode cX0_branch 133 = .ok (.putfield 72, 3) := by decide +kernel
theorem dX0_branch_136 : decode cX0_branch 136 = .ok (.return_, 1) := by decide +kernel
abbrev cX0_anyBit : ByteArray := prog_1_method_14_code
def yX0_anyBit : MethodName := ⟨RX0, "anyBit", "(I)J"⟩
theorem dX0_anyBit_0 : decode cX0_anyBit 0 = .ok (.lconst 0, 1) := by decide +kernel
theorem dX0_anyBit_1 : decode cX0_anyBit 1 = .ok (.lstore_n 2, 1) := by decide +kernel
theorem dX0_anyBit_2 : decode cX0_anyBit 2 = .ok (.iconst 0, 1) := by decide +kernel
theorem dX0_anyBit_3 : decode cX0_anyBit 3 = .ok (.istore 4, 2) := by decide +kernel
theorem dX0_anyBit_5 : decode cX0_anyBit 5 = .ok (.iload 4, 2) := by decide +kernel
theorem dX0_anyBit_7 : decode cX0_anyBit 7 = .ok (.bipush 8, 2) := by decide +kernel
theorem dX0_anyBit_9 : decode cX0_anyBit 9 = .ok (.if_icmp .ge 24, 3) := by decide +kernel
theorem dX0_anyBit_12 : decode cX0_anyBit 12 = .ok (.lload_n 2, 1) := by decide +kernel
theorem dX0_anyBit_13 : decode cX0_anyBit 13 = .ok (.aload_n 0, 1) := by decide +kernel
theorem dX0_anyBit_14 : decode cX0_anyBit 14 = .ok (.getfield 13, 3) := by decide +kernel
theorem dX0_anyBit_17 : decode cX0_anyBit 17 = .ok (.bipush 8, 2) := by decide +kernel
theorem dX0_anyBit_19 : decode cX0_anyBit 19 = .ok (.iload_n 1, 1) := by decide +kernel
theorem dX0_anyBit_20 : decode cX0_anyBit 20 = .ok (.imul, 1) := by decide +kernel
theorem dX0_anyBit_21 : decode cX0_anyBit 21 = .ok (.iload 4, 2) := by decide +kernel
theorem dX0_anyBit_23 : decode cX0_anyBit 23 = .ok (.iadd, 1) := by decide +kernel
theorem dX0_anyBit_24 : decode cX0_anyBit 24 = .ok (.laload, 1) := by decide +kernel
theorem dX0_anyBit_25 : decode cX0_anyBit 25 = .ok (.lor, 1) := by decide +kernel
theorem dX0_anyBit_26 : decode cX0_anyBit 26 = .ok (.lstore_n 2, 1) := by decide +kernel
theorem dX0_anyBit_27 : decode cX0_anyBit 27 = .ok (.iinc 4 1, 3) := by decide +kernel
theorem dX0_anyBit_30 : decode cX0_anyBit 30 = .ok (.goto (-25), 3) := by decide +kernel
theorem dX0_anyBit_33 : decode cX0_anyBit 33 = .ok (.lload_n 2, 1) := by decide +kernel
theorem dX0_anyBit_34 : decode cX0_anyBit 34 = .ok (.lreturn, 1) := by decide +kernel
abbrev cX0_putOut : ByteArray := prog_1_method_24_code
def yX0_putOut : MethodName := ⟨RX0, "putOut", "(I)V"⟩
theorem dX0_putOut_0 : decode cX0_putOut 0 = .ok (.aload_n 0, 1) := by decide +kernel
theorem dX0_putOut_1 : decode cX0_putOut 1 = .ok (.iconst 0, 1) := by decide +kernel
theorem dX0_putOut_2 : decode cX0_putOut 2 = .ok (.putfield 76, 3) := by decide +kernel
theorem dX0_putOut_5 : decode cX0_putOut 5 = .ok (.iconst 0, 1) := by decide +kernel
theorem dX0_putOut_6 : decode cX0_putOut 6 = .ok (.istore_n 2, 1) := by decide +kernel
theorem dX0_putOut_7 : decode cX0_putOut 7 = .ok (.iload_n 2, 1) := by decide +kernel
theorem dX0_putOut_8 : decode cX0_putOut 8 = .ok (.bipush 64, 2) := by decide +kernel
theorem dX0_putOut_10 : decode cX0_putOut 10 = .ok (.if_icmp .ge 68, 3) := by decide +kernel
theorem dX0_putOut_13 : decode cX0_putOut 13 = .ok (.aload_n 0, 1) := by decide +kernel
theorem dX0_putOut_14 : decode cX0_putOut 14 = .ok (.getfield 72, 3) := by decide +kernel
theorem dX0_putOut_17 : decode cX0_putOut 17 = .ok (.iload_n 2, 1) := by decide +kernel
theorem dX0_putOut_18 : decode cX0_putOut 18 = .ok (.lushr, 1) := by decide +kernel
theorem dX0_putOut_19 : decode cX0_putOut 19 = .ok (.lconst 1, 1) := by decide +kernel
theorem dX0_putOut_20 : decode cX0_putOut 20 = .ok (.land, 1) := by decide +kernel
theorem dX0_putOut_21 : decode cX0_putOut 21 = .ok (.lconst 0, 1) := by decide +kernel
theorem dX0_putOut_22 : decode cX0_putOut 22 = .ok (.lcmp, 1) := by decide +kernel
theorem dX0_putOut_23 : decode cX0_putOut 23 = .ok (.ifCond .eq 49, 3) := by decide +kernel
theorem dX0_putOut_26 : decode cX0_putOut 26 = .ok (.aload_n 0, 1) := by decide +kernel
theorem dX0_putOut_27 : decode cX0_putOut 27 = .ok (.getfield 26, 3) := by decide +kernel
theorem dX0_putOut_30 : decode cX0_putOut 30 = .ok (.iload_n 2, 1) := by decide +kernel
theorem dX0_putOut_31 : decode cX0_putOut 31 = .ok (.iaload, 1) := by decide +kernel
theorem dX0_putOut_32 : decode cX0_putOut 32 = .ok (.bipush 7, 2) := by decide +kernel
theorem dX0_putOut_34 : decode cX0_putOut 34 = .ok (.if_icmp .ge 38, 3) := by decide +kernel
theorem dX0_putOut_37 : decode cX0_putOut 37 = .ok (.aload_n 0, 1) := by decide +kernel
theorem dX0_putOut_38 : decode cX0_putOut 38 = .ok (.iload_n 2, 1) := by decide +kernel
theorem dX0_putOut_39 : decode cX0_putOut 39 = .ok (.iload_n 1, 1) := by decide +kernel
theorem dX0_putOut_40 : decode cX0_putOut 40 = .ok (.invokevirtual 86, 3) := by decide +kernel
theorem dX0_putOut_43 : decode cX0_putOut 43 = .ok (.istore_n 3, 1) := by decide +kernel
theorem dX0_putOut_44 : decode cX0_putOut 44 = .ok (.aload_n 0, 1) := by decide +kernel
theorem dX0_putOut_45 : decode cX0_putOut 45 = .ok (.getfield 30, 3) := by decide +kernel
theorem dX0_putOut_48 : decode cX0_putOut 48 = .ok (.iload_n 2, 1) := by decide +kernel
theorem dX0_putOut_49 : decode cX0_putOut 49 = .ok (.aload_n 0, 1) := by decide +kernel
theorem dX0_putOut_50 : decode cX0_putOut 50 = .ok (.getfield 30, 3) := by decide +kernel
theorem dX0_putOut_53 : decode cX0_putOut 53 = .ok (.iload_n 2, 1) := by decide +kernel
theorem dX0_putOut_54 : decode cX0_putOut 54 = .ok (.laload, 1) := by decide +kernel
theorem dX0_putOut_55 : decode cX0_putOut 55 = .ok (.bipush 8, 2) := by decide +kernel
theorem dX0_putOut_57 : decode cX0_putOut 57 = .ok (.lshl, 1) := by decide +kernel
theorem dX0_putOut_58 : decode cX0_putOut 58 = .ok (.iload_n 3, 1) := by decide +kernel
theorem dX0_putOut_59 : decode cX0_putOut 59 = .ok (.i2l, 1) := by decide +kernel
theorem dX0_putOut_60 : decode cX0_putOut 60 = .ok (.lor, 1) := by decide +kernel
theorem dX0_putOut_61 : decode cX0_putOut 61 = .ok (.lastore, 1) := by decide +kernel
theorem dX0_putOut_62 : decode cX0_putOut 62 = .ok (.aload_n 0, 1) := by decide +kernel
theorem dX0_putOut_63 : decode cX0_putOut 63 = .ok (.getfield 26, 3) := by decide +kernel
theorem dX0_putOut_66 : decode cX0_putOut 66 = .ok (.iload_n 2, 1) := by decide +kernel
theorem dX0_putOut_67 : decode cX0_putOut 67 = .ok (.dup2, 1) := by decide +kernel
theorem dX0_putOut_68 : decode cX0_putOut 68 = .ok (.iaload, 1) := by decide +kernel
theorem dX0_putOut_69 : decode cX0_putOut 69 = .ok (.iconst 1, 1) := by decide +kernel
theorem dX0_putOut_70 : decode cX0_putOut 70 = .ok (.iadd, 1) := by decide +kernel
theorem dX0_putOut_71 : decode cX0_putOut 71 = .ok (.iastore, 1) := by decide +kernel
theorem dX0_putOut_72 : decode cX0_putOut 72 = .ok (.iinc 2 1, 3) := by decide +kernel
theorem dX0_putOut_75 : decode cX0_putOut 75 = .ok (.goto (-68), 3) := by decide +kernel
theorem dX0_putOut_78 : decode cX0_putOut 78 = .ok (.return_, 1) := by decide +kernel
abbrev cX0_valueFor : ByteArray := prog_1_method_12_code
def yX0_valueFor : MethodName := ⟨RX0, "valueFor", "(II)I"⟩
theorem dX0_valueFor_0 : decode cX0_valueFor 0 = .ok (.iconst 0, 1) := by decide +kernel
theorem dX0_valueFor_1 : decode cX0_valueFor 1 = .ok (.istore_n 3, 1) := by decide +kernel
theorem dX0_valueFor_2 : decode cX0_valueFor 2 = .ok (.bipush 7, 2) := by decide +kernel
theorem dX0_valueFor_4 : decode cX0_valueFor 4 = .ok (.istore 4, 2) := by decide +kernel
theorem dX0_valueFor_6 : decode cX0_valueFor 6 = .ok (.iload 4, 2) := by decide +kernel
theorem dX0_valueFor_8 : decode cX0_valueFor 8 = .ok (.ifCond .lt 31, 3) := by decide +kernel
theorem dX0_valueFor_11 : decode cX0_valueFor 11 = .ok (.iconst 2, 1) := by decide +kernel
theorem dX0_valueFor_12 : decode cX0_valueFor 12 = .ok (.iload_n 3, 1) := by decide +kernel
theorem dX0_valueFor_13 : decode cX0_valueFor 13 = .ok (.imul, 1) := by decide +kernel
theorem dX0_valueFor_14 : decode cX0_valueFor 14 = .ok (.aload_n 0, 1) := by decide +kernel
theorem dX0_valueFor_15 : decode cX0_valueFor 15 = .ok (.getfield 13, 3) := by decide +kernel
theorem dX0_valueFor_18 : decode cX0_valueFor 18 = .ok (.bipush 8, 2) := by decide +kernel
theorem dX0_valueFor_20 : decode cX0_valueFor 20 = .ok (.iload_n 2, 1) := by decide +kernel
theorem dX0_valueFor_21 : decode cX0_valueFor 21 = .ok (.imul, 1) := by decide +kernel
theorem dX0_valueFor_22 : decode cX0_valueFor 22 = .ok (.iload 4, 2) := by decide +kernel
theorem dX0_valueFor_24 : decode cX0_valueFor 24 = .ok (.iadd, 1) := by decide +kernel
theorem dX0_valueFor_25 : decode cX0_valueFor 25 = .ok (.laload, 1) := by decide +kernel
theorem dX0_valueFor_26 : decode cX0_valueFor 26 = .ok (.iload_n 1, 1) := by decide +kernel
theorem dX0_valueFor_27 : decode cX0_valueFor 27 = .ok (.lushr, 1) := by decide +kernel
theorem dX0_valueFor_28 : decode cX0_valueFor 28 = .ok (.lconst 1, 1) := by decide +kernel
theorem dX0_valueFor_29 : decode cX0_valueFor 29 = .ok (.land, 1) := by decide +kernel
theorem dX0_valueFor_30 : decode cX0_valueFor 30 = .ok (.l2i, 1) := by decide +kernel
theorem dX0_valueFor_31 : decode cX0_valueFor 31 = .ok (.iadd, 1) := by decide +kernel
theorem dX0_valueFor_32 : decode cX0_valueFor 32 = .ok (.istore_n 3, 1) := by decide +kernel
theorem dX0_valueFor_33 : decode cX0_valueFor 33 = .ok (.iinc 4 (-1), 3) := by decide +kernel
theorem dX0_valueFor_36 : decode cX0_valueFor 36 = .ok (.goto (-30), 3) := by decide +kernel
theorem dX0_valueFor_39 : decode cX0_valueFor 39 = .ok (.iload_n 3, 1) := by decide +kernel
theorem dX0_valueFor_40 : decode cX0_valueFor 40 = .ok (.ireturn, 1) := by decide +kernel
end
section
set_option maxRecDepth 100000
abbrev cX0_compute : ByteArray := prog_1_method_16_code
def yX0_compute : MethodName := ⟨RX0, "compute", "(III)V"⟩
theorem dX0_compute_0 : decode cX0_compute 0 = .ok (.iload_n 3, 1) := by decide +kernel
theorem dX0_compute_1 : decode cX0_compute 1 = .ok (.iconst 3, 1) := by decide +kernel
theorem dX0_compute_2 : decode cX0_compute 2 = .ok (.iand, 1) := by decide +kernel
theorem dX0_compute_3 : decode cX0_compute 3 = .ok (.istore 4, 2) := by decide +kernel
theorem dX0_compute_5 : decode cX0_compute 5 = .ok (.iload_n 1, 1) := by decide +kernel
theorem dX0_compute_6 : decode cX0_compute 6 = .ok (.ifCond .ne 45, 3) := by decide +kernel
theorem dX0_compute_9 : decode cX0_compute 9 = .ok (.iconst 0, 1) := by decide +kernel
theorem dX0_compute_10 : decode cX0_compute 10 = .ok (.istore 5, 2) := by decide +kernel
theorem dX0_compute_12 : decode cX0_compute 12 = .ok (.iload 5, 2) := by decide +kernel
theorem dX0_compute_14 : decode cX0_compute 14 = .ok (.bipush 8, 2) := by decide +kernel
theorem dX0_compute_16 : decode cX0_compute 16 = .ok (.if_icmp .ge 32, 3) := by decide +kernel
theorem dX0_compute_19 : decode cX0_compute 19 = .ok (.aload_n 0, 1) := by decide +kernel
theorem dX0_compute_20 : decode cX0_compute 20 = .ok (.getfield 17, 3) := by decide +kernel
theorem dX0_compute_23 : decode cX0_compute 23 = .ok (.iload 5, 2) := by decide +kernel
theorem dX0_compute_25 : decode cX0_compute 25 = .ok (.iload_n 3, 1) := by decide +kernel
theorem dX0_compute_26 : decode cX0_compute 26 = .ok (.iload 5, 2) := by decide +kernel
theorem dX0_compute_28 : decode cX0_compute 28 = .ok (.iushr, 1) := by decide +kernel
theorem dX0_compute_29 : decode cX0_compute 29 = .ok (.iconst 1, 1) := by decide +kernel
theorem dX0_compute_30 : decode cX0_compute 30 = .ok (.iand, 1) := by decide +kernel
theorem dX0_compute_31 : decode cX0_compute 31 = .ok (.ifCond .eq 9, 3) := by decide +kernel
theorem dX0_compute_34 : decode cX0_compute 34 = .ok (.ldc2_w 70, 3) := by decide +kernel
theorem dX0_compute_37 : decode cX0_compute 37 = .ok (.goto 4, 3) := by decide +kernel
theorem dX0_compute_40 : decode cX0_compute 40 = .ok (.lconst 0, 1) := by decide +kernel
theorem dX0_compute_41 : decode cX0_compute 41 = .ok (.lastore, 1) := by decide +kernel
theorem dX0_compute_42 : decode cX0_compute 42 = .ok (.iinc 5 1, 3) := by decide +kernel
theorem dX0_compute_45 : decode cX0_compute 45 = .ok (.goto (-33), 3) := by decide +kernel
theorem dX0_compute_48 : decode cX0_compute 48 = .ok (.goto 216, 3) := by decide +kernel
theorem dX0_compute_51 : decode cX0_compute 51 = .ok (.iload_n 1, 1) := by decide +kernel
theorem dX0_compute_52 : decode cX0_compute 52 = .ok (.iconst 1, 1) := by decide +kernel
theorem dX0_compute_53 : decode cX0_compute 53 = .ok (.if_icmp .ne 42, 3) := by decide +kernel
theorem dX0_compute_56 : decode cX0_compute 56 = .ok (.iconst 0, 1) := by decide +kernel
theorem dX0_compute_57 : decode cX0_compute 57 = .ok (.istore 5, 2) := by decide +kernel
theorem dX0_compute_59 : decode cX0_compute 59 = .ok (.iload 5, 2) := by decide +kernel
theorem dX0_compute_61 : decode cX0_compute 61 = .ok (.bipush 8, 2) := by decide +kernel
theorem dX0_compute_63 : decode cX0_compute 63 = .ok (.if_icmp .ge 29, 3) := by decide +kernel
theorem dX0_compute_66 : decode cX0_compute 66 = .ok (.aload_n 0, 1) := by decide +kernel
theorem dX0_compute_67 : decode cX0_compute 67 = .ok (.getfield 17, 3) := by decide +kernel
theorem dX0_compute_70 : decode cX0_compute 70 = .ok (.iload 5, 2) := by decide +kernel
theorem dX0_compute_72 : decode cX0_compute 72 = .ok (.aload_n 0, 1) := by decide +kernel
theorem dX0_compute_73 : decode cX0_compute 73 = .ok (.getfield 13, 3) := by decide +kernel
theorem dX0_compute_76 : decode cX0_compute 76 = .ok (.bipush 8, 2) := by decide +kernel
theorem dX0_compute_78 : decode cX0_compute 78 = .ok (.iload 4, 2) := by decide +kernel
theorem dX0_compute_80 : decode cX0_compute 80 = .ok (.imul, 1) := by decide +kernel
theorem dX0_compute_81 : decode cX0_compute 81 = .ok (.iload 5, 2) := by decide +kernel
theorem dX0_compute_83 : decode cX0_compute 83 = .ok (.iadd, 1) := by decide +kernel
theorem dX0_compute_84 : decode cX0_compute 84 = .ok (.laload, 1) := by decide +kernel
theorem dX0_compute_85 : decode cX0_compute 85 = .ok (.lastore, 1) := by decide +kernel
theorem dX0_compute_86 : decode cX0_compute 86 = .ok (.iinc 5 1, 3) := by decide +kernel
theorem dX0_compute_89 : decode cX0_compute 89 = .ok (.goto (-30), 3) := by decide +kernel
theorem dX0_compute_92 : decode cX0_compute 92 = .ok (.goto 172, 3) := by decide +kernel
theorem dX0_compute_95 : decode cX0_compute 95 = .ok (.iload_n 1, 1) := by decide +kernel
theorem dX0_compute_96 : decode cX0_compute 96 = .ok (.iconst 2, 1) := by decide +kernel
theorem dX0_compute_97 : decode cX0_compute 97 = .ok (.if_icmp .ne 13, 3) := by decide +kernel
theorem dX0_compute_100 : decode cX0_compute 100 = .ok (.aload_n 0, 1) := by decide +kernel
theorem dX0_compute_101 : decode cX0_compute 101 = .ok (.iload_n 2, 1) := by decide +kernel
theorem dX0_compute_102 : decode cX0_compute 102 = .ok (.iload 4, 2) := by decide +kernel
theorem dX0_compute_104 : decode cX0_compute 104 = .ok (.invokevirtual 94, 3) := by decide +kernel
theorem dX0_compute_107 : decode cX0_compute 107 = .ok (.goto 157, 3) := by decide +kernel
theorem dX0_compute_110 : decode cX0_compute 110 = .ok (.iload_n 1, 1) := by decide +kernel
theorem dX0_compute_111 : decode cX0_compute 111 = .ok (.iconst 3, 1) := by decide +kernel
theorem dX0_compute_112 : decode cX0_compute 112 = .ok (.if_icmp .ne 14, 3) := by decide +kernel
theorem dX0_compute_115 : decode cX0_compute 115 = .ok (.aload_n 0, 1) := by decide +kernel
theorem dX0_compute_116 : decode cX0_compute 116 = .ok (.iload_n 2, 1) := by decide +kernel
theorem dX0_compute_117 : decode cX0_compute 117 = .ok (.iload 4, 2) := by decide +kernel
theorem dX0_compute_119 : decode cX0_compute 119 = .ok (.invokevirtual 97, 3) := by decide +kernel
theorem dX0_compute_122 : decode cX0_compute 122 = .ok (.pop2, 1) := by decide +kernel
theorem dX0_compute_123 : decode cX0_compute 123 = .ok (.goto 141, 3) := by decide +kernel
theorem dX0_compute_126 : decode cX0_compute 126 = .ok (.iload_n 1, 1) := by decide +kernel
theorem dX0_compute_127 : decode cX0_compute 127 = .ok (.iconst 4, 1) := by decide +kernel
theorem dX0_compute_128 : decode cX0_compute 128 = .ok (.if_icmp .ne 13, 3) := by decide +kernel
theorem dX0_compute_131 : decode cX0_compute 131 = .ok (.aload_n 0, 1) := by decide +kernel
theorem dX0_compute_132 : decode cX0_compute 132 = .ok (.iload_n 2, 1) := by decide +kernel
theorem dX0_compute_133 : decode cX0_compute 133 = .ok (.iload 4, 2) := by decide +kernel
theorem dX0_compute_135 : decode cX0_compute 135 = .ok (.invokevirtual 101, 3) := by decide +kernel
theorem dX0_compute_138 : decode cX0_compute 138 = .ok (.goto 126, 3) := by decide +kernel
theorem dX0_compute_141 : decode cX0_compute 141 = .ok (.iload_n 1, 1) := by decide +kernel
theorem dX0_compute_142 : decode cX0_compute 142 = .ok (.bipush 7, 2) := by decide +kernel
theorem dX0_compute_144 : decode cX0_compute 144 = .ok (.if_icmp .gt 14, 3) := by decide +kernel
theorem dX0_compute_147 : decode cX0_compute 147 = .ok (.aload_n 0, 1) := by decide +kernel
theorem dX0_compute_148 : decode cX0_compute 148 = .ok (.iload_n 1, 1) := by decide +kernel
theorem dX0_compute_149 : decode cX0_compute 149 = .ok (.iload_n 2, 1) := by decide +kernel
theorem dX0_compute_150 : decode cX0_compute 150 = .ok (.iload 4, 2) := by decide +kernel
theorem dX0_compute_152 : decode cX0_compute 152 = .ok (.invokevirtual 104, 3) := by decide +kernel
theorem dX0_compute_155 : decode cX0_compute 155 = .ok (.goto 109, 3) := by decide +kernel
theorem dX0_compute_158 : decode cX0_compute 158 = .ok (.iload_n 1, 1) := by decide +kernel
theorem dX0_compute_159 : decode cX0_compute 159 = .ok (.bipush 9, 2) := by decide +kernel
theorem dX0_compute_161 : decode cX0_compute 161 = .ok (.if_icmp .gt 29, 3) := by decide +kernel
theorem dX0_compute_164 : decode cX0_compute 164 = .ok (.aload_n 0, 1) := by decide +kernel
theorem dX0_compute_165 : decode cX0_compute 165 = .ok (.iload_n 2, 1) := by decide +kernel
theorem dX0_compute_166 : decode cX0_compute 166 = .ok (.iload_n 1, 1) := by decide +kernel
theorem dX0_compute_167 : decode cX0_compute 167 = .ok (.bipush 8, 2) := by decide +kernel
theorem dX0_compute_169 : decode cX0_compute 169 = .ok (.if_icmp .ne 10, 3) := by decide +kernel
theorem dX0_compute_172 : decode cX0_compute 172 = .ok (.iload_n 3, 1) := by decide +kernel
theorem dX0_compute_173 : decode cX0_compute 173 = .ok (.bipush 7, 2) := by decide +kernel
theorem dX0_compute_175 : decode cX0_compute 175 = .ok (.iand, 1) := by decide +kernel
theorem dX0_compute_176 : decode cX0_compute 176 = .ok (.goto 8, 3) := by decide +kernel
theorem dX0_compute_179 : decode cX0_compute 179 = .ok (.iload_n 3, 1) := by decide +kernel
theorem dX0_compute_180 : decode cX0_compute 180 = .ok (.bipush 7, 2) := by decide +kernel
theorem dX0_compute_182 : decode cX0_compute 182 = .ok (.iand, 1) := by decide +kernel
theorem dX0_compute_183 : decode cX0_compute 183 = .ok (.ineg, 1) := by decide +kernel
theorem dX0_compute_184 : decode cX0_compute 184 = .ok (.invokevirtual 107, 3) := by decide +kernel
theorem dX0_compute_187 : decode cX0_compute 187 = .ok (.goto 77, 3) := by decide +kernel
theorem dX0_compute_190 : decode cX0_compute 190 = .ok (.iload_n 1, 1) := by decide +kernel
theorem dX0_compute_191 : decode cX0_compute 191 = .ok (.bipush 10, 2) := by decide +kernel
theorem dX0_compute_193 : decode cX0_compute 193 = .ok (.if_icmp .ne 21, 3) := by decide +kernel
theorem dX0_compute_196 : decode cX0_compute 196 = .ok (.aload_n 0, 1) := by decide +kernel
theorem dX0_compute_197 : decode cX0_compute 197 = .ok (.iload_n 2, 1) := by decide +kernel
theorem dX0_compute_198 : decode cX0_compute 198 = .ok (.iload 4, 2) := by decide +kernel
theorem dX0_compute_200 : decode cX0_compute 200 = .ok (.invokevirtual 97, 3) := by decide +kernel
theorem dX0_compute_203 : decode cX0_compute 203 = .ok (.lstore 5, 2) := by decide +kernel
theorem dX0_compute_205 : decode cX0_compute 205 = .ok (.aload_n 0, 1) := by decide +kernel
theorem dX0_compute_206 : decode cX0_compute 206 = .ok (.lload 5, 2) := by decide +kernel
theorem dX0_compute_208 : decode cX0_compute 208 = .ok (.invokevirtual 110, 3) := by decide +kernel
theorem dX0_compute_211 : decode cX0_compute 211 = .ok (.goto 53, 3) := by decide +kernel
theorem dX0_compute_214 : decode cX0_compute 214 = .ok (.aload_n 0, 1) := by decide +kernel
theorem dX0_compute_215 : decode cX0_compute 215 = .ok (.bipush 7, 2) := by decide +kernel
theorem dX0_compute_217 : decode cX0_compute 217 = .ok (.iload_n 2, 1) := by decide +kernel
theorem dX0_compute_218 : decode cX0_compute 218 = .ok (.iload 4, 2) := by decide +kernel
theorem dX0_compute_220 : decode cX0_compute 220 = .ok (.invokevirtual 104, 3) := by decide +kernel
theorem dX0_compute_223 : decode cX0_compute 223 = .ok (.lconst 0, 1) := by decide +kernel
theorem dX0_compute_224 : decode cX0_compute 224 = .ok (.lstore 5, 2) := by decide +kernel
theorem dX0_compute_226 : decode cX0_compute 226 = .ok (.iconst 0, 1) := by decide +kernel
theorem dX0_compute_227 : decode cX0_compute 227 = .ok (.istore 7, 2) := by decide +kernel
theorem dX0_compute_229 : decode cX0_compute 229 = .ok (.iload 7, 2) := by decide +kernel
theorem dX0_compute_231 : decode cX0_compute 231 = .ok (.bipush 8, 2) := by decide +kernel
theorem dX0_compute_233 : decode cX0_compute 233 = .ok (.if_icmp .ge 21, 3) := by decide +kernel
theorem dX0_compute_236 : decode cX0_compute 236 = .ok (.lload 5, 2) := by decide +kernel
theorem dX0_compute_238 : decode cX0_compute 238 = .ok (.aload_n 0, 1) := by decide +kernel
theorem dX0_compute_239 : decode cX0_compute 239 = .ok (.getfield 17, 3) := by decide +kernel
theorem dX0_compute_242 : decode cX0_compute 242 = .ok (.iload 7, 2) := by decide +kernel
theorem dX0_compute_244 : decode cX0_compute 244 = .ok (.laload, 1) := by decide +kernel
theorem dX0_compute_245 : decode cX0_compute 245 = .ok (.lor, 1) := by decide +kernel
theorem dX0_compute_246 : decode cX0_compute 246 = .ok (.lstore 5, 2) := by decide +kernel
theorem dX0_compute_248 : decode cX0_compute 248 = .ok (.iinc 7 1, 3) := by decide +kernel
theorem dX0_compute_251 : decode cX0_compute 251 = .ok (.goto (-22), 3) := by decide +kernel
theorem dX0_compute_254 : decode cX0_compute 254 = .ok (.aload_n 0, 1) := by decide +kernel
theorem dX0_compute_255 : decode cX0_compute 255 = .ok (.lload 5, 2) := by decide +kernel
theorem dX0_compute_257 : decode cX0_compute 257 = .ok (.ldc2_w 70, 3) := by decide +kernel
theorem dX0_compute_260 : decode cX0_compute 260 = .ok (.lxor, 1) := by decide +kernel
theorem dX0_compute_261 : decode cX0_compute 261 = .ok (.invokevirtual 110, 3) := by decide +kernel
theorem dX0_compute_264 : decode cX0_compute 264 = .ok (.return_, 1) := by decide +kernel
abbrev cX0_addPlanes : ByteArray := prog_1_method_18_code
def yX0_addPlanes : MethodName := ⟨RX0, "addPlanes", "(II)V"⟩
theorem dX0_addPlanes_0 : decode cX0_addPlanes 0 = .ok (.lconst 0, 1) := by decide +kernel
theorem dX0_addPlanes_1 : decode cX0_addPlanes 1 = .ok (.lstore_n 3, 1) := by decide +kernel
theorem dX0_addPlanes_2 : decode cX0_addPlanes 2 = .ok (.iconst 0, 1) := by decide +kernel
theorem dX0_addPlanes_3 : decode cX0_addPlanes 3 = .ok (.istore 5, 2) := by decide +kernel
theorem dX0_addPlanes_5 : decode cX0_addPlanes 5 = .ok (.iload 5, 2) := by decide +kernel
theorem dX0_addPlanes_7 : decode cX0_addPlanes 7 = .ok (.bipush 8, 2) := by decide +kernel
theorem dX0_addPlanes_9 : decode cX0_addPlanes 9 = .ok (.if_icmp .ge 65, 3) := by decide +kernel
theorem dX0_addPlanes_12 : decode cX0_addPlanes 12 = .ok (.aload_n 0, 1) := by decide +kernel
theorem dX0_addPlanes_13 : decode cX0_addPlanes 13 = .ok (.getfield 13, 3) := by decide +kernel
theorem dX0_addPlanes_16 : decode cX0_addPlanes 16 = .ok (.bipush 8, 2) := by decide +kernel
theorem dX0_addPlanes_18 : decode cX0_addPlanes 18 = .ok (.iload_n 1, 1) := by decide +kernel
theorem dX0_addPlanes_19 : decode cX0_addPlanes 19 = .ok (.imul, 1) := by decide +kernel
theorem dX0_addPlanes_20 : decode cX0_addPlanes 20 = .ok (.iload 5, 2) := by decide +kernel
theorem dX0_addPlanes_22 : decode cX0_addPlanes 22 = .ok (.iadd, 1) := by decide +kernel
theorem dX0_addPlanes_23 : decode cX0_addPlanes 23 = .ok (.laload, 1) := by decide +kernel
theorem dX0_addPlanes_24 : decode cX0_addPlanes 24 = .ok (.lstore 6, 2) := by decide +kernel
theorem dX0_addPlanes_26 : decode cX0_addPlanes 26 = .ok (.aload_n 0, 1) := by decide +kernel
theorem dX0_addPlanes_27 : decode cX0_addPlanes 27 = .ok (.getfield 13, 3) := by decide +kernel
theorem dX0_addPlanes_30 : decode cX0_addPlanes 30 = .ok (.bipush 8, 2) := by decide +kernel
theorem dX0_addPlanes_32 : decode cX0_addPlanes 32 = .ok (.iload_n 2, 1) := by decide +kernel
theorem dX0_addPlanes_33 : decode cX0_addPlanes 33 = .ok (.imul, 1) := by decide +kernel
theorem dX0_addPlanes_34 : decode cX0_addPlanes 34 = .ok (.iload 5, 2) := by decide +kernel
theorem dX0_addPlanes_36 : decode cX0_addPlanes 36 = .ok (.iadd, 1) := by decide +kernel
theorem dX0_addPlanes_37 : decode cX0_addPlanes 37 = .ok (.laload, 1) := by decide +kernel
theorem dX0_addPlanes_38 : decode cX0_addPlanes 38 = .ok (.lstore 8, 2) := by decide +kernel
theorem dX0_addPlanes_40 : decode cX0_addPlanes 40 = .ok (.aload_n 0, 1) := by decide +kernel
theorem dX0_addPlanes_41 : decode cX0_addPlanes 41 = .ok (.getfield 17, 3) := by decide +kernel
theorem dX0_addPlanes_44 : decode cX0_addPlanes 44 = .ok (.iload 5, 2) := by decide +kernel
theorem dX0_addPlanes_46 : decode cX0_addPlanes 46 = .ok (.lload 6, 2) := by decide +kernel
theorem dX0_addPlanes_48 : decode cX0_addPlanes 48 = .ok (.lload 8, 2) := by decide +kernel
theorem dX0_addPlanes_50 : decode cX0_addPlanes 50 = .ok (.lxor, 1) := by decide +kernel
theorem dX0_addPlanes_51 : decode cX0_addPlanes 51 = .ok (.lload_n 3, 1) := by decide +kernel
theorem dX0_addPlanes_52 : decode cX0_addPlanes 52 = .ok (.lxor, 1) := by decide +kernel
theorem dX0_addPlanes_53 : decode cX0_addPlanes 53 = .ok (.lastore, 1) := by decide +kernel
theorem dX0_addPlanes_54 : decode cX0_addPlanes 54 = .ok (.lload 6, 2) := by decide +kernel
theorem dX0_addPlanes_56 : decode cX0_addPlanes 56 = .ok (.lload 8, 2) := by decide +kernel
theorem dX0_addPlanes_58 : decode cX0_addPlanes 58 = .ok (.land, 1) := by decide +kernel
theorem dX0_addPlanes_59 : decode cX0_addPlanes 59 = .ok (.lload 6, 2) := by decide +kernel
theorem dX0_addPlanes_61 : decode cX0_addPlanes 61 = .ok (.lload 8, 2) := by decide +kernel
theorem dX0_addPlanes_63 : decode cX0_addPlanes 63 = .ok (.lxor, 1) := by decide +kernel
theorem dX0_addPlanes_64 : decode cX0_addPlanes 64 = .ok (.lload_n 3, 1) := by decide +kernel
theorem dX0_addPlanes_65 : decode cX0_addPlanes 65 = .ok (.land, 1) := by decide +kernel
theorem dX0_addPlanes_66 : decode cX0_addPlanes 66 = .ok (.lor, 1) := by decide +kernel
theorem dX0_addPlanes_67 : decode cX0_addPlanes 67 = .ok (.lstore_n 3, 1) := by decide +kernel
theorem dX0_addPlanes_68 : decode cX0_addPlanes 68 = .ok (.iinc 5 1, 3) := by decide +kernel
theorem dX0_addPlanes_71 : decode cX0_addPlanes 71 = .ok (.goto (-66), 3) := by decide +kernel
theorem dX0_addPlanes_74 : decode cX0_addPlanes 74 = .ok (.return_, 1) := by decide +kernel
abbrev cX0_subtractPlanes : ByteArray := prog_1_method_19_code
def yX0_subtractPlanes : MethodName := ⟨RX0, "subtractPlanes", "(II)J"⟩
theorem dX0_subtractPlanes_0 : decode cX0_subtractPlanes 0 = .ok (.lconst 0, 1) := by decide +kernel
theorem dX0_subtractPlanes_1 : decode cX0_subtractPlanes 1 = .ok (.lstore_n 3, 1) := by decide +kernel
theorem dX0_subtractPlanes_2 : decode cX0_subtractPlanes 2 = .ok (.iconst 0, 1) := by decide +kernel
theorem dX0_subtractPlanes_3 : decode cX0_subtractPlanes 3 = .ok (.istore 5, 2) := by decide +kernel
theorem dX0_subtractPlanes_5 : decode cX0_subtractPlanes 5 = .ok (.iload 5, 2) := by decide +kernel
theorem dX0_subtractPlanes_7 : decode cX0_subtractPlanes 7 = .ok (.bipush 8, 2) := by decide +kernel
theorem dX0_subtractPlanes_9 : decode cX0_subtractPlanes 9 = .ok (.if_icmp .ge 73, 3) := by decide +kernel
theorem dX0_subtractPlanes_12 : decode cX0_subtractPlanes 12 = .ok (.aload_n 0, 1) := by decide +kernel
theorem dX0_subtractPlanes_13 : decode cX0_subtractPlanes 13 = .ok (.getfield 13, 3) := by decide +kernel
theorem dX0_subtractPlanes_16 : decode cX0_subtractPlanes 16 = .ok (.bipush 8, 2) := by decide +kernel
theorem dX0_subtractPlanes_18 : decode cX0_subtractPlanes 18 = .ok (.iload_n 1, 1) := by decide +kernel
theorem dX0_subtractPlanes_19 : decode cX0_subtractPlanes 19 = .ok (.imul, 1) := by decide +kernel
theorem dX0_subtractPlanes_20 : decode cX0_subtractPlanes 20 = .ok (.iload 5, 2) := by decide +kernel
theorem dX0_subtractPlanes_22 : decode cX0_subtractPlanes 22 = .ok (.iadd, 1) := by decide +kernel
theorem dX0_subtractPlanes_23 : decode cX0_subtractPlanes 23 = .ok (.laload, 1) := by decide +kernel
theorem dX0_subtractPlanes_24 : decode cX0_subtractPlanes 24 = .ok (.lstore 6, 2) := by decide +kernel
theorem dX0_subtractPlanes_26 : decode cX0_subtractPlanes 26 = .ok (.aload_n 0, 1) := by decide +kernel
theorem dX0_subtractPlanes_27 : decode cX0_subtractPlanes 27 = .ok (.getfield 13, 3) := by decide +kernel
theorem dX0_subtractPlanes_30 : decode cX0_subtractPlanes 30 = .ok (.bipush 8, 2) := by decide +kernel
theorem dX0_subtractPlanes_32 : decode cX0_subtractPlanes 32 = .ok (.iload_n 2, 1) := by decide +kernel
theorem dX0_subtractPlanes_33 : decode cX0_subtractPlanes 33 = .ok (.imul, 1) := by decide +kernel
theorem dX0_subtractPlanes_34 : decode cX0_subtractPlanes 34 = .ok (.iload 5, 2) := by decide +kernel
theorem dX0_subtractPlanes_36 : decode cX0_subtractPlanes 36 = .ok (.iadd, 1) := by decide +kernel
theorem dX0_subtractPlanes_37 : decode cX0_subtractPlanes 37 = .ok (.laload, 1) := by decide +kernel
theorem dX0_subtractPlanes_38 : decode cX0_subtractPlanes 38 = .ok (.lstore 8, 2) := by decide +kernel
theorem dX0_subtractPlanes_40 : decode cX0_subtractPlanes 40 = .ok (.aload_n 0, 1) := by decide +kernel
theorem dX0_subtractPlanes_41 : decode cX0_subtractPlanes 41 = .ok (.getfield 17, 3) := by decide +kernel
theorem dX0_subtractPlanes_44 : decode cX0_subtractPlanes 44 = .ok (.iload 5, 2) := by decide +kernel
theorem dX0_subtractPlanes_46 : decode cX0_subtractPlanes 46 = .ok (.lload 6, 2) := by decide +kernel
theorem dX0_subtractPlanes_48 : decode cX0_subtractPlanes 48 = .ok (.lload 8, 2) := by decide +kernel
theorem dX0_subtractPlanes_50 : decode cX0_subtractPlanes 50 = .ok (.lxor, 1) := by decide +kernel
theorem dX0_subtractPlanes_51 : decode cX0_subtractPlanes 51 = .ok (.lload_n 3, 1) := by decide +kernel
theorem dX0_subtractPlanes_52 : decode cX0_subtractPlanes 52 = .ok (.lxor, 1) := by decide +kernel
theorem dX0_subtractPlanes_53 : decode cX0_subtractPlanes 53 = .ok (.lastore, 1) := by decide +kernel
theorem dX0_subtractPlanes_54 : decode cX0_subtractPlanes 54 = .ok (.lload 6, 2) := by decide +kernel
theorem dX0_subtractPlanes_56 : decode cX0_subtractPlanes 56 = .ok (.ldc2_w 70, 3) := by decide +kernel
theorem dX0_subtractPlanes_59 : decode cX0_subtractPlanes 59 = .ok (.lxor, 1) := by decide +kernel
theorem dX0_subtractPlanes_60 : decode cX0_subtractPlanes 60 = .ok (.lload 8, 2) := by decide +kernel
theorem dX0_subtractPlanes_62 : decode cX0_subtractPlanes 62 = .ok (.land, 1) := by decide +kernel
theorem dX0_subtractPlanes_63 : decode cX0_subtractPlanes 63 = .ok (.lload 6, 2) := by decide +kernel
theorem dX0_subtractPlanes_65 : decode cX0_subtractPlanes 65 = .ok (.lload 8, 2) := by decide +kernel
theorem dX0_subtractPlanes_67 : decode cX0_subtractPlanes 67 = .ok (.lxor, 1) := by decide +kernel
theorem dX0_subtractPlanes_68 : decode cX0_subtractPlanes 68 = .ok (.ldc2_w 70, 3) := by decide +kernel
theorem dX0_subtractPlanes_71 : decode cX0_subtractPlanes 71 = .ok (.lxor, 1) := by decide +kernel
theorem dX0_subtractPlanes_72 : decode cX0_subtractPlanes 72 = .ok (.lload_n 3, 1) := by decide +kernel
theorem dX0_subtractPlanes_73 : decode cX0_subtractPlanes 73 = .ok (.land, 1) := by decide +kernel
theorem dX0_subtractPlanes_74 : decode cX0_subtractPlanes 74 = .ok (.lor, 1) := by decide +kernel
theorem dX0_subtractPlanes_75 : decode cX0_subtractPlanes 75 = .ok (.lstore_n 3, 1) := by decide +kernel
theorem dX0_subtractPlanes_76 : decode cX0_subtractPlanes 76 = .ok (.iinc 5 1, 3) := by decide +kernel
theorem dX0_subtractPlanes_79 : decode cX0_subtractPlanes 79 = .ok (.goto (-74), 3) := by decide +kernel
theorem dX0_subtractPlanes_82 : decode cX0_subtractPlanes 82 = .ok (.lload_n 3, 1) := by decide +kernel
theorem dX0_subtractPlanes_83 : decode cX0_subtractPlanes 83 = .ok (.lreturn, 1) := by decide +kernel
abbrev cX0_multiplyPlanes : ByteArray := prog_1_method_20_code
def yX0_multiplyPlanes : MethodName := ⟨RX0, "multiplyPlanes", "(II)V"⟩
theorem dX0_multiplyPlanes_0 : decode cX0_multiplyPlanes 0 = .ok (.iconst 0, 1) := by decide +kernel
theorem dX0_multiplyPlanes_1 : decode cX0_multiplyPlanes 1 = .ok (.istore_n 3, 1) := by decide +kernel
theorem dX0_multiplyPlanes_2 : decode cX0_multiplyPlanes 2 = .ok (.iload_n 3, 1) := by decide +kernel
theorem dX0_multiplyPlanes_3 : decode cX0_multiplyPlanes 3 = .ok (.bipush 8, 2) := by decide +kernel
theorem dX0_multiplyPlanes_5 : decode cX0_multiplyPlanes 5 = .ok (.if_icmp .ge 16, 3) := by decide +kernel
theorem dX0_multiplyPlanes_8 : decode cX0_multiplyPlanes 8 = .ok (.aload_n 0, 1) := by decide +kernel
theorem dX0_multiplyPlanes_9 : decode cX0_multiplyPlanes 9 = .ok (.getfield 17, 3) := by decide +kernel
theorem dX0_multiplyPlanes_12 : decode cX0_multiplyPlanes 12 = .ok (.iload_n 3, 1) := by decide +kernel
theorem dX0_multiplyPlanes_13 : decode cX0_multiplyPlanes 13 = .ok (.lconst 0, 1) := by decide +kernel
theorem dX0_multiplyPlanes_14 : decode cX0_multiplyPlanes 14 = .ok (.lastore, 1) := by decide +kernel
theorem dX0_multiplyPlanes_15 : decode cX0_multiplyPlanes 15 = .ok (.iinc 3 1, 3) := by decide +kernel
theorem dX0_multiplyPlanes_18 : decode cX0_multiplyPlanes 18 = .ok (.goto (-16), 3) := by decide +kernel
theorem dX0_multiplyPlanes_21 : decode cX0_multiplyPlanes 21 = .ok (.iconst 0, 1) := by decide +kernel
theorem dX0_multiplyPlanes_22 : decode cX0_multiplyPlanes 22 = .ok (.istore_n 3, 1) := by decide +kernel
theorem dX0_multiplyPlanes_23 : decode cX0_multiplyPlanes 23 = .ok (.iload_n 3, 1) := by decide +kernel
theorem dX0_multiplyPlanes_24 : decode cX0_multiplyPlanes 24 = .ok (.bipush 8, 2) := by decide +kernel
theorem dX0_multiplyPlanes_26 : decode cX0_multiplyPlanes 26 = .ok (.if_icmp .ge 26, 3) := by decide +kernel
theorem dX0_multiplyPlanes_29 : decode cX0_multiplyPlanes 29 = .ok (.aload_n 0, 1) := by decide +kernel
theorem dX0_multiplyPlanes_30 : decode cX0_multiplyPlanes 30 = .ok (.iload_n 1, 1) := by decide +kernel
theorem dX0_multiplyPlanes_31 : decode cX0_multiplyPlanes 31 = .ok (.iload_n 3, 1) := by decide +kernel
theorem dX0_multiplyPlanes_32 : decode cX0_multiplyPlanes 32 = .ok (.aload_n 0, 1) := by decide +kernel
theorem dX0_multiplyPlanes_33 : decode cX0_multiplyPlanes 33 = .ok (.getfield 13, 3) := by decide +kernel
theorem dX0_multiplyPlanes_36 : decode cX0_multiplyPlanes 36 = .ok (.bipush 8, 2) := by decide +kernel
theorem dX0_multiplyPlanes_38 : decode cX0_multiplyPlanes 38 = .ok (.iload_n 2, 1) := by decide +kernel
theorem dX0_multiplyPlanes_39 : decode cX0_multiplyPlanes 39 = .ok (.imul, 1) := by decide +kernel
theorem dX0_multiplyPlanes_40 : decode cX0_multiplyPlanes 40 = .ok (.iload_n 3, 1) := by decide +kernel
theorem dX0_multiplyPlanes_41 : decode cX0_multiplyPlanes 41 = .ok (.iadd, 1) := by decide +kernel
theorem dX0_multiplyPlanes_42 : decode cX0_multiplyPlanes 42 = .ok (.laload, 1) := by decide +kernel
theorem dX0_multiplyPlanes_43 : decode cX0_multiplyPlanes 43 = .ok (.invokevirtual 114, 3) := by decide +kernel
theorem dX0_multiplyPlanes_46 : decode cX0_multiplyPlanes 46 = .ok (.iinc 3 1, 3) := by decide +kernel
theorem dX0_multiplyPlanes_49 : decode cX0_multiplyPlanes 49 = .ok (.goto (-26), 3) := by decide +kernel
theorem dX0_multiplyPlanes_52 : decode cX0_multiplyPlanes 52 = .ok (.return_, 1) := by decide +kernel
abbrev cX0_addShifted : ByteArray := prog_1_method_21_code
def yX0_addShifted : MethodName := ⟨RX0, "addShifted", "(IIJ)V"⟩
theorem dX0_addShifted_0 : decode cX0_addShifted 0 = .ok (.lconst 0, 1) := by decide +kernel
theorem dX0_addShifted_1 : decode cX0_addShifted 1 = .ok (.lstore 5, 2) := by decide +kernel
theorem dX0_addShifted_3 : decode cX0_addShifted 3 = .ok (.iload_n 2, 1) := by decide +kernel
theorem dX0_addShifted_4 : decode cX0_addShifted 4 = .ok (.istore 7, 2) := by decide +kernel
theorem dX0_addShifted_6 : decode cX0_addShifted 6 = .ok (.iload 7, 2) := by decide +kernel
theorem dX0_addShifted_8 : decode cX0_addShifted 8 = .ok (.bipush 8, 2) := by decide +kernel
theorem dX0_addShifted_10 : decode cX0_addShifted 10 = .ok (.if_icmp .ge 67, 3) := by decide +kernel
theorem dX0_addShifted_13 : decode cX0_addShifted 13 = .ok (.aload_n 0, 1) := by decide +kernel
theorem dX0_addShifted_14 : decode cX0_addShifted 14 = .ok (.getfield 17, 3) := by decide +kernel
theorem dX0_addShifted_17 : decode cX0_addShifted 17 = .ok (.iload 7, 2) := by decide +kernel
theorem dX0_addShifted_19 : decode cX0_addShifted 19 = .ok (.laload, 1) := by decide +kernel
theorem dX0_addShifted_20 : decode cX0_addShifted 20 = .ok (.lstore 8, 2) := by decide +kernel
theorem dX0_addShifted_22 : decode cX0_addShifted 22 = .ok (.aload_n 0, 1) := by decide +kernel
theorem dX0_addShifted_23 : decode cX0_addShifted 23 = .ok (.getfield 13, 3) := by decide +kernel
theorem dX0_addShifted_26 : decode cX0_addShifted 26 = .ok (.bipush 8, 2) := by decide +kernel
theorem dX0_addShifted_28 : decode cX0_addShifted 28 = .ok (.iload_n 1, 1) := by decide +kernel
theorem dX0_addShifted_29 : decode cX0_addShifted 29 = .ok (.imul, 1) := by decide +kernel
theorem dX0_addShifted_30 : decode cX0_addShifted 30 = .ok (.iload 7, 2) := by decide +kernel
theorem dX0_addShifted_32 : decode cX0_addShifted 32 = .ok (.iadd, 1) := by decide +kernel
theorem dX0_addShifted_33 : decode cX0_addShifted 33 = .ok (.iload_n 2, 1) := by decide +kernel
theorem dX0_addShifted_34 : decode cX0_addShifted 34 = .ok (.isub, 1) := by decide +kernel
theorem dX0_addShifted_35 : decode cX0_addShifted 35 = .ok (.laload, 1) := by decide +kernel
theorem dX0_addShifted_36 : decode cX0_addShifted 36 = .ok (.lload_n 3, 1) := by decide +kernel
theorem dX0_addShifted_37 : decode cX0_addShifted 37 = .ok (.land, 1) := by decide +kernel
theorem dX0_addShifted_38 : decode cX0_addShifted 38 = .ok (.lstore 10, 2) := by decide +kernel
theorem dX0_addShifted_40 : decode cX0_addShifted 40 = .ok (.aload_n 0, 1) := by decide +kernel
theorem dX0_addShifted_41 : decode cX0_addShifted 41 = .ok (.getfield 17, 3) := by decide +kernel
theorem dX0_addShifted_44 : decode cX0_addShifted 44 = .ok (.iload 7, 2) := by decide +kernel
theorem dX0_addShifted_46 : decode cX0_addShifted 46 = .ok (.lload 8, 2) := by decide +kernel
theorem dX0_addShifted_48 : decode cX0_addShifted 48 = .ok (.lload 10, 2) := by decide +kernel
theorem dX0_addShifted_50 : decode cX0_addShifted 50 = .ok (.lxor, 1) := by decide +kernel
theorem dX0_addShifted_51 : decode cX0_addShifted 51 = .ok (.lload 5, 2) := by decide +kernel
theorem dX0_addShifted_53 : decode cX0_addShifted 53 = .ok (.lxor, 1) := by decide +kernel
theorem dX0_addShifted_54 : decode cX0_addShifted 54 = .ok (.lastore, 1) := by decide +kernel
theorem dX0_addShifted_55 : decode cX0_addShifted 55 = .ok (.lload 8, 2) := by decide +kernel
theorem dX0_addShifted_57 : decode cX0_addShifted 57 = .ok (.lload 10, 2) := by decide +kernel
theorem dX0_addShifted_59 : decode cX0_addShifted 59 = .ok (.land, 1) := by decide +kernel
theorem dX0_addShifted_60 : decode cX0_addShifted 60 = .ok (.lload 8, 2) := by decide +kernel
theorem dX0_addShifted_62 : decode cX0_addShifted 62 = .ok (.lload 10, 2) := by decide +kernel
theorem dX0_addShifted_64 : decode cX0_addShifted 64 = .ok (.lxor, 1) := by decide +kernel
theorem dX0_addShifted_65 : decode cX0_addShifted 65 = .ok (.lload 5, 2) := by decide +kernel
theorem dX0_addShifted_67 : decode cX0_addShifted 67 = .ok (.land, 1) := by decide +kernel
theorem dX0_addShifted_68 : decode cX0_addShifted 68 = .ok (.lor, 1) := by decide +kernel
theorem dX0_addShifted_69 : decode cX0_addShifted 69 = .ok (.lstore 5, 2) := by decide +kernel
theorem dX0_addShifted_71 : decode cX0_addShifted 71 = .ok (.iinc 7 1, 3) := by decide +kernel
theorem dX0_addShifted_74 : decode cX0_addShifted 74 = .ok (.goto (-68), 3) := by decide +kernel
theorem dX0_addShifted_77 : decode cX0_addShifted 77 = .ok (.return_, 1) := by decide +kernel
abbrev cX0_combinePlanes : ByteArray := prog_1_method_22_code
def yX0_combinePlanes : MethodName := ⟨RX0, "combinePlanes", "(III)V"⟩
theorem dX0_combinePlanes_0 : decode cX0_combinePlanes 0 = .ok (.iconst 0, 1) := by decide +kernel
theorem dX0_combinePlanes_1 : decode cX0_combinePlanes 1 = .ok (.istore 4, 2) := by decide +kernel
theorem dX0_combinePlanes_3 : decode cX0_combinePlanes 3 = .ok (.iload 4, 2) := by decide +kernel
theorem dX0_combinePlanes_5 : decode cX0_combinePlanes 5 = .ok (.bipush 8, 2) := by decide +kernel
theorem dX0_combinePlanes_7 : decode cX0_combinePlanes 7 = .ok (.if_icmp .ge 76, 3) := by decide +kernel
theorem dX0_combinePlanes_10 : decode cX0_combinePlanes 10 = .ok (.aload_n 0, 1) := by decide +kernel
theorem dX0_combinePlanes_11 : decode cX0_combinePlanes 11 = .ok (.getfield 13, 3) := by decide +kernel
theorem dX0_combinePlanes_14 : decode cX0_combinePlanes 14 = .ok (.bipush 8, 2) := by decide +kernel
theorem dX0_combinePlanes_16 : decode cX0_combinePlanes 16 = .ok (.iload_n 2, 1) := by decide +kernel
theorem dX0_combinePlanes_17 : decode cX0_combinePlanes 17 = .ok (.imul, 1) := by decide +kernel
theorem dX0_combinePlanes_18 : decode cX0_combinePlanes 18 = .ok (.iload 4, 2) := by decide +kernel
theorem dX0_combinePlanes_20 : decode cX0_combinePlanes 20 = .ok (.iadd, 1) := by decide +kernel
theorem dX0_combinePlanes_21 : decode cX0_combinePlanes 21 = .ok (.laload, 1) := by decide +kernel
theorem dX0_combinePlanes_22 : decode cX0_combinePlanes 22 = .ok (.lstore 5, 2) := by decide +kernel
theorem dX0_combinePlanes_24 : decode cX0_combinePlanes 24 = .ok (.aload_n 0, 1) := by decide +kernel
theorem dX0_combinePlanes_25 : decode cX0_combinePlanes 25 = .ok (.getfield 13, 3) := by decide +kernel
theorem dX0_combinePlanes_28 : decode cX0_combinePlanes 28 = .ok (.bipush 8, 2) := by decide +kernel
theorem dX0_combinePlanes_30 : decode cX0_combinePlanes 30 = .ok (.iload_n 3, 1) := by decide +kernel
theorem dX0_combinePlanes_31 : decode cX0_combinePlanes 31 = .ok (.imul, 1) := by decide +kernel
theorem dX0_combinePlanes_32 : decode cX0_combinePlanes 32 = .ok (.iload 4, 2) := by decide +kernel
theorem dX0_combinePlanes_34 : decode cX0_combinePlanes 34 = .ok (.iadd, 1) := by decide +kernel
theorem dX0_combinePlanes_35 : decode cX0_combinePlanes 35 = .ok (.laload, 1) := by decide +kernel
theorem dX0_combinePlanes_36 : decode cX0_combinePlanes 36 = .ok (.lstore 7, 2) := by decide +kernel
theorem dX0_combinePlanes_38 : decode cX0_combinePlanes 38 = .ok (.aload_n 0, 1) := by decide +kernel
theorem dX0_combinePlanes_39 : decode cX0_combinePlanes 39 = .ok (.getfield 17, 3) := by decide +kernel
theorem dX0_combinePlanes_42 : decode cX0_combinePlanes 42 = .ok (.iload 4, 2) := by decide +kernel
theorem dX0_combinePlanes_44 : decode cX0_combinePlanes 44 = .ok (.iload_n 1, 1) := by decide +kernel
theorem dX0_combinePlanes_45 : decode cX0_combinePlanes 45 = .ok (.iconst 5, 1) := by decide +kernel
theorem dX0_combinePlanes_46 : decode cX0_combinePlanes 46 = .ok (.if_icmp .ne 11, 3) := by decide +kernel
theorem dX0_combinePlanes_49 : decode cX0_combinePlanes 49 = .ok (.lload 5, 2) := by decide +kernel
theorem dX0_combinePlanes_51 : decode cX0_combinePlanes 51 = .ok (.lload 7, 2) := by decide +kernel
theorem dX0_combinePlanes_53 : decode cX0_combinePlanes 53 = .ok (.land, 1) := by decide +kernel
theorem dX0_combinePlanes_54 : decode cX0_combinePlanes 54 = .ok (.goto 22, 3) := by decide +kernel
theorem dX0_combinePlanes_57 : decode cX0_combinePlanes 57 = .ok (.iload_n 1, 1) := by decide +kernel
theorem dX0_combinePlanes_58 : decode cX0_combinePlanes 58 = .ok (.bipush 6, 2) := by decide +kernel
theorem dX0_combinePlanes_60 : decode cX0_combinePlanes 60 = .ok (.if_icmp .ne 11, 3) := by decide +kernel
theorem dX0_combinePlanes_63 : decode cX0_combinePlanes 63 = .ok (.lload 5, 2) := by decide +kernel
theorem dX0_combinePlanes_65 : decode cX0_combinePlanes 65 = .ok (.lload 7, 2) := by decide +kernel
theorem dX0_combinePlanes_67 : decode cX0_combinePlanes 67 = .ok (.lor, 1) := by decide +kernel
theorem dX0_combinePlanes_68 : decode cX0_combinePlanes 68 = .ok (.goto 8, 3) := by decide +kernel
theorem dX0_combinePlanes_71 : decode cX0_combinePlanes 71 = .ok (.lload 5, 2) := by decide +kernel
theorem dX0_combinePlanes_73 : decode cX0_combinePlanes 73 = .ok (.lload 7, 2) := by decide +kernel
theorem dX0_combinePlanes_75 : decode cX0_combinePlanes 75 = .ok (.lxor, 1) := by decide +kernel
theorem dX0_combinePlanes_76 : decode cX0_combinePlanes 76 = .ok (.lastore, 1) := by decide +kernel
theorem dX0_combinePlanes_77 : decode cX0_combinePlanes 77 = .ok (.iinc 4 1, 3) := by decide +kernel
theorem dX0_combinePlanes_80 : decode cX0_combinePlanes 80 = .ok (.goto (-77), 3) := by decide +kernel
theorem dX0_combinePlanes_83 : decode cX0_combinePlanes 83 = .ok (.return_, 1) := by decide +kernel
abbrev cX0_shiftPlanes : ByteArray := prog_1_method_23_code
def yX0_shiftPlanes : MethodName := ⟨RX0, "shiftPlanes", "(II)V"⟩
theorem dX0_shiftPlanes_0 : decode cX0_shiftPlanes 0 = .ok (.iconst 0, 1) := by decide +kernel
theorem dX0_shiftPlanes_1 : decode cX0_shiftPlanes 1 = .ok (.istore_n 3, 1) := by decide +kernel
theorem dX0_shiftPlanes_2 : decode cX0_shiftPlanes 2 = .ok (.iload_n 3, 1) := by decide +kernel
theorem dX0_shiftPlanes_3 : decode cX0_shiftPlanes 3 = .ok (.bipush 8, 2) := by decide +kernel
theorem dX0_shiftPlanes_5 : decode cX0_shiftPlanes 5 = .ok (.if_icmp .ge 48, 3) := by decide +kernel
theorem dX0_shiftPlanes_8 : decode cX0_shiftPlanes 8 = .ok (.iload_n 3, 1) := by decide +kernel
theorem dX0_shiftPlanes_9 : decode cX0_shiftPlanes 9 = .ok (.iload_n 2, 1) := by decide +kernel
theorem dX0_shiftPlanes_10 : decode cX0_shiftPlanes 10 = .ok (.isub, 1) := by decide +kernel
theorem dX0_shiftPlanes_11 : decode cX0_shiftPlanes 11 = .ok (.istore 4, 2) := by decide +kernel
theorem dX0_shiftPlanes_13 : decode cX0_shiftPlanes 13 = .ok (.aload_n 0, 1) := by decide +kernel
theorem dX0_shiftPlanes_14 : decode cX0_shiftPlanes 14 = .ok (.getfield 17, 3) := by decide +kernel
theorem dX0_shiftPlanes_17 : decode cX0_shiftPlanes 17 = .ok (.iload_n 3, 1) := by decide +kernel
theorem dX0_shiftPlanes_18 : decode cX0_shiftPlanes 18 = .ok (.iload 4, 2) := by decide +kernel
theorem dX0_shiftPlanes_20 : decode cX0_shiftPlanes 20 = .ok (.ifCond .lt 25, 3) := by decide +kernel
theorem dX0_shiftPlanes_23 : decode cX0_shiftPlanes 23 = .ok (.iload 4, 2) := by decide +kernel
theorem dX0_shiftPlanes_25 : decode cX0_shiftPlanes 25 = .ok (.bipush 8, 2) := by decide +kernel
theorem dX0_shiftPlanes_27 : decode cX0_shiftPlanes 27 = .ok (.if_icmp .ge 18, 3) := by decide +kernel
theorem dX0_shiftPlanes_30 : decode cX0_shiftPlanes 30 = .ok (.aload_n 0, 1) := by decide +kernel
theorem dX0_shiftPlanes_31 : decode cX0_shiftPlanes 31 = .ok (.getfield 13, 3) := by decide +kernel
theorem dX0_shiftPlanes_34 : decode cX0_shiftPlanes 34 = .ok (.bipush 8, 2) := by decide +kernel
theorem dX0_shiftPlanes_36 : decode cX0_shiftPlanes 36 = .ok (.iload_n 1, 1) := by decide +kernel
theorem dX0_shiftPlanes_37 : decode cX0_shiftPlanes 37 = .ok (.imul, 1) := by decide +kernel
theorem dX0_shiftPlanes_38 : decode cX0_shiftPlanes 38 = .ok (.iload 4, 2) := by decide +kernel
theorem dX0_shiftPlanes_40 : decode cX0_shiftPlanes 40 = .ok (.iadd, 1) := by decide +kernel
theorem dX0_shiftPlanes_41 : decode cX0_shiftPlanes 41 = .ok (.laload, 1) := by decide +kernel
theorem dX0_shiftPlanes_42 : decode cX0_shiftPlanes 42 = .ok (.goto 4, 3) := by decide +kernel
theorem dX0_shiftPlanes_45 : decode cX0_shiftPlanes 45 = .ok (.lconst 0, 1) := by decide +kernel
theorem dX0_shiftPlanes_46 : decode cX0_shiftPlanes 46 = .ok (.lastore, 1) := by decide +kernel
theorem dX0_shiftPlanes_47 : decode cX0_shiftPlanes 47 = .ok (.iinc 3 1, 3) := by decide +kernel
theorem dX0_shiftPlanes_50 : decode cX0_shiftPlanes 50 = .ok (.goto (-48), 3) := by decide +kernel
theorem dX0_shiftPlanes_53 : decode cX0_shiftPlanes 53 = .ok (.return_, 1) := by decide +kernel
abbrev cX0_setTruth : ByteArray := prog_1_method_17_code
def yX0_setTruth : MethodName := ⟨RX0, "setTruth", "(J)V"⟩
theorem dX0_setTruth_0 : decode cX0_setTruth 0 = .ok (.aload_n 0, 1) := by decide +kernel
theorem dX0_setTruth_1 : decode cX0_setTruth 1 = .ok (.getfield 17, 3) := by decide +kernel
theorem dX0_setTruth_4 : decode cX0_setTruth 4 = .ok (.iconst 0, 1) := by decide +kernel
theorem dX0_setTruth_5 : decode cX0_setTruth 5 = .ok (.lload_n 1, 1) := by decide +kernel
theorem dX0_setTruth_6 : decode cX0_setTruth 6 = .ok (.lastore, 1) := by decide +kernel
theorem dX0_setTruth_7 : decode cX0_setTruth 7 = .ok (.iconst 1, 1) := by decide +kernel
theorem dX0_setTruth_8 : decode cX0_setTruth 8 = .ok (.istore_n 3, 1) := by decide +kernel
theorem dX0_setTruth_9 : decode cX0_setTruth 9 = .ok (.iload_n 3, 1) := by decide +kernel
theorem dX0_setTruth_10 : decode cX0_setTruth 10 = .ok (.bipush 8, 2) := by decide +kernel
theorem dX0_setTruth_12 : decode cX0_setTruth 12 = .ok (.if_icmp .ge 16, 3) := by decide +kernel
theorem dX0_setTruth_15 : decode cX0_setTruth 15 = .ok (.aload_n 0, 1) := by decide +kernel
theorem dX0_setTruth_16 : decode cX0_setTruth 16 = .ok (.getfield 17, 3) := by decide +kernel
theorem dX0_setTruth_19 : decode cX0_setTruth 19 = .ok (.iload_n 3, 1) := by decide +kernel
theorem dX0_setTruth_20 : decode cX0_setTruth 20 = .ok (.lconst 0, 1) := by decide +kernel
theorem dX0_setTruth_21 : decode cX0_setTruth 21 = .ok (.lastore, 1) := by decide +kernel
theorem dX0_setTruth_22 : decode cX0_setTruth 22 = .ok (.iinc 3 1, 3) := by decide +kernel
theorem dX0_setTruth_25 : decode cX0_setTruth 25 = .ok (.goto (-16), 3) := by decide +kernel
theorem dX0_setTruth_28 : decode cX0_setTruth 28 = .ok (.return_, 1) := by decide +kernel
abbrev cX0_keepResult : ByteArray := prog_1_method_15_code
def yX0_keepResult : MethodName := ⟨RX0, "keepResult", "(I)V"⟩
theorem dX0_keepResult_0 : decode cX0_keepResult 0 = .ok (.iconst 0, 1) := by decide +kernel
theorem dX0_keepResult_1 : decode cX0_keepResult 1 = .ok (.istore_n 2, 1) := by decide +kernel
theorem dX0_keepResult_2 : decode cX0_keepResult 2 = .ok (.iload_n 2, 1) := by decide +kernel
theorem dX0_keepResult_3 : decode cX0_keepResult 3 = .ok (.bipush 8, 2) := by decide +kernel
theorem dX0_keepResult_5 : decode cX0_keepResult 5 = .ok (.if_icmp .ge 52, 3) := by decide +kernel
theorem dX0_keepResult_8 : decode cX0_keepResult 8 = .ok (.aload_n 0, 1) := by decide +kernel
theorem dX0_keepResult_9 : decode cX0_keepResult 9 = .ok (.getfield 13, 3) := by decide +kernel
theorem dX0_keepResult_12 : decode cX0_keepResult 12 = .ok (.bipush 8, 2) := by decide +kernel
theorem dX0_keepResult_14 : decode cX0_keepResult 14 = .ok (.iload_n 1, 1) := by decide +kernel
theorem dX0_keepResult_15 : decode cX0_keepResult 15 = .ok (.imul, 1) := by decide +kernel
theorem dX0_keepResult_16 : decode cX0_keepResult 16 = .ok (.iload_n 2, 1) := by decide +kernel
theorem dX0_keepResult_17 : decode cX0_keepResult 17 = .ok (.iadd, 1) := by decide +kernel
theorem dX0_keepResult_18 : decode cX0_keepResult 18 = .ok (.aload_n 0, 1) := by decide +kernel
theorem dX0_keepResult_19 : decode cX0_keepResult 19 = .ok (.getfield 13, 3) := by decide +kernel
theorem dX0_keepResult_22 : decode cX0_keepResult 22 = .ok (.bipush 8, 2) := by decide +kernel
theorem dX0_keepResult_24 : decode cX0_keepResult 24 = .ok (.iload_n 1, 1) := by decide +kernel
theorem dX0_keepResult_25 : decode cX0_keepResult 25 = .ok (.imul, 1) := by decide +kernel
theorem dX0_keepResult_26 : decode cX0_keepResult 26 = .ok (.iload_n 2, 1) := by decide +kernel
theorem dX0_keepResult_27 : decode cX0_keepResult 27 = .ok (.iadd, 1) := by decide +kernel
theorem dX0_keepResult_28 : decode cX0_keepResult 28 = .ok (.laload, 1) := by decide +kernel
theorem dX0_keepResult_29 : decode cX0_keepResult 29 = .ok (.aload_n 0, 1) := by decide +kernel
theorem dX0_keepResult_30 : decode cX0_keepResult 30 = .ok (.getfield 72, 3) := by decide +kernel
theorem dX0_keepResult_33 : decode cX0_keepResult 33 = .ok (.ldc2_w 70, 3) := by decide +kernel
theorem dX0_keepResult_36 : decode cX0_keepResult 36 = .ok (.lxor, 1) := by decide +kernel
theorem dX0_keepResult_37 : decode cX0_keepResult 37 = .ok (.land, 1) := by decide +kernel
theorem dX0_keepResult_38 : decode cX0_keepResult 38 = .ok (.aload_n 0, 1) := by decide +kernel
theorem dX0_keepResult_39 : decode cX0_keepResult 39 = .ok (.getfield 17, 3) := by decide +kernel
theorem dX0_keepResult_42 : decode cX0_keepResult 42 = .ok (.iload_n 2, 1) := by decide +kernel
theorem dX0_keepResult_43 : decode cX0_keepResult 43 = .ok (.laload, 1) := by decide +kernel
theorem dX0_keepResult_44 : decode cX0_keepResult 44 = .ok (.aload_n 0, 1) := by decide +kernel
theorem dX0_keepResult_45 : decode cX0_keepResult 45 = .ok (.getfield 72, 3) := by decide +kernel
theorem dX0_keepResult_48 : decode cX0_keepResult 48 = .ok (.land, 1) := by decide +kernel
theorem dX0_keepResult_49 : decode cX0_keepResult 49 = .ok (.lor, 1) := by decide +kernel
theorem dX0_keepResult_50 : decode cX0_keepResult 50 = .ok (.lastore, 1) := by decide +kernel
theorem dX0_keepResult_51 : decode cX0_keepResult 51 = .ok (.iinc 2 1, 3) := by decide +kernel
theorem dX0_keepResult_54 : decode cX0_keepResult 54 = .ok (.goto (-52), 3) := by decide +kernel
theorem dX0_keepResult_57 : decode cX0_keepResult 57 = .ok (.return_, 1) := by decide +kernel
abbrev cX0_open : ByteArray := prog_1_method_4_code
def yX0_open : MethodName := ⟨RX0, "open", "()I"⟩
theorem dX0_open_0 : decode cX0_open 0 = .ok (.aload_n 0, 1) := by decide +kernel
theorem dX0_open_1 : decode cX0_open 1 = .ok (.getfield 52, 3) := by decide +kernel
theorem dX0_open_4 : decode cX0_open 4 = .ok (.ireturn, 1) := by decide +kernel
abbrev cX0_classes : ByteArray := prog_1_method_5_code
def yX0_classes : MethodName := ⟨RX0, "classes", "()I"⟩
theorem dX0_classes_0 : decode cX0_classes 0 = .ok (.aload_n 0, 1) := by decide +kernel
theorem dX0_classes_1 : decode cX0_classes 1 = .ok (.invokevirtual 80, 3) := by decide +kernel
theorem dX0_classes_4 : decode cX0_classes 4 = .ok (.aload_n 0, 1) := by decide +kernel
theorem dX0_classes_5 : decode cX0_classes 5 = .ok (.getfield 83, 3) := by decide +kernel
theorem dX0_classes_8 : decode cX0_classes 8 = .ok (.ireturn, 1) := by decide +kernel
end
section
set_option maxRecDepth 100000
abbrev cX0_sortViews : ByteArray := prog_1_method_25_code
def yX0_sortViews : MethodName := ⟨RX0, "sortViews", "()V"⟩
theorem dX0_sortViews_0 : decode cX0_sortViews 0 = .ok (.aload_n 0, 1) := by decide +kernel
theorem dX0_sortViews_1 : decode cX0_sortViews 1 = .ok (.getfield 76, 3) := by decide +kernel
theorem dX0_sortViews_4 : decode cX0_sortViews 4 = .ok (.ifCond .eq 4, 3) := by decide +kernel
theorem dX0_sortViews_7 : decode cX0_sortViews 7 = .ok (.return_, 1) := by decide +kernel
theorem dX0_sortViews_8 : decode cX0_sortViews 8 = .ok (.aload_n 0, 1) := by decide +kernel
theorem dX0_sortViews_9 : decode cX0_sortViews 9 = .ok (.iconst 1, 1) := by decide +kernel
theorem dX0_sortViews_10 : decode cX0_sortViews 10 = .ok (.putfield 76, 3) := by decide +kernel
theorem dX0_sortViews_13 : decode cX0_sortViews 13 = .ok (.aload_n 0, 1) := by decide +kernel
theorem dX0_sortViews_14 : decode cX0_sortViews 14 = .ok (.iconst 0, 1) := by decide +kernel
theorem dX0_sortViews_15 : decode cX0_sortViews 15 = .ok (.putfield 83, 3) := by decide +kernel
theorem dX0_sortViews_18 : decode cX0_sortViews 18 = .ok (.iconst 0, 1) := by decide +kernel
theorem dX0_sortViews_19 : decode cX0_sortViews 19 = .ok (.istore_n 1, 1) := by decide +kernel
theorem dX0_sortViews_20 : decode cX0_sortViews 20 = .ok (.iload_n 1, 1) := by decide +kernel
theorem dX0_sortViews_21 : decode cX0_sortViews 21 = .ok (.sipush 128, 3) := by decide +kernel
theorem dX0_sortViews_24 : decode cX0_sortViews 24 = .ok (.if_icmp .ge 16, 3) := by decide +kernel
theorem dX0_sortViews_27 : decode cX0_sortViews 27 = .ok (.aload_n 0, 1) := by decide +kernel
theorem dX0_sortViews_28 : decode cX0_sortViews 28 = .ok (.getfield 39, 3) := by decide +kernel
theorem dX0_sortViews_31 : decode cX0_sortViews 31 = .ok (.iload_n 1, 1) := by decide +kernel
theorem dX0_sortViews_32 : decode cX0_sortViews 32 = .ok (.iconst (-1), 1) := by decide +kernel
theorem dX0_sortViews_33 : decode cX0_sortViews 33 = .ok (.iastore, 1) := by decide +kernel
theorem dX0_sortViews_34 : decode cX0_sortViews 34 = .ok (.iinc 1 1, 3) := by decide +kernel
theorem dX0_sortViews_37 : decode cX0_sortViews 37 = .ok (.goto (-17), 3) := by decide +kernel
theorem dX0_sortViews_40 : decode cX0_sortViews 40 = .ok (.iconst 0, 1) := by decide +kernel
theorem dX0_sortViews_41 : decode cX0_sortViews 41 = .ok (.istore_n 1, 1) := by decide +kernel
theorem dX0_sortViews_42 : decode cX0_sortViews 42 = .ok (.iload_n 1, 1) := by decide +kernel
theorem dX0_sortViews_43 : decode cX0_sortViews 43 = .ok (.bipush 64, 2) := by decide +kernel
theorem dX0_sortViews_45 : decode cX0_sortViews 45 = .ok (.if_icmp .ge 75, 3) := by decide +kernel
theorem dX0_sortViews_48 : decode cX0_sortViews 48 = .ok (.aload_n 0, 1) := by decide +kernel
theorem dX0_sortViews_49 : decode cX0_sortViews 49 = .ok (.getfield 36, 3) := by decide +kernel
theorem dX0_sortViews_52 : decode cX0_sortViews 52 = .ok (.iload_n 1, 1) := by decide +kernel
theorem dX0_sortViews_53 : decode cX0_sortViews 53 = .ok (.iconst 0, 1) := by decide +kernel
theorem dX0_sortViews_54 : decode cX0_sortViews 54 = .ok (.iastore, 1) := by decide +kernel
theorem dX0_sortViews_55 : decode cX0_sortViews 55 = .ok (.aload_n 0, 1) := by decide +kernel
theorem dX0_sortViews_56 : decode cX0_sortViews 56 = .ok (.iload_n 1, 1) := by decide +kernel
theorem dX0_sortViews_57 : decode cX0_sortViews 57 = .ok (.invokevirtual 118, 3) := by decide +kernel
theorem dX0_sortViews_60 : decode cX0_sortViews 60 = .ok (.istore_n 2, 1) := by decide +kernel
theorem dX0_sortViews_61 : decode cX0_sortViews 61 = .ok (.aload_n 0, 1) := by decide +kernel
theorem dX0_sortViews_62 : decode cX0_sortViews 62 = .ok (.getfield 39, 3) := by decide +kernel
theorem dX0_sortViews_65 : decode cX0_sortViews 65 = .ok (.iload_n 2, 1) := by decide +kernel
theorem dX0_sortViews_66 : decode cX0_sortViews 66 = .ok (.iaload, 1) := by decide +kernel
theorem dX0_sortViews_67 : decode cX0_sortViews 67 = .ok (.ifCond .ge 20, 3) := by decide +kernel
theorem dX0_sortViews_70 : decode cX0_sortViews 70 = .ok (.aload_n 0, 1) := by decide +kernel
theorem dX0_sortViews_71 : decode cX0_sortViews 71 = .ok (.getfield 39, 3) := by decide +kernel
theorem dX0_sortViews_74 : decode cX0_sortViews 74 = .ok (.iload_n 2, 1) := by decide +kernel
theorem dX0_sortViews_75 : decode cX0_sortViews 75 = .ok (.iload_n 1, 1) := by decide +kernel
theorem dX0_sortViews_76 : decode cX0_sortViews 76 = .ok (.iastore, 1) := by decide +kernel
theorem dX0_sortViews_77 : decode cX0_sortViews 77 = .ok (.aload_n 0, 1) := by decide +kernel
theorem dX0_sortViews_78 : decode cX0_sortViews 78 = .ok (.dup, 1) := by decide +kernel
theorem dX0_sortViews_79 : decode cX0_sortViews 79 = .ok (.getfield 83, 3) := by decide +kernel
theorem dX0_sortViews_82 : decode cX0_sortViews 82 = .ok (.iconst 1, 1) := by decide +kernel
theorem dX0_sortViews_83 : decode cX0_sortViews 83 = .ok (.iadd, 1) := by decide +kernel
theorem dX0_sortViews_84 : decode cX0_sortViews 84 = .ok (.putfield 83, 3) := by decide +kernel
theorem dX0_sortViews_87 : decode cX0_sortViews 87 = .ok (.aload_n 0, 1) := by decide +kernel
theorem dX0_sortViews_88 : decode cX0_sortViews 88 = .ok (.getfield 33, 3) := by decide +kernel
theorem dX0_sortViews_91 : decode cX0_sortViews 91 = .ok (.iload_n 1, 1) := by decide +kernel
theorem dX0_sortViews_92 : decode cX0_sortViews 92 = .ok (.aload_n 0, 1) := by decide +kernel
theorem dX0_sortViews_93 : decode cX0_sortViews 93 = .ok (.getfield 39, 3) := by decide +kernel
theorem dX0_sortViews_96 : decode cX0_sortViews 96 = .ok (.iload_n 2, 1) := by decide +kernel
theorem dX0_sortViews_97 : decode cX0_sortViews 97 = .ok (.iaload, 1) := by decide +kernel
theorem dX0_sortViews_98 : decode cX0_sortViews 98 = .ok (.iastore, 1) := by decide +kernel
theorem dX0_sortViews_99 : decode cX0_sortViews 99 = .ok (.aload_n 0, 1) := by decide +kernel
theorem dX0_sortViews_100 : decode cX0_sortViews 100 = .ok (.getfield 36, 3) := by decide +kernel
theorem dX0_sortViews_103 : decode cX0_sortViews 103 = .ok (.aload_n 0, 1) := by decide +kernel
theorem dX0_sortViews_104 : decode cX0_sortViews 104 = .ok (.getfield 39, 3) := by decide +kernel
theorem dX0_sortViews_107 : decode cX0_sortViews 107 = .ok (.iload_n 2, 1) := by decide +kernel
theorem dX0_sortViews_108 : decode cX0_sortViews 108 = .ok (.iaload, 1) := by decide +kernel
theorem dX0_sortViews_109 : decode cX0_sortViews 109 = .ok (.dup2, 1) := by decide +kernel
theorem dX0_sortViews_110 : decode cX0_sortViews 110 = .ok (.iaload, 1) := by decide +kernel
theorem dX0_sortViews_111 : decode cX0_sortViews 111 = .ok (.iconst 1, 1) := by decide +kernel
theorem dX0_sortViews_112 : decode cX0_sortViews 112 = .ok (.iadd, 1) := by decide +kernel
theorem dX0_sortViews_113 : decode cX0_sortViews 113 = .ok (.iastore, 1) := by decide +kernel
theorem dX0_sortViews_114 : decode cX0_sortViews 114 = .ok (.iinc 1 1, 3) := by decide +kernel
theorem dX0_sortViews_117 : decode cX0_sortViews 117 = .ok (.goto (-75), 3) := by decide +kernel
theorem dX0_sortViews_120 : decode cX0_sortViews 120 = .ok (.return_, 1) := by decide +kernel
abbrev cX0_placeInTable : ByteArray := prog_1_method_26_code
def yX0_placeInTable : MethodName := ⟨RX0, "placeInTable", "(I)I"⟩
theorem dX0_placeInTable_0 : decode cX0_placeInTable 0 = .ok (.aload_n 0, 1) := by decide +kernel
theorem dX0_placeInTable_1 : decode cX0_placeInTable 1 = .ok (.getfield 30, 3) := by decide +kernel
theorem dX0_placeInTable_4 : decode cX0_placeInTable 4 = .ok (.iload_n 1, 1) := by decide +kernel
theorem dX0_placeInTable_5 : decode cX0_placeInTable 5 = .ok (.laload, 1) := by decide +kernel
theorem dX0_placeInTable_6 : decode cX0_placeInTable 6 = .ok (.ldc2_w 122, 3) := by decide +kernel
theorem dX0_placeInTable_9 : decode cX0_placeInTable 9 = .ok (.lmul, 1) := by decide +kernel
theorem dX0_placeInTable_10 : decode cX0_placeInTable 10 = .ok (.aload_n 0, 1) := by decide +kernel
theorem dX0_placeInTable_11 : decode cX0_placeInTable 11 = .ok (.getfield 26, 3) := by decide +kernel
theorem dX0_placeInTable_14 : decode cX0_placeInTable 14 = .ok (.iload_n 1, 1) := by decide +kernel
theorem dX0_placeInTable_15 : decode cX0_placeInTable 15 = .ok (.iaload, 1) := by decide +kernel
theorem dX0_placeInTable_16 : decode cX0_placeInTable 16 = .ok (.i2l, 1) := by decide +kernel
theorem dX0_placeInTable_17 : decode cX0_placeInTable 17 = .ok (.ladd, 1) := by decide +kernel
theorem dX0_placeInTable_18 : decode cX0_placeInTable 18 = .ok (.lstore_n 2, 1) := by decide +kernel
theorem dX0_placeInTable_19 : decode cX0_placeInTable 19 = .ok (.lload_n 2, 1) := by decide +kernel
theorem dX0_placeInTable_20 : decode cX0_placeInTable 20 = .ok (.lload_n 2, 1) := by decide +kernel
theorem dX0_placeInTable_21 : decode cX0_placeInTable 21 = .ok (.bipush 17, 2) := by decide +kernel
theorem dX0_placeInTable_23 : decode cX0_placeInTable 23 = .ok (.lushr, 1) := by decide +kernel
theorem dX0_placeInTable_24 : decode cX0_placeInTable 24 = .ok (.lxor, 1) := by decide +kernel
theorem dX0_placeInTable_25 : decode cX0_placeInTable 25 = .ok (.lload_n 2, 1) := by decide +kernel
theorem dX0_placeInTable_26 : decode cX0_placeInTable 26 = .ok (.bipush 37, 2) := by decide +kernel
theorem dX0_placeInTable_28 : decode cX0_placeInTable 28 = .ok (.lushr, 1) := by decide +kernel
theorem dX0_placeInTable_29 : decode cX0_placeInTable 29 = .ok (.lxor, 1) := by decide +kernel
theorem dX0_placeInTable_30 : decode cX0_placeInTable 30 = .ok (.l2i, 1) := by decide +kernel
theorem dX0_placeInTable_31 : decode cX0_placeInTable 31 = .ok (.bipush 127, 2) := by decide +kernel
theorem dX0_placeInTable_33 : decode cX0_placeInTable 33 = .ok (.iand, 1) := by decide +kernel
theorem dX0_placeInTable_34 : decode cX0_placeInTable 34 = .ok (.istore 4, 2) := by decide +kernel
theorem dX0_placeInTable_36 : decode cX0_placeInTable 36 = .ok (.iconst 0, 1) := by decide +kernel
theorem dX0_placeInTable_37 : decode cX0_placeInTable 37 = .ok (.istore 5, 2) := by decide +kernel
theorem dX0_placeInTable_39 : decode cX0_placeInTable 39 = .ok (.iload 5, 2) := by decide +kernel
theorem dX0_placeInTable_41 : decode cX0_placeInTable 41 = .ok (.sipush 128, 3) := by decide +kernel
theorem dX0_placeInTable_44 : decode cX0_placeInTable 44 = .ok (.if_icmp .ge 68, 3) := by decide +kernel
theorem dX0_placeInTable_47 : decode cX0_placeInTable 47 = .ok (.aload_n 0, 1) := by decide +kernel
theorem dX0_placeInTable_48 : decode cX0_placeInTable 48 = .ok (.getfield 39, 3) := by decide +kernel
theorem dX0_placeInTable_51 : decode cX0_placeInTable 51 = .ok (.iload 4, 2) := by decide +kernel
theorem dX0_placeInTable_53 : decode cX0_placeInTable 53 = .ok (.iaload, 1) := by decide +kernel
theorem dX0_placeInTable_54 : decode cX0_placeInTable 54 = .ok (.istore 6, 2) := by decide +kernel
theorem dX0_placeInTable_56 : decode cX0_placeInTable 56 = .ok (.iload 6, 2) := by decide +kernel
theorem dX0_placeInTable_58 : decode cX0_placeInTable 58 = .ok (.ifCond .lt 36, 3) := by decide +kernel
theorem dX0_placeInTable_61 : decode cX0_placeInTable 61 = .ok (.aload_n 0, 1) := by decide +kernel
theorem dX0_placeInTable_62 : decode cX0_placeInTable 62 = .ok (.getfield 30, 3) := by decide +kernel
theorem dX0_placeInTable_65 : decode cX0_placeInTable 65 = .ok (.iload 6, 2) := by decide +kernel
theorem dX0_placeInTable_67 : decode cX0_placeInTable 67 = .ok (.laload, 1) := by decide +kernel
theorem dX0_placeInTable_68 : decode cX0_placeInTable 68 = .ok (.aload_n 0, 1) := by decide +kernel
theorem dX0_placeInTable_69 : decode cX0_placeInTable 69 = .ok (.getfield 30, 3) := by decide +kernel
theorem dX0_placeInTable_72 : decode cX0_placeInTable 72 = .ok (.iload_n 1, 1) := by decide +kernel
theorem dX0_placeInTable_73 : decode cX0_placeInTable 73 = .ok (.laload, 1) := by decide +kernel
theorem dX0_placeInTable_74 : decode cX0_placeInTable 74 = .ok (.lcmp, 1) := by decide +kernel
theorem dX0_placeInTable_75 : decode cX0_placeInTable 75 = .ok (.ifCond .ne 22, 3) := by decide +kernel
theorem dX0_placeInTable_78 : decode cX0_placeInTable 78 = .ok (.aload_n 0, 1) := by decide +kernel
theorem dX0_placeInTable_79 : decode cX0_placeInTable 79 = .ok (.getfield 26, 3) := by decide +kernel
theorem dX0_placeInTable_82 : decode cX0_placeInTable 82 = .ok (.iload 6, 2) := by decide +kernel
theorem dX0_placeInTable_84 : decode cX0_placeInTable 84 = .ok (.iaload, 1) := by decide +kernel
theorem dX0_placeInTable_85 : decode cX0_placeInTable 85 = .ok (.aload_n 0, 1) := by decide +kernel
theorem dX0_placeInTable_86 : decode cX0_placeInTable 86 = .ok (.getfield 26, 3) := by decide +kernel
theorem dX0_placeInTable_89 : decode cX0_placeInTable 89 = .ok (.iload_n 1, 1) := by decide +kernel
theorem dX0_placeInTable_90 : decode cX0_placeInTable 90 = .ok (.iaload, 1) := by decide +kernel
theorem dX0_placeInTable_91 : decode cX0_placeInTable 91 = .ok (.if_icmp .ne 6, 3) := by decide +kernel
theorem dX0_placeInTable_94 : decode cX0_placeInTable 94 = .ok (.iload 4, 2) := by decide +kernel
theorem dX0_placeInTable_96 : decode cX0_placeInTable 96 = .ok (.ireturn, 1) := by decide +kernel
theorem dX0_placeInTable_97 : decode cX0_placeInTable 97 = .ok (.iload 4, 2) := by decide +kernel
theorem dX0_placeInTable_99 : decode cX0_placeInTable 99 = .ok (.iconst 1, 1) := by decide +kernel
theorem dX0_placeInTable_100 : decode cX0_placeInTable 100 = .ok (.iadd, 1) := by decide +kernel
theorem dX0_placeInTable_101 : decode cX0_placeInTable 101 = .ok (.bipush 127, 2) := by decide +kernel
theorem dX0_placeInTable_103 : decode cX0_placeInTable 103 = .ok (.iand, 1) := by decide +kernel
theorem dX0_placeInTable_104 : decode cX0_placeInTable 104 = .ok (.istore 4, 2) := by decide +kernel
theorem dX0_placeInTable_106 : decode cX0_placeInTable 106 = .ok (.iinc 5 1, 3) := by decide +kernel
theorem dX0_placeInTable_109 : decode cX0_placeInTable 109 = .ok (.goto (-70), 3) := by decide +kernel
theorem dX0_placeInTable_112 : decode cX0_placeInTable 112 = .ok (.iload 4, 2) := by decide +kernel
theorem dX0_placeInTable_114 : decode cX0_placeInTable 114 = .ok (.ireturn, 1) := by decide +kernel
abbrev cX0_least : ByteArray := prog_1_method_6_code
def yX0_least : MethodName := ⟨RX0, "least", "(I)I"⟩
theorem dX0_least_0 : decode cX0_least 0 = .ok (.aload_n 0, 1) := by decide +kernel
theorem dX0_least_1 : decode cX0_least 1 = .ok (.invokevirtual 80, 3) := by decide +kernel
theorem dX0_least_4 : decode cX0_least 4 = .ok (.aload_n 0, 1) := by decide +kernel
theorem dX0_least_5 : decode cX0_least 5 = .ok (.getfield 33, 3) := by decide +kernel
theorem dX0_least_8 : decode cX0_least 8 = .ok (.iload_n 1, 1) := by decide +kernel
theorem dX0_least_9 : decode cX0_least 9 = .ok (.bipush 63, 2) := by decide +kernel
theorem dX0_least_11 : decode cX0_least 11 = .ok (.iand, 1) := by decide +kernel
theorem dX0_least_12 : decode cX0_least 12 = .ok (.iaload, 1) := by decide +kernel
theorem dX0_least_13 : decode cX0_least 13 = .ok (.ireturn, 1) := by decide +kernel
abbrev cX0_alike : ByteArray := prog_1_method_7_code
def yX0_alike : MethodName := ⟨RX0, "alike", "(I)I"⟩
theorem dX0_alike_0 : decode cX0_alike 0 = .ok (.aload_n 0, 1) := by decide +kernel
theorem dX0_alike_1 : decode cX0_alike 1 = .ok (.invokevirtual 80, 3) := by decide +kernel
theorem dX0_alike_4 : decode cX0_alike 4 = .ok (.aload_n 0, 1) := by decide +kernel
theorem dX0_alike_5 : decode cX0_alike 5 = .ok (.getfield 36, 3) := by decide +kernel
theorem dX0_alike_8 : decode cX0_alike 8 = .ok (.aload_n 0, 1) := by decide +kernel
theorem dX0_alike_9 : decode cX0_alike 9 = .ok (.getfield 33, 3) := by decide +kernel
theorem dX0_alike_12 : decode cX0_alike 12 = .ok (.iload_n 1, 1) := by decide +kernel
theorem dX0_alike_13 : decode cX0_alike 13 = .ok (.bipush 63, 2) := by decide +kernel
theorem dX0_alike_15 : decode cX0_alike 15 = .ok (.iand, 1) := by decide +kernel
theorem dX0_alike_16 : decode cX0_alike 16 = .ok (.iaload, 1) := by decide +kernel
theorem dX0_alike_17 : decode cX0_alike 17 = .ok (.iaload, 1) := by decide +kernel
theorem dX0_alike_18 : decode cX0_alike 18 = .ok (.ireturn, 1) := by decide +kernel
abbrev cX0_outputs : ByteArray := prog_1_method_8_code
def yX0_outputs : MethodName := ⟨RX0, "outputs", "(I)I"⟩
theorem dX0_outputs_0 : decode cX0_outputs 0 = .ok (.aload_n 0, 1) := by decide +kernel
theorem dX0_outputs_1 : decode cX0_outputs 1 = .ok (.getfield 26, 3) := by decide +kernel
theorem dX0_outputs_4 : decode cX0_outputs 4 = .ok (.iload_n 1, 1) := by decide +kernel
theorem dX0_outputs_5 : decode cX0_outputs 5 = .ok (.bipush 63, 2) := by decide +kernel
theorem dX0_outputs_7 : decode cX0_outputs 7 = .ok (.iand, 1) := by decide +kernel
theorem dX0_outputs_8 : decode cX0_outputs 8 = .ok (.iaload, 1) := by decide +kernel
theorem dX0_outputs_9 : decode cX0_outputs 9 = .ok (.ireturn, 1) := by decide +kernel
abbrev cX0_output : ByteArray := prog_1_method_9_code
def yX0_output : MethodName := ⟨RX0, "output", "(II)I"⟩
theorem dX0_output_0 : decode cX0_output 0 = .ok (.iload_n 1, 1) := by decide +kernel
theorem dX0_output_1 : decode cX0_output 1 = .ok (.bipush 63, 2) := by decide +kernel
theorem dX0_output_3 : decode cX0_output 3 = .ok (.iand, 1) := by decide +kernel
theorem dX0_output_4 : decode cX0_output 4 = .ok (.istore_n 3, 1) := by decide +kernel
theorem dX0_output_5 : decode cX0_output 5 = .ok (.iload_n 2, 1) := by decide +kernel
theorem dX0_output_6 : decode cX0_output 6 = .ok (.ifCond .lt 13, 3) := by decide +kernel
theorem dX0_output_9 : decode cX0_output 9 = .ok (.iload_n 2, 1) := by decide +kernel
theorem dX0_output_10 : decode cX0_output 10 = .ok (.aload_n 0, 1) := by decide +kernel
theorem dX0_output_11 : decode cX0_output 11 = .ok (.getfield 26, 3) := by decide +kernel
theorem dX0_output_14 : decode cX0_output 14 = .ok (.iload_n 3, 1) := by decide +kernel
theorem dX0_output_15 : decode cX0_output 15 = .ok (.iaload, 1) := by decide +kernel
theorem dX0_output_16 : decode cX0_output 16 = .ok (.if_icmp .lt 5, 3) := by decide +kernel
theorem dX0_output_19 : decode cX0_output 19 = .ok (.iconst (-1), 1) := by decide +kernel
theorem dX0_output_20 : decode cX0_output 20 = .ok (.ireturn, 1) := by decide +kernel
theorem dX0_output_21 : decode cX0_output 21 = .ok (.aload_n 0, 1) := by decide +kernel
theorem dX0_output_22 : decode cX0_output 22 = .ok (.getfield 30, 3) := by decide +kernel
theorem dX0_output_25 : decode cX0_output 25 = .ok (.iload_n 3, 1) := by decide +kernel
theorem dX0_output_26 : decode cX0_output 26 = .ok (.laload, 1) := by decide +kernel
theorem dX0_output_27 : decode cX0_output 27 = .ok (.bipush 8, 2) := by decide +kernel
theorem dX0_output_29 : decode cX0_output 29 = .ok (.aload_n 0, 1) := by decide +kernel
theorem dX0_output_30 : decode cX0_output 30 = .ok (.getfield 26, 3) := by decide +kernel
theorem dX0_output_33 : decode cX0_output 33 = .ok (.iload_n 3, 1) := by decide +kernel
theorem dX0_output_34 : decode cX0_output 34 = .ok (.iaload, 1) := by decide +kernel
theorem dX0_output_35 : decode cX0_output 35 = .ok (.iconst 1, 1) := by decide +kernel
theorem dX0_output_36 : decode cX0_output 36 = .ok (.isub, 1) := by decide +kernel
theorem dX0_output_37 : decode cX0_output 37 = .ok (.iload_n 2, 1) := by decide +kernel
theorem dX0_output_38 : decode cX0_output 38 = .ok (.isub, 1) := by decide +kernel
theorem dX0_output_39 : decode cX0_output 39 = .ok (.imul, 1) := by decide +kernel
theorem dX0_output_40 : decode cX0_output 40 = .ok (.lushr, 1) := by decide +kernel
theorem dX0_output_41 : decode cX0_output 41 = .ok (.l2i, 1) := by decide +kernel
theorem dX0_output_42 : decode cX0_output 42 = .ok (.sipush 255, 3) := by decide +kernel
theorem dX0_output_45 : decode cX0_output 45 = .ok (.iand, 1) := by decide +kernel
theorem dX0_output_46 : decode cX0_output 46 = .ok (.ireturn, 1) := by decide +kernel
abbrev cX0_end : ByteArray := prog_1_method_10_code
def yX0_end : MethodName := ⟨RX0, "end", "(II)I"⟩
theorem dX0_end_0 : decode cX0_end 0 = .ok (.aload_n 0, 1) := by decide +kernel
theorem dX0_end_1 : decode cX0_end 1 = .ok (.iload_n 1, 1) := by decide +kernel
theorem dX0_end_2 : decode cX0_end 2 = .ok (.bipush 63, 2) := by decide +kernel
theorem dX0_end_4 : decode cX0_end 4 = .ok (.iand, 1) := by decide +kernel
theorem dX0_end_5 : decode cX0_end 5 = .ok (.iload_n 2, 1) := by decide +kernel
theorem dX0_end_6 : decode cX0_end 6 = .ok (.iconst 3, 1) := by decide +kernel
theorem dX0_end_7 : decode cX0_end 7 = .ok (.iand, 1) := by decide +kernel
theorem dX0_end_8 : decode cX0_end 8 = .ok (.invokevirtual 86, 3) := by decide +kernel
theorem dX0_end_11 : decode cX0_end 11 = .ok (.ireturn, 1) := by decide +kernel
abbrev cX0_guessed : ByteArray := prog_1_method_11_code
def yX0_guessed : MethodName := ⟨RX0, "guessed", "(II)I"⟩
theorem dX0_guessed_0 : decode cX0_guessed 0 = .ok (.aload_n 0, 1) := by decide +kernel
theorem dX0_guessed_1 : decode cX0_guessed 1 = .ok (.invokevirtual 80, 3) := by decide +kernel
theorem dX0_guessed_4 : decode cX0_guessed 4 = .ok (.iload_n 1, 1) := by decide +kernel
theorem dX0_guessed_5 : decode cX0_guessed 5 = .ok (.bipush 63, 2) := by decide +kernel
theorem dX0_guessed_7 : decode cX0_guessed 7 = .ok (.iand, 1) := by decide +kernel
theorem dX0_guessed_8 : decode cX0_guessed 8 = .ok (.istore_n 3, 1) := by decide +kernel
theorem dX0_guessed_9 : decode cX0_guessed 9 = .ok (.iload_n 2, 1) := by decide +kernel
theorem dX0_guessed_10 : decode cX0_guessed 10 = .ok (.bipush 63, 2) := by decide +kernel
theorem dX0_guessed_12 : decode cX0_guessed 12 = .ok (.iand, 1) := by decide +kernel
theorem dX0_guessed_13 : decode cX0_guessed 13 = .ok (.istore 4, 2) := by decide +kernel
theorem dX0_guessed_15 : decode cX0_guessed 15 = .ok (.iload_n 3, 1) := by decide +kernel
theorem dX0_guessed_16 : decode cX0_guessed 16 = .ok (.iload 4, 2) := by decide +kernel
theorem dX0_guessed_18 : decode cX0_guessed 18 = .ok (.if_icmp .ge 7, 3) := by decide +kernel
theorem dX0_guessed_21 : decode cX0_guessed 21 = .ok (.iload_n 3, 1) := by decide +kernel
theorem dX0_guessed_22 : decode cX0_guessed 22 = .ok (.goto 5, 3) := by decide +kernel
theorem dX0_guessed_25 : decode cX0_guessed 25 = .ok (.iload 4, 2) := by decide +kernel
theorem dX0_guessed_27 : decode cX0_guessed 27 = .ok (.istore 5, 2) := by decide +kernel
theorem dX0_guessed_29 : decode cX0_guessed 29 = .ok (.iload_n 3, 1) := by decide +kernel
theorem dX0_guessed_30 : decode cX0_guessed 30 = .ok (.iload 4, 2) := by decide +kernel
theorem dX0_guessed_32 : decode cX0_guessed 32 = .ok (.if_icmp .ge 8, 3) := by decide +kernel
theorem dX0_guessed_35 : decode cX0_guessed 35 = .ok (.iload 4, 2) := by decide +kernel
theorem dX0_guessed_37 : decode cX0_guessed 37 = .ok (.goto 4, 3) := by decide +kernel
theorem dX0_guessed_40 : decode cX0_guessed 40 = .ok (.iload_n 3, 1) := by decide +kernel
theorem dX0_guessed_41 : decode cX0_guessed 41 = .ok (.istore 6, 2) := by decide +kernel
theorem dX0_guessed_43 : decode cX0_guessed 43 = .ok (.iconst 0, 1) := by decide +kernel
theorem dX0_guessed_44 : decode cX0_guessed 44 = .ok (.istore 7, 2) := by decide +kernel
theorem dX0_guessed_46 : decode cX0_guessed 46 = .ok (.iload 7, 2) := by decide +kernel
theorem dX0_guessed_48 : decode cX0_guessed 48 = .ok (.bipush 64, 2) := by decide +kernel
theorem dX0_guessed_50 : decode cX0_guessed 50 = .ok (.if_icmp .ge 17, 3) := by decide +kernel
theorem dX0_guessed_53 : decode cX0_guessed 53 = .ok (.aload_n 0, 1) := by decide +kernel
theorem dX0_guessed_54 : decode cX0_guessed 54 = .ok (.getfield 42, 3) := by decide +kernel
theorem dX0_guessed_57 : decode cX0_guessed 57 = .ok (.iload 7, 2) := by decide +kernel
theorem dX0_guessed_59 : decode cX0_guessed 59 = .ok (.iconst 0, 1) := by decide +kernel
theorem dX0_guessed_60 : decode cX0_guessed 60 = .ok (.bastore, 1) := by decide +kernel
theorem dX0_guessed_61 : decode cX0_guessed 61 = .ok (.iinc 7 1, 3) := by decide +kernel
theorem dX0_guessed_64 : decode cX0_guessed 64 = .ok (.goto (-18), 3) := by decide +kernel
theorem dX0_guessed_67 : decode cX0_guessed 67 = .ok (.iconst 0, 1) := by decide +kernel
theorem dX0_guessed_68 : decode cX0_guessed 68 = .ok (.istore 7, 2) := by decide +kernel
theorem dX0_guessed_70 : decode cX0_guessed 70 = .ok (.iload 5, 2) := by decide +kernel
theorem dX0_guessed_72 : decode cX0_guessed 72 = .ok (.istore 8, 2) := by decide +kernel
theorem dX0_guessed_74 : decode cX0_guessed 74 = .ok (.iload 8, 2) := by decide +kernel
theorem dX0_guessed_76 : decode cX0_guessed 76 = .ok (.iload 6, 2) := by decide +kernel
theorem dX0_guessed_78 : decode cX0_guessed 78 = .ok (.if_icmp .gt 40, 3) := by decide +kernel
theorem dX0_guessed_81 : decode cX0_guessed 81 = .ok (.aload_n 0, 1) := by decide +kernel
theorem dX0_guessed_82 : decode cX0_guessed 82 = .ok (.getfield 42, 3) := by decide +kernel
theorem dX0_guessed_85 : decode cX0_guessed 85 = .ok (.aload_n 0, 1) := by decide +kernel
theorem dX0_guessed_86 : decode cX0_guessed 86 = .ok (.getfield 33, 3) := by decide +kernel
theorem dX0_guessed_89 : decode cX0_guessed 89 = .ok (.iload 8, 2) := by decide +kernel
theorem dX0_guessed_91 : decode cX0_guessed 91 = .ok (.iaload, 1) := by decide +kernel
theorem dX0_guessed_92 : decode cX0_guessed 92 = .ok (.baload, 1) := by decide +kernel
theorem dX0_guessed_93 : decode cX0_guessed 93 = .ok (.ifCond .ne 19, 3) := by decide +kernel
theorem dX0_guessed_96 : decode cX0_guessed 96 = .ok (.aload_n 0, 1) := by decide +kernel
theorem dX0_guessed_97 : decode cX0_guessed 97 = .ok (.getfield 42, 3) := by decide +kernel
theorem dX0_guessed_100 : decode cX0_guessed 100 = .ok (.aload_n 0, 1) := by decide +kernel
theorem dX0_guessed_101 : decode cX0_guessed 101 = .ok (.getfield 33, 3) := by decide +kernel
theorem dX0_guessed_104 : decode cX0_guessed 104 = .ok (.iload 8, 2) := by decide +kernel
theorem dX0_guessed_106 : decode cX0_guessed 106 = .ok (.iaload, 1) := by decide +kernel
theorem dX0_guessed_107 : decode cX0_guessed 107 = .ok (.iconst 1, 1) := by decide +kernel
theorem dX0_guessed_108 : decode cX0_guessed 108 = .ok (.bastore, 1) := by decide +kernel
theorem dX0_guessed_109 : decode cX0_guessed 109 = .ok (.iinc 7 1, 3) := by decide +kernel
theorem dX0_guessed_112 : decode cX0_guessed 112 = .ok (.iinc 8 1, 3) := by decide +kernel
theorem dX0_guessed_115 : decode cX0_guessed 115 = .ok (.goto (-41), 3) := by decide +kernel
theorem dX0_guessed_118 : decode cX0_guessed 118 = .ok (.iload 7, 2) := by decide +kernel
theorem dX0_guessed_120 : decode cX0_guessed 120 = .ok (.ireturn, 1) := by decide +kernel
theorem q23 : (Jvm.Cond.initialized "LeakageMeter") ∈ lw_all := lw_g (lw_at lw_m1 1 rfl) rfl
theorem q26 : (Jvm.Cond.instantiable "LeakageMeter" (16 : Nat)) ∈ lw_all := lw_g (lw_at lw_m1 4 rfl) rfl
theorem q28 : (Jvm.Cond.instanceMethod ({ cls := "LeakageMeter", name := "<init>", desc := "()V" } : Jvm.MethodName)) ∈ lw_all := lw_g (lw_at lw_m1 6 rfl) rfl
theorem q29 : (Jvm.Cond.code ({ cls := "LeakageMeter", name := "<init>", desc := "()V" } : Jvm.MethodName) prog_1_method_1_code (1 : Nat) (Option.none : Option Jvm.ClassFile.FieldType)) ∈ lw_all := lw_g (lw_at lw_m1 7 rfl) rfl
theorem q30 : (Jvm.Cond.methodLink "LeakageMeter" (1 : Nat) ({ cls := "java/lang/Object", name := "<init>", desc := "()V" } : Jvm.MethodName)) ∈ lw_all := lw_g (lw_at lw_m1 8 rfl) rfl
theorem q33 : (Jvm.Cond.methodLink "LeakageMeter" (45 : Nat) ({ cls := "LeakageMeter", name := "clear", desc := "()V" } : Jvm.MethodName)) ∈ lw_all := lw_g (lw_at lw_m1 11 rfl) rfl
theorem q34 : (Jvm.Cond.instanceMethod ({ cls := "LeakageMeter", name := "clear", desc := "()V" } : Jvm.MethodName)) ∈ lw_all := lw_g (lw_at lw_m1 12 rfl) rfl
theorem q35 : (Jvm.Cond.selects "LeakageMeter" ({ cls := "LeakageMeter", name := "clear", desc := "()V" } : Jvm.MethodName) ({ cls := "LeakageMeter", name := "clear", desc := "()V" } : Jvm.MethodName)) ∈ lw_all := lw_g (lw_at lw_m1 13 rfl) rfl
theorem q36 : (Jvm.Cond.code ({ cls := "LeakageMeter", name := "clear", desc := "()V" } : Jvm.MethodName) prog_1_method_3_code (3 : Nat) (Option.none : Option Jvm.ClassFile.FieldType)) ∈ lw_all := lw_g (lw_at lw_m1 14 rfl) rfl
theorem q37 : (Jvm.Cond.constantLong "LeakageMeter" (70 : Nat) (-1 : Int64)) ∈ lw_all := lw_g (lw_at lw_m1 15 rfl) rfl
theorem q38 : (Jvm.Cond.fieldLink "LeakageMeter" (48 : Nat) "LeakageMeter" "statements" "I") ∈ lw_all := lw_g (lw_at lw_m1 16 rfl) rfl
theorem q39 : (Jvm.Cond.fieldLink "LeakageMeter" (52 : Nat) "LeakageMeter" "parts" "I") ∈ lw_all := lw_g (lw_at lw_m1 17 rfl) rfl
theorem q40 : (Jvm.Cond.fieldLink "LeakageMeter" (7 : Nat) "LeakageMeter" "hasElse" "[Z") ∈ lw_all := lw_g (lw_at lw_m1 18 rfl) rfl
theorem q41 : (Jvm.Cond.fieldLink "LeakageMeter" (13 : Nat) "LeakageMeter" "plane" "[J") ∈ lw_all := lw_g (lw_at lw_m1 19 rfl) rfl
theorem q42 : (Jvm.Cond.fieldLink "LeakageMeter" (17 : Nat) "LeakageMeter" "work" "[J") ∈ lw_all := lw_g (lw_at lw_m1 20 rfl) rfl
theorem q43 : (Jvm.Cond.fieldLink "LeakageMeter" (72 : Nat) "LeakageMeter" "active" "J") ∈ lw_all := lw_g (lw_at lw_m1 21 rfl) rfl
theorem q44 : (Jvm.Cond.fieldLink "LeakageMeter" (20 : Nat) "LeakageMeter" "around" "[J") ∈ lw_all := lw_g (lw_at lw_m1 22 rfl) rfl
theorem q45 : (Jvm.Cond.fieldLink "LeakageMeter" (23 : Nat) "LeakageMeter" "otherwise" "[J") ∈ lw_all := lw_g (lw_at lw_m1 23 rfl) rfl
theorem q46 : (Jvm.Cond.fieldLink "LeakageMeter" (26 : Nat) "LeakageMeter" "count" "[I") ∈ lw_all := lw_g (lw_at lw_m1 24 rfl) rfl
theorem q47 : (Jvm.Cond.fieldLink "LeakageMeter" (30 : Nat) "LeakageMeter" "trace" "[J") ∈ lw_all := lw_g (lw_at lw_m1 25 rfl) rfl
theorem q48 : (Jvm.Cond.fieldLink "LeakageMeter" (76 : Nat) "LeakageMeter" "sorted" "Z") ∈ lw_all := lw_g (lw_at lw_m1 26 rfl) rfl
theorem q49 : (Jvm.Cond.fieldLink "LeakageMeter" (83 : Nat) "LeakageMeter" "classCount" "I") ∈ lw_all := lw_g (lw_at lw_m1 27 rfl) rfl
theorem q50 : (Jvm.Cond.fieldLink "LeakageMeter" (33 : Nat) "LeakageMeter" "leader" "[I") ∈ lw_all := lw_g (lw_at lw_m1 28 rfl) rfl
theorem q51 : (Jvm.Cond.fieldLink "LeakageMeter" (36 : Nat) "LeakageMeter" "members" "[I") ∈ lw_all := lw_g (lw_at lw_m1 29 rfl) rfl
theorem q52 : (Jvm.Cond.fieldLink "LeakageMeter" (39 : Nat) "LeakageMeter" "table" "[I") ∈ lw_all := lw_g (lw_at lw_m1 30 rfl) rfl
theorem q53 : (Jvm.Cond.fieldLink "LeakageMeter" (42 : Nat) "LeakageMeter" "met" "[Z") ∈ lw_all := lw_g (lw_at lw_m1 31 rfl) rfl
theorem q54 : (Jvm.Cond.lays "LeakageMeter" "LeakageMeter" "statements" "I") ∈ lw_all := lw_g (lw_at lw_m1 32 rfl) rfl
theorem q55 : (Jvm.Cond.soleField "LeakageMeter" "statements") ∈ lw_all := lw_g (lw_at lw_m1 33 rfl) rfl
theorem q56 : (Jvm.Cond.lays "LeakageMeter" "LeakageMeter" "parts" "I") ∈ lw_all := lw_g (lw_at lw_m1 34 rfl) rfl
theorem q57 : (Jvm.Cond.soleField "LeakageMeter" "parts") ∈ lw_all := lw_g (lw_at lw_m1 35 rfl) rfl
theorem q58 : (Jvm.Cond.laysFinal "LeakageMeter" "LeakageMeter" "hasElse" "[Z") ∈ lw_all := lw_g (lw_at lw_m1 36 rfl) rfl
theorem q59 : (Jvm.Cond.soleField "LeakageMeter" "hasElse") ∈ lw_all := lw_g (lw_at lw_m1 37 rfl) rfl
theorem q60 : (Jvm.Cond.laysFinal "LeakageMeter" "LeakageMeter" "plane" "[J") ∈ lw_all := lw_g (lw_at lw_m1 38 rfl) rfl
theorem q61 : (Jvm.Cond.soleField "LeakageMeter" "plane") ∈ lw_all := lw_g (lw_at lw_m1 39 rfl) rfl
theorem q62 : (Jvm.Cond.laysFinal "LeakageMeter" "LeakageMeter" "work" "[J") ∈ lw_all := lw_g (lw_at lw_m1 40 rfl) rfl
theorem q63 : (Jvm.Cond.soleField "LeakageMeter" "work") ∈ lw_all := lw_g (lw_at lw_m1 41 rfl) rfl
theorem q64 : (Jvm.Cond.lays "LeakageMeter" "LeakageMeter" "active" "J") ∈ lw_all := lw_g (lw_at lw_m1 42 rfl) rfl
theorem q65 : (Jvm.Cond.soleField "LeakageMeter" "active") ∈ lw_all := lw_g (lw_at lw_m1 43 rfl) rfl
theorem q66 : (Jvm.Cond.laysFinal "LeakageMeter" "LeakageMeter" "around" "[J") ∈ lw_all := lw_g (lw_at lw_m1 44 rfl) rfl
theorem q67 : (Jvm.Cond.soleField "LeakageMeter" "around") ∈ lw_all := lw_g (lw_at lw_m1 45 rfl) rfl
theorem q68 : (Jvm.Cond.laysFinal "LeakageMeter" "LeakageMeter" "otherwise" "[J") ∈ lw_all := lw_g (lw_at lw_m1 46 rfl) rfl
theorem q69 : (Jvm.Cond.soleField "LeakageMeter" "otherwise") ∈ lw_all := lw_g (lw_at lw_m1 47 rfl) rfl
theorem q70 : (Jvm.Cond.laysFinal "LeakageMeter" "LeakageMeter" "count" "[I") ∈ lw_all := lw_g (lw_at lw_m1 48 rfl) rfl
theorem q71 : (Jvm.Cond.soleField "LeakageMeter" "count") ∈ lw_all := lw_g (lw_at lw_m1 49 rfl) rfl
theorem q72 : (Jvm.Cond.laysFinal "LeakageMeter" "LeakageMeter" "trace" "[J") ∈ lw_all := lw_g (lw_at lw_m1 50 rfl) rfl
theorem q73 : (Jvm.Cond.soleField "LeakageMeter" "trace") ∈ lw_all := lw_g (lw_at lw_m1 51 rfl) rfl
theorem q74 : (Jvm.Cond.lays "LeakageMeter" "LeakageMeter" "sorted" "Z") ∈ lw_all := lw_g (lw_at lw_m1 52 rfl) rfl
theorem q75 : (Jvm.Cond.soleField "LeakageMeter" "sorted") ∈ lw_all := lw_g (lw_at lw_m1 53 rfl) rfl
theorem q76 : (Jvm.Cond.lays "LeakageMeter" "LeakageMeter" "classCount" "I") ∈ lw_all := lw_g (lw_at lw_m1 54 rfl) rfl
theorem q77 : (Jvm.Cond.soleField "LeakageMeter" "classCount") ∈ lw_all := lw_g (lw_at lw_m1 55 rfl) rfl
theorem q78 : (Jvm.Cond.laysFinal "LeakageMeter" "LeakageMeter" "leader" "[I") ∈ lw_all := lw_g (lw_at lw_m1 56 rfl) rfl
theorem q79 : (Jvm.Cond.soleField "LeakageMeter" "leader") ∈ lw_all := lw_g (lw_at lw_m1 57 rfl) rfl
theorem q80 : (Jvm.Cond.laysFinal "LeakageMeter" "LeakageMeter" "members" "[I") ∈ lw_all := lw_g (lw_at lw_m1 58 rfl) rfl
theorem q81 : (Jvm.Cond.soleField "LeakageMeter" "members") ∈ lw_all := lw_g (lw_at lw_m1 59 rfl) rfl
theorem q82 : (Jvm.Cond.laysFinal "LeakageMeter" "LeakageMeter" "table" "[I") ∈ lw_all := lw_g (lw_at lw_m1 60 rfl) rfl
theorem q83 : (Jvm.Cond.soleField "LeakageMeter" "table") ∈ lw_all := lw_g (lw_at lw_m1 61 rfl) rfl
theorem q84 : (Jvm.Cond.laysFinal "LeakageMeter" "LeakageMeter" "met" "[Z") ∈ lw_all := lw_g (lw_at lw_m1 62 rfl) rfl
theorem q85 : (Jvm.Cond.soleField "LeakageMeter" "met") ∈ lw_all := lw_g (lw_at lw_m1 63 rfl) rfl
theorem q86 : (Jvm.Cond.superclass "LeakageMeter" "java/lang/Object") ∈ lw_all := lw_g (lw_at lw_m1 64 rfl) rfl
theorem q91 : (Jvm.Cond.instanceMethod ({ cls := "LeakageMeter", name := "add", desc := "(III)I" } : Jvm.MethodName)) ∈ lw_all := lw_g (lw_at lw_m1 69 rfl) rfl
theorem q92 : (Jvm.Cond.selects "LeakageMeter" ({ cls := "LeakageMeter", name := "add", desc := "(III)I" } : Jvm.MethodName) ({ cls := "LeakageMeter", name := "add", desc := "(III)I" } : Jvm.MethodName)) ∈ lw_all := lw_g (lw_at lw_m1 70 rfl) rfl
theorem q93 : (Jvm.Cond.code ({ cls := "LeakageMeter", name := "add", desc := "(III)I" } : Jvm.MethodName) prog_1_method_2_code (4 : Nat) (Option.some Jvm.ClassFile.FieldType.int)) ∈ lw_all := lw_g (lw_at lw_m1 71 rfl) rfl
theorem q94 : (Jvm.Cond.methodLink "LeakageMeter" (55 : Nat) ({ cls := "LeakageMeter", name := "branch", desc := "(II)V" } : Jvm.MethodName)) ∈ lw_all := lw_g (lw_at lw_m1 72 rfl) rfl
theorem q95 : (Jvm.Cond.privateMethod ({ cls := "LeakageMeter", name := "branch", desc := "(II)V" } : Jvm.MethodName)) ∈ lw_tbl := lw_at lw_m1 73 rfl
theorem q96 : (Jvm.Cond.instanceMethod ({ cls := "LeakageMeter", name := "branch", desc := "(II)V" } : Jvm.MethodName)) ∈ lw_all := lw_g (lw_at lw_m1 74 rfl) rfl
theorem q97 : (Jvm.Cond.code ({ cls := "LeakageMeter", name := "branch", desc := "(II)V" } : Jvm.MethodName) prog_1_method_13_code (5 : Nat) (Option.none : Option Jvm.ClassFile.FieldType)) ∈ lw_all := lw_g (lw_at lw_m1 75 rfl) rfl
theorem q98 : (Jvm.Cond.methodLink "LeakageMeter" (90 : Nat) ({ cls := "LeakageMeter", name := "anyBit", desc := "(I)J" } : Jvm.MethodName)) ∈ lw_all := lw_g (lw_at lw_m1 76 rfl) rfl
theorem q99 : (Jvm.Cond.privateMethod ({ cls := "LeakageMeter", name := "anyBit", desc := "(I)J" } : Jvm.MethodName)) ∈ lw_tbl := lw_at lw_m1 77 rfl
theorem q100 : (Jvm.Cond.instanceMethod ({ cls := "LeakageMeter", name := "anyBit", desc := "(I)J" } : Jvm.MethodName)) ∈ lw_all := lw_g (lw_at lw_m1 78 rfl) rfl
theorem q101 : (Jvm.Cond.code ({ cls := "LeakageMeter", name := "anyBit", desc := "(I)J" } : Jvm.MethodName) prog_1_method_14_code (5 : Nat) (Option.some Jvm.ClassFile.FieldType.long)) ∈ lw_all := lw_g (lw_at lw_m1 79 rfl) rfl
theorem q102 : (Jvm.Cond.methodLink "LeakageMeter" (59 : Nat) ({ cls := "LeakageMeter", name := "putOut", desc := "(I)V" } : Jvm.MethodName)) ∈ lw_all := lw_g (lw_at lw_m1 80 rfl) rfl
theorem q103 : (Jvm.Cond.privateMethod ({ cls := "LeakageMeter", name := "putOut", desc := "(I)V" } : Jvm.MethodName)) ∈ lw_tbl := lw_at lw_m1 81 rfl
theorem q104 : (Jvm.Cond.instanceMethod ({ cls := "LeakageMeter", name := "putOut", desc := "(I)V" } : Jvm.MethodName)) ∈ lw_all := lw_g (lw_at lw_m1 82 rfl) rfl
theorem q105 : (Jvm.Cond.code ({ cls := "LeakageMeter", name := "putOut", desc := "(I)V" } : Jvm.MethodName) prog_1_method_24_code (4 : Nat) (Option.none : Option Jvm.ClassFile.FieldType)) ∈ lw_all := lw_g (lw_at lw_m1 83 rfl) rfl
theorem q106 : (Jvm.Cond.methodLink "LeakageMeter" (86 : Nat) ({ cls := "LeakageMeter", name := "valueFor", desc := "(II)I" } : Jvm.MethodName)) ∈ lw_all := lw_g (lw_at lw_m1 84 rfl) rfl
theorem q107 : (Jvm.Cond.privateMethod ({ cls := "LeakageMeter", name := "valueFor", desc := "(II)I" } : Jvm.MethodName)) ∈ lw_tbl := lw_at lw_m1 85 rfl
theorem q108 : (Jvm.Cond.instanceMethod ({ cls := "LeakageMeter", name := "valueFor", desc := "(II)I" } : Jvm.MethodName)) ∈ lw_all := lw_g (lw_at lw_m1 86 rfl) rfl
theorem q109 : (Jvm.Cond.code ({ cls := "LeakageMeter", name := "valueFor", desc := "(II)I" } : Jvm.MethodName) prog_1_method_12_code (5 : Nat) (Option.some Jvm.ClassFile.FieldType.int)) ∈ lw_all := lw_g (lw_at lw_m1 87 rfl) rfl
theorem q110 : (Jvm.Cond.methodLink "LeakageMeter" (63 : Nat) ({ cls := "LeakageMeter", name := "compute", desc := "(III)V" } : Jvm.MethodName)) ∈ lw_all := lw_g (lw_at lw_m1 88 rfl) rfl
theorem q111 : (Jvm.Cond.privateMethod ({ cls := "LeakageMeter", name := "compute", desc := "(III)V" } : Jvm.MethodName)) ∈ lw_tbl := lw_at lw_m1 89 rfl
theorem q112 : (Jvm.Cond.instanceMethod ({ cls := "LeakageMeter", name := "compute", desc := "(III)V" } : Jvm.MethodName)) ∈ lw_all := lw_g (lw_at lw_m1 90 rfl) rfl
theorem q113 : (Jvm.Cond.code ({ cls := "LeakageMeter", name := "compute", desc := "(III)V" } : Jvm.MethodName) prog_1_method_16_code (8 : Nat) (Option.none : Option Jvm.ClassFile.FieldType)) ∈ lw_all := lw_g (lw_at lw_m1 91 rfl) rfl
theorem q114 : (Jvm.Cond.methodLink "LeakageMeter" (94 : Nat) ({ cls := "LeakageMeter", name := "addPlanes", desc := "(II)V" } : Jvm.MethodName)) ∈ lw_all := lw_g (lw_at lw_m1 92 rfl) rfl
theorem q115 : (Jvm.Cond.privateMethod ({ cls := "LeakageMeter", name := "addPlanes", desc := "(II)V" } : Jvm.MethodName)) ∈ lw_tbl := lw_at lw_m1 93 rfl
theorem q116 : (Jvm.Cond.instanceMethod ({ cls := "LeakageMeter", name := "addPlanes", desc := "(II)V" } : Jvm.MethodName)) ∈ lw_all := lw_g (lw_at lw_m1 94 rfl) rfl
theorem q117 : (Jvm.Cond.code ({ cls := "LeakageMeter", name := "addPlanes", desc := "(II)V" } : Jvm.MethodName) prog_1_method_18_code (10 : Nat) (Option.none : Option Jvm.ClassFile.FieldType)) ∈ lw_all := lw_g (lw_at lw_m1 95 rfl) rfl
theorem q118 : (Jvm.Cond.methodLink "LeakageMeter" (97 : Nat) ({ cls := "LeakageMeter", name := "subtractPlanes", desc := "(II)J" } : Jvm.MethodName)) ∈ lw_all := lw_g (lw_at lw_m1 96 rfl) rfl
theorem q119 : (Jvm.Cond.privateMethod ({ cls := "LeakageMeter", name := "subtractPlanes", desc := "(II)J" } : Jvm.MethodName)) ∈ lw_tbl := lw_at lw_m1 97 rfl
theorem q120 : (Jvm.Cond.instanceMethod ({ cls := "LeakageMeter", name := "subtractPlanes", desc := "(II)J" } : Jvm.MethodName)) ∈ lw_all := lw_g (lw_at lw_m1 98 rfl) rfl
theorem q121 : (Jvm.Cond.code ({ cls := "LeakageMeter", name := "subtractPlanes", desc := "(II)J" } : Jvm.MethodName) prog_1_method_19_code (10 : Nat) (Option.some Jvm.ClassFile.FieldType.long)) ∈ lw_all := lw_g (lw_at lw_m1 99 rfl) rfl
theorem q122 : (Jvm.Cond.methodLink "LeakageMeter" (101 : Nat) ({ cls := "LeakageMeter", name := "multiplyPlanes", desc := "(II)V" } : Jvm.MethodName)) ∈ lw_all := lw_g (lw_at lw_m1 100 rfl) rfl
theorem q123 : (Jvm.Cond.privateMethod ({ cls := "LeakageMeter", name := "multiplyPlanes", desc := "(II)V" } : Jvm.MethodName)) ∈ lw_tbl := lw_at lw_m1 101 rfl
theorem q124 : (Jvm.Cond.instanceMethod ({ cls := "LeakageMeter", name := "multiplyPlanes", desc := "(II)V" } : Jvm.MethodName)) ∈ lw_all := lw_g (lw_at lw_m1 102 rfl) rfl
theorem q125 : (Jvm.Cond.code ({ cls := "LeakageMeter", name := "multiplyPlanes", desc := "(II)V" } : Jvm.MethodName) prog_1_method_20_code (4 : Nat) (Option.none : Option Jvm.ClassFile.FieldType)) ∈ lw_all := lw_g (lw_at lw_m1 103 rfl) rfl
theorem q126 : (Jvm.Cond.methodLink "LeakageMeter" (114 : Nat) ({ cls := "LeakageMeter", name := "addShifted", desc := "(IIJ)V" } : Jvm.MethodName)) ∈ lw_all := lw_g (lw_at lw_m1 104 rfl) rfl
theorem q127 : (Jvm.Cond.privateMethod ({ cls := "LeakageMeter", name := "addShifted", desc := "(IIJ)V" } : Jvm.MethodName)) ∈ lw_tbl := lw_at lw_m1 105 rfl
theorem q128 : (Jvm.Cond.instanceMethod ({ cls := "LeakageMeter", name := "addShifted", desc := "(IIJ)V" } : Jvm.MethodName)) ∈ lw_all := lw_g (lw_at lw_m1 106 rfl) rfl
theorem q129 : (Jvm.Cond.code ({ cls := "LeakageMeter", name := "addShifted", desc := "(IIJ)V" } : Jvm.MethodName) prog_1_method_21_code (12 : Nat) (Option.none : Option Jvm.ClassFile.FieldType)) ∈ lw_all := lw_g (lw_at lw_m1 107 rfl) rfl
theorem q130 : (Jvm.Cond.methodLink "LeakageMeter" (104 : Nat) ({ cls := "LeakageMeter", name := "combinePlanes", desc := "(III)V" } : Jvm.MethodName)) ∈ lw_all := lw_g (lw_at lw_m1 108 rfl) rfl
theorem q131 : (Jvm.Cond.privateMethod ({ cls := "LeakageMeter", name := "combinePlanes", desc := "(III)V" } : Jvm.MethodName)) ∈ lw_tbl := lw_at lw_m1 109 rfl
theorem q132 : (Jvm.Cond.instanceMethod ({ cls := "LeakageMeter", name := "combinePlanes", desc := "(III)V" } : Jvm.MethodName)) ∈ lw_all := lw_g (lw_at lw_m1 110 rfl) rfl
theorem q133 : (Jvm.Cond.code ({ cls := "LeakageMeter", name := "combinePlanes", desc := "(III)V" } : Jvm.MethodName) prog_1_method_22_code (9 : Nat) (Option.none : Option Jvm.ClassFile.FieldType)) ∈ lw_all := lw_g (lw_at lw_m1 111 rfl) rfl
theorem q134 : (Jvm.Cond.methodLink "LeakageMeter" (107 : Nat) ({ cls := "LeakageMeter", name := "shiftPlanes", desc := "(II)V" } : Jvm.MethodName)) ∈ lw_all := lw_g (lw_at lw_m1 112 rfl) rfl
theorem q135 : (Jvm.Cond.privateMethod ({ cls := "LeakageMeter", name := "shiftPlanes", desc := "(II)V" } : Jvm.MethodName)) ∈ lw_tbl := lw_at lw_m1 113 rfl
theorem q136 : (Jvm.Cond.instanceMethod ({ cls := "LeakageMeter", name := "shiftPlanes", desc := "(II)V" } : Jvm.MethodName)) ∈ lw_all := lw_g (lw_at lw_m1 114 rfl) rfl
theorem q137 : (Jvm.Cond.code ({ cls := "LeakageMeter", name := "shiftPlanes", desc := "(II)V" } : Jvm.MethodName) prog_1_method_23_code (5 : Nat) (Option.none : Option Jvm.ClassFile.FieldType)) ∈ lw_all := lw_g (lw_at lw_m1 115 rfl) rfl
theorem q138 : (Jvm.Cond.methodLink "LeakageMeter" (110 : Nat) ({ cls := "LeakageMeter", name := "setTruth", desc := "(J)V" } : Jvm.MethodName)) ∈ lw_all := lw_g (lw_at lw_m1 116 rfl) rfl
theorem q139 : (Jvm.Cond.privateMethod ({ cls := "LeakageMeter", name := "setTruth", desc := "(J)V" } : Jvm.MethodName)) ∈ lw_tbl := lw_at lw_m1 117 rfl
theorem q140 : (Jvm.Cond.instanceMethod ({ cls := "LeakageMeter", name := "setTruth", desc := "(J)V" } : Jvm.MethodName)) ∈ lw_all := lw_g (lw_at lw_m1 118 rfl) rfl
theorem q141 : (Jvm.Cond.code ({ cls := "LeakageMeter", name := "setTruth", desc := "(J)V" } : Jvm.MethodName) prog_1_method_17_code (4 : Nat) (Option.none : Option Jvm.ClassFile.FieldType)) ∈ lw_all := lw_g (lw_at lw_m1 119 rfl) rfl
theorem q142 : (Jvm.Cond.methodLink "LeakageMeter" (67 : Nat) ({ cls := "LeakageMeter", name := "keepResult", desc := "(I)V" } : Jvm.MethodName)) ∈ lw_all := lw_g (lw_at lw_m1 120 rfl) rfl
theorem q143 : (Jvm.Cond.privateMethod ({ cls := "LeakageMeter", name := "keepResult", desc := "(I)V" } : Jvm.MethodName)) ∈ lw_tbl := lw_at lw_m1 121 rfl
theorem q144 : (Jvm.Cond.instanceMethod ({ cls := "LeakageMeter", name := "keepResult", desc := "(I)V" } : Jvm.MethodName)) ∈ lw_all := lw_g (lw_at lw_m1 122 rfl) rfl
theorem q145 : (Jvm.Cond.code ({ cls := "LeakageMeter", name := "keepResult", desc := "(I)V" } : Jvm.MethodName) prog_1_method_15_code (3 : Nat) (Option.none : Option Jvm.ClassFile.FieldType)) ∈ lw_all := lw_g (lw_at lw_m1 123 rfl) rfl
theorem q148 : (Jvm.Cond.instanceMethod ({ cls := "LeakageMeter", name := "open", desc := "()I" } : Jvm.MethodName)) ∈ lw_all := lw_g (lw_at lw_m1 126 rfl) rfl
theorem q149 : (Jvm.Cond.selects "LeakageMeter" ({ cls := "LeakageMeter", name := "open", desc := "()I" } : Jvm.MethodName) ({ cls := "LeakageMeter", name := "open", desc := "()I" } : Jvm.MethodName)) ∈ lw_all := lw_g (lw_at lw_m1 127 rfl) rfl
theorem q150 : (Jvm.Cond.code ({ cls := "LeakageMeter", name := "open", desc := "()I" } : Jvm.MethodName) prog_1_method_4_code (1 : Nat) (Option.some Jvm.ClassFile.FieldType.int)) ∈ lw_all := lw_g (lw_at lw_m1 128 rfl) rfl
theorem q152 : (Jvm.Cond.instanceMethod ({ cls := "LeakageMeter", name := "classes", desc := "()I" } : Jvm.MethodName)) ∈ lw_all := lw_g (lw_at lw_m1 130 rfl) rfl
theorem q153 : (Jvm.Cond.selects "LeakageMeter" ({ cls := "LeakageMeter", name := "classes", desc := "()I" } : Jvm.MethodName) ({ cls := "LeakageMeter", name := "classes", desc := "()I" } : Jvm.MethodName)) ∈ lw_all := lw_g (lw_at lw_m1 131 rfl) rfl
theorem q154 : (Jvm.Cond.code ({ cls := "LeakageMeter", name := "classes", desc := "()I" } : Jvm.MethodName) prog_1_method_5_code (1 : Nat) (Option.some Jvm.ClassFile.FieldType.int)) ∈ lw_all := lw_g (lw_at lw_m1 132 rfl) rfl
theorem q155 : (Jvm.Cond.methodLink "LeakageMeter" (80 : Nat) ({ cls := "LeakageMeter", name := "sortViews", desc := "()V" } : Jvm.MethodName)) ∈ lw_all := lw_g (lw_at lw_m1 133 rfl) rfl
theorem q156 : (Jvm.Cond.privateMethod ({ cls := "LeakageMeter", name := "sortViews", desc := "()V" } : Jvm.MethodName)) ∈ lw_tbl := lw_at lw_m1 134 rfl
theorem q157 : (Jvm.Cond.instanceMethod ({ cls := "LeakageMeter", name := "sortViews", desc := "()V" } : Jvm.MethodName)) ∈ lw_all := lw_g (lw_at lw_m1 135 rfl) rfl
theorem q158 : (Jvm.Cond.code ({ cls := "LeakageMeter", name := "sortViews", desc := "()V" } : Jvm.MethodName) prog_1_method_25_code (3 : Nat) (Option.none : Option Jvm.ClassFile.FieldType)) ∈ lw_all := lw_g (lw_at lw_m1 136 rfl) rfl
theorem q159 : (Jvm.Cond.methodLink "LeakageMeter" (118 : Nat) ({ cls := "LeakageMeter", name := "placeInTable", desc := "(I)I" } : Jvm.MethodName)) ∈ lw_all := lw_g (lw_at lw_m1 137 rfl) rfl
theorem q160 : (Jvm.Cond.privateMethod ({ cls := "LeakageMeter", name := "placeInTable", desc := "(I)I" } : Jvm.MethodName)) ∈ lw_tbl := lw_at lw_m1 138 rfl
theorem q161 : (Jvm.Cond.instanceMethod ({ cls := "LeakageMeter", name := "placeInTable", desc := "(I)I" } : Jvm.MethodName)) ∈ lw_all := lw_g (lw_at lw_m1 139 rfl) rfl
theorem q162 : (Jvm.Cond.code ({ cls := "LeakageMeter", name := "placeInTable", desc := "(I)I" } : Jvm.MethodName) prog_1_method_26_code (7 : Nat) (Option.some Jvm.ClassFile.FieldType.int)) ∈ lw_all := lw_g (lw_at lw_m1 140 rfl) rfl
theorem q163 : (Jvm.Cond.constantLong "LeakageMeter" (122 : Nat) (31 : Int64)) ∈ lw_all := lw_g (lw_at lw_m1 141 rfl) rfl
theorem q165 : (Jvm.Cond.instanceMethod ({ cls := "LeakageMeter", name := "least", desc := "(I)I" } : Jvm.MethodName)) ∈ lw_all := lw_g (lw_at lw_m1 143 rfl) rfl
theorem q166 : (Jvm.Cond.selects "LeakageMeter" ({ cls := "LeakageMeter", name := "least", desc := "(I)I" } : Jvm.MethodName) ({ cls := "LeakageMeter", name := "least", desc := "(I)I" } : Jvm.MethodName)) ∈ lw_all := lw_g (lw_at lw_m1 144 rfl) rfl
theorem q167 : (Jvm.Cond.code ({ cls := "LeakageMeter", name := "least", desc := "(I)I" } : Jvm.MethodName) prog_1_method_6_code (2 : Nat) (Option.some Jvm.ClassFile.FieldType.int)) ∈ lw_all := lw_g (lw_at lw_m1 145 rfl) rfl
theorem q169 : (Jvm.Cond.instanceMethod ({ cls := "LeakageMeter", name := "alike", desc := "(I)I" } : Jvm.MethodName)) ∈ lw_all := lw_g (lw_at lw_m1 147 rfl) rfl
theorem q170 : (Jvm.Cond.selects "LeakageMeter" ({ cls := "LeakageMeter", name := "alike", desc := "(I)I" } : Jvm.MethodName) ({ cls := "LeakageMeter", name := "alike", desc := "(I)I" } : Jvm.MethodName)) ∈ lw_all := lw_g (lw_at lw_m1 148 rfl) rfl
theorem q171 : (Jvm.Cond.code ({ cls := "LeakageMeter", name := "alike", desc := "(I)I" } : Jvm.MethodName) prog_1_method_7_code (2 : Nat) (Option.some Jvm.ClassFile.FieldType.int)) ∈ lw_all := lw_g (lw_at lw_m1 149 rfl) rfl
theorem q173 : (Jvm.Cond.instanceMethod ({ cls := "LeakageMeter", name := "outputs", desc := "(I)I" } : Jvm.MethodName)) ∈ lw_all := lw_g (lw_at lw_m1 151 rfl) rfl
theorem q174 : (Jvm.Cond.selects "LeakageMeter" ({ cls := "LeakageMeter", name := "outputs", desc := "(I)I" } : Jvm.MethodName) ({ cls := "LeakageMeter", name := "outputs", desc := "(I)I" } : Jvm.MethodName)) ∈ lw_all := lw_g (lw_at lw_m1 152 rfl) rfl
theorem q175 : (Jvm.Cond.code ({ cls := "LeakageMeter", name := "outputs", desc := "(I)I" } : Jvm.MethodName) prog_1_method_8_code (2 : Nat) (Option.some Jvm.ClassFile.FieldType.int)) ∈ lw_all := lw_g (lw_at lw_m1 153 rfl) rfl
theorem q177 : (Jvm.Cond.instanceMethod ({ cls := "LeakageMeter", name := "output", desc := "(II)I" } : Jvm.MethodName)) ∈ lw_all := lw_g (lw_at lw_m1 155 rfl) rfl
theorem q178 : (Jvm.Cond.selects "LeakageMeter" ({ cls := "LeakageMeter", name := "output", desc := "(II)I" } : Jvm.MethodName) ({ cls := "LeakageMeter", name := "output", desc := "(II)I" } : Jvm.MethodName)) ∈ lw_all := lw_g (lw_at lw_m1 156 rfl) rfl
theorem q179 : (Jvm.Cond.code ({ cls := "LeakageMeter", name := "output", desc := "(II)I" } : Jvm.MethodName) prog_1_method_9_code (4 : Nat) (Option.some Jvm.ClassFile.FieldType.int)) ∈ lw_all := lw_g (lw_at lw_m1 157 rfl) rfl
theorem q181 : (Jvm.Cond.instanceMethod ({ cls := "LeakageMeter", name := "end", desc := "(II)I" } : Jvm.MethodName)) ∈ lw_all := lw_g (lw_at lw_m1 159 rfl) rfl
theorem q182 : (Jvm.Cond.selects "LeakageMeter" ({ cls := "LeakageMeter", name := "end", desc := "(II)I" } : Jvm.MethodName) ({ cls := "LeakageMeter", name := "end", desc := "(II)I" } : Jvm.MethodName)) ∈ lw_all := lw_g (lw_at lw_m1 160 rfl) rfl
theorem q183 : (Jvm.Cond.code ({ cls := "LeakageMeter", name := "end", desc := "(II)I" } : Jvm.MethodName) prog_1_method_10_code (3 : Nat) (Option.some Jvm.ClassFile.FieldType.int)) ∈ lw_all := lw_g (lw_at lw_m1 161 rfl) rfl
theorem q185 : (Jvm.Cond.instanceMethod ({ cls := "LeakageMeter", name := "guessed", desc := "(II)I" } : Jvm.MethodName)) ∈ lw_all := lw_g (lw_at lw_m1 163 rfl) rfl
theorem q186 : (Jvm.Cond.selects "LeakageMeter" ({ cls := "LeakageMeter", name := "guessed", desc := "(II)I" } : Jvm.MethodName) ({ cls := "LeakageMeter", name := "guessed", desc := "(II)I" } : Jvm.MethodName)) ∈ lw_all := lw_g (lw_at lw_m1 164 rfl) rfl
theorem q187 : (Jvm.Cond.code ({ cls := "LeakageMeter", name := "guessed", desc := "(II)I" } : Jvm.MethodName) prog_1_method_11_code (9 : Nat) (Option.some Jvm.ClassFile.FieldType.int)) ∈ lw_all := lw_g (lw_at lw_m1 165 rfl) rfl
theorem in_X0 : ∀ w ∈ wsX00, w ∈ lw_all := lw_in wsX00 [54, 56, 58, 60, 62, 64, 66, 68, 70, 72, 74, 76, 78, 80, 82, 84] (by decide +kernel) (by decide +kernel)
end
section
/-! LeakageMeterModel -/
set_option maxRecDepth 100000
def RX1 : String := "LeakageMeterModel"
def TX1 : u_T := fun k => match k with
  | 0 => ("LeakageMeterModel", "statements", "I", false)
  | 1 => ("LeakageMeterModel", "code", "[I", true)
  | 2 => ("LeakageMeterModel", "left", "[I", true)
  | 3 => ("LeakageMeterModel", "right", "[I", true)
  | 4 => ("LeakageMeterModel", "variable", "[I", true)
  | 5 => ("LeakageMeterModel", "put", "I", false)
  | 6 => ("LeakageMeterModel", "outs", "[I", true)
  | _ => ("LeakageMeterModel", "views", "[I", true)
def tyX1 : Nat → FieldType := fun k => match k with
  | 0 => .int
  | 1 => .array .int
  | 2 => .array .int
  | 3 => .array .int
  | 4 => .array .int
  | 5 => .int
  | 6 => .array .int
  | _ => .array .int
abbrev wsX10 : List Cond := u_ws RX1 TX1 8
theorem nmX1 : ∀ a, a < 8 → ∀ b, b < 8 → a ≠ b → (TX1 a).2.1 ≠ (TX1 b).2.1 := by decide +kernel
theorem tyX1_ok : ∀ k, k < 8 → parseFieldDescriptor (TX1 k).2.2.1 = some (tyX1 k) := by decide +kernel
abbrev cX1_init : ByteArray := prog_3_method_1_code
def yX1_init : MethodName := ⟨RX1, "<init>", "()V"⟩
theorem dX1_init_0 : decode cX1_init 0 = .ok (.aload_n 0, 1) := by decide +kernel
theorem dX1_init_1 : decode cX1_init 1 = .ok (.invokespecial 1, 3) := by decide +kernel
theorem dX1_init_4 : decode cX1_init 4 = .ok (.aload_n 0, 1) := by decide +kernel
theorem dX1_init_5 : decode cX1_init 5 = .ok (.bipush 40, 2) := by decide +kernel
theorem dX1_init_7 : decode cX1_init 7 = .ok (.newarray .int, 2) := by decide +kernel
theorem dX1_init_9 : decode cX1_init 9 = .ok (.putfield 7, 3) := by decide +kernel
theorem dX1_init_12 : decode cX1_init 12 = .ok (.aload_n 0, 1) := by decide +kernel
theorem dX1_init_13 : decode cX1_init 13 = .ok (.bipush 40, 2) := by decide +kernel
theorem dX1_init_15 : decode cX1_init 15 = .ok (.newarray .int, 2) := by decide +kernel
theorem dX1_init_17 : decode cX1_init 17 = .ok (.putfield 13, 3) := by decide +kernel
theorem dX1_init_20 : decode cX1_init 20 = .ok (.aload_n 0, 1) := by decide +kernel
theorem dX1_init_21 : decode cX1_init 21 = .ok (.bipush 40, 2) := by decide +kernel
theorem dX1_init_23 : decode cX1_init 23 = .ok (.newarray .int, 2) := by decide +kernel
theorem dX1_init_25 : decode cX1_init 25 = .ok (.putfield 16, 3) := by decide +kernel
theorem dX1_init_28 : decode cX1_init 28 = .ok (.aload_n 0, 1) := by decide +kernel
theorem dX1_init_29 : decode cX1_init 29 = .ok (.iconst 4, 1) := by decide +kernel
theorem dX1_init_30 : decode cX1_init 30 = .ok (.newarray .int, 2) := by decide +kernel
theorem dX1_init_32 : decode cX1_init 32 = .ok (.putfield 19, 3) := by decide +kernel
theorem dX1_init_35 : decode cX1_init 35 = .ok (.aload_n 0, 1) := by decide +kernel
theorem dX1_init_36 : decode cX1_init 36 = .ok (.bipush 64, 2) := by decide +kernel
theorem dX1_init_38 : decode cX1_init 38 = .ok (.newarray .int, 2) := by decide +kernel
theorem dX1_init_40 : decode cX1_init 40 = .ok (.putfield 22, 3) := by decide +kernel
theorem dX1_init_43 : decode cX1_init 43 = .ok (.aload_n 0, 1) := by decide +kernel
theorem dX1_init_44 : decode cX1_init 44 = .ok (.sipush 448, 3) := by decide +kernel
theorem dX1_init_47 : decode cX1_init 47 = .ok (.newarray .int, 2) := by decide +kernel
theorem dX1_init_49 : decode cX1_init 49 = .ok (.putfield 25, 3) := by decide +kernel
theorem dX1_init_52 : decode cX1_init 52 = .ok (.return_, 1) := by decide +kernel
abbrev cX1_add : ByteArray := prog_3_method_2_code
def yX1_add : MethodName := ⟨RX1, "add", "(III)I"⟩
theorem dX1_add_0 : decode cX1_add 0 = .ok (.iload_n 1, 1) := by decide +kernel
theorem dX1_add_1 : decode cX1_add 1 = .ok (.ifCond .lt 18, 3) := by decide +kernel
theorem dX1_add_4 : decode cX1_add 4 = .ok (.iload_n 1, 1) := by decide +kernel
theorem dX1_add_5 : decode cX1_add 5 = .ok (.bipush 15, 2) := by decide +kernel
theorem dX1_add_7 : decode cX1_add 7 = .ok (.if_icmp .gt 12, 3) := by decide +kernel
theorem dX1_add_10 : decode cX1_add 10 = .ok (.aload_n 0, 1) := by decide +kernel
theorem dX1_add_11 : decode cX1_add 11 = .ok (.getfield 28, 3) := by decide +kernel
theorem dX1_add_14 : decode cX1_add 14 = .ok (.bipush 40, 2) := by decide +kernel
theorem dX1_add_16 : decode cX1_add 16 = .ok (.if_icmp .ne 5, 3) := by decide +kernel
theorem dX1_add_19 : decode cX1_add 19 = .ok (.iconst (-1), 1) := by decide +kernel
theorem dX1_add_20 : decode cX1_add 20 = .ok (.ireturn, 1) := by decide +kernel
theorem dX1_add_21 : decode cX1_add 21 = .ok (.iload_n 1, 1) := by decide +kernel
theorem dX1_add_22 : decode cX1_add 22 = .ok (.bipush 13, 2) := by decide +kernel
theorem dX1_add_24 : decode cX1_add 24 = .ok (.if_icmp .ne 13, 3) := by decide +kernel
theorem dX1_add_27 : decode cX1_add 27 = .ok (.aload_n 0, 1) := by decide +kernel
theorem dX1_add_28 : decode cX1_add 28 = .ok (.invokevirtual 32, 3) := by decide +kernel
theorem dX1_add_31 : decode cX1_add 31 = .ok (.iconst 4, 1) := by decide +kernel
theorem dX1_add_32 : decode cX1_add 32 = .ok (.if_icmp .ne 5, 3) := by decide +kernel
theorem dX1_add_35 : decode cX1_add 35 = .ok (.iconst (-1), 1) := by decide +kernel
theorem dX1_add_36 : decode cX1_add 36 = .ok (.ireturn, 1) := by decide +kernel
theorem dX1_add_37 : decode cX1_add 37 = .ok (.iload_n 1, 1) := by decide +kernel
theorem dX1_add_38 : decode cX1_add 38 = .ok (.bipush 14, 2) := by decide +kernel
theorem dX1_add_40 : decode cX1_add 40 = .ok (.if_icmp .eq 9, 3) := by decide +kernel
theorem dX1_add_43 : decode cX1_add 43 = .ok (.iload_n 1, 1) := by decide +kernel
theorem dX1_add_44 : decode cX1_add 44 = .ok (.bipush 15, 2) := by decide +kernel
theorem dX1_add_46 : decode cX1_add 46 = .ok (.if_icmp .ne 12, 3) := by decide +kernel
theorem dX1_add_49 : decode cX1_add 49 = .ok (.aload_n 0, 1) := by decide +kernel
theorem dX1_add_50 : decode cX1_add 50 = .ok (.invokevirtual 32, 3) := by decide +kernel
theorem dX1_add_53 : decode cX1_add 53 = .ok (.ifCond .ne 5, 3) := by decide +kernel
theorem dX1_add_56 : decode cX1_add 56 = .ok (.iconst (-1), 1) := by decide +kernel
theorem dX1_add_57 : decode cX1_add 57 = .ok (.ireturn, 1) := by decide +kernel
theorem dX1_add_58 : decode cX1_add 58 = .ok (.iload_n 1, 1) := by decide +kernel
theorem dX1_add_59 : decode cX1_add 59 = .ok (.bipush 14, 2) := by decide +kernel
theorem dX1_add_61 : decode cX1_add 61 = .ok (.if_icmp .ne 12, 3) := by decide +kernel
theorem dX1_add_64 : decode cX1_add 64 = .ok (.aload_n 0, 1) := by decide +kernel
theorem dX1_add_65 : decode cX1_add 65 = .ok (.invokevirtual 36, 3) := by decide +kernel
theorem dX1_add_68 : decode cX1_add 68 = .ok (.ifCond .eq 5, 3) := by decide +kernel
theorem dX1_add_71 : decode cX1_add 71 = .ok (.iconst (-1), 1) := by decide +kernel
theorem dX1_add_72 : decode cX1_add 72 = .ok (.ireturn, 1) := by decide +kernel
theorem dX1_add_73 : decode cX1_add 73 = .ok (.aload_n 0, 1) := by decide +kernel
theorem dX1_add_74 : decode cX1_add 74 = .ok (.getfield 7, 3) := by decide +kernel
theorem dX1_add_77 : decode cX1_add 77 = .ok (.aload_n 0, 1) := by decide +kernel
theorem dX1_add_78 : decode cX1_add 78 = .ok (.getfield 28, 3) := by decide +kernel
theorem dX1_add_81 : decode cX1_add 81 = .ok (.iload_n 1, 1) := by decide +kernel
theorem dX1_add_82 : decode cX1_add 82 = .ok (.iastore, 1) := by decide +kernel
theorem dX1_add_83 : decode cX1_add 83 = .ok (.aload_n 0, 1) := by decide +kernel
theorem dX1_add_84 : decode cX1_add 84 = .ok (.getfield 13, 3) := by decide +kernel
theorem dX1_add_87 : decode cX1_add 87 = .ok (.aload_n 0, 1) := by decide +kernel
theorem dX1_add_88 : decode cX1_add 88 = .ok (.getfield 28, 3) := by decide +kernel
theorem dX1_add_91 : decode cX1_add 91 = .ok (.iload_n 2, 1) := by decide +kernel
theorem dX1_add_92 : decode cX1_add 92 = .ok (.iastore, 1) := by decide +kernel
theorem dX1_add_93 : decode cX1_add 93 = .ok (.aload_n 0, 1) := by decide +kernel
theorem dX1_add_94 : decode cX1_add 94 = .ok (.getfield 16, 3) := by decide +kernel
theorem dX1_add_97 : decode cX1_add 97 = .ok (.aload_n 0, 1) := by decide +kernel
theorem dX1_add_98 : decode cX1_add 98 = .ok (.getfield 28, 3) := by decide +kernel
theorem dX1_add_101 : decode cX1_add 101 = .ok (.iload_n 3, 1) := by decide +kernel
theorem dX1_add_102 : decode cX1_add 102 = .ok (.iastore, 1) := by decide +kernel
theorem dX1_add_103 : decode cX1_add 103 = .ok (.aload_n 0, 1) := by decide +kernel
theorem dX1_add_104 : decode cX1_add 104 = .ok (.dup, 1) := by decide +kernel
theorem dX1_add_105 : decode cX1_add 105 = .ok (.getfield 28, 3) := by decide +kernel
theorem dX1_add_108 : decode cX1_add 108 = .ok (.iconst 1, 1) := by decide +kernel
theorem dX1_add_109 : decode cX1_add 109 = .ok (.iadd, 1) := by decide +kernel
theorem dX1_add_110 : decode cX1_add 110 = .ok (.putfield 28, 3) := by decide +kernel
theorem dX1_add_113 : decode cX1_add 113 = .ok (.aload_n 0, 1) := by decide +kernel
theorem dX1_add_114 : decode cX1_add 114 = .ok (.getfield 28, 3) := by decide +kernel
theorem dX1_add_117 : decode cX1_add 117 = .ok (.ireturn, 1) := by decide +kernel
abbrev cX1_open : ByteArray := prog_3_method_4_code
def yX1_open : MethodName := ⟨RX1, "open", "()I"⟩
theorem dX1_open_0 : decode cX1_open 0 = .ok (.iconst 0, 1) := by decide +kernel
theorem dX1_open_1 : decode cX1_open 1 = .ok (.istore_n 1, 1) := by decide +kernel
theorem dX1_open_2 : decode cX1_open 2 = .ok (.iconst 0, 1) := by decide +kernel
theorem dX1_open_3 : decode cX1_open 3 = .ok (.istore_n 2, 1) := by decide +kernel
theorem dX1_open_4 : decode cX1_open 4 = .ok (.iload_n 2, 1) := by decide +kernel
theorem dX1_open_5 : decode cX1_open 5 = .ok (.aload_n 0, 1) := by decide +kernel
theorem dX1_open_6 : decode cX1_open 6 = .ok (.getfield 28, 3) := by decide +kernel
theorem dX1_open_9 : decode cX1_open 9 = .ok (.if_icmp .ge 37, 3) := by decide +kernel
theorem dX1_open_12 : decode cX1_open 12 = .ok (.aload_n 0, 1) := by decide +kernel
theorem dX1_open_13 : decode cX1_open 13 = .ok (.getfield 7, 3) := by decide +kernel
theorem dX1_open_16 : decode cX1_open 16 = .ok (.iload_n 2, 1) := by decide +kernel
theorem dX1_open_17 : decode cX1_open 17 = .ok (.iaload, 1) := by decide +kernel
theorem dX1_open_18 : decode cX1_open 18 = .ok (.bipush 13, 2) := by decide +kernel
theorem dX1_open_20 : decode cX1_open 20 = .ok (.if_icmp .ne 6, 3) := by decide +kernel
theorem dX1_open_23 : decode cX1_open 23 = .ok (.iinc 1 1, 3) := by decide +kernel
theorem dX1_open_26 : decode cX1_open 26 = .ok (.aload_n 0, 1) := by decide +kernel
theorem dX1_open_27 : decode cX1_open 27 = .ok (.getfield 7, 3) := by decide +kernel
theorem dX1_open_30 : decode cX1_open 30 = .ok (.iload_n 2, 1) := by decide +kernel
theorem dX1_open_31 : decode cX1_open 31 = .ok (.iaload, 1) := by decide +kernel
theorem dX1_open_32 : decode cX1_open 32 = .ok (.bipush 15, 2) := by decide +kernel
theorem dX1_open_34 : decode cX1_open 34 = .ok (.if_icmp .ne 6, 3) := by decide +kernel
theorem dX1_open_37 : decode cX1_open 37 = .ok (.iinc 1 (-1), 3) := by decide +kernel
theorem dX1_open_40 : decode cX1_open 40 = .ok (.iinc 2 1, 3) := by decide +kernel
theorem dX1_open_43 : decode cX1_open 43 = .ok (.goto (-39), 3) := by decide +kernel
theorem dX1_open_46 : decode cX1_open 46 = .ok (.iload_n 1, 1) := by decide +kernel
theorem dX1_open_47 : decode cX1_open 47 = .ok (.ireturn, 1) := by decide +kernel
abbrev cX1_hasElse : ByteArray := prog_3_method_5_code
def yX1_hasElse : MethodName := ⟨RX1, "hasElse", "()Z"⟩
theorem dX1_hasElse_0 : decode cX1_hasElse 0 = .ok (.iconst 0, 1) := by decide +kernel
theorem dX1_hasElse_1 : decode cX1_hasElse 1 = .ok (.istore_n 1, 1) := by decide +kernel
theorem dX1_hasElse_2 : decode cX1_hasElse 2 = .ok (.aload_n 0, 1) := by decide +kernel
theorem dX1_hasElse_3 : decode cX1_hasElse 3 = .ok (.getfield 28, 3) := by decide +kernel
theorem dX1_hasElse_6 : decode cX1_hasElse 6 = .ok (.iconst 1, 1) := by decide +kernel
theorem dX1_hasElse_7 : decode cX1_hasElse 7 = .ok (.isub, 1) := by decide +kernel
theorem dX1_hasElse_8 : decode cX1_hasElse 8 = .ok (.istore_n 2, 1) := by decide +kernel
theorem dX1_hasElse_9 : decode cX1_hasElse 9 = .ok (.iload_n 2, 1) := by decide +kernel
theorem dX1_hasElse_10 : decode cX1_hasElse 10 = .ok (.ifCond .lt 71, 3) := by decide +kernel
theorem dX1_hasElse_13 : decode cX1_hasElse 13 = .ok (.iload_n 1, 1) := by decide +kernel
theorem dX1_hasElse_14 : decode cX1_hasElse 14 = .ok (.ifCond .ne 16, 3) := by decide +kernel
theorem dX1_hasElse_17 : decode cX1_hasElse 17 = .ok (.aload_n 0, 1) := by decide +kernel
theorem dX1_hasElse_18 : decode cX1_hasElse 18 = .ok (.getfield 7, 3) := by decide +kernel
theorem dX1_hasElse_21 : decode cX1_hasElse 21 = .ok (.iload_n 2, 1) := by decide +kernel
theorem dX1_hasElse_22 : decode cX1_hasElse 22 = .ok (.iaload, 1) := by decide +kernel
theorem dX1_hasElse_23 : decode cX1_hasElse 23 = .ok (.bipush 14, 2) := by decide +kernel
theorem dX1_hasElse_25 : decode cX1_hasElse 25 = .ok (.if_icmp .ne 5, 3) := by decide +kernel
theorem dX1_hasElse_28 : decode cX1_hasElse 28 = .ok (.iconst 1, 1) := by decide +kernel
theorem dX1_hasElse_29 : decode cX1_hasElse 29 = .ok (.ireturn, 1) := by decide +kernel
theorem dX1_hasElse_30 : decode cX1_hasElse 30 = .ok (.iload_n 1, 1) := by decide +kernel
theorem dX1_hasElse_31 : decode cX1_hasElse 31 = .ok (.ifCond .ne 16, 3) := by decide +kernel
theorem dX1_hasElse_34 : decode cX1_hasElse 34 = .ok (.aload_n 0, 1) := by decide +kernel
theorem dX1_hasElse_35 : decode cX1_hasElse 35 = .ok (.getfield 7, 3) := by decide +kernel
theorem dX1_hasElse_38 : decode cX1_hasElse 38 = .ok (.iload_n 2, 1) := by decide +kernel
theorem dX1_hasElse_39 : decode cX1_hasElse 39 = .ok (.iaload, 1) := by decide +kernel
theorem dX1_hasElse_40 : decode cX1_hasElse 40 = .ok (.bipush 13, 2) := by decide +kernel
theorem dX1_hasElse_42 : decode cX1_hasElse 42 = .ok (.if_icmp .ne 5, 3) := by decide +kernel
theorem dX1_hasElse_45 : decode cX1_hasElse 45 = .ok (.iconst 0, 1) := by decide +kernel
theorem dX1_hasElse_46 : decode cX1_hasElse 46 = .ok (.ireturn, 1) := by decide +kernel
theorem dX1_hasElse_47 : decode cX1_hasElse 47 = .ok (.aload_n 0, 1) := by decide +kernel
theorem dX1_hasElse_48 : decode cX1_hasElse 48 = .ok (.getfield 7, 3) := by decide +kernel
theorem dX1_hasElse_51 : decode cX1_hasElse 51 = .ok (.iload_n 2, 1) := by decide +kernel
theorem dX1_hasElse_52 : decode cX1_hasElse 52 = .ok (.iaload, 1) := by decide +kernel
theorem dX1_hasElse_53 : decode cX1_hasElse 53 = .ok (.bipush 15, 2) := by decide +kernel
theorem dX1_hasElse_55 : decode cX1_hasElse 55 = .ok (.if_icmp .ne 6, 3) := by decide +kernel
theorem dX1_hasElse_58 : decode cX1_hasElse 58 = .ok (.iinc 1 1, 3) := by decide +kernel
theorem dX1_hasElse_61 : decode cX1_hasElse 61 = .ok (.aload_n 0, 1) := by decide +kernel
theorem dX1_hasElse_62 : decode cX1_hasElse 62 = .ok (.getfield 7, 3) := by decide +kernel
theorem dX1_hasElse_65 : decode cX1_hasElse 65 = .ok (.iload_n 2, 1) := by decide +kernel
theorem dX1_hasElse_66 : decode cX1_hasElse 66 = .ok (.iaload, 1) := by decide +kernel
theorem dX1_hasElse_67 : decode cX1_hasElse 67 = .ok (.bipush 13, 2) := by decide +kernel
theorem dX1_hasElse_69 : decode cX1_hasElse 69 = .ok (.if_icmp .ne 6, 3) := by decide +kernel
theorem dX1_hasElse_72 : decode cX1_hasElse 72 = .ok (.iinc 1 (-1), 3) := by decide +kernel
theorem dX1_hasElse_75 : decode cX1_hasElse 75 = .ok (.iinc 2 (-1), 3) := by decide +kernel
theorem dX1_hasElse_78 : decode cX1_hasElse 78 = .ok (.goto (-69), 3) := by decide +kernel
theorem dX1_hasElse_81 : decode cX1_hasElse 81 = .ok (.iconst 0, 1) := by decide +kernel
theorem dX1_hasElse_82 : decode cX1_hasElse 82 = .ok (.ireturn, 1) := by decide +kernel
abbrev cX1_clear : ByteArray := prog_3_method_3_code
def yX1_clear : MethodName := ⟨RX1, "clear", "()V"⟩
theorem dX1_clear_0 : decode cX1_clear 0 = .ok (.aload_n 0, 1) := by decide +kernel
theorem dX1_clear_1 : decode cX1_clear 1 = .ok (.iconst 0, 1) := by decide +kernel
theorem dX1_clear_2 : decode cX1_clear 2 = .ok (.putfield 28, 3) := by decide +kernel
theorem dX1_clear_5 : decode cX1_clear 5 = .ok (.return_, 1) := by decide +kernel
abbrev cX1_classes : ByteArray := prog_3_method_14_code
def yX1_classes : MethodName := ⟨RX1, "classes", "()I"⟩
theorem dX1_classes_0 : decode cX1_classes 0 = .ok (.aload_n 0, 1) := by decide +kernel
theorem dX1_classes_1 : decode cX1_classes 1 = .ok (.invokevirtual 67, 3) := by decide +kernel
theorem dX1_classes_4 : decode cX1_classes 4 = .ok (.aload_n 0, 1) := by decide +kernel
theorem dX1_classes_5 : decode cX1_classes 5 = .ok (.iconst 0, 1) := by decide +kernel
theorem dX1_classes_6 : decode cX1_classes 6 = .ok (.bipush 63, 2) := by decide +kernel
theorem dX1_classes_8 : decode cX1_classes 8 = .ok (.invokevirtual 70, 3) := by decide +kernel
theorem dX1_classes_11 : decode cX1_classes 11 = .ok (.ireturn, 1) := by decide +kernel
abbrev cX1_runAll : ByteArray := prog_3_method_11_code
def yX1_runAll : MethodName := ⟨RX1, "runAll", "()V"⟩
theorem dX1_runAll_0 : decode cX1_runAll 0 = .ok (.iconst 0, 1) := by decide +kernel
theorem dX1_runAll_1 : decode cX1_runAll 1 = .ok (.istore_n 1, 1) := by decide +kernel
theorem dX1_runAll_2 : decode cX1_runAll 2 = .ok (.iload_n 1, 1) := by decide +kernel
theorem dX1_runAll_3 : decode cX1_runAll 3 = .ok (.bipush 64, 2) := by decide +kernel
theorem dX1_runAll_5 : decode cX1_runAll 5 = .ok (.if_icmp .ge 14, 3) := by decide +kernel
theorem dX1_runAll_8 : decode cX1_runAll 8 = .ok (.aload_n 0, 1) := by decide +kernel
theorem dX1_runAll_9 : decode cX1_runAll 9 = .ok (.iload_n 1, 1) := by decide +kernel
theorem dX1_runAll_10 : decode cX1_runAll 10 = .ok (.invokevirtual 59, 3) := by decide +kernel
theorem dX1_runAll_13 : decode cX1_runAll 13 = .ok (.iinc 1 1, 3) := by decide +kernel
theorem dX1_runAll_16 : decode cX1_runAll 16 = .ok (.goto (-14), 3) := by decide +kernel
theorem dX1_runAll_19 : decode cX1_runAll 19 = .ok (.return_, 1) := by decide +kernel
abbrev cX1_run : ByteArray := prog_3_method_10_code
def yX1_run : MethodName := ⟨RX1, "run", "(I)V"⟩
theorem dX1_run_0 : decode cX1_run 0 = .ok (.aload_n 0, 1) := by decide +kernel
theorem dX1_run_1 : decode cX1_run 1 = .ok (.getfield 19, 3) := by decide +kernel
theorem dX1_run_4 : decode cX1_run 4 = .ok (.iconst 0, 1) := by decide +kernel
theorem dX1_run_5 : decode cX1_run 5 = .ok (.iload_n 1, 1) := by decide +kernel
theorem dX1_run_6 : decode cX1_run 6 = .ok (.iastore, 1) := by decide +kernel
theorem dX1_run_7 : decode cX1_run 7 = .ok (.iconst 1, 1) := by decide +kernel
theorem dX1_run_8 : decode cX1_run 8 = .ok (.istore_n 2, 1) := by decide +kernel
theorem dX1_run_9 : decode cX1_run 9 = .ok (.iload_n 2, 1) := by decide +kernel
theorem dX1_run_10 : decode cX1_run 10 = .ok (.iconst 4, 1) := by decide +kernel
theorem dX1_run_11 : decode cX1_run 11 = .ok (.if_icmp .ge 16, 3) := by decide +kernel
theorem dX1_run_14 : decode cX1_run 14 = .ok (.aload_n 0, 1) := by decide +kernel
theorem dX1_run_15 : decode cX1_run 15 = .ok (.getfield 19, 3) := by decide +kernel
theorem dX1_run_18 : decode cX1_run 18 = .ok (.iload_n 2, 1) := by decide +kernel
theorem dX1_run_19 : decode cX1_run 19 = .ok (.iconst 0, 1) := by decide +kernel
theorem dX1_run_20 : decode cX1_run 20 = .ok (.iastore, 1) := by decide +kernel
theorem dX1_run_21 : decode cX1_run 21 = .ok (.iinc 2 1, 3) := by decide +kernel
theorem dX1_run_24 : decode cX1_run 24 = .ok (.goto (-15), 3) := by decide +kernel
theorem dX1_run_27 : decode cX1_run 27 = .ok (.aload_n 0, 1) := by decide +kernel
theorem dX1_run_28 : decode cX1_run 28 = .ok (.iconst 0, 1) := by decide +kernel
theorem dX1_run_29 : decode cX1_run 29 = .ok (.putfield 44, 3) := by decide +kernel
theorem dX1_run_32 : decode cX1_run 32 = .ok (.iconst 0, 1) := by decide +kernel
theorem dX1_run_33 : decode cX1_run 33 = .ok (.istore_n 2, 1) := by decide +kernel
theorem dX1_run_34 : decode cX1_run 34 = .ok (.iconst 0, 1) := by decide +kernel
theorem dX1_run_35 : decode cX1_run 35 = .ok (.istore_n 3, 1) := by decide +kernel
theorem dX1_run_36 : decode cX1_run 36 = .ok (.iload_n 3, 1) := by decide +kernel
theorem dX1_run_37 : decode cX1_run 37 = .ok (.bipush 40, 2) := by decide +kernel
theorem dX1_run_39 : decode cX1_run 39 = .ok (.if_icmp .ge 147, 3) := by decide +kernel
theorem dX1_run_42 : decode cX1_run 42 = .ok (.iload_n 2, 1) := by decide +kernel
theorem dX1_run_43 : decode cX1_run 43 = .ok (.aload_n 0, 1) := by decide +kernel
theorem dX1_run_44 : decode cX1_run 44 = .ok (.getfield 28, 3) := by decide +kernel
theorem dX1_run_47 : decode cX1_run 47 = .ok (.if_icmp .ge 139, 3) := by decide +kernel
theorem dX1_run_50 : decode cX1_run 50 = .ok (.aload_n 0, 1) := by decide +kernel
theorem dX1_run_51 : decode cX1_run 51 = .ok (.getfield 7, 3) := by decide +kernel
theorem dX1_run_54 : decode cX1_run 54 = .ok (.iload_n 2, 1) := by decide +kernel
theorem dX1_run_55 : decode cX1_run 55 = .ok (.iaload, 1) := by decide +kernel
theorem dX1_run_56 : decode cX1_run 56 = .ok (.istore 4, 2) := by decide +kernel
theorem dX1_run_58 : decode cX1_run 58 = .ok (.aload_n 0, 1) := by decide +kernel
theorem dX1_run_59 : decode cX1_run 59 = .ok (.getfield 19, 3) := by decide +kernel
theorem dX1_run_62 : decode cX1_run 62 = .ok (.aload_n 0, 1) := by decide +kernel
theorem dX1_run_63 : decode cX1_run 63 = .ok (.getfield 13, 3) := by decide +kernel
theorem dX1_run_66 : decode cX1_run 66 = .ok (.iload_n 2, 1) := by decide +kernel
theorem dX1_run_67 : decode cX1_run 67 = .ok (.iaload, 1) := by decide +kernel
theorem dX1_run_68 : decode cX1_run 68 = .ok (.iconst 3, 1) := by decide +kernel
theorem dX1_run_69 : decode cX1_run 69 = .ok (.iand, 1) := by decide +kernel
theorem dX1_run_70 : decode cX1_run 70 = .ok (.iaload, 1) := by decide +kernel
theorem dX1_run_71 : decode cX1_run 71 = .ok (.istore 5, 2) := by decide +kernel
theorem dX1_run_73 : decode cX1_run 73 = .ok (.aload_n 0, 1) := by decide +kernel
theorem dX1_run_74 : decode cX1_run 74 = .ok (.getfield 19, 3) := by decide +kernel
theorem dX1_run_77 : decode cX1_run 77 = .ok (.aload_n 0, 1) := by decide +kernel
theorem dX1_run_78 : decode cX1_run 78 = .ok (.getfield 16, 3) := by decide +kernel
theorem dX1_run_81 : decode cX1_run 81 = .ok (.iload_n 2, 1) := by decide +kernel
theorem dX1_run_82 : decode cX1_run 82 = .ok (.iaload, 1) := by decide +kernel
theorem dX1_run_83 : decode cX1_run 83 = .ok (.iconst 3, 1) := by decide +kernel
theorem dX1_run_84 : decode cX1_run 84 = .ok (.iand, 1) := by decide +kernel
theorem dX1_run_85 : decode cX1_run 85 = .ok (.iaload, 1) := by decide +kernel
theorem dX1_run_86 : decode cX1_run 86 = .ok (.istore 6, 2) := by decide +kernel
theorem dX1_run_88 : decode cX1_run 88 = .ok (.iload_n 2, 1) := by decide +kernel
theorem dX1_run_89 : decode cX1_run 89 = .ok (.iconst 1, 1) := by decide +kernel
theorem dX1_run_90 : decode cX1_run 90 = .ok (.iadd, 1) := by decide +kernel
theorem dX1_run_91 : decode cX1_run 91 = .ok (.istore 7, 2) := by decide +kernel
theorem dX1_run_93 : decode cX1_run 93 = .ok (.iload 4, 2) := by decide +kernel
theorem dX1_run_95 : decode cX1_run 95 = .ok (.bipush 11, 2) := by decide +kernel
theorem dX1_run_97 : decode cX1_run 97 = .ok (.if_icmp .gt 31, 3) := by decide +kernel
theorem dX1_run_100 : decode cX1_run 100 = .ok (.aload_n 0, 1) := by decide +kernel
theorem dX1_run_101 : decode cX1_run 101 = .ok (.getfield 19, 3) := by decide +kernel
theorem dX1_run_104 : decode cX1_run 104 = .ok (.aload_n 0, 1) := by decide +kernel
theorem dX1_run_105 : decode cX1_run 105 = .ok (.getfield 13, 3) := by decide +kernel
theorem dX1_run_108 : decode cX1_run 108 = .ok (.iload_n 2, 1) := by decide +kernel
theorem dX1_run_109 : decode cX1_run 109 = .ok (.iaload, 1) := by decide +kernel
theorem dX1_run_110 : decode cX1_run 110 = .ok (.iconst 3, 1) := by decide +kernel
theorem dX1_run_111 : decode cX1_run 111 = .ok (.iand, 1) := by decide +kernel
theorem dX1_run_112 : decode cX1_run 112 = .ok (.iload 4, 2) := by decide +kernel
theorem dX1_run_114 : decode cX1_run 114 = .ok (.iload 5, 2) := by decide +kernel
theorem dX1_run_116 : decode cX1_run 116 = .ok (.iload 6, 2) := by decide +kernel
theorem dX1_run_118 : decode cX1_run 118 = .ok (.aload_n 0, 1) := by decide +kernel
theorem dX1_run_119 : decode cX1_run 119 = .ok (.getfield 16, 3) := by decide +kernel
theorem dX1_run_122 : decode cX1_run 122 = .ok (.iload_n 2, 1) := by decide +kernel
theorem dX1_run_123 : decode cX1_run 123 = .ok (.iaload, 1) := by decide +kernel
theorem dX1_run_124 : decode cX1_run 124 = .ok (.invokestatic 47, 3) := by decide +kernel
theorem dX1_run_127 : decode cX1_run 127 = .ok (.iastore, 1) := by decide +kernel
theorem dX1_run_128 : decode cX1_run 128 = .ok (.iload 4, 2) := by decide +kernel
theorem dX1_run_130 : decode cX1_run 130 = .ok (.bipush 12, 2) := by decide +kernel
theorem dX1_run_132 : decode cX1_run 132 = .ok (.if_icmp .ne 10, 3) := by decide +kernel
theorem dX1_run_135 : decode cX1_run 135 = .ok (.aload_n 0, 1) := by decide +kernel
theorem dX1_run_136 : decode cX1_run 136 = .ok (.iload_n 1, 1) := by decide +kernel
theorem dX1_run_137 : decode cX1_run 137 = .ok (.iload 5, 2) := by decide +kernel
theorem dX1_run_139 : decode cX1_run 139 = .ok (.invokevirtual 51, 3) := by decide +kernel
theorem dX1_run_142 : decode cX1_run 142 = .ok (.iload 4, 2) := by decide +kernel
theorem dX1_run_144 : decode cX1_run 144 = .ok (.bipush 13, 2) := by decide +kernel
theorem dX1_run_146 : decode cX1_run 146 = .ok (.if_icmp .ne 16, 3) := by decide +kernel
theorem dX1_run_149 : decode cX1_run 149 = .ok (.iload 5, 2) := by decide +kernel
theorem dX1_run_151 : decode cX1_run 151 = .ok (.ifCond .ne 11, 3) := by decide +kernel
theorem dX1_run_154 : decode cX1_run 154 = .ok (.aload_n 0, 1) := by decide +kernel
theorem dX1_run_155 : decode cX1_run 155 = .ok (.iload_n 2, 1) := by decide +kernel
theorem dX1_run_156 : decode cX1_run 156 = .ok (.iconst 1, 1) := by decide +kernel
theorem dX1_run_157 : decode cX1_run 157 = .ok (.invokevirtual 55, 3) := by decide +kernel
theorem dX1_run_160 : decode cX1_run 160 = .ok (.istore 7, 2) := by decide +kernel
theorem dX1_run_162 : decode cX1_run 162 = .ok (.iload 4, 2) := by decide +kernel
theorem dX1_run_164 : decode cX1_run 164 = .ok (.bipush 14, 2) := by decide +kernel
theorem dX1_run_166 : decode cX1_run 166 = .ok (.if_icmp .ne 11, 3) := by decide +kernel
theorem dX1_run_169 : decode cX1_run 169 = .ok (.aload_n 0, 1) := by decide +kernel
theorem dX1_run_170 : decode cX1_run 170 = .ok (.iload_n 2, 1) := by decide +kernel
theorem dX1_run_171 : decode cX1_run 171 = .ok (.iconst 0, 1) := by decide +kernel
theorem dX1_run_172 : decode cX1_run 172 = .ok (.invokevirtual 55, 3) := by decide +kernel
theorem dX1_run_175 : decode cX1_run 175 = .ok (.istore 7, 2) := by decide +kernel
theorem dX1_run_177 : decode cX1_run 177 = .ok (.iload 7, 2) := by decide +kernel
theorem dX1_run_179 : decode cX1_run 179 = .ok (.istore_n 2, 1) := by decide +kernel
theorem dX1_run_180 : decode cX1_run 180 = .ok (.iinc 3 1, 3) := by decide +kernel
theorem dX1_run_183 : decode cX1_run 183 = .ok (.goto (-147), 3) := by decide +kernel
theorem dX1_run_186 : decode cX1_run 186 = .ok (.aload_n 0, 1) := by decide +kernel
theorem dX1_run_187 : decode cX1_run 187 = .ok (.getfield 22, 3) := by decide +kernel
theorem dX1_run_190 : decode cX1_run 190 = .ok (.iload_n 1, 1) := by decide +kernel
theorem dX1_run_191 : decode cX1_run 191 = .ok (.aload_n 0, 1) := by decide +kernel
theorem dX1_run_192 : decode cX1_run 192 = .ok (.getfield 44, 3) := by decide +kernel
theorem dX1_run_195 : decode cX1_run 195 = .ok (.iastore, 1) := by decide +kernel
theorem dX1_run_196 : decode cX1_run 196 = .ok (.return_, 1) := by decide +kernel
abbrev cX1_worked : ByteArray := prog_3_method_8_code
def yX1_worked : MethodName := ⟨RX1, "worked", "(IIII)I"⟩
theorem dX1_worked_0 : decode cX1_worked 0 = .ok (.iload_n 3, 1) := by decide +kernel
theorem dX1_worked_1 : decode cX1_worked 1 = .ok (.bipush 7, 2) := by decide +kernel
theorem dX1_worked_3 : decode cX1_worked 3 = .ok (.iand, 1) := by decide +kernel
theorem dX1_worked_4 : decode cX1_worked 4 = .ok (.invokestatic 40, 3) := by decide +kernel
theorem dX1_worked_7 : decode cX1_worked 7 = .ok (.istore 4, 2) := by decide +kernel
theorem dX1_worked_9 : decode cX1_worked 9 = .ok (.iload_n 0, 1) := by decide +kernel
theorem dX1_worked_10 : decode cX1_worked 10 = .ok (.ifCond .ne 9, 3) := by decide +kernel
theorem dX1_worked_13 : decode cX1_worked 13 = .ok (.iload_n 3, 1) := by decide +kernel
theorem dX1_worked_14 : decode cX1_worked 14 = .ok (.sipush 255, 3) := by decide +kernel
theorem dX1_worked_17 : decode cX1_worked 17 = .ok (.iand, 1) := by decide +kernel
theorem dX1_worked_18 : decode cX1_worked 18 = .ok (.ireturn, 1) := by decide +kernel
theorem dX1_worked_19 : decode cX1_worked 19 = .ok (.iload_n 0, 1) := by decide +kernel
theorem dX1_worked_20 : decode cX1_worked 20 = .ok (.iconst 1, 1) := by decide +kernel
theorem dX1_worked_21 : decode cX1_worked 21 = .ok (.if_icmp .ne 5, 3) := by decide +kernel
theorem dX1_worked_24 : decode cX1_worked 24 = .ok (.iload_n 2, 1) := by decide +kernel
theorem dX1_worked_25 : decode cX1_worked 25 = .ok (.ireturn, 1) := by decide +kernel
theorem dX1_worked_26 : decode cX1_worked 26 = .ok (.iload_n 0, 1) := by decide +kernel
theorem dX1_worked_27 : decode cX1_worked 27 = .ok (.iconst 2, 1) := by decide +kernel
theorem dX1_worked_28 : decode cX1_worked 28 = .ok (.if_icmp .ne 11, 3) := by decide +kernel
theorem dX1_worked_31 : decode cX1_worked 31 = .ok (.iload_n 1, 1) := by decide +kernel
theorem dX1_worked_32 : decode cX1_worked 32 = .ok (.iload_n 2, 1) := by decide +kernel
theorem dX1_worked_33 : decode cX1_worked 33 = .ok (.iadd, 1) := by decide +kernel
theorem dX1_worked_34 : decode cX1_worked 34 = .ok (.sipush 256, 3) := by decide +kernel
theorem dX1_worked_37 : decode cX1_worked 37 = .ok (.irem, 1) := by decide +kernel
theorem dX1_worked_38 : decode cX1_worked 38 = .ok (.ireturn, 1) := by decide +kernel
theorem dX1_worked_39 : decode cX1_worked 39 = .ok (.iload_n 0, 1) := by decide +kernel
theorem dX1_worked_40 : decode cX1_worked 40 = .ok (.iconst 3, 1) := by decide +kernel
theorem dX1_worked_41 : decode cX1_worked 41 = .ok (.if_icmp .ne 15, 3) := by decide +kernel
theorem dX1_worked_44 : decode cX1_worked 44 = .ok (.iload_n 1, 1) := by decide +kernel
theorem dX1_worked_45 : decode cX1_worked 45 = .ok (.iload_n 2, 1) := by decide +kernel
theorem dX1_worked_46 : decode cX1_worked 46 = .ok (.isub, 1) := by decide +kernel
theorem dX1_worked_47 : decode cX1_worked 47 = .ok (.sipush 256, 3) := by decide +kernel
theorem dX1_worked_50 : decode cX1_worked 50 = .ok (.iadd, 1) := by decide +kernel
theorem dX1_worked_51 : decode cX1_worked 51 = .ok (.sipush 256, 3) := by decide +kernel
theorem dX1_worked_54 : decode cX1_worked 54 = .ok (.irem, 1) := by decide +kernel
theorem dX1_worked_55 : decode cX1_worked 55 = .ok (.ireturn, 1) := by decide +kernel
theorem dX1_worked_56 : decode cX1_worked 56 = .ok (.iload_n 0, 1) := by decide +kernel
theorem dX1_worked_57 : decode cX1_worked 57 = .ok (.iconst 4, 1) := by decide +kernel
theorem dX1_worked_58 : decode cX1_worked 58 = .ok (.if_icmp .ne 11, 3) := by decide +kernel
theorem dX1_worked_61 : decode cX1_worked 61 = .ok (.iload_n 1, 1) := by decide +kernel
theorem dX1_worked_62 : decode cX1_worked 62 = .ok (.iload_n 2, 1) := by decide +kernel
theorem dX1_worked_63 : decode cX1_worked 63 = .ok (.imul, 1) := by decide +kernel
theorem dX1_worked_64 : decode cX1_worked 64 = .ok (.sipush 256, 3) := by decide +kernel
theorem dX1_worked_67 : decode cX1_worked 67 = .ok (.irem, 1) := by decide +kernel
theorem dX1_worked_68 : decode cX1_worked 68 = .ok (.ireturn, 1) := by decide +kernel
theorem dX1_worked_69 : decode cX1_worked 69 = .ok (.iload_n 0, 1) := by decide +kernel
theorem dX1_worked_70 : decode cX1_worked 70 = .ok (.iconst 5, 1) := by decide +kernel
theorem dX1_worked_71 : decode cX1_worked 71 = .ok (.if_icmp .ne 7, 3) := by decide +kernel
theorem dX1_worked_74 : decode cX1_worked 74 = .ok (.iload_n 1, 1) := by decide +kernel
theorem dX1_worked_75 : decode cX1_worked 75 = .ok (.iload_n 2, 1) := by decide +kernel
theorem dX1_worked_76 : decode cX1_worked 76 = .ok (.iand, 1) := by decide +kernel
theorem dX1_worked_77 : decode cX1_worked 77 = .ok (.ireturn, 1) := by decide +kernel
theorem dX1_worked_78 : decode cX1_worked 78 = .ok (.iload_n 0, 1) := by decide +kernel
theorem dX1_worked_79 : decode cX1_worked 79 = .ok (.bipush 6, 2) := by decide +kernel
theorem dX1_worked_81 : decode cX1_worked 81 = .ok (.if_icmp .ne 7, 3) := by decide +kernel
theorem dX1_worked_84 : decode cX1_worked 84 = .ok (.iload_n 1, 1) := by decide +kernel
theorem dX1_worked_85 : decode cX1_worked 85 = .ok (.iload_n 2, 1) := by decide +kernel
theorem dX1_worked_86 : decode cX1_worked 86 = .ok (.ior, 1) := by decide +kernel
theorem dX1_worked_87 : decode cX1_worked 87 = .ok (.ireturn, 1) := by decide +kernel
theorem dX1_worked_88 : decode cX1_worked 88 = .ok (.iload_n 0, 1) := by decide +kernel
theorem dX1_worked_89 : decode cX1_worked 89 = .ok (.bipush 7, 2) := by decide +kernel
theorem dX1_worked_91 : decode cX1_worked 91 = .ok (.if_icmp .ne 7, 3) := by decide +kernel
theorem dX1_worked_94 : decode cX1_worked 94 = .ok (.iload_n 1, 1) := by decide +kernel
theorem dX1_worked_95 : decode cX1_worked 95 = .ok (.iload_n 2, 1) := by decide +kernel
theorem dX1_worked_96 : decode cX1_worked 96 = .ok (.ixor, 1) := by decide +kernel
theorem dX1_worked_97 : decode cX1_worked 97 = .ok (.ireturn, 1) := by decide +kernel
theorem dX1_worked_98 : decode cX1_worked 98 = .ok (.iload_n 0, 1) := by decide +kernel
theorem dX1_worked_99 : decode cX1_worked 99 = .ok (.bipush 8, 2) := by decide +kernel
theorem dX1_worked_101 : decode cX1_worked 101 = .ok (.if_icmp .ne 12, 3) := by decide +kernel
theorem dX1_worked_104 : decode cX1_worked 104 = .ok (.iload_n 1, 1) := by decide +kernel
theorem dX1_worked_105 : decode cX1_worked 105 = .ok (.iload 4, 2) := by decide +kernel
theorem dX1_worked_107 : decode cX1_worked 107 = .ok (.imul, 1) := by decide +kernel
theorem dX1_worked_108 : decode cX1_worked 108 = .ok (.sipush 256, 3) := by decide +kernel
theorem dX1_worked_111 : decode cX1_worked 111 = .ok (.irem, 1) := by decide +kernel
theorem dX1_worked_112 : decode cX1_worked 112 = .ok (.ireturn, 1) := by decide +kernel
theorem dX1_worked_113 : decode cX1_worked 113 = .ok (.iload_n 0, 1) := by decide +kernel
theorem dX1_worked_114 : decode cX1_worked 114 = .ok (.bipush 9, 2) := by decide +kernel
theorem dX1_worked_116 : decode cX1_worked 116 = .ok (.if_icmp .ne 17, 3) := by decide +kernel
theorem dX1_worked_119 : decode cX1_worked 119 = .ok (.iload 4, 2) := by decide +kernel
theorem dX1_worked_121 : decode cX1_worked 121 = .ok (.ifCond .le 10, 3) := by decide +kernel
theorem dX1_worked_124 : decode cX1_worked 124 = .ok (.iload_n 1, 1) := by decide +kernel
theorem dX1_worked_125 : decode cX1_worked 125 = .ok (.iload 4, 2) := by decide +kernel
theorem dX1_worked_127 : decode cX1_worked 127 = .ok (.idiv, 1) := by decide +kernel
theorem dX1_worked_128 : decode cX1_worked 128 = .ok (.goto 4, 3) := by decide +kernel
theorem dX1_worked_131 : decode cX1_worked 131 = .ok (.iconst 0, 1) := by decide +kernel
theorem dX1_worked_132 : decode cX1_worked 132 = .ok (.ireturn, 1) := by decide +kernel
theorem dX1_worked_133 : decode cX1_worked 133 = .ok (.iload_n 0, 1) := by decide +kernel
theorem dX1_worked_134 : decode cX1_worked 134 = .ok (.bipush 10, 2) := by decide +kernel
theorem dX1_worked_136 : decode cX1_worked 136 = .ok (.if_icmp .ne 14, 3) := by decide +kernel
theorem dX1_worked_139 : decode cX1_worked 139 = .ok (.iload_n 1, 1) := by decide +kernel
theorem dX1_worked_140 : decode cX1_worked 140 = .ok (.iload_n 2, 1) := by decide +kernel
theorem dX1_worked_141 : decode cX1_worked 141 = .ok (.if_icmp .ge 7, 3) := by decide +kernel
theorem dX1_worked_144 : decode cX1_worked 144 = .ok (.iconst 1, 1) := by decide +kernel
theorem dX1_worked_145 : decode cX1_worked 145 = .ok (.goto 4, 3) := by decide +kernel
theorem dX1_worked_148 : decode cX1_worked 148 = .ok (.iconst 0, 1) := by decide +kernel
theorem dX1_worked_149 : decode cX1_worked 149 = .ok (.ireturn, 1) := by decide +kernel
theorem dX1_worked_150 : decode cX1_worked 150 = .ok (.iload_n 1, 1) := by decide +kernel
theorem dX1_worked_151 : decode cX1_worked 151 = .ok (.iload_n 2, 1) := by decide +kernel
theorem dX1_worked_152 : decode cX1_worked 152 = .ok (.if_icmp .ne 7, 3) := by decide +kernel
theorem dX1_worked_155 : decode cX1_worked 155 = .ok (.iconst 1, 1) := by decide +kernel
theorem dX1_worked_156 : decode cX1_worked 156 = .ok (.goto 4, 3) := by decide +kernel
theorem dX1_worked_159 : decode cX1_worked 159 = .ok (.iconst 0, 1) := by decide +kernel
theorem dX1_worked_160 : decode cX1_worked 160 = .ok (.ireturn, 1) := by decide +kernel
abbrev cX1_power : ByteArray := prog_3_method_7_code
def yX1_power : MethodName := ⟨RX1, "power", "(I)I"⟩
theorem dX1_power_0 : decode cX1_power 0 = .ok (.iconst 1, 1) := by decide +kernel
theorem dX1_power_1 : decode cX1_power 1 = .ok (.istore_n 1, 1) := by decide +kernel
theorem dX1_power_2 : decode cX1_power 2 = .ok (.iconst 0, 1) := by decide +kernel
theorem dX1_power_3 : decode cX1_power 3 = .ok (.istore_n 2, 1) := by decide +kernel
theorem dX1_power_4 : decode cX1_power 4 = .ok (.iload_n 2, 1) := by decide +kernel
theorem dX1_power_5 : decode cX1_power 5 = .ok (.iload_n 0, 1) := by decide +kernel
theorem dX1_power_6 : decode cX1_power 6 = .ok (.if_icmp .ge 19, 3) := by decide +kernel
theorem dX1_power_9 : decode cX1_power 9 = .ok (.iload_n 2, 1) := by decide +kernel
theorem dX1_power_10 : decode cX1_power 10 = .ok (.bipush 7, 2) := by decide +kernel
theorem dX1_power_12 : decode cX1_power 12 = .ok (.if_icmp .ge 13, 3) := by decide +kernel
theorem dX1_power_15 : decode cX1_power 15 = .ok (.iload_n 1, 1) := by decide +kernel
theorem dX1_power_16 : decode cX1_power 16 = .ok (.iconst 2, 1) := by decide +kernel
theorem dX1_power_17 : decode cX1_power 17 = .ok (.imul, 1) := by decide +kernel
theorem dX1_power_18 : decode cX1_power 18 = .ok (.istore_n 1, 1) := by decide +kernel
theorem dX1_power_19 : decode cX1_power 19 = .ok (.iinc 2 1, 3) := by decide +kernel
theorem dX1_power_22 : decode cX1_power 22 = .ok (.goto (-18), 3) := by decide +kernel
theorem dX1_power_25 : decode cX1_power 25 = .ok (.iload_n 1, 1) := by decide +kernel
theorem dX1_power_26 : decode cX1_power 26 = .ok (.ireturn, 1) := by decide +kernel
abbrev cX1_show : ByteArray := prog_3_method_9_code
def yX1_show : MethodName := ⟨RX1, "show", "(II)V"⟩
theorem dX1_show_0 : decode cX1_show 0 = .ok (.aload_n 0, 1) := by decide +kernel
theorem dX1_show_1 : decode cX1_show 1 = .ok (.getfield 44, 3) := by decide +kernel
theorem dX1_show_4 : decode cX1_show 4 = .ok (.bipush 7, 2) := by decide +kernel
theorem dX1_show_6 : decode cX1_show 6 = .ok (.if_icmp .ge 28, 3) := by decide +kernel
theorem dX1_show_9 : decode cX1_show 9 = .ok (.aload_n 0, 1) := by decide +kernel
theorem dX1_show_10 : decode cX1_show 10 = .ok (.getfield 25, 3) := by decide +kernel
theorem dX1_show_13 : decode cX1_show 13 = .ok (.bipush 7, 2) := by decide +kernel
theorem dX1_show_15 : decode cX1_show 15 = .ok (.iload_n 1, 1) := by decide +kernel
theorem dX1_show_16 : decode cX1_show 16 = .ok (.imul, 1) := by decide +kernel
theorem dX1_show_17 : decode cX1_show 17 = .ok (.aload_n 0, 1) := by decide +kernel
theorem dX1_show_18 : decode cX1_show 18 = .ok (.getfield 44, 3) := by decide +kernel
theorem dX1_show_21 : decode cX1_show 21 = .ok (.iadd, 1) := by decide +kernel
theorem dX1_show_22 : decode cX1_show 22 = .ok (.iload_n 2, 1) := by decide +kernel
theorem dX1_show_23 : decode cX1_show 23 = .ok (.iastore, 1) := by decide +kernel
theorem dX1_show_24 : decode cX1_show 24 = .ok (.aload_n 0, 1) := by decide +kernel
theorem dX1_show_25 : decode cX1_show 25 = .ok (.dup, 1) := by decide +kernel
theorem dX1_show_26 : decode cX1_show 26 = .ok (.getfield 44, 3) := by decide +kernel
theorem dX1_show_29 : decode cX1_show 29 = .ok (.iconst 1, 1) := by decide +kernel
theorem dX1_show_30 : decode cX1_show 30 = .ok (.iadd, 1) := by decide +kernel
theorem dX1_show_31 : decode cX1_show 31 = .ok (.putfield 44, 3) := by decide +kernel
theorem dX1_show_34 : decode cX1_show 34 = .ok (.return_, 1) := by decide +kernel
end
section
set_option maxRecDepth 100000
abbrev cX1_behind : ByteArray := prog_3_method_6_code
def yX1_behind : MethodName := ⟨RX1, "behind", "(IZ)I"⟩
theorem dX1_behind_0 : decode cX1_behind 0 = .ok (.iconst 0, 1) := by decide +kernel
theorem dX1_behind_1 : decode cX1_behind 1 = .ok (.istore_n 3, 1) := by decide +kernel
theorem dX1_behind_2 : decode cX1_behind 2 = .ok (.iload_n 1, 1) := by decide +kernel
theorem dX1_behind_3 : decode cX1_behind 3 = .ok (.iconst 1, 1) := by decide +kernel
theorem dX1_behind_4 : decode cX1_behind 4 = .ok (.iadd, 1) := by decide +kernel
theorem dX1_behind_5 : decode cX1_behind 5 = .ok (.istore 4, 2) := by decide +kernel
theorem dX1_behind_7 : decode cX1_behind 7 = .ok (.iload 4, 2) := by decide +kernel
theorem dX1_behind_9 : decode cX1_behind 9 = .ok (.aload_n 0, 1) := by decide +kernel
theorem dX1_behind_10 : decode cX1_behind 10 = .ok (.getfield 28, 3) := by decide +kernel
theorem dX1_behind_13 : decode cX1_behind 13 = .ok (.if_icmp .ge 76, 3) := by decide +kernel
theorem dX1_behind_16 : decode cX1_behind 16 = .ok (.iload_n 3, 1) := by decide +kernel
theorem dX1_behind_17 : decode cX1_behind 17 = .ok (.ifCond .ne 36, 3) := by decide +kernel
theorem dX1_behind_20 : decode cX1_behind 20 = .ok (.aload_n 0, 1) := by decide +kernel
theorem dX1_behind_21 : decode cX1_behind 21 = .ok (.getfield 7, 3) := by decide +kernel
theorem dX1_behind_24 : decode cX1_behind 24 = .ok (.iload 4, 2) := by decide +kernel
theorem dX1_behind_26 : decode cX1_behind 26 = .ok (.iaload, 1) := by decide +kernel
theorem dX1_behind_27 : decode cX1_behind 27 = .ok (.bipush 15, 2) := by decide +kernel
theorem dX1_behind_29 : decode cX1_behind 29 = .ok (.if_icmp .eq 19, 3) := by decide +kernel
theorem dX1_behind_32 : decode cX1_behind 32 = .ok (.iload_n 2, 1) := by decide +kernel
theorem dX1_behind_33 : decode cX1_behind 33 = .ok (.ifCond .eq 20, 3) := by decide +kernel
theorem dX1_behind_36 : decode cX1_behind 36 = .ok (.aload_n 0, 1) := by decide +kernel
theorem dX1_behind_37 : decode cX1_behind 37 = .ok (.getfield 7, 3) := by decide +kernel
theorem dX1_behind_40 : decode cX1_behind 40 = .ok (.iload 4, 2) := by decide +kernel
theorem dX1_behind_42 : decode cX1_behind 42 = .ok (.iaload, 1) := by decide +kernel
theorem dX1_behind_43 : decode cX1_behind 43 = .ok (.bipush 14, 2) := by decide +kernel
theorem dX1_behind_45 : decode cX1_behind 45 = .ok (.if_icmp .ne 8, 3) := by decide +kernel
theorem dX1_behind_48 : decode cX1_behind 48 = .ok (.iload 4, 2) := by decide +kernel
theorem dX1_behind_50 : decode cX1_behind 50 = .ok (.iconst 1, 1) := by decide +kernel
theorem dX1_behind_51 : decode cX1_behind 51 = .ok (.iadd, 1) := by decide +kernel
theorem dX1_behind_52 : decode cX1_behind 52 = .ok (.ireturn, 1) := by decide +kernel
theorem dX1_behind_53 : decode cX1_behind 53 = .ok (.aload_n 0, 1) := by decide +kernel
theorem dX1_behind_54 : decode cX1_behind 54 = .ok (.getfield 7, 3) := by decide +kernel
theorem dX1_behind_57 : decode cX1_behind 57 = .ok (.iload 4, 2) := by decide +kernel
theorem dX1_behind_59 : decode cX1_behind 59 = .ok (.iaload, 1) := by decide +kernel
theorem dX1_behind_60 : decode cX1_behind 60 = .ok (.bipush 13, 2) := by decide +kernel
theorem dX1_behind_62 : decode cX1_behind 62 = .ok (.if_icmp .ne 6, 3) := by decide +kernel
theorem dX1_behind_65 : decode cX1_behind 65 = .ok (.iinc 3 1, 3) := by decide +kernel
theorem dX1_behind_68 : decode cX1_behind 68 = .ok (.aload_n 0, 1) := by decide +kernel
theorem dX1_behind_69 : decode cX1_behind 69 = .ok (.getfield 7, 3) := by decide +kernel
theorem dX1_behind_72 : decode cX1_behind 72 = .ok (.iload 4, 2) := by decide +kernel
theorem dX1_behind_74 : decode cX1_behind 74 = .ok (.iaload, 1) := by decide +kernel
theorem dX1_behind_75 : decode cX1_behind 75 = .ok (.bipush 15, 2) := by decide +kernel
theorem dX1_behind_77 : decode cX1_behind 77 = .ok (.if_icmp .ne 6, 3) := by decide +kernel
theorem dX1_behind_80 : decode cX1_behind 80 = .ok (.iinc 3 (-1), 3) := by decide +kernel
theorem dX1_behind_83 : decode cX1_behind 83 = .ok (.iinc 4 1, 3) := by decide +kernel
theorem dX1_behind_86 : decode cX1_behind 86 = .ok (.goto (-79), 3) := by decide +kernel
theorem dX1_behind_89 : decode cX1_behind 89 = .ok (.aload_n 0, 1) := by decide +kernel
theorem dX1_behind_90 : decode cX1_behind 90 = .ok (.getfield 28, 3) := by decide +kernel
theorem dX1_behind_93 : decode cX1_behind 93 = .ok (.ireturn, 1) := by decide +kernel
abbrev cX1_different : ByteArray := prog_3_method_13_code
def yX1_different : MethodName := ⟨RX1, "different", "(II)I"⟩
theorem dX1_different_0 : decode cX1_different 0 = .ok (.iconst 0, 1) := by decide +kernel
theorem dX1_different_1 : decode cX1_different 1 = .ok (.istore_n 3, 1) := by decide +kernel
theorem dX1_different_2 : decode cX1_different 2 = .ok (.iload_n 1, 1) := by decide +kernel
theorem dX1_different_3 : decode cX1_different 3 = .ok (.istore 4, 2) := by decide +kernel
theorem dX1_different_5 : decode cX1_different 5 = .ok (.iload 4, 2) := by decide +kernel
theorem dX1_different_7 : decode cX1_different 7 = .ok (.iload_n 2, 1) := by decide +kernel
theorem dX1_different_8 : decode cX1_different 8 = .ok (.if_icmp .gt 50, 3) := by decide +kernel
theorem dX1_different_11 : decode cX1_different 11 = .ok (.iconst 1, 1) := by decide +kernel
theorem dX1_different_12 : decode cX1_different 12 = .ok (.istore 5, 2) := by decide +kernel
theorem dX1_different_14 : decode cX1_different 14 = .ok (.iload_n 1, 1) := by decide +kernel
theorem dX1_different_15 : decode cX1_different 15 = .ok (.istore 6, 2) := by decide +kernel
theorem dX1_different_17 : decode cX1_different 17 = .ok (.iload 6, 2) := by decide +kernel
theorem dX1_different_19 : decode cX1_different 19 = .ok (.iload 4, 2) := by decide +kernel
theorem dX1_different_21 : decode cX1_different 21 = .ok (.if_icmp .ge 23, 3) := by decide +kernel
theorem dX1_different_24 : decode cX1_different 24 = .ok (.aload_n 0, 1) := by decide +kernel
theorem dX1_different_25 : decode cX1_different 25 = .ok (.iload 4, 2) := by decide +kernel
theorem dX1_different_27 : decode cX1_different 27 = .ok (.iload 6, 2) := by decide +kernel
theorem dX1_different_29 : decode cX1_different 29 = .ok (.invokevirtual 63, 3) := by decide +kernel
theorem dX1_different_32 : decode cX1_different 32 = .ok (.ifCond .eq 6, 3) := by decide +kernel
theorem dX1_different_35 : decode cX1_different 35 = .ok (.iconst 0, 1) := by decide +kernel
theorem dX1_different_36 : decode cX1_different 36 = .ok (.istore 5, 2) := by decide +kernel
theorem dX1_different_38 : decode cX1_different 38 = .ok (.iinc 6 1, 3) := by decide +kernel
theorem dX1_different_41 : decode cX1_different 41 = .ok (.goto (-24), 3) := by decide +kernel
theorem dX1_different_44 : decode cX1_different 44 = .ok (.iload 5, 2) := by decide +kernel
theorem dX1_different_46 : decode cX1_different 46 = .ok (.ifCond .eq 6, 3) := by decide +kernel
theorem dX1_different_49 : decode cX1_different 49 = .ok (.iinc 3 1, 3) := by decide +kernel
theorem dX1_different_52 : decode cX1_different 52 = .ok (.iinc 4 1, 3) := by decide +kernel
theorem dX1_different_55 : decode cX1_different 55 = .ok (.goto (-50), 3) := by decide +kernel
theorem dX1_different_58 : decode cX1_different 58 = .ok (.iload_n 3, 1) := by decide +kernel
theorem dX1_different_59 : decode cX1_different 59 = .ok (.ireturn, 1) := by decide +kernel
abbrev cX1_same : ByteArray := prog_3_method_12_code
def yX1_same : MethodName := ⟨RX1, "same", "(II)Z"⟩
theorem dX1_same_0 : decode cX1_same 0 = .ok (.aload_n 0, 1) := by decide +kernel
theorem dX1_same_1 : decode cX1_same 1 = .ok (.getfield 22, 3) := by decide +kernel
theorem dX1_same_4 : decode cX1_same 4 = .ok (.iload_n 1, 1) := by decide +kernel
theorem dX1_same_5 : decode cX1_same 5 = .ok (.iaload, 1) := by decide +kernel
theorem dX1_same_6 : decode cX1_same 6 = .ok (.aload_n 0, 1) := by decide +kernel
theorem dX1_same_7 : decode cX1_same 7 = .ok (.getfield 22, 3) := by decide +kernel
theorem dX1_same_10 : decode cX1_same 10 = .ok (.iload_n 2, 1) := by decide +kernel
theorem dX1_same_11 : decode cX1_same 11 = .ok (.iaload, 1) := by decide +kernel
theorem dX1_same_12 : decode cX1_same 12 = .ok (.if_icmp .eq 5, 3) := by decide +kernel
theorem dX1_same_15 : decode cX1_same 15 = .ok (.iconst 0, 1) := by decide +kernel
theorem dX1_same_16 : decode cX1_same 16 = .ok (.ireturn, 1) := by decide +kernel
theorem dX1_same_17 : decode cX1_same 17 = .ok (.iconst 0, 1) := by decide +kernel
theorem dX1_same_18 : decode cX1_same 18 = .ok (.istore_n 3, 1) := by decide +kernel
theorem dX1_same_19 : decode cX1_same 19 = .ok (.iload_n 3, 1) := by decide +kernel
theorem dX1_same_20 : decode cX1_same 20 = .ok (.aload_n 0, 1) := by decide +kernel
theorem dX1_same_21 : decode cX1_same 21 = .ok (.getfield 22, 3) := by decide +kernel
theorem dX1_same_24 : decode cX1_same 24 = .ok (.iload_n 1, 1) := by decide +kernel
theorem dX1_same_25 : decode cX1_same 25 = .ok (.iaload, 1) := by decide +kernel
theorem dX1_same_26 : decode cX1_same 26 = .ok (.if_icmp .ge 36, 3) := by decide +kernel
theorem dX1_same_29 : decode cX1_same 29 = .ok (.aload_n 0, 1) := by decide +kernel
theorem dX1_same_30 : decode cX1_same 30 = .ok (.getfield 25, 3) := by decide +kernel
theorem dX1_same_33 : decode cX1_same 33 = .ok (.bipush 7, 2) := by decide +kernel
theorem dX1_same_35 : decode cX1_same 35 = .ok (.iload_n 1, 1) := by decide +kernel
theorem dX1_same_36 : decode cX1_same 36 = .ok (.imul, 1) := by decide +kernel
theorem dX1_same_37 : decode cX1_same 37 = .ok (.iload_n 3, 1) := by decide +kernel
theorem dX1_same_38 : decode cX1_same 38 = .ok (.iadd, 1) := by decide +kernel
theorem dX1_same_39 : decode cX1_same 39 = .ok (.iaload, 1) := by decide +kernel
theorem dX1_same_40 : decode cX1_same 40 = .ok (.aload_n 0, 1) := by decide +kernel
theorem dX1_same_41 : decode cX1_same 41 = .ok (.getfield 25, 3) := by decide +kernel
theorem dX1_same_44 : decode cX1_same 44 = .ok (.bipush 7, 2) := by decide +kernel
theorem dX1_same_46 : decode cX1_same 46 = .ok (.iload_n 2, 1) := by decide +kernel
theorem dX1_same_47 : decode cX1_same 47 = .ok (.imul, 1) := by decide +kernel
theorem dX1_same_48 : decode cX1_same 48 = .ok (.iload_n 3, 1) := by decide +kernel
theorem dX1_same_49 : decode cX1_same 49 = .ok (.iadd, 1) := by decide +kernel
theorem dX1_same_50 : decode cX1_same 50 = .ok (.iaload, 1) := by decide +kernel
theorem dX1_same_51 : decode cX1_same 51 = .ok (.if_icmp .eq 5, 3) := by decide +kernel
theorem dX1_same_54 : decode cX1_same 54 = .ok (.iconst 0, 1) := by decide +kernel
theorem dX1_same_55 : decode cX1_same 55 = .ok (.ireturn, 1) := by decide +kernel
theorem dX1_same_56 : decode cX1_same 56 = .ok (.iinc 3 1, 3) := by decide +kernel
theorem dX1_same_59 : decode cX1_same 59 = .ok (.goto (-40), 3) := by decide +kernel
theorem dX1_same_62 : decode cX1_same 62 = .ok (.iconst 1, 1) := by decide +kernel
theorem dX1_same_63 : decode cX1_same 63 = .ok (.ireturn, 1) := by decide +kernel
abbrev cX1_least : ByteArray := prog_3_method_15_code
def yX1_least : MethodName := ⟨RX1, "least", "(I)I"⟩
theorem dX1_least_0 : decode cX1_least 0 = .ok (.aload_n 0, 1) := by decide +kernel
theorem dX1_least_1 : decode cX1_least 1 = .ok (.invokevirtual 67, 3) := by decide +kernel
theorem dX1_least_4 : decode cX1_least 4 = .ok (.iconst 0, 1) := by decide +kernel
theorem dX1_least_5 : decode cX1_least 5 = .ok (.istore_n 2, 1) := by decide +kernel
theorem dX1_least_6 : decode cX1_least 6 = .ok (.iload_n 2, 1) := by decide +kernel
theorem dX1_least_7 : decode cX1_least 7 = .ok (.bipush 64, 2) := by decide +kernel
theorem dX1_least_9 : decode cX1_least 9 = .ok (.if_icmp .ge 23, 3) := by decide +kernel
theorem dX1_least_12 : decode cX1_least 12 = .ok (.aload_n 0, 1) := by decide +kernel
theorem dX1_least_13 : decode cX1_least 13 = .ok (.iload_n 2, 1) := by decide +kernel
theorem dX1_least_14 : decode cX1_least 14 = .ok (.iload_n 1, 1) := by decide +kernel
theorem dX1_least_15 : decode cX1_least 15 = .ok (.bipush 63, 2) := by decide +kernel
theorem dX1_least_17 : decode cX1_least 17 = .ok (.iand, 1) := by decide +kernel
theorem dX1_least_18 : decode cX1_least 18 = .ok (.invokevirtual 63, 3) := by decide +kernel
theorem dX1_least_21 : decode cX1_least 21 = .ok (.ifCond .eq 5, 3) := by decide +kernel
theorem dX1_least_24 : decode cX1_least 24 = .ok (.iload_n 2, 1) := by decide +kernel
theorem dX1_least_25 : decode cX1_least 25 = .ok (.ireturn, 1) := by decide +kernel
theorem dX1_least_26 : decode cX1_least 26 = .ok (.iinc 2 1, 3) := by decide +kernel
theorem dX1_least_29 : decode cX1_least 29 = .ok (.goto (-23), 3) := by decide +kernel
theorem dX1_least_32 : decode cX1_least 32 = .ok (.bipush 64, 2) := by decide +kernel
theorem dX1_least_34 : decode cX1_least 34 = .ok (.ireturn, 1) := by decide +kernel
abbrev cX1_alike : ByteArray := prog_3_method_16_code
def yX1_alike : MethodName := ⟨RX1, "alike", "(I)I"⟩
theorem dX1_alike_0 : decode cX1_alike 0 = .ok (.aload_n 0, 1) := by decide +kernel
theorem dX1_alike_1 : decode cX1_alike 1 = .ok (.invokevirtual 67, 3) := by decide +kernel
theorem dX1_alike_4 : decode cX1_alike 4 = .ok (.iconst 0, 1) := by decide +kernel
theorem dX1_alike_5 : decode cX1_alike 5 = .ok (.istore_n 2, 1) := by decide +kernel
theorem dX1_alike_6 : decode cX1_alike 6 = .ok (.iconst 0, 1) := by decide +kernel
theorem dX1_alike_7 : decode cX1_alike 7 = .ok (.istore_n 3, 1) := by decide +kernel
theorem dX1_alike_8 : decode cX1_alike 8 = .ok (.iload_n 3, 1) := by decide +kernel
theorem dX1_alike_9 : decode cX1_alike 9 = .ok (.bipush 64, 2) := by decide +kernel
theorem dX1_alike_11 : decode cX1_alike 11 = .ok (.if_icmp .ge 24, 3) := by decide +kernel
theorem dX1_alike_14 : decode cX1_alike 14 = .ok (.aload_n 0, 1) := by decide +kernel
theorem dX1_alike_15 : decode cX1_alike 15 = .ok (.iload_n 3, 1) := by decide +kernel
theorem dX1_alike_16 : decode cX1_alike 16 = .ok (.iload_n 1, 1) := by decide +kernel
theorem dX1_alike_17 : decode cX1_alike 17 = .ok (.bipush 63, 2) := by decide +kernel
theorem dX1_alike_19 : decode cX1_alike 19 = .ok (.iand, 1) := by decide +kernel
theorem dX1_alike_20 : decode cX1_alike 20 = .ok (.invokevirtual 63, 3) := by decide +kernel
theorem dX1_alike_23 : decode cX1_alike 23 = .ok (.ifCond .eq 6, 3) := by decide +kernel
theorem dX1_alike_26 : decode cX1_alike 26 = .ok (.iinc 2 1, 3) := by decide +kernel
theorem dX1_alike_29 : decode cX1_alike 29 = .ok (.iinc 3 1, 3) := by decide +kernel
theorem dX1_alike_32 : decode cX1_alike 32 = .ok (.goto (-24), 3) := by decide +kernel
theorem dX1_alike_35 : decode cX1_alike 35 = .ok (.iload_n 2, 1) := by decide +kernel
theorem dX1_alike_36 : decode cX1_alike 36 = .ok (.ireturn, 1) := by decide +kernel
abbrev cX1_outputs : ByteArray := prog_3_method_17_code
def yX1_outputs : MethodName := ⟨RX1, "outputs", "(I)I"⟩
theorem dX1_outputs_0 : decode cX1_outputs 0 = .ok (.aload_n 0, 1) := by decide +kernel
theorem dX1_outputs_1 : decode cX1_outputs 1 = .ok (.iload_n 1, 1) := by decide +kernel
theorem dX1_outputs_2 : decode cX1_outputs 2 = .ok (.bipush 63, 2) := by decide +kernel
theorem dX1_outputs_4 : decode cX1_outputs 4 = .ok (.iand, 1) := by decide +kernel
theorem dX1_outputs_5 : decode cX1_outputs 5 = .ok (.invokevirtual 59, 3) := by decide +kernel
theorem dX1_outputs_8 : decode cX1_outputs 8 = .ok (.aload_n 0, 1) := by decide +kernel
theorem dX1_outputs_9 : decode cX1_outputs 9 = .ok (.getfield 22, 3) := by decide +kernel
theorem dX1_outputs_12 : decode cX1_outputs 12 = .ok (.iload_n 1, 1) := by decide +kernel
theorem dX1_outputs_13 : decode cX1_outputs 13 = .ok (.bipush 63, 2) := by decide +kernel
theorem dX1_outputs_15 : decode cX1_outputs 15 = .ok (.iand, 1) := by decide +kernel
theorem dX1_outputs_16 : decode cX1_outputs 16 = .ok (.iaload, 1) := by decide +kernel
theorem dX1_outputs_17 : decode cX1_outputs 17 = .ok (.ireturn, 1) := by decide +kernel
abbrev cX1_output : ByteArray := prog_3_method_18_code
def yX1_output : MethodName := ⟨RX1, "output", "(II)I"⟩
theorem dX1_output_0 : decode cX1_output 0 = .ok (.aload_n 0, 1) := by decide +kernel
theorem dX1_output_1 : decode cX1_output 1 = .ok (.iload_n 1, 1) := by decide +kernel
theorem dX1_output_2 : decode cX1_output 2 = .ok (.bipush 63, 2) := by decide +kernel
theorem dX1_output_4 : decode cX1_output 4 = .ok (.iand, 1) := by decide +kernel
theorem dX1_output_5 : decode cX1_output 5 = .ok (.invokevirtual 59, 3) := by decide +kernel
theorem dX1_output_8 : decode cX1_output 8 = .ok (.iload_n 2, 1) := by decide +kernel
theorem dX1_output_9 : decode cX1_output 9 = .ok (.ifCond .lt 16, 3) := by decide +kernel
theorem dX1_output_12 : decode cX1_output 12 = .ok (.iload_n 2, 1) := by decide +kernel
theorem dX1_output_13 : decode cX1_output 13 = .ok (.aload_n 0, 1) := by decide +kernel
theorem dX1_output_14 : decode cX1_output 14 = .ok (.getfield 22, 3) := by decide +kernel
theorem dX1_output_17 : decode cX1_output 17 = .ok (.iload_n 1, 1) := by decide +kernel
theorem dX1_output_18 : decode cX1_output 18 = .ok (.bipush 63, 2) := by decide +kernel
theorem dX1_output_20 : decode cX1_output 20 = .ok (.iand, 1) := by decide +kernel
theorem dX1_output_21 : decode cX1_output 21 = .ok (.iaload, 1) := by decide +kernel
theorem dX1_output_22 : decode cX1_output 22 = .ok (.if_icmp .lt 5, 3) := by decide +kernel
theorem dX1_output_25 : decode cX1_output 25 = .ok (.iconst (-1), 1) := by decide +kernel
theorem dX1_output_26 : decode cX1_output 26 = .ok (.ireturn, 1) := by decide +kernel
theorem dX1_output_27 : decode cX1_output 27 = .ok (.aload_n 0, 1) := by decide +kernel
theorem dX1_output_28 : decode cX1_output 28 = .ok (.getfield 25, 3) := by decide +kernel
theorem dX1_output_31 : decode cX1_output 31 = .ok (.bipush 7, 2) := by decide +kernel
theorem dX1_output_33 : decode cX1_output 33 = .ok (.iload_n 1, 1) := by decide +kernel
theorem dX1_output_34 : decode cX1_output 34 = .ok (.bipush 63, 2) := by decide +kernel
theorem dX1_output_36 : decode cX1_output 36 = .ok (.iand, 1) := by decide +kernel
theorem dX1_output_37 : decode cX1_output 37 = .ok (.imul, 1) := by decide +kernel
theorem dX1_output_38 : decode cX1_output 38 = .ok (.iload_n 2, 1) := by decide +kernel
theorem dX1_output_39 : decode cX1_output 39 = .ok (.iadd, 1) := by decide +kernel
theorem dX1_output_40 : decode cX1_output 40 = .ok (.iaload, 1) := by decide +kernel
theorem dX1_output_41 : decode cX1_output 41 = .ok (.ireturn, 1) := by decide +kernel
abbrev cX1_end : ByteArray := prog_3_method_19_code
def yX1_end : MethodName := ⟨RX1, "end", "(II)I"⟩
theorem dX1_end_0 : decode cX1_end 0 = .ok (.aload_n 0, 1) := by decide +kernel
theorem dX1_end_1 : decode cX1_end 1 = .ok (.iload_n 1, 1) := by decide +kernel
theorem dX1_end_2 : decode cX1_end 2 = .ok (.bipush 63, 2) := by decide +kernel
theorem dX1_end_4 : decode cX1_end 4 = .ok (.iand, 1) := by decide +kernel
theorem dX1_end_5 : decode cX1_end 5 = .ok (.invokevirtual 59, 3) := by decide +kernel
theorem dX1_end_8 : decode cX1_end 8 = .ok (.aload_n 0, 1) := by decide +kernel
theorem dX1_end_9 : decode cX1_end 9 = .ok (.getfield 19, 3) := by decide +kernel
theorem dX1_end_12 : decode cX1_end 12 = .ok (.iload_n 2, 1) := by decide +kernel
theorem dX1_end_13 : decode cX1_end 13 = .ok (.iconst 3, 1) := by decide +kernel
theorem dX1_end_14 : decode cX1_end 14 = .ok (.iand, 1) := by decide +kernel
theorem dX1_end_15 : decode cX1_end 15 = .ok (.iaload, 1) := by decide +kernel
theorem dX1_end_16 : decode cX1_end 16 = .ok (.ireturn, 1) := by decide +kernel
abbrev cX1_guessed : ByteArray := prog_3_method_20_code
def yX1_guessed : MethodName := ⟨RX1, "guessed", "(II)I"⟩
theorem dX1_guessed_0 : decode cX1_guessed 0 = .ok (.aload_n 0, 1) := by decide +kernel
theorem dX1_guessed_1 : decode cX1_guessed 1 = .ok (.invokevirtual 67, 3) := by decide +kernel
theorem dX1_guessed_4 : decode cX1_guessed 4 = .ok (.iload_n 1, 1) := by decide +kernel
theorem dX1_guessed_5 : decode cX1_guessed 5 = .ok (.bipush 63, 2) := by decide +kernel
theorem dX1_guessed_7 : decode cX1_guessed 7 = .ok (.iand, 1) := by decide +kernel
theorem dX1_guessed_8 : decode cX1_guessed 8 = .ok (.istore_n 3, 1) := by decide +kernel
theorem dX1_guessed_9 : decode cX1_guessed 9 = .ok (.iload_n 2, 1) := by decide +kernel
theorem dX1_guessed_10 : decode cX1_guessed 10 = .ok (.bipush 63, 2) := by decide +kernel
theorem dX1_guessed_12 : decode cX1_guessed 12 = .ok (.iand, 1) := by decide +kernel
theorem dX1_guessed_13 : decode cX1_guessed 13 = .ok (.istore 4, 2) := by decide +kernel
theorem dX1_guessed_15 : decode cX1_guessed 15 = .ok (.iload_n 3, 1) := by decide +kernel
theorem dX1_guessed_16 : decode cX1_guessed 16 = .ok (.iload 4, 2) := by decide +kernel
theorem dX1_guessed_18 : decode cX1_guessed 18 = .ok (.if_icmp .ge 13, 3) := by decide +kernel
theorem dX1_guessed_21 : decode cX1_guessed 21 = .ok (.aload_n 0, 1) := by decide +kernel
theorem dX1_guessed_22 : decode cX1_guessed 22 = .ok (.iload_n 3, 1) := by decide +kernel
theorem dX1_guessed_23 : decode cX1_guessed 23 = .ok (.iload 4, 2) := by decide +kernel
theorem dX1_guessed_25 : decode cX1_guessed 25 = .ok (.invokevirtual 70, 3) := by decide +kernel
theorem dX1_guessed_28 : decode cX1_guessed 28 = .ok (.goto 10, 3) := by decide +kernel
theorem dX1_guessed_31 : decode cX1_guessed 31 = .ok (.aload_n 0, 1) := by decide +kernel
theorem dX1_guessed_32 : decode cX1_guessed 32 = .ok (.iload 4, 2) := by decide +kernel
theorem dX1_guessed_34 : decode cX1_guessed 34 = .ok (.iload_n 3, 1) := by decide +kernel
theorem dX1_guessed_35 : decode cX1_guessed 35 = .ok (.invokevirtual 70, 3) := by decide +kernel
theorem dX1_guessed_38 : decode cX1_guessed 38 = .ok (.ireturn, 1) := by decide +kernel
theorem q24 : (Jvm.Cond.initialized "LeakageMeterModel") ∈ lw_all := lw_g (lw_at lw_m1 2 rfl) rfl
theorem q189 : (Jvm.Cond.instantiable "LeakageMeterModel" (8 : Nat)) ∈ lw_all := lw_g (lw_at lw_m1 167 rfl) rfl
theorem q191 : (Jvm.Cond.instanceMethod ({ cls := "LeakageMeterModel", name := "<init>", desc := "()V" } : Jvm.MethodName)) ∈ lw_all := lw_g (lw_at lw_m1 169 rfl) rfl
theorem q192 : (Jvm.Cond.code ({ cls := "LeakageMeterModel", name := "<init>", desc := "()V" } : Jvm.MethodName) prog_3_method_1_code (1 : Nat) (Option.none : Option Jvm.ClassFile.FieldType)) ∈ lw_all := lw_g (lw_at lw_m1 170 rfl) rfl
theorem q193 : (Jvm.Cond.methodLink "LeakageMeterModel" (1 : Nat) ({ cls := "java/lang/Object", name := "<init>", desc := "()V" } : Jvm.MethodName)) ∈ lw_all := lw_g (lw_at lw_m1 171 rfl) rfl
theorem q194 : (Jvm.Cond.fieldLink "LeakageMeterModel" (28 : Nat) "LeakageMeterModel" "statements" "I") ∈ lw_all := lw_g (lw_at lw_m1 172 rfl) rfl
theorem q195 : (Jvm.Cond.fieldLink "LeakageMeterModel" (7 : Nat) "LeakageMeterModel" "code" "[I") ∈ lw_all := lw_g (lw_at lw_m1 173 rfl) rfl
theorem q196 : (Jvm.Cond.fieldLink "LeakageMeterModel" (13 : Nat) "LeakageMeterModel" "left" "[I") ∈ lw_all := lw_g (lw_at lw_m1 174 rfl) rfl
theorem q197 : (Jvm.Cond.fieldLink "LeakageMeterModel" (16 : Nat) "LeakageMeterModel" "right" "[I") ∈ lw_all := lw_g (lw_at lw_m1 175 rfl) rfl
theorem q198 : (Jvm.Cond.fieldLink "LeakageMeterModel" (19 : Nat) "LeakageMeterModel" "variable" "[I") ∈ lw_all := lw_g (lw_at lw_m1 176 rfl) rfl
theorem q199 : (Jvm.Cond.fieldLink "LeakageMeterModel" (44 : Nat) "LeakageMeterModel" "put" "I") ∈ lw_all := lw_g (lw_at lw_m1 177 rfl) rfl
theorem q200 : (Jvm.Cond.fieldLink "LeakageMeterModel" (22 : Nat) "LeakageMeterModel" "outs" "[I") ∈ lw_all := lw_g (lw_at lw_m1 178 rfl) rfl
theorem q201 : (Jvm.Cond.fieldLink "LeakageMeterModel" (25 : Nat) "LeakageMeterModel" "views" "[I") ∈ lw_all := lw_g (lw_at lw_m1 179 rfl) rfl
theorem q202 : (Jvm.Cond.lays "LeakageMeterModel" "LeakageMeterModel" "statements" "I") ∈ lw_all := lw_g (lw_at lw_m1 180 rfl) rfl
theorem q203 : (Jvm.Cond.soleField "LeakageMeterModel" "statements") ∈ lw_all := lw_g (lw_at lw_m1 181 rfl) rfl
theorem q204 : (Jvm.Cond.laysFinal "LeakageMeterModel" "LeakageMeterModel" "code" "[I") ∈ lw_all := lw_g (lw_at lw_m1 182 rfl) rfl
theorem q205 : (Jvm.Cond.soleField "LeakageMeterModel" "code") ∈ lw_all := lw_g (lw_at lw_m1 183 rfl) rfl
theorem q206 : (Jvm.Cond.laysFinal "LeakageMeterModel" "LeakageMeterModel" "left" "[I") ∈ lw_all := lw_g (lw_at lw_m1 184 rfl) rfl
theorem q207 : (Jvm.Cond.soleField "LeakageMeterModel" "left") ∈ lw_all := lw_g (lw_at lw_m1 185 rfl) rfl
theorem q208 : (Jvm.Cond.laysFinal "LeakageMeterModel" "LeakageMeterModel" "right" "[I") ∈ lw_all := lw_g (lw_at lw_m1 186 rfl) rfl
theorem q209 : (Jvm.Cond.soleField "LeakageMeterModel" "right") ∈ lw_all := lw_g (lw_at lw_m1 187 rfl) rfl
theorem q210 : (Jvm.Cond.laysFinal "LeakageMeterModel" "LeakageMeterModel" "variable" "[I") ∈ lw_all := lw_g (lw_at lw_m1 188 rfl) rfl
theorem q211 : (Jvm.Cond.soleField "LeakageMeterModel" "variable") ∈ lw_all := lw_g (lw_at lw_m1 189 rfl) rfl
theorem q212 : (Jvm.Cond.lays "LeakageMeterModel" "LeakageMeterModel" "put" "I") ∈ lw_all := lw_g (lw_at lw_m1 190 rfl) rfl
theorem q213 : (Jvm.Cond.soleField "LeakageMeterModel" "put") ∈ lw_all := lw_g (lw_at lw_m1 191 rfl) rfl
theorem q214 : (Jvm.Cond.laysFinal "LeakageMeterModel" "LeakageMeterModel" "outs" "[I") ∈ lw_all := lw_g (lw_at lw_m1 192 rfl) rfl
theorem q215 : (Jvm.Cond.soleField "LeakageMeterModel" "outs") ∈ lw_all := lw_g (lw_at lw_m1 193 rfl) rfl
theorem q216 : (Jvm.Cond.laysFinal "LeakageMeterModel" "LeakageMeterModel" "views" "[I") ∈ lw_all := lw_g (lw_at lw_m1 194 rfl) rfl
theorem q217 : (Jvm.Cond.soleField "LeakageMeterModel" "views") ∈ lw_all := lw_g (lw_at lw_m1 195 rfl) rfl
theorem q218 : (Jvm.Cond.superclass "LeakageMeterModel" "java/lang/Object") ∈ lw_all := lw_g (lw_at lw_m1 196 rfl) rfl
theorem q220 : (Jvm.Cond.instanceMethod ({ cls := "LeakageMeterModel", name := "add", desc := "(III)I" } : Jvm.MethodName)) ∈ lw_all := lw_g (lw_at lw_m1 198 rfl) rfl
theorem q221 : (Jvm.Cond.selects "LeakageMeterModel" ({ cls := "LeakageMeterModel", name := "add", desc := "(III)I" } : Jvm.MethodName) ({ cls := "LeakageMeterModel", name := "add", desc := "(III)I" } : Jvm.MethodName)) ∈ lw_all := lw_g (lw_at lw_m1 199 rfl) rfl
theorem q222 : (Jvm.Cond.code ({ cls := "LeakageMeterModel", name := "add", desc := "(III)I" } : Jvm.MethodName) prog_3_method_2_code (4 : Nat) (Option.some Jvm.ClassFile.FieldType.int)) ∈ lw_all := lw_g (lw_at lw_m1 200 rfl) rfl
theorem q223 : (Jvm.Cond.methodLink "LeakageMeterModel" (32 : Nat) ({ cls := "LeakageMeterModel", name := "open", desc := "()I" } : Jvm.MethodName)) ∈ lw_all := lw_g (lw_at lw_m1 201 rfl) rfl
theorem q224 : (Jvm.Cond.instanceMethod ({ cls := "LeakageMeterModel", name := "open", desc := "()I" } : Jvm.MethodName)) ∈ lw_all := lw_g (lw_at lw_m1 202 rfl) rfl
theorem q225 : (Jvm.Cond.selects "LeakageMeterModel" ({ cls := "LeakageMeterModel", name := "open", desc := "()I" } : Jvm.MethodName) ({ cls := "LeakageMeterModel", name := "open", desc := "()I" } : Jvm.MethodName)) ∈ lw_all := lw_g (lw_at lw_m1 203 rfl) rfl
theorem q226 : (Jvm.Cond.code ({ cls := "LeakageMeterModel", name := "open", desc := "()I" } : Jvm.MethodName) prog_3_method_4_code (3 : Nat) (Option.some Jvm.ClassFile.FieldType.int)) ∈ lw_all := lw_g (lw_at lw_m1 204 rfl) rfl
theorem q227 : (Jvm.Cond.methodLink "LeakageMeterModel" (36 : Nat) ({ cls := "LeakageMeterModel", name := "hasElse", desc := "()Z" } : Jvm.MethodName)) ∈ lw_all := lw_g (lw_at lw_m1 205 rfl) rfl
theorem q228 : (Jvm.Cond.privateMethod ({ cls := "LeakageMeterModel", name := "hasElse", desc := "()Z" } : Jvm.MethodName)) ∈ lw_tbl := lw_at lw_m1 206 rfl
theorem q229 : (Jvm.Cond.instanceMethod ({ cls := "LeakageMeterModel", name := "hasElse", desc := "()Z" } : Jvm.MethodName)) ∈ lw_all := lw_g (lw_at lw_m1 207 rfl) rfl
theorem q230 : (Jvm.Cond.code ({ cls := "LeakageMeterModel", name := "hasElse", desc := "()Z" } : Jvm.MethodName) prog_3_method_5_code (3 : Nat) (Option.some Jvm.ClassFile.FieldType.boolean)) ∈ lw_all := lw_g (lw_at lw_m1 208 rfl) rfl
theorem q232 : (Jvm.Cond.instanceMethod ({ cls := "LeakageMeterModel", name := "clear", desc := "()V" } : Jvm.MethodName)) ∈ lw_all := lw_g (lw_at lw_m1 210 rfl) rfl
theorem q233 : (Jvm.Cond.selects "LeakageMeterModel" ({ cls := "LeakageMeterModel", name := "clear", desc := "()V" } : Jvm.MethodName) ({ cls := "LeakageMeterModel", name := "clear", desc := "()V" } : Jvm.MethodName)) ∈ lw_all := lw_g (lw_at lw_m1 211 rfl) rfl
theorem q234 : (Jvm.Cond.code ({ cls := "LeakageMeterModel", name := "clear", desc := "()V" } : Jvm.MethodName) prog_3_method_3_code (1 : Nat) (Option.none : Option Jvm.ClassFile.FieldType)) ∈ lw_all := lw_g (lw_at lw_m1 212 rfl) rfl
theorem q237 : (Jvm.Cond.instanceMethod ({ cls := "LeakageMeterModel", name := "classes", desc := "()I" } : Jvm.MethodName)) ∈ lw_all := lw_g (lw_at lw_m1 215 rfl) rfl
theorem q238 : (Jvm.Cond.selects "LeakageMeterModel" ({ cls := "LeakageMeterModel", name := "classes", desc := "()I" } : Jvm.MethodName) ({ cls := "LeakageMeterModel", name := "classes", desc := "()I" } : Jvm.MethodName)) ∈ lw_all := lw_g (lw_at lw_m1 216 rfl) rfl
theorem q239 : (Jvm.Cond.code ({ cls := "LeakageMeterModel", name := "classes", desc := "()I" } : Jvm.MethodName) prog_3_method_14_code (1 : Nat) (Option.some Jvm.ClassFile.FieldType.int)) ∈ lw_all := lw_g (lw_at lw_m1 217 rfl) rfl
theorem q240 : (Jvm.Cond.methodLink "LeakageMeterModel" (67 : Nat) ({ cls := "LeakageMeterModel", name := "runAll", desc := "()V" } : Jvm.MethodName)) ∈ lw_all := lw_g (lw_at lw_m1 218 rfl) rfl
theorem q241 : (Jvm.Cond.privateMethod ({ cls := "LeakageMeterModel", name := "runAll", desc := "()V" } : Jvm.MethodName)) ∈ lw_tbl := lw_at lw_m1 219 rfl
theorem q242 : (Jvm.Cond.instanceMethod ({ cls := "LeakageMeterModel", name := "runAll", desc := "()V" } : Jvm.MethodName)) ∈ lw_all := lw_g (lw_at lw_m1 220 rfl) rfl
theorem q243 : (Jvm.Cond.code ({ cls := "LeakageMeterModel", name := "runAll", desc := "()V" } : Jvm.MethodName) prog_3_method_11_code (2 : Nat) (Option.none : Option Jvm.ClassFile.FieldType)) ∈ lw_all := lw_g (lw_at lw_m1 221 rfl) rfl
theorem q244 : (Jvm.Cond.methodLink "LeakageMeterModel" (59 : Nat) ({ cls := "LeakageMeterModel", name := "run", desc := "(I)V" } : Jvm.MethodName)) ∈ lw_all := lw_g (lw_at lw_m1 222 rfl) rfl
theorem q245 : (Jvm.Cond.privateMethod ({ cls := "LeakageMeterModel", name := "run", desc := "(I)V" } : Jvm.MethodName)) ∈ lw_tbl := lw_at lw_m1 223 rfl
theorem q246 : (Jvm.Cond.instanceMethod ({ cls := "LeakageMeterModel", name := "run", desc := "(I)V" } : Jvm.MethodName)) ∈ lw_all := lw_g (lw_at lw_m1 224 rfl) rfl
theorem q247 : (Jvm.Cond.code ({ cls := "LeakageMeterModel", name := "run", desc := "(I)V" } : Jvm.MethodName) prog_3_method_10_code (8 : Nat) (Option.none : Option Jvm.ClassFile.FieldType)) ∈ lw_all := lw_g (lw_at lw_m1 225 rfl) rfl
theorem q248 : (Jvm.Cond.methodLink "LeakageMeterModel" (47 : Nat) ({ cls := "LeakageMeterModel", name := "worked", desc := "(IIII)I" } : Jvm.MethodName)) ∈ lw_all := lw_g (lw_at lw_m1 226 rfl) rfl
theorem q249 : (Jvm.Cond.static ({ cls := "LeakageMeterModel", name := "worked", desc := "(IIII)I" } : Jvm.MethodName)) ∈ lw_all := lw_g (lw_at lw_m1 227 rfl) rfl
theorem q250 : (Jvm.Cond.code ({ cls := "LeakageMeterModel", name := "worked", desc := "(IIII)I" } : Jvm.MethodName) prog_3_method_8_code (5 : Nat) (Option.some Jvm.ClassFile.FieldType.int)) ∈ lw_all := lw_g (lw_at lw_m1 228 rfl) rfl
theorem q251 : (Jvm.Cond.methodLink "LeakageMeterModel" (40 : Nat) ({ cls := "LeakageMeterModel", name := "power", desc := "(I)I" } : Jvm.MethodName)) ∈ lw_all := lw_g (lw_at lw_m1 229 rfl) rfl
theorem q252 : (Jvm.Cond.static ({ cls := "LeakageMeterModel", name := "power", desc := "(I)I" } : Jvm.MethodName)) ∈ lw_all := lw_g (lw_at lw_m1 230 rfl) rfl
theorem q253 : (Jvm.Cond.code ({ cls := "LeakageMeterModel", name := "power", desc := "(I)I" } : Jvm.MethodName) prog_3_method_7_code (3 : Nat) (Option.some Jvm.ClassFile.FieldType.int)) ∈ lw_all := lw_g (lw_at lw_m1 231 rfl) rfl
theorem q254 : (Jvm.Cond.methodLink "LeakageMeterModel" (51 : Nat) ({ cls := "LeakageMeterModel", name := "show", desc := "(II)V" } : Jvm.MethodName)) ∈ lw_all := lw_g (lw_at lw_m1 232 rfl) rfl
theorem q255 : (Jvm.Cond.privateMethod ({ cls := "LeakageMeterModel", name := "show", desc := "(II)V" } : Jvm.MethodName)) ∈ lw_tbl := lw_at lw_m1 233 rfl
theorem q256 : (Jvm.Cond.instanceMethod ({ cls := "LeakageMeterModel", name := "show", desc := "(II)V" } : Jvm.MethodName)) ∈ lw_all := lw_g (lw_at lw_m1 234 rfl) rfl
theorem q257 : (Jvm.Cond.code ({ cls := "LeakageMeterModel", name := "show", desc := "(II)V" } : Jvm.MethodName) prog_3_method_9_code (3 : Nat) (Option.none : Option Jvm.ClassFile.FieldType)) ∈ lw_all := lw_g (lw_at lw_m1 235 rfl) rfl
theorem q258 : (Jvm.Cond.methodLink "LeakageMeterModel" (55 : Nat) ({ cls := "LeakageMeterModel", name := "behind", desc := "(IZ)I" } : Jvm.MethodName)) ∈ lw_all := lw_g (lw_at lw_m1 236 rfl) rfl
theorem q259 : (Jvm.Cond.privateMethod ({ cls := "LeakageMeterModel", name := "behind", desc := "(IZ)I" } : Jvm.MethodName)) ∈ lw_tbl := lw_at lw_m1 237 rfl
theorem q260 : (Jvm.Cond.instanceMethod ({ cls := "LeakageMeterModel", name := "behind", desc := "(IZ)I" } : Jvm.MethodName)) ∈ lw_all := lw_g (lw_at lw_m1 238 rfl) rfl
theorem q261 : (Jvm.Cond.code ({ cls := "LeakageMeterModel", name := "behind", desc := "(IZ)I" } : Jvm.MethodName) prog_3_method_6_code (5 : Nat) (Option.some Jvm.ClassFile.FieldType.int)) ∈ lw_all := lw_g (lw_at lw_m1 239 rfl) rfl
theorem q262 : (Jvm.Cond.methodLink "LeakageMeterModel" (70 : Nat) ({ cls := "LeakageMeterModel", name := "different", desc := "(II)I" } : Jvm.MethodName)) ∈ lw_all := lw_g (lw_at lw_m2 0 rfl) rfl
theorem q263 : (Jvm.Cond.privateMethod ({ cls := "LeakageMeterModel", name := "different", desc := "(II)I" } : Jvm.MethodName)) ∈ lw_tbl := lw_at lw_m2 1 rfl
theorem q264 : (Jvm.Cond.instanceMethod ({ cls := "LeakageMeterModel", name := "different", desc := "(II)I" } : Jvm.MethodName)) ∈ lw_all := lw_g (lw_at lw_m2 2 rfl) rfl
theorem q265 : (Jvm.Cond.code ({ cls := "LeakageMeterModel", name := "different", desc := "(II)I" } : Jvm.MethodName) prog_3_method_13_code (7 : Nat) (Option.some Jvm.ClassFile.FieldType.int)) ∈ lw_all := lw_g (lw_at lw_m2 3 rfl) rfl
theorem q266 : (Jvm.Cond.methodLink "LeakageMeterModel" (63 : Nat) ({ cls := "LeakageMeterModel", name := "same", desc := "(II)Z" } : Jvm.MethodName)) ∈ lw_all := lw_g (lw_at lw_m2 4 rfl) rfl
theorem q267 : (Jvm.Cond.privateMethod ({ cls := "LeakageMeterModel", name := "same", desc := "(II)Z" } : Jvm.MethodName)) ∈ lw_tbl := lw_at lw_m2 5 rfl
theorem q268 : (Jvm.Cond.instanceMethod ({ cls := "LeakageMeterModel", name := "same", desc := "(II)Z" } : Jvm.MethodName)) ∈ lw_all := lw_g (lw_at lw_m2 6 rfl) rfl
theorem q269 : (Jvm.Cond.code ({ cls := "LeakageMeterModel", name := "same", desc := "(II)Z" } : Jvm.MethodName) prog_3_method_12_code (4 : Nat) (Option.some Jvm.ClassFile.FieldType.boolean)) ∈ lw_all := lw_g (lw_at lw_m2 7 rfl) rfl
theorem q271 : (Jvm.Cond.instanceMethod ({ cls := "LeakageMeterModel", name := "least", desc := "(I)I" } : Jvm.MethodName)) ∈ lw_all := lw_g (lw_at lw_m2 9 rfl) rfl
theorem q272 : (Jvm.Cond.selects "LeakageMeterModel" ({ cls := "LeakageMeterModel", name := "least", desc := "(I)I" } : Jvm.MethodName) ({ cls := "LeakageMeterModel", name := "least", desc := "(I)I" } : Jvm.MethodName)) ∈ lw_all := lw_g (lw_at lw_m2 10 rfl) rfl
theorem q273 : (Jvm.Cond.code ({ cls := "LeakageMeterModel", name := "least", desc := "(I)I" } : Jvm.MethodName) prog_3_method_15_code (3 : Nat) (Option.some Jvm.ClassFile.FieldType.int)) ∈ lw_all := lw_g (lw_at lw_m2 11 rfl) rfl
theorem q275 : (Jvm.Cond.instanceMethod ({ cls := "LeakageMeterModel", name := "alike", desc := "(I)I" } : Jvm.MethodName)) ∈ lw_all := lw_g (lw_at lw_m2 13 rfl) rfl
theorem q276 : (Jvm.Cond.selects "LeakageMeterModel" ({ cls := "LeakageMeterModel", name := "alike", desc := "(I)I" } : Jvm.MethodName) ({ cls := "LeakageMeterModel", name := "alike", desc := "(I)I" } : Jvm.MethodName)) ∈ lw_all := lw_g (lw_at lw_m2 14 rfl) rfl
theorem q277 : (Jvm.Cond.code ({ cls := "LeakageMeterModel", name := "alike", desc := "(I)I" } : Jvm.MethodName) prog_3_method_16_code (4 : Nat) (Option.some Jvm.ClassFile.FieldType.int)) ∈ lw_all := lw_g (lw_at lw_m2 15 rfl) rfl
theorem q279 : (Jvm.Cond.instanceMethod ({ cls := "LeakageMeterModel", name := "outputs", desc := "(I)I" } : Jvm.MethodName)) ∈ lw_all := lw_g (lw_at lw_m2 17 rfl) rfl
theorem q280 : (Jvm.Cond.selects "LeakageMeterModel" ({ cls := "LeakageMeterModel", name := "outputs", desc := "(I)I" } : Jvm.MethodName) ({ cls := "LeakageMeterModel", name := "outputs", desc := "(I)I" } : Jvm.MethodName)) ∈ lw_all := lw_g (lw_at lw_m2 18 rfl) rfl
theorem q281 : (Jvm.Cond.code ({ cls := "LeakageMeterModel", name := "outputs", desc := "(I)I" } : Jvm.MethodName) prog_3_method_17_code (2 : Nat) (Option.some Jvm.ClassFile.FieldType.int)) ∈ lw_all := lw_g (lw_at lw_m2 19 rfl) rfl
theorem q283 : (Jvm.Cond.instanceMethod ({ cls := "LeakageMeterModel", name := "output", desc := "(II)I" } : Jvm.MethodName)) ∈ lw_all := lw_g (lw_at lw_m2 21 rfl) rfl
theorem q284 : (Jvm.Cond.selects "LeakageMeterModel" ({ cls := "LeakageMeterModel", name := "output", desc := "(II)I" } : Jvm.MethodName) ({ cls := "LeakageMeterModel", name := "output", desc := "(II)I" } : Jvm.MethodName)) ∈ lw_all := lw_g (lw_at lw_m2 22 rfl) rfl
theorem q285 : (Jvm.Cond.code ({ cls := "LeakageMeterModel", name := "output", desc := "(II)I" } : Jvm.MethodName) prog_3_method_18_code (3 : Nat) (Option.some Jvm.ClassFile.FieldType.int)) ∈ lw_all := lw_g (lw_at lw_m2 23 rfl) rfl
theorem q287 : (Jvm.Cond.instanceMethod ({ cls := "LeakageMeterModel", name := "end", desc := "(II)I" } : Jvm.MethodName)) ∈ lw_all := lw_g (lw_at lw_m2 25 rfl) rfl
theorem q288 : (Jvm.Cond.selects "LeakageMeterModel" ({ cls := "LeakageMeterModel", name := "end", desc := "(II)I" } : Jvm.MethodName) ({ cls := "LeakageMeterModel", name := "end", desc := "(II)I" } : Jvm.MethodName)) ∈ lw_all := lw_g (lw_at lw_m2 26 rfl) rfl
theorem q289 : (Jvm.Cond.code ({ cls := "LeakageMeterModel", name := "end", desc := "(II)I" } : Jvm.MethodName) prog_3_method_19_code (3 : Nat) (Option.some Jvm.ClassFile.FieldType.int)) ∈ lw_all := lw_g (lw_at lw_m2 27 rfl) rfl
theorem q291 : (Jvm.Cond.instanceMethod ({ cls := "LeakageMeterModel", name := "guessed", desc := "(II)I" } : Jvm.MethodName)) ∈ lw_all := lw_g (lw_at lw_m2 29 rfl) rfl
theorem q292 : (Jvm.Cond.selects "LeakageMeterModel" ({ cls := "LeakageMeterModel", name := "guessed", desc := "(II)I" } : Jvm.MethodName) ({ cls := "LeakageMeterModel", name := "guessed", desc := "(II)I" } : Jvm.MethodName)) ∈ lw_all := lw_g (lw_at lw_m2 30 rfl) rfl
theorem q293 : (Jvm.Cond.code ({ cls := "LeakageMeterModel", name := "guessed", desc := "(II)I" } : Jvm.MethodName) prog_3_method_20_code (5 : Nat) (Option.some Jvm.ClassFile.FieldType.int)) ∈ lw_all := lw_g (lw_at lw_m2 31 rfl) rfl
theorem in_X1 : ∀ w ∈ wsX10, w ∈ lw_all := lw_in wsX10 [202, 204, 206, 208, 210, 212, 214, 216] (by decide +kernel) (by decide +kernel)
end
section
set_option maxRecDepth 100000
/-! java/lang/Object -/
set_option maxRecDepth 100000
def RJ0 : String := "java/lang/Object"
abbrev cJ0_init : ByteArray := object_method_1_code
def yJ0_init : MethodName := ⟨RJ0, "<init>", "()V"⟩
theorem dJ0_init_0 : decode cJ0_init 0 = .ok (.return_, 1) := by decide +kernel
theorem q31 : (Jvm.Cond.instanceMethod ({ cls := "java/lang/Object", name := "<init>", desc := "()V" } : Jvm.MethodName)) ∈ lw_all := lw_g (lw_at lw_m1 9 rfl) rfl
theorem q32 : (Jvm.Cond.code ({ cls := "java/lang/Object", name := "<init>", desc := "()V" } : Jvm.MethodName) object_method_1_code (1 : Nat) (Option.none : Option Jvm.ClassFile.FieldType)) ∈ lw_all := lw_g (lw_at lw_m1 10 rfl) rfl
/-! the law's own entry -/
set_option maxRecDepth 100000
abbrev cL_law : ByteArray := code
theorem dL_law_0 : decode cL_law 0 = .ok (.new 7, 3) := by decide +kernel
theorem dL_law_3 : decode cL_law 3 = .ok (.dup, 1) := by decide +kernel
theorem dL_law_4 : decode cL_law 4 = .ok (.invokespecial 9, 3) := by decide +kernel
theorem dL_law_7 : decode cL_law 7 = .ok (.astore_n 1, 1) := by decide +kernel
theorem dL_law_8 : decode cL_law 8 = .ok (.new 10, 3) := by decide +kernel
theorem dL_law_11 : decode cL_law 11 = .ok (.dup, 1) := by decide +kernel
theorem dL_law_12 : decode cL_law 12 = .ok (.invokespecial 12, 3) := by decide +kernel
theorem dL_law_15 : decode cL_law 15 = .ok (.astore_n 2, 1) := by decide +kernel
theorem dL_law_16 : decode cL_law 16 = .ok (.iconst 0, 1) := by decide +kernel
theorem dL_law_17 : decode cL_law 17 = .ok (.istore_n 3, 1) := by decide +kernel
theorem dL_law_18 : decode cL_law 18 = .ok (.iload_n 3, 1) := by decide +kernel
theorem dL_law_19 : decode cL_law 19 = .ok (.aload_n 0, 1) := by decide +kernel
theorem dL_law_20 : decode cL_law 20 = .ok (.arraylength, 1) := by decide +kernel
theorem dL_law_21 : decode cL_law 21 = .ok (.iconst 4, 1) := by decide +kernel
theorem dL_law_22 : decode cL_law 22 = .ok (.isub, 1) := by decide +kernel
theorem dL_law_23 : decode cL_law 23 = .ok (.if_icmp .gt 319, 3) := by decide +kernel
theorem dL_law_26 : decode cL_law 26 = .ok (.aload_n 0, 1) := by decide +kernel
theorem dL_law_27 : decode cL_law 27 = .ok (.iload_n 3, 1) := by decide +kernel
theorem dL_law_28 : decode cL_law 28 = .ok (.iaload, 1) := by decide +kernel
theorem dL_law_29 : decode cL_law 29 = .ok (.bipush 15, 2) := by decide +kernel
theorem dL_law_31 : decode cL_law 31 = .ok (.iand, 1) := by decide +kernel
theorem dL_law_32 : decode cL_law 32 = .ok (.tableswitch 304 0 9 #[56, 99, 110, 123, 136, 159, 182, 205, 238, 271], 56) := by decide +kernel
theorem dL_law_88 : decode cL_law 88 = .ok (.aload_n 1, 1) := by decide +kernel
theorem dL_law_89 : decode cL_law 89 = .ok (.aload_n 0, 1) := by decide +kernel
theorem dL_law_90 : decode cL_law 90 = .ok (.iload_n 3, 1) := by decide +kernel
theorem dL_law_91 : decode cL_law 91 = .ok (.iconst 1, 1) := by decide +kernel
theorem dL_law_92 : decode cL_law 92 = .ok (.iadd, 1) := by decide +kernel
theorem dL_law_93 : decode cL_law 93 = .ok (.iaload, 1) := by decide +kernel
theorem dL_law_94 : decode cL_law 94 = .ok (.aload_n 0, 1) := by decide +kernel
theorem dL_law_95 : decode cL_law 95 = .ok (.iload_n 3, 1) := by decide +kernel
theorem dL_law_96 : decode cL_law 96 = .ok (.iconst 2, 1) := by decide +kernel
theorem dL_law_97 : decode cL_law 97 = .ok (.iadd, 1) := by decide +kernel
theorem dL_law_98 : decode cL_law 98 = .ok (.iaload, 1) := by decide +kernel
theorem dL_law_99 : decode cL_law 99 = .ok (.aload_n 0, 1) := by decide +kernel
theorem dL_law_100 : decode cL_law 100 = .ok (.iload_n 3, 1) := by decide +kernel
theorem dL_law_101 : decode cL_law 101 = .ok (.iconst 3, 1) := by decide +kernel
theorem dL_law_102 : decode cL_law 102 = .ok (.iadd, 1) := by decide +kernel
theorem dL_law_103 : decode cL_law 103 = .ok (.iaload, 1) := by decide +kernel
theorem dL_law_104 : decode cL_law 104 = .ok (.invokevirtual 13, 3) := by decide +kernel
theorem dL_law_107 : decode cL_law 107 = .ok (.aload_n 2, 1) := by decide +kernel
theorem dL_law_108 : decode cL_law 108 = .ok (.aload_n 0, 1) := by decide +kernel
theorem dL_law_109 : decode cL_law 109 = .ok (.iload_n 3, 1) := by decide +kernel
theorem dL_law_110 : decode cL_law 110 = .ok (.iconst 1, 1) := by decide +kernel
theorem dL_law_111 : decode cL_law 111 = .ok (.iadd, 1) := by decide +kernel
theorem dL_law_112 : decode cL_law 112 = .ok (.iaload, 1) := by decide +kernel
theorem dL_law_113 : decode cL_law 113 = .ok (.aload_n 0, 1) := by decide +kernel
theorem dL_law_114 : decode cL_law 114 = .ok (.iload_n 3, 1) := by decide +kernel
theorem dL_law_115 : decode cL_law 115 = .ok (.iconst 2, 1) := by decide +kernel
theorem dL_law_116 : decode cL_law 116 = .ok (.iadd, 1) := by decide +kernel
theorem dL_law_117 : decode cL_law 117 = .ok (.iaload, 1) := by decide +kernel
theorem dL_law_118 : decode cL_law 118 = .ok (.aload_n 0, 1) := by decide +kernel
theorem dL_law_119 : decode cL_law 119 = .ok (.iload_n 3, 1) := by decide +kernel
theorem dL_law_120 : decode cL_law 120 = .ok (.iconst 3, 1) := by decide +kernel
theorem dL_law_121 : decode cL_law 121 = .ok (.iadd, 1) := by decide +kernel
theorem dL_law_122 : decode cL_law 122 = .ok (.iaload, 1) := by decide +kernel
theorem dL_law_123 : decode cL_law 123 = .ok (.invokevirtual 17, 3) := by decide +kernel
theorem dL_law_126 : decode cL_law 126 = .ok (.if_icmp .eq 210, 3) := by decide +kernel
theorem dL_law_129 : decode cL_law 129 = .ok (.iconst 0, 1) := by decide +kernel
theorem dL_law_130 : decode cL_law 130 = .ok (.ireturn, 1) := by decide +kernel
theorem dL_law_131 : decode cL_law 131 = .ok (.aload_n 1, 1) := by decide +kernel
theorem dL_law_132 : decode cL_law 132 = .ok (.invokevirtual 18, 3) := by decide +kernel
theorem dL_law_135 : decode cL_law 135 = .ok (.aload_n 2, 1) := by decide +kernel
theorem dL_law_136 : decode cL_law 136 = .ok (.invokevirtual 21, 3) := by decide +kernel
theorem dL_law_139 : decode cL_law 139 = .ok (.goto 197, 3) := by decide +kernel
theorem dL_law_142 : decode cL_law 142 = .ok (.aload_n 1, 1) := by decide +kernel
theorem dL_law_143 : decode cL_law 143 = .ok (.invokevirtual 22, 3) := by decide +kernel
theorem dL_law_146 : decode cL_law 146 = .ok (.aload_n 2, 1) := by decide +kernel
theorem dL_law_147 : decode cL_law 147 = .ok (.invokevirtual 26, 3) := by decide +kernel
theorem dL_law_150 : decode cL_law 150 = .ok (.if_icmp .eq 186, 3) := by decide +kernel
theorem dL_law_153 : decode cL_law 153 = .ok (.iconst 0, 1) := by decide +kernel
theorem dL_law_154 : decode cL_law 154 = .ok (.ireturn, 1) := by decide +kernel
theorem dL_law_155 : decode cL_law 155 = .ok (.aload_n 1, 1) := by decide +kernel
theorem dL_law_156 : decode cL_law 156 = .ok (.invokevirtual 27, 3) := by decide +kernel
theorem dL_law_159 : decode cL_law 159 = .ok (.aload_n 2, 1) := by decide +kernel
theorem dL_law_160 : decode cL_law 160 = .ok (.invokevirtual 30, 3) := by decide +kernel
theorem dL_law_163 : decode cL_law 163 = .ok (.if_icmp .eq 173, 3) := by decide +kernel
theorem dL_law_166 : decode cL_law 166 = .ok (.iconst 0, 1) := by decide +kernel
theorem dL_law_167 : decode cL_law 167 = .ok (.ireturn, 1) := by decide +kernel
theorem dL_law_168 : decode cL_law 168 = .ok (.aload_n 1, 1) := by decide +kernel
theorem dL_law_169 : decode cL_law 169 = .ok (.aload_n 0, 1) := by decide +kernel
theorem dL_law_170 : decode cL_law 170 = .ok (.iload_n 3, 1) := by decide +kernel
theorem dL_law_171 : decode cL_law 171 = .ok (.iconst 1, 1) := by decide +kernel
theorem dL_law_172 : decode cL_law 172 = .ok (.iadd, 1) := by decide +kernel
theorem dL_law_173 : decode cL_law 173 = .ok (.iaload, 1) := by decide +kernel
theorem dL_law_174 : decode cL_law 174 = .ok (.invokevirtual 31, 3) := by decide +kernel
theorem dL_law_177 : decode cL_law 177 = .ok (.aload_n 2, 1) := by decide +kernel
theorem dL_law_178 : decode cL_law 178 = .ok (.aload_n 0, 1) := by decide +kernel
theorem dL_law_179 : decode cL_law 179 = .ok (.iload_n 3, 1) := by decide +kernel
theorem dL_law_180 : decode cL_law 180 = .ok (.iconst 1, 1) := by decide +kernel
theorem dL_law_181 : decode cL_law 181 = .ok (.iadd, 1) := by decide +kernel
theorem dL_law_182 : decode cL_law 182 = .ok (.iaload, 1) := by decide +kernel
theorem dL_law_183 : decode cL_law 183 = .ok (.invokevirtual 35, 3) := by decide +kernel
theorem dL_law_186 : decode cL_law 186 = .ok (.if_icmp .eq 150, 3) := by decide +kernel
theorem dL_law_189 : decode cL_law 189 = .ok (.iconst 0, 1) := by decide +kernel
theorem dL_law_190 : decode cL_law 190 = .ok (.ireturn, 1) := by decide +kernel
theorem dL_law_191 : decode cL_law 191 = .ok (.aload_n 1, 1) := by decide +kernel
theorem dL_law_192 : decode cL_law 192 = .ok (.aload_n 0, 1) := by decide +kernel
theorem dL_law_193 : decode cL_law 193 = .ok (.iload_n 3, 1) := by decide +kernel
theorem dL_law_194 : decode cL_law 194 = .ok (.iconst 1, 1) := by decide +kernel
theorem dL_law_195 : decode cL_law 195 = .ok (.iadd, 1) := by decide +kernel
theorem dL_law_196 : decode cL_law 196 = .ok (.iaload, 1) := by decide +kernel
theorem dL_law_197 : decode cL_law 197 = .ok (.invokevirtual 36, 3) := by decide +kernel
theorem dL_law_200 : decode cL_law 200 = .ok (.aload_n 2, 1) := by decide +kernel
theorem dL_law_201 : decode cL_law 201 = .ok (.aload_n 0, 1) := by decide +kernel
theorem dL_law_202 : decode cL_law 202 = .ok (.iload_n 3, 1) := by decide +kernel
theorem dL_law_203 : decode cL_law 203 = .ok (.iconst 1, 1) := by decide +kernel
theorem dL_law_204 : decode cL_law 204 = .ok (.iadd, 1) := by decide +kernel
theorem dL_law_205 : decode cL_law 205 = .ok (.iaload, 1) := by decide +kernel
theorem dL_law_206 : decode cL_law 206 = .ok (.invokevirtual 39, 3) := by decide +kernel
theorem dL_law_209 : decode cL_law 209 = .ok (.if_icmp .eq 127, 3) := by decide +kernel
theorem dL_law_212 : decode cL_law 212 = .ok (.iconst 0, 1) := by decide +kernel
theorem dL_law_213 : decode cL_law 213 = .ok (.ireturn, 1) := by decide +kernel
theorem dL_law_214 : decode cL_law 214 = .ok (.aload_n 1, 1) := by decide +kernel
theorem dL_law_215 : decode cL_law 215 = .ok (.aload_n 0, 1) := by decide +kernel
theorem dL_law_216 : decode cL_law 216 = .ok (.iload_n 3, 1) := by decide +kernel
theorem dL_law_217 : decode cL_law 217 = .ok (.iconst 1, 1) := by decide +kernel
theorem dL_law_218 : decode cL_law 218 = .ok (.iadd, 1) := by decide +kernel
theorem dL_law_219 : decode cL_law 219 = .ok (.iaload, 1) := by decide +kernel
theorem dL_law_220 : decode cL_law 220 = .ok (.invokevirtual 40, 3) := by decide +kernel
theorem dL_law_223 : decode cL_law 223 = .ok (.aload_n 2, 1) := by decide +kernel
theorem dL_law_224 : decode cL_law 224 = .ok (.aload_n 0, 1) := by decide +kernel
theorem dL_law_225 : decode cL_law 225 = .ok (.iload_n 3, 1) := by decide +kernel
theorem dL_law_226 : decode cL_law 226 = .ok (.iconst 1, 1) := by decide +kernel
theorem dL_law_227 : decode cL_law 227 = .ok (.iadd, 1) := by decide +kernel
theorem dL_law_228 : decode cL_law 228 = .ok (.iaload, 1) := by decide +kernel
theorem dL_law_229 : decode cL_law 229 = .ok (.invokevirtual 43, 3) := by decide +kernel
theorem dL_law_232 : decode cL_law 232 = .ok (.if_icmp .eq 104, 3) := by decide +kernel
theorem dL_law_235 : decode cL_law 235 = .ok (.iconst 0, 1) := by decide +kernel
theorem dL_law_236 : decode cL_law 236 = .ok (.ireturn, 1) := by decide +kernel
theorem dL_law_237 : decode cL_law 237 = .ok (.aload_n 1, 1) := by decide +kernel
theorem dL_law_238 : decode cL_law 238 = .ok (.aload_n 0, 1) := by decide +kernel
theorem dL_law_239 : decode cL_law 239 = .ok (.iload_n 3, 1) := by decide +kernel
theorem dL_law_240 : decode cL_law 240 = .ok (.iconst 1, 1) := by decide +kernel
theorem dL_law_241 : decode cL_law 241 = .ok (.iadd, 1) := by decide +kernel
theorem dL_law_242 : decode cL_law 242 = .ok (.iaload, 1) := by decide +kernel
theorem dL_law_243 : decode cL_law 243 = .ok (.aload_n 0, 1) := by decide +kernel
theorem dL_law_244 : decode cL_law 244 = .ok (.iload_n 3, 1) := by decide +kernel
theorem dL_law_245 : decode cL_law 245 = .ok (.iconst 2, 1) := by decide +kernel
theorem dL_law_246 : decode cL_law 246 = .ok (.iadd, 1) := by decide +kernel
theorem dL_law_247 : decode cL_law 247 = .ok (.iaload, 1) := by decide +kernel
theorem dL_law_248 : decode cL_law 248 = .ok (.invokevirtual 44, 3) := by decide +kernel
theorem dL_law_251 : decode cL_law 251 = .ok (.aload_n 2, 1) := by decide +kernel
theorem dL_law_252 : decode cL_law 252 = .ok (.aload_n 0, 1) := by decide +kernel
theorem dL_law_253 : decode cL_law 253 = .ok (.iload_n 3, 1) := by decide +kernel
theorem dL_law_254 : decode cL_law 254 = .ok (.iconst 1, 1) := by decide +kernel
theorem dL_law_255 : decode cL_law 255 = .ok (.iadd, 1) := by decide +kernel
theorem dL_law_256 : decode cL_law 256 = .ok (.iaload, 1) := by decide +kernel
theorem dL_law_257 : decode cL_law 257 = .ok (.aload_n 0, 1) := by decide +kernel
theorem dL_law_258 : decode cL_law 258 = .ok (.iload_n 3, 1) := by decide +kernel
theorem dL_law_259 : decode cL_law 259 = .ok (.iconst 2, 1) := by decide +kernel
theorem dL_law_260 : decode cL_law 260 = .ok (.iadd, 1) := by decide +kernel
theorem dL_law_261 : decode cL_law 261 = .ok (.iaload, 1) := by decide +kernel
theorem dL_law_262 : decode cL_law 262 = .ok (.invokevirtual 48, 3) := by decide +kernel
theorem dL_law_265 : decode cL_law 265 = .ok (.if_icmp .eq 71, 3) := by decide +kernel
theorem dL_law_268 : decode cL_law 268 = .ok (.iconst 0, 1) := by decide +kernel
theorem dL_law_269 : decode cL_law 269 = .ok (.ireturn, 1) := by decide +kernel
theorem dL_law_270 : decode cL_law 270 = .ok (.aload_n 1, 1) := by decide +kernel
theorem dL_law_271 : decode cL_law 271 = .ok (.aload_n 0, 1) := by decide +kernel
theorem dL_law_272 : decode cL_law 272 = .ok (.iload_n 3, 1) := by decide +kernel
theorem dL_law_273 : decode cL_law 273 = .ok (.iconst 1, 1) := by decide +kernel
theorem dL_law_274 : decode cL_law 274 = .ok (.iadd, 1) := by decide +kernel
theorem dL_law_275 : decode cL_law 275 = .ok (.iaload, 1) := by decide +kernel
theorem dL_law_276 : decode cL_law 276 = .ok (.aload_n 0, 1) := by decide +kernel
theorem dL_law_277 : decode cL_law 277 = .ok (.iload_n 3, 1) := by decide +kernel
theorem dL_law_278 : decode cL_law 278 = .ok (.iconst 2, 1) := by decide +kernel
theorem dL_law_279 : decode cL_law 279 = .ok (.iadd, 1) := by decide +kernel
theorem dL_law_280 : decode cL_law 280 = .ok (.iaload, 1) := by decide +kernel
theorem dL_law_281 : decode cL_law 281 = .ok (.invokevirtual 49, 3) := by decide +kernel
theorem dL_law_284 : decode cL_law 284 = .ok (.aload_n 2, 1) := by decide +kernel
theorem dL_law_285 : decode cL_law 285 = .ok (.aload_n 0, 1) := by decide +kernel
theorem dL_law_286 : decode cL_law 286 = .ok (.iload_n 3, 1) := by decide +kernel
theorem dL_law_287 : decode cL_law 287 = .ok (.iconst 1, 1) := by decide +kernel
theorem dL_law_288 : decode cL_law 288 = .ok (.iadd, 1) := by decide +kernel
theorem dL_law_289 : decode cL_law 289 = .ok (.iaload, 1) := by decide +kernel
theorem dL_law_290 : decode cL_law 290 = .ok (.aload_n 0, 1) := by decide +kernel
theorem dL_law_291 : decode cL_law 291 = .ok (.iload_n 3, 1) := by decide +kernel
theorem dL_law_292 : decode cL_law 292 = .ok (.iconst 2, 1) := by decide +kernel
theorem dL_law_293 : decode cL_law 293 = .ok (.iadd, 1) := by decide +kernel
theorem dL_law_294 : decode cL_law 294 = .ok (.iaload, 1) := by decide +kernel
theorem dL_law_295 : decode cL_law 295 = .ok (.invokevirtual 52, 3) := by decide +kernel
theorem dL_law_298 : decode cL_law 298 = .ok (.if_icmp .eq 38, 3) := by decide +kernel
theorem dL_law_301 : decode cL_law 301 = .ok (.iconst 0, 1) := by decide +kernel
theorem dL_law_302 : decode cL_law 302 = .ok (.ireturn, 1) := by decide +kernel
theorem dL_law_303 : decode cL_law 303 = .ok (.aload_n 1, 1) := by decide +kernel
theorem dL_law_304 : decode cL_law 304 = .ok (.aload_n 0, 1) := by decide +kernel
theorem dL_law_305 : decode cL_law 305 = .ok (.iload_n 3, 1) := by decide +kernel
theorem dL_law_306 : decode cL_law 306 = .ok (.iconst 1, 1) := by decide +kernel
theorem dL_law_307 : decode cL_law 307 = .ok (.iadd, 1) := by decide +kernel
theorem dL_law_308 : decode cL_law 308 = .ok (.iaload, 1) := by decide +kernel
theorem dL_law_309 : decode cL_law 309 = .ok (.aload_n 0, 1) := by decide +kernel
theorem dL_law_310 : decode cL_law 310 = .ok (.iload_n 3, 1) := by decide +kernel
theorem dL_law_311 : decode cL_law 311 = .ok (.iconst 2, 1) := by decide +kernel
theorem dL_law_312 : decode cL_law 312 = .ok (.iadd, 1) := by decide +kernel
theorem dL_law_313 : decode cL_law 313 = .ok (.iaload, 1) := by decide +kernel
theorem dL_law_314 : decode cL_law 314 = .ok (.invokevirtual 53, 3) := by decide +kernel
theorem dL_law_317 : decode cL_law 317 = .ok (.aload_n 2, 1) := by decide +kernel
theorem dL_law_318 : decode cL_law 318 = .ok (.aload_n 0, 1) := by decide +kernel
theorem dL_law_319 : decode cL_law 319 = .ok (.iload_n 3, 1) := by decide +kernel
theorem dL_law_320 : decode cL_law 320 = .ok (.iconst 1, 1) := by decide +kernel
theorem dL_law_321 : decode cL_law 321 = .ok (.iadd, 1) := by decide +kernel
theorem dL_law_322 : decode cL_law 322 = .ok (.iaload, 1) := by decide +kernel
theorem dL_law_323 : decode cL_law 323 = .ok (.aload_n 0, 1) := by decide +kernel
theorem dL_law_324 : decode cL_law 324 = .ok (.iload_n 3, 1) := by decide +kernel
theorem dL_law_325 : decode cL_law 325 = .ok (.iconst 2, 1) := by decide +kernel
theorem dL_law_326 : decode cL_law 326 = .ok (.iadd, 1) := by decide +kernel
theorem dL_law_327 : decode cL_law 327 = .ok (.iaload, 1) := by decide +kernel
theorem dL_law_328 : decode cL_law 328 = .ok (.invokevirtual 56, 3) := by decide +kernel
theorem dL_law_331 : decode cL_law 331 = .ok (.if_icmp .eq 5, 3) := by decide +kernel
theorem dL_law_334 : decode cL_law 334 = .ok (.iconst 0, 1) := by decide +kernel
theorem dL_law_335 : decode cL_law 335 = .ok (.ireturn, 1) := by decide +kernel
theorem dL_law_336 : decode cL_law 336 = .ok (.iinc 3 4, 3) := by decide +kernel
theorem dL_law_339 : decode cL_law 339 = .ok (.goto (-321), 3) := by decide +kernel
theorem dL_law_342 : decode cL_law 342 = .ok (.iconst 1, 1) := by decide +kernel
theorem dL_law_343 : decode cL_law 343 = .ok (.ireturn, 1) := by decide +kernel
theorem q22 : (Jvm.Cond.initialized "LeakageMeterLaw") ∈ lw_all := lw_g (lw_at lw_m1 0 rfl) rfl
set_option maxRecDepth 100000
theorem q25 : (Jvm.Cond.classLink "LeakageMeterLaw" (7 : Nat) "LeakageMeter") ∈ lw_all := lw_g (lw_at lw_m1 3 rfl) rfl
theorem q27 : (Jvm.Cond.methodLink "LeakageMeterLaw" (9 : Nat) ({ cls := "LeakageMeter", name := "<init>", desc := "()V" } : Jvm.MethodName)) ∈ lw_all := lw_g (lw_at lw_m1 5 rfl) rfl
theorem q90 : (Jvm.Cond.methodLink "LeakageMeterLaw" (13 : Nat) ({ cls := "LeakageMeter", name := "add", desc := "(III)I" } : Jvm.MethodName)) ∈ lw_all := lw_g (lw_at lw_m1 68 rfl) rfl
theorem q146 : (Jvm.Cond.methodLink "LeakageMeterLaw" (18 : Nat) ({ cls := "LeakageMeter", name := "clear", desc := "()V" } : Jvm.MethodName)) ∈ lw_all := lw_g (lw_at lw_m1 124 rfl) rfl
theorem q147 : (Jvm.Cond.methodLink "LeakageMeterLaw" (22 : Nat) ({ cls := "LeakageMeter", name := "open", desc := "()I" } : Jvm.MethodName)) ∈ lw_all := lw_g (lw_at lw_m1 125 rfl) rfl
theorem q151 : (Jvm.Cond.methodLink "LeakageMeterLaw" (27 : Nat) ({ cls := "LeakageMeter", name := "classes", desc := "()I" } : Jvm.MethodName)) ∈ lw_all := lw_g (lw_at lw_m1 129 rfl) rfl
theorem q164 : (Jvm.Cond.methodLink "LeakageMeterLaw" (31 : Nat) ({ cls := "LeakageMeter", name := "least", desc := "(I)I" } : Jvm.MethodName)) ∈ lw_all := lw_g (lw_at lw_m1 142 rfl) rfl
theorem q168 : (Jvm.Cond.methodLink "LeakageMeterLaw" (36 : Nat) ({ cls := "LeakageMeter", name := "alike", desc := "(I)I" } : Jvm.MethodName)) ∈ lw_all := lw_g (lw_at lw_m1 146 rfl) rfl
theorem q172 : (Jvm.Cond.methodLink "LeakageMeterLaw" (40 : Nat) ({ cls := "LeakageMeter", name := "outputs", desc := "(I)I" } : Jvm.MethodName)) ∈ lw_all := lw_g (lw_at lw_m1 150 rfl) rfl
theorem q176 : (Jvm.Cond.methodLink "LeakageMeterLaw" (44 : Nat) ({ cls := "LeakageMeter", name := "output", desc := "(II)I" } : Jvm.MethodName)) ∈ lw_all := lw_g (lw_at lw_m1 154 rfl) rfl
theorem q180 : (Jvm.Cond.methodLink "LeakageMeterLaw" (49 : Nat) ({ cls := "LeakageMeter", name := "end", desc := "(II)I" } : Jvm.MethodName)) ∈ lw_all := lw_g (lw_at lw_m1 158 rfl) rfl
theorem q184 : (Jvm.Cond.methodLink "LeakageMeterLaw" (53 : Nat) ({ cls := "LeakageMeter", name := "guessed", desc := "(II)I" } : Jvm.MethodName)) ∈ lw_all := lw_g (lw_at lw_m1 162 rfl) rfl
theorem q188 : (Jvm.Cond.classLink "LeakageMeterLaw" (10 : Nat) "LeakageMeterModel") ∈ lw_all := lw_g (lw_at lw_m1 166 rfl) rfl
theorem q190 : (Jvm.Cond.methodLink "LeakageMeterLaw" (12 : Nat) ({ cls := "LeakageMeterModel", name := "<init>", desc := "()V" } : Jvm.MethodName)) ∈ lw_all := lw_g (lw_at lw_m1 168 rfl) rfl
theorem q219 : (Jvm.Cond.methodLink "LeakageMeterLaw" (17 : Nat) ({ cls := "LeakageMeterModel", name := "add", desc := "(III)I" } : Jvm.MethodName)) ∈ lw_all := lw_g (lw_at lw_m1 197 rfl) rfl
theorem q231 : (Jvm.Cond.methodLink "LeakageMeterLaw" (21 : Nat) ({ cls := "LeakageMeterModel", name := "clear", desc := "()V" } : Jvm.MethodName)) ∈ lw_all := lw_g (lw_at lw_m1 209 rfl) rfl
theorem q235 : (Jvm.Cond.methodLink "LeakageMeterLaw" (26 : Nat) ({ cls := "LeakageMeterModel", name := "open", desc := "()I" } : Jvm.MethodName)) ∈ lw_all := lw_g (lw_at lw_m1 213 rfl) rfl
theorem q236 : (Jvm.Cond.methodLink "LeakageMeterLaw" (30 : Nat) ({ cls := "LeakageMeterModel", name := "classes", desc := "()I" } : Jvm.MethodName)) ∈ lw_all := lw_g (lw_at lw_m1 214 rfl) rfl
theorem q270 : (Jvm.Cond.methodLink "LeakageMeterLaw" (35 : Nat) ({ cls := "LeakageMeterModel", name := "least", desc := "(I)I" } : Jvm.MethodName)) ∈ lw_all := lw_g (lw_at lw_m2 8 rfl) rfl
theorem q274 : (Jvm.Cond.methodLink "LeakageMeterLaw" (39 : Nat) ({ cls := "LeakageMeterModel", name := "alike", desc := "(I)I" } : Jvm.MethodName)) ∈ lw_all := lw_g (lw_at lw_m2 12 rfl) rfl
theorem q278 : (Jvm.Cond.methodLink "LeakageMeterLaw" (43 : Nat) ({ cls := "LeakageMeterModel", name := "outputs", desc := "(I)I" } : Jvm.MethodName)) ∈ lw_all := lw_g (lw_at lw_m2 16 rfl) rfl
theorem q282 : (Jvm.Cond.methodLink "LeakageMeterLaw" (48 : Nat) ({ cls := "LeakageMeterModel", name := "output", desc := "(II)I" } : Jvm.MethodName)) ∈ lw_all := lw_g (lw_at lw_m2 20 rfl) rfl
theorem q286 : (Jvm.Cond.methodLink "LeakageMeterLaw" (52 : Nat) ({ cls := "LeakageMeterModel", name := "end", desc := "(II)I" } : Jvm.MethodName)) ∈ lw_all := lw_g (lw_at lw_m2 24 rfl) rfl
theorem q290 : (Jvm.Cond.methodLink "LeakageMeterLaw" (56 : Nat) ({ cls := "LeakageMeterModel", name := "guessed", desc := "(II)I" } : Jvm.MethodName)) ∈ lw_all := lw_g (lw_at lw_m2 28 rfl) rfl
theorem q87 : (Jvm.Cond.arrayClass Jvm.ClassFile.FieldType.boolean) ∈ lw_all := lw_g (lw_at lw_m1 65 rfl) rfl
set_option maxRecDepth 100000
theorem q88 : (Jvm.Cond.arrayClass Jvm.ClassFile.FieldType.long) ∈ lw_all := lw_g (lw_at lw_m1 66 rfl) rfl
theorem q89 : (Jvm.Cond.arrayClass Jvm.ClassFile.FieldType.int) ∈ lw_all := lw_g (lw_at lw_m1 67 rfl) rfl
end
section
/-! Rows of our own: naturals for ints, arrays by naturals, loops, contracts over one world -/
set_option maxRecDepth 100000
abbrev vwCl : List vw_C := [(RX0, TX0, 16), (RX1, TX1, 8)]
abbrev zt_T : Type := List (ClassId × FieldType)
/-- an int as a natural of 32 bits -/
def ub (x : Int32) : Nat := x.toBitVec.toNat
/-- an array of ints that are naturals -/
abbrev nA (f : Nat → Nat) : Nat → Int32 := fun j => nI (f j)
theorem xi_inc1 (x : Nat) : nI x + Int32.ofInt 1 = nI (x + 1) := nI_1 x
theorem xi_inc4 (x : Nat) : nI x + Int32.ofInt 4 = nI (x + 4) := nI_add x 4
theorem xi_dec1 (x : Nat) : nI (x + 1) + Int32.ofInt (-1) = nI x := pk_m1 x
theorem xi_dec1' {x : Nat} (h : 0 < x) : nI x + Int32.ofInt (-1) = nI (x - 1) := by
  obtain ⟨y, rfl⟩ : ∃ y, x = y + 1 := ⟨x - 1, by omega⟩
  exact pk_m1 y
theorem xi_eq0 {x : Nat} (h : x < 2 ^ 31) : nI x = 0 ↔ x = 0 := by
  rw [← nI_0]
  exact nI_eq h (by decide)
theorem nA_up (f : Nat → Nat) (k x : Nat) : upd (nA f) k (nI x) = nA (va_up f k x) := by
  funext j
  simp only [upd, nA, va_up]
  split <;> rfl
section RR
variable {p : Program} {l : Launch} {e : Env} {R : Room} {s : State} {m : MethodId} {args : Array Value} {below : List Frame} {meth : Method} {c : Code} {H : Heap} {locs : List Loc} {cells slots : Nat} {Q : State → Prop}
variable {cc : ByteArray} {pc : Nat} {ls : Array Slot} {rest : List Value} {D : va_G} {cl : List vw_C} {A : Nat → Prop} {a : Nat} {tys : List (ClassId × FieldType)} {ws : va_W} {H0 : Heap}
theorem xi_add {x y : Nat} (hx : p.tables.exec = Jvm.exec) (hb : c.code = cc) (hdg : decode cc pc = .ok (.iadd, 1)) (k : W p l e R s m args below meth c H locs cells slots Q (F0 m (pc + 1) ls (.int (nI (x + y)) :: rest))) : W p l e R s m args below meth c H locs cells slots Q (F0 m pc ls (.int (nI y) :: .int (nI x) :: rest)) :=
  lv_iadd hx hb hdg (by rw [nI_add]; exact k)
theorem xi_mul {x y : Nat} (hx : p.tables.exec = Jvm.exec) (hb : c.code = cc) (hdg : decode cc pc = .ok (.imul, 1)) (k : W p l e R s m args below meth c H locs cells slots Q (F0 m (pc + 1) ls (.int (nI (x * y)) :: rest))) : W p l e R s m args below meth c H locs cells slots Q (F0 m pc ls (.int (nI y) :: .int (nI x) :: rest)) :=
  lv_imul hx hb hdg (by rw [pk_mul]; exact k)
theorem xi_sub {x y : Nat} (hx : p.tables.exec = Jvm.exec) (hb : c.code = cc) (hdg : decode cc pc = .ok (.isub, 1)) (h : y ≤ x) (k : W p l e R s m args below meth c H locs cells slots Q (F0 m (pc + 1) ls (.int (nI (x - y)) :: rest))) : W p l e R s m args below meth c H locs cells slots Q (F0 m pc ls (.int (nI y) :: .int (nI x) :: rest)) :=
  lv_isub hx hb hdg (by rw [pk_sub h]; exact k)
theorem xi_and {x : Int32} (M P k : Nat) (hm : (nI M).toBitVec.toNat = 2 ^ k - 1) (hP : 2 ^ k = P) (hx : p.tables.exec = Jvm.exec) (hb : c.code = cc) (hdg : decode cc pc = .ok (.iand, 1)) (kk : W p l e R s m args below meth c H locs cells slots Q (F0 m (pc + 1) ls (.int (nI (ub x % P)) :: rest))) : W p l e R s m args below meth c H locs cells slots Q (F0 m pc ls (.int (nI M) :: .int x :: rest)) :=
  lv_iand hx hb hdg (by rw [pk_and x k hm, hP]; exact kk)
theorem xi_andN {x : Nat} (M P k : Nat) (hm : (nI M).toBitVec.toNat = 2 ^ k - 1) (hP : 2 ^ k = P) (h : x < 2 ^ 32) (hx : p.tables.exec = Jvm.exec) (hb : c.code = cc) (hdg : decode cc pc = .ok (.iand, 1)) (kk : W p l e R s m args below meth c H locs cells slots Q (F0 m (pc + 1) ls (.int (nI (x % P)) :: rest))) : W p l e R s m args below meth c H locs cells slots Q (F0 m pc ls (.int (nI M) :: .int (nI x) :: rest)) :=
  lv_iand hx hb hdg (by rw [pk_andN h k hm, hP]; exact kk)
theorem xl_ald (hx : p.tables.exec = Jvm.exec) (hb : c.code = cc) (hK : va_K D cl tys s) (hP : va_P D cl ws H) (q0 t0 : Nat) {cA : ClassId} {n k : Nat} {f : Nat → Int64} (ha : ws[q0]? = some (a, .inl (cA, n, .inr (.inl f)))) (ht : tys[t0]? = some (cA, .long)) (hk : k < n) (hn : n < 2 ^ 31) (hdg : decode cc pc = .ok (.laload, 1))
    (kk : W p l e R s m args below meth c H locs cells slots Q (F0 m (pc + 1) ls (.long (f k) :: rest))) : W p l e R s m args below meth c H locs cells slots Q (F0 m pc ls (.int (nI k) :: .ref a :: rest)) :=
  va_lald hx hb hK hP q0 t0 ha ht (vp_in_nI hk hn) hdg (by rw [nI_clamp (by omega)]; exact kk)
theorem xi_ald (hx : p.tables.exec = Jvm.exec) (hb : c.code = cc) (hK : va_K D cl tys s) (hP : va_P D cl ws H) (q0 t0 : Nat) {cA : ClassId} {n k : Nat} {f : Nat → Int32} (ha : ws[q0]? = some (a, .inl (cA, n, .inl f))) (ht : tys[t0]? = some (cA, .int)) (hk : k < n) (hn : n < 2 ^ 31) (hdg : decode cc pc = .ok (.iaload, 1))
    (kk : W p l e R s m args below meth c H locs cells slots Q (F0 m (pc + 1) ls (.int (f k) :: rest))) : W p l e R s m args below meth c H locs cells slots Q (F0 m pc ls (.int (nI k) :: .ref a :: rest)) :=
  va_iald hx hb hK hP q0 t0 ha ht (vp_in_nI hk hn) hdg (by rw [nI_clamp (by omega)]; exact kk)
theorem xn_ald (hx : p.tables.exec = Jvm.exec) (hb : c.code = cc) (hK : va_K D cl tys s) (hP : va_P D cl ws H) (q0 t0 : Nat) {cA : ClassId} {n k : Nat} {f : Nat → Nat} (ha : ws[q0]? = some (a, .inl (cA, n, .inl (nA f)))) (ht : tys[t0]? = some (cA, .int)) (hk : k < n) (hn : n < 2 ^ 31) (hdg : decode cc pc = .ok (.iaload, 1))
    (kk : W p l e R s m args below meth c H locs cells slots Q (F0 m (pc + 1) ls (.int (nI (f k)) :: rest))) : W p l e R s m args below meth c H locs cells slots Q (F0 m pc ls (.int (nI k) :: .ref a :: rest)) :=
  xi_ald hx hb hK hP q0 t0 ha ht hk hn hdg kk
theorem xz_ald (hx : p.tables.exec = Jvm.exec) (hb : c.code = cc) (hK : va_K D cl tys s) (hP : va_P D cl ws H) (q0 t0 : Nat) {cA : ClassId} {n k : Nat} {f : Nat → Nat} (ha : ws[q0]? = some (a, .inl (cA, n, .inl (nA f)))) (ht : tys[t0]? = some (cA, .boolean)) (hk : k < n) (hn : n < 2 ^ 31) (hdg : decode cc pc = .ok (.baload, 1))
    (kk : W p l e R s m args below meth c H locs cells slots Q (F0 m (pc + 1) ls (.int (nI (f k)) :: rest))) : W p l e R s m args below meth c H locs cells slots Q (F0 m pc ls (.int (nI k) :: .ref a :: rest)) :=
  va_zald hx hb hK hP q0 t0 ha ht (vp_in_nI hk hn) hdg (by rw [nI_clamp (by omega)]; exact kk)
theorem xl_ast (hx : p.tables.exec = Jvm.exec) (hb : c.code = cc) (hK : va_K D cl tys s) (hP : va_P D cl ws H) (hD : va_D A ws) (hS : va_S A H0 H locs) (q0 t0 : Nat) {cA : ClassId} {n k : Nat} {f : Nat → Int64} (ha : ws[q0]? = some (a, .inl (cA, n, .inr (.inl f)))) (ht : tys[t0]? = some (cA, .long)) {x : Int64} (hk : k < n) (hn : n < 2 ^ 31) (hdg : decode cc pc = .ok (.lastore, 1))
    (kk : ∀ (H1 : Heap) (locs1 : List Loc), va_P D cl (ws.set q0 (a, .inl (cA, n, .inr (.inl (vp_updL f k x))))) H1 → va_D A (ws.set q0 (a, .inl (cA, n, .inr (.inl (vp_updL f k x))))) → va_S A H0 H1 locs1 → W p l e R s m args below meth c H1 locs1 cells slots Q (F0 m (pc + 1) ls rest)) : W p l e R s m args below meth c H locs cells slots Q (F0 m pc ls (.long x :: .int (nI k) :: .ref a :: rest)) := by
  have e1 : (nI k).toNatClampNeg = k := nI_clamp (by omega)
  refine va_last hx hb hK hP hD hS q0 t0 ha ht (vp_in_nI hk hn) hdg ?_
  rw [e1]
  exact kk
theorem xi_ast (hx : p.tables.exec = Jvm.exec) (hb : c.code = cc) (hK : va_K D cl tys s) (hP : va_P D cl ws H) (hD : va_D A ws) (hS : va_S A H0 H locs) (q0 t0 : Nat) {cA : ClassId} {n k : Nat} {f : Nat → Int32} (ha : ws[q0]? = some (a, .inl (cA, n, .inl f))) (ht : tys[t0]? = some (cA, .int)) {x : Int32} (hk : k < n) (hn : n < 2 ^ 31) (hdg : decode cc pc = .ok (.iastore, 1))
    (kk : ∀ (H1 : Heap) (locs1 : List Loc), va_P D cl (ws.set q0 (a, .inl (cA, n, .inl (upd f k x)))) H1 → va_D A (ws.set q0 (a, .inl (cA, n, .inl (upd f k x)))) → va_S A H0 H1 locs1 → W p l e R s m args below meth c H1 locs1 cells slots Q (F0 m (pc + 1) ls rest)) : W p l e R s m args below meth c H locs cells slots Q (F0 m pc ls (.int x :: .int (nI k) :: .ref a :: rest)) := by
  have e1 : (nI k).toNatClampNeg = k := nI_clamp (by omega)
  refine va_iast hx hb hK hP hD hS q0 t0 ha ht (vp_in_nI hk hn) hdg ?_
  rw [e1]
  exact kk
theorem xn_ast (hx : p.tables.exec = Jvm.exec) (hb : c.code = cc) (hK : va_K D cl tys s) (hP : va_P D cl ws H) (hD : va_D A ws) (hS : va_S A H0 H locs) (q0 t0 : Nat) {cA : ClassId} {n k : Nat} {f : Nat → Nat} (ha : ws[q0]? = some (a, .inl (cA, n, .inl (nA f)))) (ht : tys[t0]? = some (cA, .int)) {x : Nat} (hk : k < n) (hn : n < 2 ^ 31) (hdg : decode cc pc = .ok (.iastore, 1))
    (kk : ∀ (H1 : Heap) (locs1 : List Loc), va_P D cl (ws.set q0 (a, .inl (cA, n, .inl (nA (va_up f k x))))) H1 → va_D A (ws.set q0 (a, .inl (cA, n, .inl (nA (va_up f k x))))) → va_S A H0 H1 locs1 → W p l e R s m args below meth c H1 locs1 cells slots Q (F0 m (pc + 1) ls rest)) : W p l e R s m args below meth c H locs cells slots Q (F0 m pc ls (.int (nI x) :: .int (nI k) :: .ref a :: rest)) := by
  refine xi_ast hx hb hK hP hD hS q0 t0 ha ht hk hn hdg ?_
  rw [nA_up]
  exact kk
theorem xz_ast (hx : p.tables.exec = Jvm.exec) (hb : c.code = cc) (hK : va_K D cl tys s) (hP : va_P D cl ws H) (hD : va_D A ws) (hS : va_S A H0 H locs) (q0 t0 : Nat) {cA : ClassId} {n k : Nat} {f : Nat → Nat} (ha : ws[q0]? = some (a, .inl (cA, n, .inl (nA f)))) (ht : tys[t0]? = some (cA, .boolean)) {x : Nat} (hk : k < n) (hn : n < 2 ^ 31) (hz : vp_nar .boolean (nI x) = nI x) (hdg : decode cc pc = .ok (.bastore, 1))
    (kk : ∀ (H1 : Heap) (locs1 : List Loc), va_P D cl (ws.set q0 (a, .inl (cA, n, .inl (nA (va_up f k x))))) H1 → va_D A (ws.set q0 (a, .inl (cA, n, .inl (nA (va_up f k x))))) → va_S A H0 H1 locs1 → W p l e R s m args below meth c H1 locs1 cells slots Q (F0 m (pc + 1) ls rest)) : W p l e R s m args below meth c H locs cells slots Q (F0 m pc ls (.int (nI x) :: .int (nI k) :: .ref a :: rest)) := by
  have e1 : (nI k).toNatClampNeg = k := nI_clamp (by omega)
  refine va_zast hx hb hK hP hD hS q0 t0 ha ht (vp_in_nI hk hn) hdg ?_
  rw [e1, hz, nA_up]
  exact kk
theorem xn_ge_t {x y tgt : Nat} {off : Int} (hx : p.tables.exec = Jvm.exec) (hb : c.code = cc) (hdg : decode cc pc = .ok (.if_icmp .ge off, 3)) (ht : (pc : Int) + off = (tgt : Int)) (h : y ≤ x) (h2 : x < 2 ^ 31) (k : W p l e R s m args below meth c H locs cells slots Q (F0 m tgt ls rest)) : W p l e R s m args below meth c H locs cells slots Q (F0 m pc ls (.int (nI y) :: .int (nI x) :: rest)) :=
  lv_icmp_ge hx hb hdg ht (fun _ => k) (fun q => absurd (nI_le h h2) q)
theorem xn_ge_f {x y tgt : Nat} {off : Int} (hx : p.tables.exec = Jvm.exec) (hb : c.code = cc) (hdg : decode cc pc = .ok (.if_icmp .ge off, 3)) (ht : (pc : Int) + off = (tgt : Int)) (h : x < y) (h2 : y < 2 ^ 31) (k : W p l e R s m args below meth c H locs cells slots Q (F0 m (pc + 3) ls rest)) : W p l e R s m args below meth c H locs cells slots Q (F0 m pc ls (.int (nI y) :: .int (nI x) :: rest)) :=
  lv_icmp_ge hx hb hdg ht (fun q => absurd q (nI_ge h h2)) (fun _ => k)
theorem xn_ge_b {x y tgt : Nat} {off : Int} (hx : p.tables.exec = Jvm.exec) (hb : c.code = cc) (hdg : decode cc pc = .ok (.if_icmp .ge off, 3)) (ht : (pc : Int) + off = (tgt : Int)) (h1 : x < 2 ^ 31) (h2 : y < 2 ^ 31) (kt : y ≤ x → W p l e R s m args below meth c H locs cells slots Q (F0 m tgt ls rest)) (kf : x < y → W p l e R s m args below meth c H locs cells slots Q (F0 m (pc + 3) ls rest)) : W p l e R s m args below meth c H locs cells slots Q (F0 m pc ls (.int (nI y) :: .int (nI x) :: rest)) :=
  lv_icmp_ge hx hb hdg ht (fun q => kt ((nI_leI h2 h1).mp q)) (fun q => kf (Nat.lt_of_not_le (fun z => q ((nI_leI h2 h1).mpr z))))
theorem xn_lt_b {x y tgt : Nat} {off : Int} (hx : p.tables.exec = Jvm.exec) (hb : c.code = cc) (hdg : decode cc pc = .ok (.if_icmp .lt off, 3)) (ht : (pc : Int) + off = (tgt : Int)) (h1 : x < 2 ^ 31) (h2 : y < 2 ^ 31) (kt : x < y → W p l e R s m args below meth c H locs cells slots Q (F0 m tgt ls rest)) (kf : y ≤ x → W p l e R s m args below meth c H locs cells slots Q (F0 m (pc + 3) ls rest)) : W p l e R s m args below meth c H locs cells slots Q (F0 m pc ls (.int (nI y) :: .int (nI x) :: rest)) :=
  lv_icmp_lt hx hb hdg ht (fun q => kt ((nI_ltI h1 h2).mp q)) (fun q => kf (Nat.le_of_not_lt (fun z => q ((nI_ltI h1 h2).mpr z))))
theorem xn_gt_b {x y tgt : Nat} {off : Int} (hx : p.tables.exec = Jvm.exec) (hb : c.code = cc) (hdg : decode cc pc = .ok (.if_icmp .gt off, 3)) (ht : (pc : Int) + off = (tgt : Int)) (h1 : x < 2 ^ 31) (h2 : y < 2 ^ 31) (kt : y < x → W p l e R s m args below meth c H locs cells slots Q (F0 m tgt ls rest)) (kf : x ≤ y → W p l e R s m args below meth c H locs cells slots Q (F0 m (pc + 3) ls rest)) : W p l e R s m args below meth c H locs cells slots Q (F0 m pc ls (.int (nI y) :: .int (nI x) :: rest)) :=
  lv_icmp_gt hx hb hdg ht (fun q => kt ((nI_ltI h2 h1).mp q)) (fun q => kf (Nat.le_of_not_lt (fun z => q ((nI_ltI h2 h1).mpr z))))
theorem xn_eq_b {x y tgt : Nat} {off : Int} (hx : p.tables.exec = Jvm.exec) (hb : c.code = cc) (hdg : decode cc pc = .ok (.if_icmp .eq off, 3)) (ht : (pc : Int) + off = (tgt : Int)) (h1 : x < 2 ^ 31) (h2 : y < 2 ^ 31) (kt : x = y → W p l e R s m args below meth c H locs cells slots Q (F0 m tgt ls rest)) (kf : x ≠ y → W p l e R s m args below meth c H locs cells slots Q (F0 m (pc + 3) ls rest)) : W p l e R s m args below meth c H locs cells slots Q (F0 m pc ls (.int (nI y) :: .int (nI x) :: rest)) :=
  lv_icmp_eq hx hb hdg ht (fun q => kt ((nI_eq h1 h2).mp q)) (fun q => kf (fun z => q ((nI_eq h1 h2).mpr z)))
theorem xn_ne_b {x y tgt : Nat} {off : Int} (hx : p.tables.exec = Jvm.exec) (hb : c.code = cc) (hdg : decode cc pc = .ok (.if_icmp .ne off, 3)) (ht : (pc : Int) + off = (tgt : Int)) (h1 : x < 2 ^ 31) (h2 : y < 2 ^ 31) (kt : x ≠ y → W p l e R s m args below meth c H locs cells slots Q (F0 m tgt ls rest)) (kf : x = y → W p l e R s m args below meth c H locs cells slots Q (F0 m (pc + 3) ls rest)) : W p l e R s m args below meth c H locs cells slots Q (F0 m pc ls (.int (nI y) :: .int (nI x) :: rest)) :=
  lv_icmp_ne hx hb hdg ht (fun q => kt (fun z => q ((nI_eq h1 h2).mpr z))) (fun q => kf ((nI_eq h1 h2).mp q))
theorem xn_ifeq_b {x tgt : Nat} {off : Int} (hx : p.tables.exec = Jvm.exec) (hb : c.code = cc) (hdg : decode cc pc = .ok (.ifCond .eq off, 3)) (ht : (pc : Int) + off = (tgt : Int)) (h1 : x < 2 ^ 31) (kt : x = 0 → W p l e R s m args below meth c H locs cells slots Q (F0 m tgt ls rest)) (kf : x ≠ 0 → W p l e R s m args below meth c H locs cells slots Q (F0 m (pc + 3) ls rest)) : W p l e R s m args below meth c H locs cells slots Q (F0 m pc ls (.int (nI x) :: rest)) :=
  lv_if_eq hx hb hdg ht (fun q => kt ((xi_eq0 h1).mp q)) (fun q => kf (fun z => q ((xi_eq0 h1).mpr z)))
theorem xn_ifne_b {x tgt : Nat} {off : Int} (hx : p.tables.exec = Jvm.exec) (hb : c.code = cc) (hdg : decode cc pc = .ok (.ifCond .ne off, 3)) (ht : (pc : Int) + off = (tgt : Int)) (h1 : x < 2 ^ 31) (kt : x ≠ 0 → W p l e R s m args below meth c H locs cells slots Q (F0 m tgt ls rest)) (kf : x = 0 → W p l e R s m args below meth c H locs cells slots Q (F0 m (pc + 3) ls rest)) : W p l e R s m args below meth c H locs cells slots Q (F0 m pc ls (.int (nI x) :: rest)) :=
  lv_if_ne hx hb hdg ht (fun q => kt (fun z => q ((xi_eq0 h1).mpr z))) (fun q => kf ((xi_eq0 h1).mp q))
theorem xn_iflt_f {x tgt : Nat} {off : Int} (hx : p.tables.exec = Jvm.exec) (hb : c.code = cc) (hdg : decode cc pc = .ok (.ifCond .lt off, 3)) (ht : (pc : Int) + off = (tgt : Int)) (h1 : x < 2 ^ 31) (k : W p l e R s m args below meth c H locs cells slots Q (F0 m (pc + 3) ls rest)) : W p l e R s m args below meth c H locs cells slots Q (F0 m pc ls (.int (nI x) :: rest)) :=
  lv_if_lt hx hb hdg ht (fun q => absurd q (nI_pos h1)) (fun _ => k)
theorem xn_ifge_t {x tgt : Nat} {off : Int} (hx : p.tables.exec = Jvm.exec) (hb : c.code = cc) (hdg : decode cc pc = .ok (.ifCond .ge off, 3)) (ht : (pc : Int) + off = (tgt : Int)) (h1 : x < 2 ^ 31) (k : W p l e R s m args below meth c H locs cells slots Q (F0 m tgt ls rest)) : W p l e R s m args below meth c H locs cells slots Q (F0 m pc ls (.int (nI x) :: rest)) :=
  lv_if_ge hx hb hdg ht (fun _ => k) (fun q => absurd (nI_pos' h1) q)
/-- the value on top under another name -/
theorem xt_i {x y : Int32} (h : x = y) (k : W p l e R s m args below meth c H locs cells slots Q (F0 m pc ls (.int y :: rest))) : W p l e R s m args below meth c H locs cells slots Q (F0 m pc ls (.int x :: rest)) := by rw [h]; exact k
theorem xt_l {x y : Int64} (h : x = y) (k : W p l e R s m args below meth c H locs cells slots Q (F0 m pc ls (.long y :: rest))) : W p l e R s m args below meth c H locs cells slots Q (F0 m pc ls (.long x :: rest)) := by rw [h]; exact k
/-- a loop whose states are i ≤ N and u: the world ws u, the locals lv i u, the invariant J i u -/
theorem lp_w {σ : Type} {nL : Nat} (N : Nat) (w : σ → va_W) (lv : Nat → σ → List (Nat × Value)) (J : Nat → σ → Prop)
    (done : ∀ (u : σ) (H : Heap) (locs : List Loc) (ls : Array Slot), J N u → va_P D cl (w u) H → va_D A (w u) → va_S A H0 H locs → lv_has ls nL (lv N u) → W p l e R s m args below meth c H locs cells slots Q (F0 m pc ls []))
    (step : ∀ (i : Nat) (u : σ) (H : Heap) (locs : List Loc) (ls : Array Slot), i < N → J i u → va_P D cl (w u) H → va_D A (w u) → va_S A H0 H locs → lv_has ls nL (lv i u) →
      (∀ (u : σ) (H : Heap) (locs : List Loc) (ls : Array Slot), J (i + 1) u → va_P D cl (w u) H → va_D A (w u) → va_S A H0 H locs → lv_has ls nL (lv (i + 1) u) → W p l e R s m args below meth c H locs cells slots Q (F0 m pc ls [])) → W p l e R s m args below meth c H locs cells slots Q (F0 m pc ls [])) :
    ∀ (i : Nat) (u : σ) (H : Heap) (locs : List Loc) (ls : Array Slot), i ≤ N → J i u → va_P D cl (w u) H → va_D A (w u) → va_S A H0 H locs → lv_has ls nL (lv i u) → W p l e R s m args below meth c H locs cells slots Q (F0 m pc ls []) := by
  have key : ∀ (n i : Nat) (u : σ) (H : Heap) (locs : List Loc) (ls : Array Slot), i + n = N → J i u → va_P D cl (w u) H → va_D A (w u) → va_S A H0 H locs → lv_has ls nL (lv i u) → W p l e R s m args below meth c H locs cells slots Q (F0 m pc ls []) := by
    intro n
    induction n with
    | zero =>
      intro i u H locs ls hi hJ hP hD hS hl
      obtain rfl : i = N := by omega
      exact done u H locs ls hJ hP hD hS hl
    | succ n ih =>
      intro i u H locs ls hi hJ hP hD hS hl
      exact step i u H locs ls (by omega) hJ hP hD hS hl (fun u H locs ls hJ hP hD hS hl => ih (i + 1) u H locs ls (by omega) hJ hP hD hS hl)
  intro i u H locs ls hi hJ hP hD hS hl
  exact key (N - i) i u H locs ls (by omega) hJ hP hD hS hl
end RR
/-! contracts over one world w -/
abbrev cP (D : va_G) (tys : zt_T) (w : va_W) (sz : Nat) (av : List Value) : Array Value → State → Prop := va_Pc av (fun U => U.heap.size = sz ∧ va_P D vwCl w U.heap ∧ va_K D vwCl tys U ∧ va_D (fun _ => True) w)
abbrev cB (D : va_G) (tys : zt_T) (w : va_W) (sz : Nat) {S : Type} (w1 : S → va_W) (u : S) (t : State) : Prop := va_P D vwCl (w1 u) t.heap ∧ va_K D vwCl tys t ∧ va_D (va_A w sz) (w1 u)
abbrev cR (fr lo : Nat) : Room := { frames := fr, cells := 0, slots := 0, locals := lo }
def cMi (l : Launch) (y : MethodName) (cc : ByteArray) (nL : Nat) (ret : FieldType) (fr lo : Nat) (D : va_G) (tys : zt_T) (w : va_W) (sz : Nat) (av : List Value) {S : Type} (post : Int32 → S → Prop) (w1 : S → va_W) : Prop :=
  Met l y (ws_ y cc nL (some ret)) (cR fr lo) (cP D tys w sz av) (va_Qi post (cB D tys w sz w1) (va_A w sz)) 0 0 (va_A w sz)
def cMl (l : Launch) (y : MethodName) (cc : ByteArray) (nL : Nat) (fr lo : Nat) (D : va_G) (tys : zt_T) (w : va_W) (sz : Nat) (av : List Value) {S : Type} (post : Int64 → S → Prop) (w1 : S → va_W) : Prop :=
  Met l y (ws_ y cc nL (some .long)) (cR fr lo) (cP D tys w sz av) (va_Ql post (cB D tys w sz w1) (va_A w sz)) 0 0 (va_A w sz)
def cMv (l : Launch) (y : MethodName) (cc : ByteArray) (nL : Nat) (fr lo : Nat) (D : va_G) (tys : zt_T) (w : va_W) (sz : Nat) (av : List Value) {S : Type} (post : S → Prop) (w1 : S → va_W) : Prop :=
  Met l y (ws_ y cc nL none) (cR fr lo) (cP D tys w sz av) (va_Qv post (cB D tys w sz w1) (va_A w sz)) 0 0 (va_A w sz)
/-- what a body has: the machine, its code, the words, the classes, its cells -/
abbrev cF (p : Program) (R : Room) (s : State) (m : MethodId) (args : Array Value) (meth : Method) (c : Code) (cc : ByteArray) (nL fr lo : Nat) (own : String) (D : va_G) (tys : zt_T) (A : Nat → Prop) : Prop :=
  p.tables.exec = Jvm.exec ∧ c.code = cc ∧ c.maxLocals = nL ∧ s.vm.findClass own = some m.cls ∧ (∀ w ∈ lw_all, w.before args s = true) ∧ (R.frames = fr ∧ R.locals = lo) ∧ va_K D vwCl tys s ∧ (∀ q : Nat, s.heap.size ≤ q → A q)
theorem cMi.of {l : Launch} {y : MethodName} {cc : ByteArray} {nL : Nat} {ret : FieldType} {fr lo : Nat} {D : va_G} {tys : zt_T} {w : va_W} {sz : Nat} {av : List Value} {S : Type} {post : Int32 → S → Prop} {w1 : S → va_W} (hy : plainName y.cls = true) (hav : (lg_sl av).length ≤ nL)
    (body : ∀ (p : Program) (e : Env) (R : Room) (s : State) (m : MethodId) (args : Array Value) (below : List Frame) (meth : Method) (c : Code) (A : Nat → Prop) (Q : State → Prop) (ls : Array Slot) (H : Heap) (locs : List Loc), cF p R s m args meth c cc nL fr lo y.cls D tys A → va_P D vwCl w H → va_D A w → va_S A s.heap H locs → lv_has ls nL (lv_args 0 av) →
      (∀ (pc : Nat) (ls : Array Slot) (H : Heap) (locs : List Loc) (v : Int32) (u : S), decode cc pc = .ok (.ireturn, 1) → narrow ret (.int v) = .int v → post v u → va_P D vwCl (w1 u) H → va_D A (w1 u) → va_S A s.heap H locs → W p l e R s m args below meth c H locs 0 0 Q (F0 m pc ls [.int v])) →
      W p l e R s m args below meth c H locs 0 0 Q (F0 m 0 ls [])) : cMi l y cc nL ret fr lo D tys w sz av post w1 := by
  refine Met.ofW (cc := cc) (maxL := nL) (ret := some ret) hy rfl ?_
  intro p e s m args below meth c s₁ B hml hv
  obtain ⟨rfl, hsz, hP, hK, hD0⟩ := hv
  have hts := atoms_spec (ws := ws_ y cc nL (some ret)) B.pre
  have hts : ∀ w ∈ lw_all, w.before _ s = true := fun w h => hts w (List.mem_cons_of_mem _ h)
  have hown : s.vm.findClass y.cls = some m.cls := findClass_of_methodNamed B.named
  have hlocks := B.notSynchronized
  have hb := B.bytes
  have hx := B.exec
  have hr := B.returns
  subst hsz
  have hD := hD0.self (sz := s.heap.size)
  have hA : ∀ q : Nat, s.heap.size ≤ q → va_A w s.heap.size q := fun q h => Or.inr h
  have hl := lv_entry av (n := nL) hav
  rw [lg_entry_eq]
  generalize (lg_sl av ++ List.replicate (nL - (lg_sl av).length) Slot.unset).toArray = ls at hl ⊢
  refine body p e _ s m _ below meth c (va_A w s.heap.size) _ ls s.heap [] ⟨hx, hb, hml, hown, hts, ⟨rfl, rfl⟩, hK, hA⟩ hP hD va_S.rf hl ?_
  intro pc ls H locs v u hdg hn hpost hP hD hS
  exact W.zret (v := v) hx hb hr hn (fun t ht hW => ⟨⟨v, u, rfl, hpost, by rw [ht]; exact hP, va_K.moved hW.alike hK, hD⟩, hS.F ht⟩) hS.2.2 hdg
theorem cMl.of {l : Launch} {y : MethodName} {cc : ByteArray} {nL : Nat} {fr lo : Nat} {D : va_G} {tys : zt_T} {w : va_W} {sz : Nat} {av : List Value} {S : Type} {post : Int64 → S → Prop} {w1 : S → va_W} (hy : plainName y.cls = true) (hav : (lg_sl av).length ≤ nL)
    (body : ∀ (p : Program) (e : Env) (R : Room) (s : State) (m : MethodId) (args : Array Value) (below : List Frame) (meth : Method) (c : Code) (A : Nat → Prop) (Q : State → Prop) (ls : Array Slot) (H : Heap) (locs : List Loc), cF p R s m args meth c cc nL fr lo y.cls D tys A → va_P D vwCl w H → va_D A w → va_S A s.heap H locs → lv_has ls nL (lv_args 0 av) →
      (∀ (pc : Nat) (ls : Array Slot) (H : Heap) (locs : List Loc) (v : Int64) (u : S), decode cc pc = .ok (.lreturn, 1) → post v u → va_P D vwCl (w1 u) H → va_D A (w1 u) → va_S A s.heap H locs → W p l e R s m args below meth c H locs 0 0 Q (F0 m pc ls [.long v])) →
      W p l e R s m args below meth c H locs 0 0 Q (F0 m 0 ls [])) : cMl l y cc nL fr lo D tys w sz av post w1 := by
  refine Met.ofW (cc := cc) (maxL := nL) (ret := some .long) hy rfl ?_
  intro p e s m args below meth c s₁ B hml hv
  obtain ⟨rfl, hsz, hP, hK, hD0⟩ := hv
  have hts := atoms_spec (ws := ws_ y cc nL (some .long)) B.pre
  have hts : ∀ w ∈ lw_all, w.before _ s = true := fun w h => hts w (List.mem_cons_of_mem _ h)
  have hown : s.vm.findClass y.cls = some m.cls := findClass_of_methodNamed B.named
  have hlocks := B.notSynchronized
  have hb := B.bytes
  have hx := B.exec
  have hr := B.returns
  subst hsz
  have hD := hD0.self (sz := s.heap.size)
  have hA : ∀ q : Nat, s.heap.size ≤ q → va_A w s.heap.size q := fun q h => Or.inr h
  have hl := lv_entry av (n := nL) hav
  rw [lg_entry_eq]
  generalize (lg_sl av ++ List.replicate (nL - (lg_sl av).length) Slot.unset).toArray = ls at hl ⊢
  refine body p e _ s m _ below meth c (va_A w s.heap.size) _ ls s.heap [] ⟨hx, hb, hml, hown, hts, ⟨rfl, rfl⟩, hK, hA⟩ hP hD va_S.rf hl ?_
  intro pc ls H locs v u hdg hpost hP hD hS
  exact W.lret (v := v) hx hb hr (fun t ht hW => ⟨⟨v, u, rfl, hpost, by rw [ht]; exact hP, va_K.moved hW.alike hK, hD⟩, hS.F ht⟩) hS.2.2 hdg
theorem cMv.of {l : Launch} {y : MethodName} {cc : ByteArray} {nL : Nat} {fr lo : Nat} {D : va_G} {tys : zt_T} {w : va_W} {sz : Nat} {av : List Value} {S : Type} {post : S → Prop} {w1 : S → va_W} (hy : plainName y.cls = true) (hav : (lg_sl av).length ≤ nL)
    (body : ∀ (p : Program) (e : Env) (R : Room) (s : State) (m : MethodId) (args : Array Value) (below : List Frame) (meth : Method) (c : Code) (A : Nat → Prop) (Q : State → Prop) (ls : Array Slot) (H : Heap) (locs : List Loc), cF p R s m args meth c cc nL fr lo y.cls D tys A → va_P D vwCl w H → va_D A w → va_S A s.heap H locs → lv_has ls nL (lv_args 0 av) →
      (∀ (pc : Nat) (ls : Array Slot) (H : Heap) (locs : List Loc) (u : S), decode cc pc = .ok (.return_, 1) → post u → va_P D vwCl (w1 u) H → va_D A (w1 u) → va_S A s.heap H locs → W p l e R s m args below meth c H locs 0 0 Q (F0 m pc ls [])) →
      W p l e R s m args below meth c H locs 0 0 Q (F0 m 0 ls [])) : cMv l y cc nL fr lo D tys w sz av post w1 := by
  refine Met.ofW (cc := cc) (maxL := nL) (ret := none) hy rfl ?_
  intro p e s m args below meth c s₁ B hml hv
  obtain ⟨rfl, hsz, hP, hK, hD0⟩ := hv
  have hts := atoms_spec (ws := ws_ y cc nL none) B.pre
  have hts : ∀ w ∈ lw_all, w.before _ s = true := fun w h => hts w (List.mem_cons_of_mem _ h)
  have hown : s.vm.findClass y.cls = some m.cls := findClass_of_methodNamed B.named
  have hlocks := B.notSynchronized
  have hb := B.bytes
  have hx := B.exec
  have hr := B.returns
  subst hsz
  have hD := hD0.self (sz := s.heap.size)
  have hA : ∀ q : Nat, s.heap.size ≤ q → va_A w s.heap.size q := fun q h => Or.inr h
  have hl := lv_entry av (n := nL) hav
  rw [lg_entry_eq]
  generalize (lg_sl av ++ List.replicate (nL - (lg_sl av).length) Slot.unset).toArray = ls at hl ⊢
  refine body p e _ s m _ below meth c (va_A w s.heap.size) _ ls s.heap [] ⟨hx, hb, hml, hown, hts, ⟨rfl, rfl⟩, hK, hA⟩ hP hD va_S.rf hl ?_
  intro pc ls H locs u hdg hpost hP hD hS
  exact W.vret hx hb hr (fun t ht hW => ⟨⟨u, rfl, hpost, by rw [ht]; exact hP, va_K.moved hW.alike hK, hD⟩, hS.F ht⟩) hS.2.2 hdg
/-! worlds side by side -/
theorem w_left {D : va_G} {cl : List vw_C} {w wr : va_W} {H : Heap} (h : va_P D cl (w ++ wr) H) : va_P D cl w H := by
  intro k q hk
  exact h k q (by rw [List.getElem?_append_left (List.getElem?_eq_some_iff.mp hk).1]; exact hk)
theorem w_right {D : va_G} {cl : List vw_C} {w wr : va_W} {H : Heap} (h : va_P D cl (w ++ wr) H) : va_P D cl wr H := by
  intro k q hk
  exact h (w.length + k) q (by rw [List.getElem?_append_right (by omega), Nat.add_sub_cancel_left]; exact hk)
theorem w_dleft {A : Nat → Prop} {w wr : va_W} (h : va_D A (w ++ wr)) : va_D A w := by
  refine ⟨fun i j x y hi hj e => h.1 i j x y ?_ ?_ e, fun k q hk => h.2 k q ?_⟩
  · rw [List.getElem?_append_left (List.getElem?_eq_some_iff.mp hi).1]; exact hi
  · rw [List.getElem?_append_left (List.getElem?_eq_some_iff.mp hj).1]; exact hj
  · rw [List.getElem?_append_left (List.getElem?_eq_some_iff.mp hk).1]; exact hk
theorem w_dright {A : Nat → Prop} {w wr : va_W} (h : va_D A (w ++ wr)) : va_D A wr := by
  refine ⟨fun i j x y hi hj e => ?_, fun k q hk => h.2 (w.length + k) q ?_⟩
  · have := h.1 (w.length + i) (w.length + j) x y (by rw [List.getElem?_append_right (by omega), Nat.add_sub_cancel_left]; exact hi) (by rw [List.getElem?_append_right (by omega), Nat.add_sub_cancel_left]; exact hj) e
    omega
  · rw [List.getElem?_append_right (by omega), Nat.add_sub_cancel_left]; exact hk
theorem w_dapart {A : Nat → Prop} {w wr : va_W} (h : va_D A (w ++ wr)) : ∀ (i j : Nat) (p q : Nat × va_E), w[i]? = some p → wr[j]? = some q → p.1 ≠ q.1 := by
  intro i j x y hi hj e
  have hl := (List.getElem?_eq_some_iff.mp hi).1
  have := h.1 i (w.length + j) x y (by rw [List.getElem?_append_left hl]; exact hi) (by rw [List.getElem?_append_right (by omega), Nat.add_sub_cancel_left]; exact hj) e
  omega
theorem w_swap {D : va_G} {cl : List vw_C} {w wr : va_W} {H : Heap} (h : va_P D cl (w ++ wr) H) : va_P D cl (wr ++ w) H := (w_right h).app (w_left h)
theorem w_dswap {A : Nat → Prop} {w wr : va_W} (h : va_D A (w ++ wr)) : va_D A (wr ++ w) := (w_dright h).app (w_dleft h) (fun i j p q h1 h2 e => w_dapart h j i q p h2 h1 e.symm)
theorem w_free {A : Nat → Prop} {w wr : va_W} {H0 H : Heap} {locs : List Loc} (hD : va_D A (w ++ wr)) (hS : va_S A H0 H locs) (hA : ∀ q : Nat, H0.size ≤ q → A q) : ∀ q, va_A w H.size q → A q := by
  intro q h
  rcases h with ⟨k, e, h⟩ | h
  · exact (w_dleft hD).2 k (q, e) h
  · exact hA q (Nat.le_trans hS.1 h)
theorem w_join {D : va_G} {cl : List vw_C} {A : Nat → Prop} {w wr w1 : va_W} {H H1 : Heap} (hP : va_P D cl (w ++ wr) H) (hD : va_D A (w ++ wr)) (hk : ∀ q : Nat, q < H.size → ¬ va_A w H.size q → H1[q]? = H[q]?) (hF : ∀ q, va_A w H.size q → A q) (hP1 : va_P D cl w1 H1) (hD1 : va_D (va_A w H.size) w1) : va_P D cl (w1 ++ wr) H1 ∧ va_D A (w1 ++ wr) := by
  have apart : ∀ (k : Nat) (q : Nat × va_E), wr[k]? = some q → q.1 < H.size ∧ ¬ va_A w H.size q.1 := by
    intro k q hq
    have hl := (w_right hP k q hq).lt
    refine ⟨hl, fun h => ?_⟩
    rcases h with ⟨j, e, h⟩ | h
    · exact w_dapart hD j k (q.1, e) q h hq rfl
    · omega
  refine ⟨hP1.app (fun k q hq => ?_), (hD1.weaken (fun k q _ h => hF q.1 h)).app (w_dright hD) (fun i j x y hx hy hxy => ?_)⟩
  · obtain ⟨g1, g2⟩ := apart k q hq
    exact (w_right hP k q hq).kept (hk q.1 g1 g2)
  · exact (apart j y hy).2 (by rw [← hxy]; exact hD1.2 i x hx)
/-! calls over one world w beside the rest wr -/
section CC
variable {p : Program} {l : Launch} {e : Env} {R : Room} {s : State} {m : MethodId} {args : Array Value} {below : List Frame} {meth : Method} {c : Code} {H : Heap} {locs : List Loc} {cells slots : Nat} {Q : State → Prop}
variable {cc : ByteArray} {pc nL : Nat} {ls : Array Slot} {rest st0 As : List Value} {D : va_G} {A : Nat → Prop} {h index n ci : Nat} {tys : List (ClassId × FieldType)} {w wr : va_W} {own : String} {y : MethodName} {bytes : ByteArray} {maxL fr lo sz : Nat} {ret : FieldType} {S : Type} {w1 : S → va_W} {fs : List Value} {q : vw_C}
theorem kw_i {post : Int32 → S → Prop} (F : CallFix p m c cc nL s args lw_all own) (hM : cMi l y bytes maxL ret fr lo D tys w H.size (.ref h :: As) post w1) (hG : GoodIn lw_all (wsV own index y.cls y (ws_ y bytes maxL (some ret)))) (hd : y.cls = y.cls ∧ y.cls ≠ "java/lang/invoke/MethodHandle" ∧ y.cls ≠ "java/lang/invoke/VarHandle" ∧ (parseMethodDescriptor y.desc).map (fun d => d.parameters.length) = some n)
    (hR : fr + 1 ≤ R.frames ∧ 8 + (maxL + 11) + lo ≤ R.locals) (hcs : cells ≤ R.cells ∧ slots ≤ R.slots) (hK : va_K D vwCl tys s) (hP : va_P D vwCl (w ++ wr) H) (hD : va_D A (w ++ wr)) (hS : va_S A s.heap H locs) (hA : ∀ q : Nat, s.heap.size ≤ q → A q) (hc : vwCl[ci]? = some q) (hq : q.1 = y.cls) (he : w[0]? = some (h, .inr (ci, fs))) (hn : As.length = n) (hsize : ls.size = nL) (hst : st0 = As.reverse ++ .ref h :: rest) (hrest : (rest.map fun v => v.category).sum ≤ 8) (hdg : decode cc pc = .ok (.invokevirtual index, 3))
    (kk : ∀ (r : Int32) (u : S) (H : Heap) (locs : List Loc), post r u → va_P D vwCl (w1 u ++ wr) H → va_D A (w1 u ++ wr) → va_S A s.heap H locs → W p l e R s m args below meth c H locs cells slots Q (F0 m (pc + 3) ls (.int r :: rest))) : W p l e R s m args below meth c H locs cells slots Q (F0 m pc ls st0) := by
  have hF := w_free hD hS hA
  refine va_calli (va_runV (C := y.cls) (b := h) (As := As) (rest := rest) F hM (cwV n F.2.2.2.2 hG rfl rfl rfl hd hR) ⟨fun a U g mk q => ?_, ?_, fun U hU hW => ?_⟩ rfl hn hsize hst (lv_room hrest) hdg hcs) hS (fun q _ h => hF q h) hF (fun r u t H1 locs1 ht hvm hw hB hz hk hS => ?_)
  · obtain ⟨q0, q1, qP, qK, qD⟩ := q
    exact ⟨q0, q1, qP, va_K.moved (u := U) (U := U.calling g mk a) (Vm.Alike.refl U.vm) qK, qD⟩
  · rw [← hq]
    exact va_recv hK (w_left hP) hc he
  · exact ⟨rfl, by rw [hU], by rw [hU]; exact w_left hP, va_K.moved hW.alike hK, (w_dleft hD).weaken (fun _ _ _ _ => trivial)⟩
  · obtain ⟨hP1, -, hD1⟩ := hB
    rw [ht] at hP1
    obtain ⟨g1, g2⟩ := w_join hP hD hk hF hP1 hD1
    exact kk r u H1 locs1 hw g1 g2 hS
theorem kw_l {post : Int64 → S → Prop} (F : CallFix p m c cc nL s args lw_all own) (hM : cMl l y bytes maxL fr lo D tys w H.size (.ref h :: As) post w1) (hG : GoodIn lw_all (wsV own index y.cls y (ws_ y bytes maxL (some .long)))) (hd : y.cls = y.cls ∧ y.cls ≠ "java/lang/invoke/MethodHandle" ∧ y.cls ≠ "java/lang/invoke/VarHandle" ∧ (parseMethodDescriptor y.desc).map (fun d => d.parameters.length) = some n)
    (hR : fr + 1 ≤ R.frames ∧ 8 + (maxL + 11) + lo ≤ R.locals) (hcs : cells ≤ R.cells ∧ slots ≤ R.slots) (hK : va_K D vwCl tys s) (hP : va_P D vwCl (w ++ wr) H) (hD : va_D A (w ++ wr)) (hS : va_S A s.heap H locs) (hA : ∀ q : Nat, s.heap.size ≤ q → A q) (hc : vwCl[ci]? = some q) (hq : q.1 = y.cls) (he : w[0]? = some (h, .inr (ci, fs))) (hn : As.length = n) (hsize : ls.size = nL) (hst : st0 = As.reverse ++ .ref h :: rest) (hrest : (rest.map fun v => v.category).sum ≤ 8) (hdg : decode cc pc = .ok (.invokevirtual index, 3))
    (kk : ∀ (r : Int64) (u : S) (H : Heap) (locs : List Loc), post r u → va_P D vwCl (w1 u ++ wr) H → va_D A (w1 u ++ wr) → va_S A s.heap H locs → W p l e R s m args below meth c H locs cells slots Q (F0 m (pc + 3) ls (.long r :: rest))) : W p l e R s m args below meth c H locs cells slots Q (F0 m pc ls st0) := by
  have hF := w_free hD hS hA
  refine va_calll (va_runV (C := y.cls) (b := h) (As := As) (rest := rest) F hM (cwV n F.2.2.2.2 hG rfl rfl rfl hd hR) ⟨fun a U g mk q => ?_, ?_, fun U hU hW => ?_⟩ rfl hn hsize hst (lv_room hrest) hdg hcs) hS (fun q _ h => hF q h) hF (fun r u t H1 locs1 ht hvm hw hB hz hk hS => ?_)
  · obtain ⟨q0, q1, qP, qK, qD⟩ := q
    exact ⟨q0, q1, qP, va_K.moved (u := U) (U := U.calling g mk a) (Vm.Alike.refl U.vm) qK, qD⟩
  · rw [← hq]
    exact va_recv hK (w_left hP) hc he
  · exact ⟨rfl, by rw [hU], by rw [hU]; exact w_left hP, va_K.moved hW.alike hK, (w_dleft hD).weaken (fun _ _ _ _ => trivial)⟩
  · obtain ⟨hP1, -, hD1⟩ := hB
    rw [ht] at hP1
    obtain ⟨g1, g2⟩ := w_join hP hD hk hF hP1 hD1
    exact kk r u H1 locs1 hw g1 g2 hS
theorem kw_v {post : S → Prop} (F : CallFix p m c cc nL s args lw_all own) (hM : cMv l y bytes maxL fr lo D tys w H.size (.ref h :: As) post w1) (hG : GoodIn lw_all (wsV own index y.cls y (ws_ y bytes maxL none))) (hd : y.cls = y.cls ∧ y.cls ≠ "java/lang/invoke/MethodHandle" ∧ y.cls ≠ "java/lang/invoke/VarHandle" ∧ (parseMethodDescriptor y.desc).map (fun d => d.parameters.length) = some n)
    (hR : fr + 1 ≤ R.frames ∧ 8 + (maxL + 11) + lo ≤ R.locals) (hcs : cells ≤ R.cells ∧ slots ≤ R.slots) (hK : va_K D vwCl tys s) (hP : va_P D vwCl (w ++ wr) H) (hD : va_D A (w ++ wr)) (hS : va_S A s.heap H locs) (hA : ∀ q : Nat, s.heap.size ≤ q → A q) (hc : vwCl[ci]? = some q) (hq : q.1 = y.cls) (he : w[0]? = some (h, .inr (ci, fs))) (hn : As.length = n) (hsize : ls.size = nL) (hst : st0 = As.reverse ++ .ref h :: rest) (hrest : (rest.map fun v => v.category).sum ≤ 8) (hdg : decode cc pc = .ok (.invokevirtual index, 3))
    (kk : ∀ (u : S) (H : Heap) (locs : List Loc), post u → va_P D vwCl (w1 u ++ wr) H → va_D A (w1 u ++ wr) → va_S A s.heap H locs → W p l e R s m args below meth c H locs cells slots Q (F0 m (pc + 3) ls rest)) : W p l e R s m args below meth c H locs cells slots Q (F0 m pc ls st0) := by
  have hF := w_free hD hS hA
  refine va_callv (va_runV (C := y.cls) (b := h) (As := As) (rest := rest) F hM (cwV n F.2.2.2.2 hG rfl rfl rfl hd hR) ⟨fun a U g mk q => ?_, ?_, fun U hU hW => ?_⟩ rfl hn hsize hst (lv_room hrest) hdg hcs) hS (fun q _ h => hF q h) hF (fun u t H1 locs1 ht hvm hw hB hz hk hS => ?_)
  · obtain ⟨q0, q1, qP, qK, qD⟩ := q
    exact ⟨q0, q1, qP, va_K.moved (u := U) (U := U.calling g mk a) (Vm.Alike.refl U.vm) qK, qD⟩
  · rw [← hq]
    exact va_recv hK (w_left hP) hc he
  · exact ⟨rfl, by rw [hU], by rw [hU]; exact w_left hP, va_K.moved hW.alike hK, (w_dleft hD).weaken (fun _ _ _ _ => trivial)⟩
  · obtain ⟨hP1, -, hD1⟩ := hB
    rw [ht] at hP1
    obtain ⟨g1, g2⟩ := w_join hP hD hk hF hP1 hD1
    exact kk u H1 locs1 hw g1 g2 hS
/-- a static call that has no world -/
theorem ks_i {post : Int32 → Unit → Prop} (F : CallFix p m c cc nL s args lw_all own) (hM : cMi l y bytes maxL ret fr lo D [] [] H.size As post (fun _ => [])) (hG : GoodIn lw_all (va_wsS own index y (ws_ y bytes maxL (some ret)))) (hd : y.cls ≠ "java/lang/invoke/MethodHandle" ∧ y.cls ≠ "java/lang/invoke/VarHandle" ∧ (parseMethodDescriptor y.desc).map (fun d => d.parameters.length) = some n)
    (hR : fr + 1 ≤ R.frames ∧ 8 + (maxL + 11) + lo ≤ R.locals) (hcs : cells ≤ R.cells ∧ slots ≤ R.slots) (hK : va_K D vwCl tys s) (hP : va_P D vwCl wr H) (hD : va_D A wr) (hS : va_S A s.heap H locs) (hA : ∀ q : Nat, s.heap.size ≤ q → A q) (hn : As.length = n) (hsize : ls.size = nL) (hst : st0 = As.reverse ++ rest) (hrest : (rest.map fun v => v.category).sum ≤ 8) (hdg : decode cc pc = .ok (.invokestatic index, 3))
    (kk : ∀ (r : Int32) (H : Heap) (locs : List Loc), post r () → va_P D vwCl wr H → va_D A wr → va_S A s.heap H locs → W p l e R s m args below meth c H locs cells slots Q (F0 m (pc + 3) ls (.int r :: rest))) : W p l e R s m args below meth c H locs cells slots Q (F0 m pc ls st0) := by
  have hP' : va_P D vwCl ([] ++ wr) H := hP
  have hD' : va_D A ([] ++ wr) := hD
  have hF := w_free hD' hS hA
  have hK0 : va_K D vwCl [] s := hK.sub [] rfl
  refine va_calli (va_runS (As := As) (rest := rest) F hM (va_cwS n F.2.2.2.2 hG rfl rfl rfl hd hR) ⟨fun a U g mk q => ?_, fun U hU hW => ?_⟩ rfl hn hsize hst (lv_room hrest) hdg hcs) hS (fun q _ h => hF q h) hF (fun r u t H1 locs1 ht hvm hw hB hz hk hS => ?_)
  · obtain ⟨q0, q1, qP, qK, qD⟩ := q
    exact ⟨q0, q1, qP, va_K.moved (u := U) (U := U.calling g mk a) (Vm.Alike.refl U.vm) qK, qD⟩
  · exact ⟨rfl, by rw [hU], fun k q hk => by simp at hk, va_K.moved hW.alike hK0, ⟨fun i j x y hi => by simp at hi, fun k q hk => by simp at hk⟩⟩
  · obtain ⟨hP1, -, hD1⟩ := hB
    rw [ht] at hP1
    obtain ⟨g1, g2⟩ := w_join hP' hD' hk hF hP1 hD1
    exact kk r H1 locs1 hw g1 g2 hS
end CC
section CV
variable {p : Program} {l : Launch} {e : Env} {R : Room} {s : State} {m : MethodId} {args : Array Value} {below : List Frame} {meth : Method} {c : Code} {H : Heap} {locs : List Loc} {cells slots : Nat} {Q : State → Prop}
variable {cc : ByteArray} {pc nL : Nat} {ls : Array Slot} {rest st0 As : List Value} {D : va_G} {A : Nat → Prop} {h index n ci : Nat} {tys : List (ClassId × FieldType)} {w : va_W} {own : String} {y : MethodName} {bytes : ByteArray} {maxL fr lo sz : Nat} {ret : FieldType} {S : Type} {w1 : S → va_W} {fs : List Value} {q : vw_C}
theorem kv_i {post : Int32 → S → Prop} (F : CallFix p m c cc nL s args lw_all own) (hM : cMi l y bytes maxL ret fr lo D tys w H.size (.ref h :: As) post w1) (hG : GoodIn lw_all (wsV own index y.cls y (ws_ y bytes maxL (some ret)))) (hd : y.cls = y.cls ∧ y.cls ≠ "java/lang/invoke/MethodHandle" ∧ y.cls ≠ "java/lang/invoke/VarHandle" ∧ (parseMethodDescriptor y.desc).map (fun d => d.parameters.length) = some n)
    (hR : fr + 1 ≤ R.frames ∧ 8 + (maxL + 11) + lo ≤ R.locals) (hcs : cells ≤ R.cells ∧ slots ≤ R.slots) (hK : va_K D vwCl tys s) (hP : va_P D vwCl w H) (hD : va_D A w) (hS : va_S A s.heap H locs) (hA : ∀ q : Nat, s.heap.size ≤ q → A q) (hc : vwCl[ci]? = some q) (hq : q.1 = y.cls) (he : w[0]? = some (h, .inr (ci, fs))) (hn : As.length = n) (hsize : ls.size = nL) (hst : st0 = As.reverse ++ .ref h :: rest) (hrest : (rest.map fun v => v.category).sum ≤ 8) (hdg : decode cc pc = .ok (.invokevirtual index, 3))
    (kk : ∀ (r : Int32) (u : S) (H : Heap) (locs : List Loc), post r u → va_P D vwCl (w1 u) H → va_D A (w1 u) → va_S A s.heap H locs → W p l e R s m args below meth c H locs cells slots Q (F0 m (pc + 3) ls (.int r :: rest))) : W p l e R s m args below meth c H locs cells slots Q (F0 m pc ls st0) :=
  kw_i (wr := []) F hM hG hd hR hcs hK (by rw [List.append_nil]; exact hP) (by rw [List.append_nil]; exact hD) hS hA hc hq he hn hsize hst hrest hdg (fun r u H locs hw hP hD hS => kk r u H locs hw (by rw [List.append_nil] at hP; exact hP) (by rw [List.append_nil] at hD; exact hD) hS)
theorem kv_l {post : Int64 → S → Prop} (F : CallFix p m c cc nL s args lw_all own) (hM : cMl l y bytes maxL fr lo D tys w H.size (.ref h :: As) post w1) (hG : GoodIn lw_all (wsV own index y.cls y (ws_ y bytes maxL (some .long)))) (hd : y.cls = y.cls ∧ y.cls ≠ "java/lang/invoke/MethodHandle" ∧ y.cls ≠ "java/lang/invoke/VarHandle" ∧ (parseMethodDescriptor y.desc).map (fun d => d.parameters.length) = some n)
    (hR : fr + 1 ≤ R.frames ∧ 8 + (maxL + 11) + lo ≤ R.locals) (hcs : cells ≤ R.cells ∧ slots ≤ R.slots) (hK : va_K D vwCl tys s) (hP : va_P D vwCl w H) (hD : va_D A w) (hS : va_S A s.heap H locs) (hA : ∀ q : Nat, s.heap.size ≤ q → A q) (hc : vwCl[ci]? = some q) (hq : q.1 = y.cls) (he : w[0]? = some (h, .inr (ci, fs))) (hn : As.length = n) (hsize : ls.size = nL) (hst : st0 = As.reverse ++ .ref h :: rest) (hrest : (rest.map fun v => v.category).sum ≤ 8) (hdg : decode cc pc = .ok (.invokevirtual index, 3))
    (kk : ∀ (r : Int64) (u : S) (H : Heap) (locs : List Loc), post r u → va_P D vwCl (w1 u) H → va_D A (w1 u) → va_S A s.heap H locs → W p l e R s m args below meth c H locs cells slots Q (F0 m (pc + 3) ls (.long r :: rest))) : W p l e R s m args below meth c H locs cells slots Q (F0 m pc ls st0) :=
  kw_l (wr := []) F hM hG hd hR hcs hK (by rw [List.append_nil]; exact hP) (by rw [List.append_nil]; exact hD) hS hA hc hq he hn hsize hst hrest hdg (fun r u H locs hw hP hD hS => kk r u H locs hw (by rw [List.append_nil] at hP; exact hP) (by rw [List.append_nil] at hD; exact hD) hS)
theorem kv_v {post : S → Prop} (F : CallFix p m c cc nL s args lw_all own) (hM : cMv l y bytes maxL fr lo D tys w H.size (.ref h :: As) post w1) (hG : GoodIn lw_all (wsV own index y.cls y (ws_ y bytes maxL none))) (hd : y.cls = y.cls ∧ y.cls ≠ "java/lang/invoke/MethodHandle" ∧ y.cls ≠ "java/lang/invoke/VarHandle" ∧ (parseMethodDescriptor y.desc).map (fun d => d.parameters.length) = some n)
    (hR : fr + 1 ≤ R.frames ∧ 8 + (maxL + 11) + lo ≤ R.locals) (hcs : cells ≤ R.cells ∧ slots ≤ R.slots) (hK : va_K D vwCl tys s) (hP : va_P D vwCl w H) (hD : va_D A w) (hS : va_S A s.heap H locs) (hA : ∀ q : Nat, s.heap.size ≤ q → A q) (hc : vwCl[ci]? = some q) (hq : q.1 = y.cls) (he : w[0]? = some (h, .inr (ci, fs))) (hn : As.length = n) (hsize : ls.size = nL) (hst : st0 = As.reverse ++ .ref h :: rest) (hrest : (rest.map fun v => v.category).sum ≤ 8) (hdg : decode cc pc = .ok (.invokevirtual index, 3))
    (kk : ∀ (u : S) (H : Heap) (locs : List Loc), post u → va_P D vwCl (w1 u) H → va_D A (w1 u) → va_S A s.heap H locs → W p l e R s m args below meth c H locs cells slots Q (F0 m (pc + 3) ls rest)) : W p l e R s m args below meth c H locs cells slots Q (F0 m pc ls st0) :=
  kw_v (wr := []) F hM hG hd hR hcs hK (by rw [List.append_nil]; exact hP) (by rw [List.append_nil]; exact hD) hS hA hc hq he hn hsize hst hrest hdg (fun u H locs hw hP hD hS => kk u H locs hw (by rw [List.append_nil] at hP; exact hP) (by rw [List.append_nil] at hD; exact hD) hS)
end CV
end
section
/-! the family wb_ of kit/laws/BITS.to-paste: longs by naturals -/
theorem wb_tb (n : Nat) : (lN n).toBitVec = BitVec.ofNat 64 n := rfl
theorem wb_inj {a b : Int64} (h : a.toBitVec = b.toBitVec) : a = b := Int64.toBitVec_inj.mp h
theorem wb_tn {n : Nat} (h : n < 2 ^ 64) : (lN n).toBitVec.toNat = n := by rw [wb_tb, BitVec.toNat_ofNat, Nat.mod_eq_of_lt h]
theorem wb_of (x : Int64) : ∃ n, n < 2 ^ 64 ∧ x = lN n := ⟨x.toBitVec.toNat, x.toBitVec.isLt, wb_inj (by rw [wb_tb]; simp)⟩
theorem wb_of32 (x : Int32) : ∃ n, n < 2 ^ 32 ∧ x = nI n := ⟨x.toBitVec.toNat, x.toBitVec.isLt, Int32.toBitVec_inj.mp (by show _ = BitVec.ofNat 32 _; simp)⟩
theorem wb_c : ∀ k, k < 64 → ((nI k).toInt64 &&& 63) = lN k := by decide +kernel
theorem wb_cu : ∀ k, k < 64 → ((nI k).toInt64.toUInt64 &&& Int64.toUInt64 63) = UInt64.ofNat k := by decide +kernel
theorem wb_sm : ∀ k, k < 64 → (BitVec.ofNat 64 k).smod 64 = BitVec.ofNat 64 k := by decide +kernel
theorem wb_pw {a b : Nat} (h : a ≤ b) : 2 ^ b = 2 ^ a * 2 ^ (b - a) := by rw [← Nat.pow_add]; congr 1; omega
theorem wb_lt2 {a b : Nat} (h : a < b) : 2 ^ a < 2 ^ b := Nat.pow_lt_pow_right (by decide) h
theorem wb_mod (n : Nat) : lN n = lN (n % 2 ^ 64) := wb_inj (by rw [wb_tb, wb_tb]; apply BitVec.eq_of_toNat_eq; rw [BitVec.toNat_ofNat, BitVec.toNat_ofNat, Nat.mod_mod])
theorem wb_shr {n k : Nat} (hn : n < 2 ^ 64) (hk : k < 64) : ((lN n).toUInt64 >>> ((nI k).toInt64.toUInt64 &&& Int64.toUInt64 63)).toInt64 = lN (n / 2 ^ k) := by
  rw [wb_cu k hk]
  apply wb_inj
  apply BitVec.eq_of_toNat_eq
  show ((lN n).toUInt64 >>> UInt64.ofNat k).toNat = (BitVec.ofNat 64 _).toNat
  have h1 : (UInt64.ofNat k).toNat = k := by
    show (BitVec.ofNat 64 k).toNat = k
    rw [BitVec.toNat_ofNat, Nat.mod_eq_of_lt (by omega)]
  have h2 : (lN n).toUInt64.toNat = n := wb_tn hn
  rw [UInt64.toNat_shiftRight, h1, h2, Nat.mod_eq_of_lt hk, Nat.shiftRight_eq_div_pow, BitVec.toNat_ofNat, Nat.mod_eq_of_lt (Nat.lt_of_le_of_lt (Nat.div_le_self _ _) hn)]
theorem wb_shl (n : Nat) {k : Nat} (hk : k < 64) : lN n <<< ((nI k).toInt64 &&& 63) = lN (n * 2 ^ k) := by
  rw [wb_c k hk]
  apply wb_inj
  rw [Int64.toBitVec_shiftLeft, wb_tb, wb_tb, wb_tb, wb_sm k hk]
  apply BitVec.eq_of_toNat_eq
  rw [BitVec.shiftLeft_eq', BitVec.toNat_shiftLeft, BitVec.toNat_ofNat, BitVec.toNat_ofNat, BitVec.toNat_ofNat, Nat.mod_eq_of_lt (show k < 2 ^ 64 by omega), Nat.shiftLeft_eq, Nat.mul_mod, Nat.mod_mod, ← Nat.mul_mod]
theorem wb_and {a b : Nat} (ha : a < 2 ^ 64) (hb : b < 2 ^ 64) : lN a &&& lN b = lN (a &&& b) := by
  apply wb_inj
  rw [Int64.toBitVec_and, wb_tb, wb_tb, wb_tb]
  apply BitVec.eq_of_toNat_eq
  rw [BitVec.toNat_and, BitVec.toNat_ofNat, BitVec.toNat_ofNat, BitVec.toNat_ofNat, Nat.mod_eq_of_lt ha, Nat.mod_eq_of_lt hb, Nat.mod_eq_of_lt (Nat.and_lt_two_pow _ hb)]
theorem wb_or {a b : Nat} (ha : a < 2 ^ 64) (hb : b < 2 ^ 64) : lN a ||| lN b = lN (a ||| b) := by
  apply wb_inj
  rw [Int64.toBitVec_or, wb_tb, wb_tb, wb_tb]
  apply BitVec.eq_of_toNat_eq
  rw [BitVec.toNat_or, BitVec.toNat_ofNat, BitVec.toNat_ofNat, BitVec.toNat_ofNat, Nat.mod_eq_of_lt ha, Nat.mod_eq_of_lt hb, Nat.mod_eq_of_lt (Nat.or_lt_two_pow ha hb)]
theorem wb_mask {n k : Nat} (hn : n < 2 ^ 64) (hk : k < 64) : lN n &&& lN (2 ^ k - 1) = lN (n % 2 ^ k) := by
  rw [wb_and hn (by have := wb_lt2 hk; omega), Nat.and_two_pow_sub_one_eq_mod]
theorem wb_a1 {n : Nat} (hn : n < 2 ^ 64) : lN n &&& 1 = lN (n % 2) := wb_mask (k := 1) hn (by decide)
theorem wb_bit {n k : Nat} (hn : n < 2 ^ 64) (hk : k < 64) : ((lN n).toUInt64 >>> ((nI k).toInt64.toUInt64 &&& Int64.toUInt64 63)).toInt64 &&& 1 = lN (n / 2 ^ k % 2) := by
  rw [wb_shr hn hk, wb_a1 (Nat.lt_of_le_of_lt (Nat.div_le_self _ _) hn)]
end
section
/-! Bits of longs, and the numbers that eight planes hold for a secret -/
def bl (x : Int64) (s : Nat) : Bool := x.toBitVec.getLsbD s
theorem bl_and (x y : Int64) (s : Nat) : bl (x &&& y) s = (bl x s && bl y s) := by simp [bl]
theorem bl_or (x y : Int64) (s : Nat) : bl (x ||| y) s = (bl x s || bl y s) := by simp [bl]
theorem bl_xor (x y : Int64) (s : Nat) : bl (x ^^^ y) s = (bl x s ^^ bl y s) := by simp [bl]
theorem bl_0 (s : Nat) : bl 0 s = false := by simp [bl]
theorem bl_m1 {s : Nat} (h : s < 64) : bl (-1) s = true := by
  have e : (-1 : Int64).toBitVec = BitVec.allOnes 64 := by decide
  unfold bl
  rw [e, BitVec.getLsbD_allOnes]
  exact decide_eq_true h
theorem bl_not (x : Int64) {s : Nat} (h : s < 64) : bl (x ^^^ (-1)) s = !bl x s := by
  rw [bl_xor, bl_m1 h]
  cases bl x s <;> rfl
theorem bl_ext {x y : Int64} (h : ∀ s, s < 64 → bl x s = bl y s) : x = y :=
  Int64.toBitVec_inj.mp (BitVec.eq_of_getLsbD_eq h)
/-- the number that n planes from o on hold for the secret s -/
def pv (f : Nat → Int64) (o : Nat) : Nat → Nat → Nat
  | 0, _ => 0
  | n + 1, s => pv f o n s + (bl (f (o + n)) s).toNat * 2 ^ n
theorem pv_lt (f : Nat → Int64) (o n s : Nat) : pv f o n s < 2 ^ n := by
  induction n with
  | zero => simp [pv]
  | succ n ih =>
    simp only [pv, Nat.pow_succ]
    cases bl (f (o + n)) s <;> simp <;> omega
theorem pv_lt8 (f : Nat → Int64) (o s : Nat) : pv f o 8 s < 256 := pv_lt f o 8 s
theorem pv_congr {f g : Nat → Int64} {o o' n s : Nat} (h : ∀ k, k < n → bl (f (o + k)) s = bl (g (o' + k)) s) : pv f o n s = pv g o' n s := by
  induction n with
  | zero => rfl
  | succ n ih => simp only [pv]; rw [ih (fun k hk => h k (by omega)), h n (by omega)]
theorem pv_eq {f g : Nat → Int64} {o o' n s : Nat} (h : ∀ k, k < n → f (o + k) = g (o' + k)) : pv f o n s = pv g o' n s := pv_congr (fun k hk => by rw [h k hk])
theorem pv_split (f : Nat → Int64) (o a b s : Nat) : pv f o (a + b) s = pv f o a s + 2 ^ a * pv f (o + a) b s := by
  induction b with
  | zero => simp [pv]
  | succ b ih =>
    show pv f o (a + b) s + (bl (f (o + (a + b))) s).toNat * 2 ^ (a + b) = _
    simp only [pv]
    rw [ih, Nat.pow_add, ← Nat.add_assoc o a b, Nat.mul_add, Nat.add_assoc, Nat.mul_left_comm]
theorem pv_testBit (f : Nat → Int64) (o n s k : Nat) : (pv f o n s).testBit k = (decide (k < n) && bl (f (o + k)) s) := by
  induction n with
  | zero => simp [pv]
  | succ n ih =>
    have e : pv f o (n + 1) s = 2 ^ n * (bl (f (o + n)) s).toNat + pv f o n s := by
      simp only [pv]; rw [Nat.add_comm, Nat.mul_comm]
    rw [e, Nat.testBit_two_pow_mul_add _ (pv_lt f o n s), ih]
    by_cases h1 : k < n
    · simp [h1, Nat.lt_succ_of_lt h1]
    · by_cases h2 : k = n
      · subst h2
        cases bl (f (o + k)) s <;> simp
      · have h3 : ¬ k < n + 1 := by omega
        rw [if_neg h1]
        have h4 : (bl (f (o + n)) s).toNat.testBit (k - n) = false := by
          apply Nat.testBit_lt_two_pow
          have h5 : 2 ^ 1 ≤ 2 ^ (k - n) := Nat.pow_le_pow_right (by omega) (by omega)
          cases bl (f (o + n)) s <;> simp <;> omega
        rw [h4]
        simp [h3]
/-- the carries of an addition -/
def cy (x y : Nat → Int64) : Nat → Int64
  | 0 => 0
  | k + 1 => (x k &&& y k) ||| ((x k ^^^ y k) &&& cy x y k)
theorem cy_congr {x x' y y' : Nat → Int64} {n : Nat} (hx : ∀ k, k < n → x k = x' k) (hy : ∀ k, k < n → y k = y' k) : cy x y n = cy x' y' n := by
  induction n with
  | zero => rfl
  | succ n ih => simp only [cy]; rw [ih (fun k hk => hx k (by omega)) (fun k hk => hy k (by omega)), hx n (by omega), hy n (by omega)]
theorem add_pv (x y : Nat → Int64) (s n : Nat) : pv (fun k => (x k ^^^ y k) ^^^ cy x y k) 0 n s + (bl (cy x y n) s).toNat * 2 ^ n = pv x 0 n s + pv y 0 n s := by
  induction n with
  | zero => simp [pv, cy, bl_0]
  | succ n ih =>
    simp only [pv, cy, bl_or, bl_and, bl_xor, Nat.zero_add, Nat.pow_succ] at ih ⊢
    revert ih
    cases bl (x n) s <;> cases bl (y n) s <;> cases bl (cy x y n) s <;> simp <;> omega
theorem add_pv' (x y : Nat → Int64) (s n : Nat) : pv (fun k => (x k ^^^ y k) ^^^ cy x y k) 0 n s = (pv x 0 n s + pv y 0 n s) % 2 ^ n := by
  have h1 := add_pv x y s n
  have h2 := pv_lt (fun k => (x k ^^^ y k) ^^^ cy x y k) 0 n s
  rw [← h1, Nat.add_mul_mod_self_right, Nat.mod_eq_of_lt h2]
/-- the borrows of a subtraction -/
def bw (x y : Nat → Int64) : Nat → Int64
  | 0 => 0
  | k + 1 => ((x k ^^^ (-1)) &&& y k) ||| (((x k ^^^ y k) ^^^ (-1)) &&& bw x y k)
theorem sub_pv (x y : Nat → Int64) {s : Nat} (hs : s < 64) (n : Nat) : pv (fun k => (x k ^^^ y k) ^^^ bw x y k) 0 n s + pv y 0 n s = pv x 0 n s + (bl (bw x y n) s).toNat * 2 ^ n := by
  induction n with
  | zero => simp [pv, bw, bl_0]
  | succ n ih =>
    simp only [pv, bw, bl_or, bl_and, bl_not _ hs, bl_xor, Nat.zero_add, Nat.pow_succ] at ih ⊢
    revert ih
    cases bl (x n) s <;> cases bl (y n) s <;> cases bl (bw x y n) s <;> simp <;> omega
theorem sub_pv8 (x y : Nat → Int64) {s : Nat} (hs : s < 64) : pv (fun k => (x k ^^^ y k) ^^^ bw x y k) 0 8 s = (pv x 0 8 s + 256 - pv y 0 8 s) % 256 ∧ (bl (bw x y 8) s = true ↔ pv x 0 8 s < pv y 0 8 s) := by
  have h1 := sub_pv x y hs 8
  have h2 := pv_lt8 (fun k => (x k ^^^ y k) ^^^ bw x y k) 0 s
  have h3 := pv_lt8 x 0 s
  have h4 := pv_lt8 y 0 s
  cases hb : bl (bw x y 8) s <;> rw [hb] at h1 <;> simp at h1 ⊢ <;> omega
/-- what LeakageMeterModel.worked computes -/
def wrk (c x y : Nat) (b : Int32) : Nat :=
  if c = 0 then ub b % 256 else if c = 1 then y else if c = 2 then (x + y) % 256 else if c = 3 then (x + 256 - y) % 256 else if c = 4 then x * y % 256
  else if c = 5 then x &&& y else if c = 6 then x ||| y else if c = 7 then x ^^^ y else if c = 8 then x * 2 ^ (ub b % 8) % 256 else if c = 9 then x / 2 ^ (ub b % 8)
  else if c = 10 then (if x < y then 1 else 0) else (if x = y then 1 else 0)
theorem wrk_lt {c x y : Nat} (b : Int32) (hx : x < 256) (hy : y < 256) : wrk c x y b < 256 := by
  have ha : x &&& y < 256 := Nat.and_lt_two_pow (n := 8) x hy
  have ho : x ||| y < 256 := Nat.or_lt_two_pow (n := 8) hx hy
  have hxr : x ^^^ y < 256 := Nat.xor_lt_two_pow (n := 8) hx hy
  have hd : x / 2 ^ (ub b % 8) < 256 := Nat.lt_of_le_of_lt (Nat.div_le_self _ _) hx
  unfold wrk
  repeat' split
  all_goals first | assumption | omega
/-- adding a shifted number under a mask -/
theorem shadd_pv {wk wk' pl : Nat → Int64} {o sh s : Nat} (mask : Int64) (hsh : sh < 8)
    (h : ∀ k, k < 8 → wk' k = if k < sh then wk k else (wk k ^^^ (pl (o + (k - sh)) &&& mask)) ^^^ cy (fun j => wk (sh + j)) (fun j => pl (o + j) &&& mask) (k - sh)) :
    pv wk' 0 8 s = (pv wk 0 8 s + (if bl mask s then pv pl o 8 s * 2 ^ sh else 0)) % 256 := by
  have e8 : (8 : Nat) = sh + (8 - sh) := by omega
  have a1 : pv wk' 0 8 s = pv wk' 0 sh s + 2 ^ sh * pv wk' sh (8 - sh) s := by
    have := pv_split wk' 0 sh (8 - sh) s
    rw [← e8, Nat.zero_add] at this
    exact this
  have a2 : pv wk 0 8 s = pv wk 0 sh s + 2 ^ sh * pv wk sh (8 - sh) s := by
    have := pv_split wk 0 sh (8 - sh) s
    rw [← e8, Nat.zero_add] at this
    exact this
  have a3 : pv wk' 0 sh s = pv wk 0 sh s := by
    refine pv_eq (fun k hk => ?_)
    rw [Nat.zero_add, h k (by omega), if_pos hk]
  have a4 : pv wk' sh (8 - sh) s = (pv wk sh (8 - sh) s + pv (fun j => pl (o + j) &&& mask) 0 (8 - sh) s) % 2 ^ (8 - sh) := by
    have e1 : pv wk' sh (8 - sh) s = pv (fun k => ((fun j => wk (sh + j)) k ^^^ (fun j => pl (o + j) &&& mask) k) ^^^ cy (fun j => wk (sh + j)) (fun j => pl (o + j) &&& mask) k) 0 (8 - sh) s := by
      refine pv_eq (fun k hk => ?_)
      rw [Nat.zero_add, h (sh + k) (by omega), if_neg (by omega), Nat.add_sub_cancel_left]
    rw [e1, add_pv']
    congr 2
    refine pv_eq (fun k hk => ?_)
    rw [Nat.zero_add]
  have a5 : pv (fun j => pl (o + j) &&& mask) 0 (8 - sh) s = if bl mask s then pv pl o (8 - sh) s else 0 := by
    generalize 8 - sh = n
    induction n with
    | zero => simp [pv]
    | succ n ih =>
      simp only [pv, bl_and, Nat.zero_add]
      rw [ih]
      cases bl mask s <;> simp
  have a6 : pv pl o 8 s = pv pl o (8 - sh) s + 2 ^ (8 - sh) * pv pl (o + (8 - sh)) sh s := by
    have := pv_split pl o (8 - sh) sh s
    rw [show 8 - sh + sh = 8 by omega] at this
    exact this
  have b1 := pv_lt wk 0 sh s
  rw [a1, a2, a3, a4, a5, a6]
  generalize pv wk 0 sh s = u1 at *
  generalize pv wk sh (8 - sh) s = u2 at *
  generalize pv pl o (8 - sh) s = u3 at *
  generalize pv pl (o + (8 - sh)) sh s = u4 at *
  rcases (show sh = 0 ∨ sh = 1 ∨ sh = 2 ∨ sh = 3 ∨ sh = 4 ∨ sh = 5 ∨ sh = 6 ∨ sh = 7 by omega) with e | e | e | e | e | e | e | e <;> subst e <;> cases bl mask s <;> simp at b1 ⊢ <;> omega
theorem mul_step (X P b j : Nat) (hb : b ≤ 1) : (X * P % 256 + (if b = 1 then X * 2 ^ j else 0)) % 256 = X * (P + b * 2 ^ j) % 256 := by
  rcases (show b = 0 ∨ b = 1 by omega) with e | e <;> subst e
  · simp
  · rw [if_pos rfl, Nat.one_mul, Nat.mul_add, Nat.mod_add_mod]
theorem pv_and (f g h : Nat → Int64) (o o' s : Nat) (H : ∀ k, k < 8 → h k = f (o + k) &&& g (o' + k)) : pv h 0 8 s = pv f o 8 s &&& pv g o' 8 s := by
  apply Nat.eq_of_testBit_eq
  intro k
  rw [Nat.testBit_and, pv_testBit, pv_testBit, pv_testBit, Nat.zero_add]
  by_cases hk : k < 8
  · simp [hk, H k hk, bl_and]
  · simp [hk]
theorem pv_or (f g h : Nat → Int64) (o o' s : Nat) (H : ∀ k, k < 8 → h k = f (o + k) ||| g (o' + k)) : pv h 0 8 s = pv f o 8 s ||| pv g o' 8 s := by
  apply Nat.eq_of_testBit_eq
  intro k
  rw [Nat.testBit_or, pv_testBit, pv_testBit, pv_testBit, Nat.zero_add]
  by_cases hk : k < 8
  · simp [hk, H k hk, bl_or]
  · simp [hk]
theorem pv_xor (f g h : Nat → Int64) (o o' s : Nat) (H : ∀ k, k < 8 → h k = f (o + k) ^^^ g (o' + k)) : pv h 0 8 s = pv f o 8 s ^^^ pv g o' 8 s := by
  apply Nat.eq_of_testBit_eq
  intro k
  rw [Nat.testBit_xor, pv_testBit, pv_testBit, pv_testBit, Nat.zero_add]
  by_cases hk : k < 8
  · simp [hk, H k hk, bl_xor]
  · simp [hk]
theorem pv_shl (f h : Nat → Int64) (o j s : Nat) (hj : j < 8) (H : ∀ k, k < 8 → h k = if j ≤ k then f (o + (k - j)) else 0) : pv h 0 8 s = pv f o 8 s * 2 ^ j % 256 := by
  apply Nat.eq_of_testBit_eq
  intro k
  rw [show (256 : Nat) = 2 ^ 8 from rfl, Nat.testBit_mod_two_pow, Nat.testBit_mul_two_pow, pv_testBit, pv_testBit, Nat.zero_add]
  by_cases hk : k < 8
  · rw [H k hk]
    by_cases hjk : j ≤ k
    · have h2 : k - j < 8 := by omega
      simp [hk, hjk, h2]
    · simp [hk, hjk, bl_0]
  · simp [hk]
theorem pv_shr (f h : Nat → Int64) (o j s : Nat) (H : ∀ k, k < 8 → h k = if k + j < 8 then f (o + (k + j)) else 0) : pv h 0 8 s = pv f o 8 s / 2 ^ j := by
  apply Nat.eq_of_testBit_eq
  intro k
  rw [Nat.testBit_div_two_pow, pv_testBit, pv_testBit, Nat.zero_add]
  by_cases hk : k < 8
  · rw [H k hk]
    by_cases hjk : k + j < 8
    · simp [hk, hjk]
    · simp [hjk, bl_0]
  · have h2 : ¬ k + j < 8 := by omega
    simp [hk, h2]
theorem pv_truth {wk : Nat → Int64} {t : Int64} {s : Nat} (h0 : wk 0 = t) (h1 : ∀ k, 1 ≤ k → k < 8 → wk k = 0) : pv wk 0 8 s = (bl t s).toNat := by
  simp [pv, h0, h1, bl_0]
/-- all planes of a number together -/
def anyp (f : Nat → Int64) (o : Nat) : Nat → Int64
  | 0 => 0
  | n + 1 => anyp f o n ||| f (o + n)
theorem anyp_bl (f : Nat → Int64) (o n s : Nat) : bl (anyp f o n) s = true ↔ pv f o n s ≠ 0 := by
  induction n with
  | zero => simp [anyp, pv, bl_0]
  | succ n ih =>
    have hp : 0 < 2 ^ n := Nat.two_pow_pos n
    simp only [anyp, pv, bl_or]
    cases hb : bl (f (o + n)) s <;> simp [ih] <;> omega
theorem anyp_bl' (f : Nat → Int64) (o n s : Nat) : bl (anyp f o n) s = decide (pv f o n s ≠ 0) := by
  cases h : bl (anyp f o n) s
  · symm
    rw [decide_eq_false_iff_not]
    intro q
    rw [(anyp_bl f o n s).mpr q] at h
    cases h
  · symm
    rw [decide_eq_true_iff]
    exact (anyp_bl f o n s).mp h
/-- from the highest plane down -/
def ph (f : Nat → Int64) (o s : Nat) : Nat → Nat
  | 0 => 0
  | k + 1 => 2 * ph f o s k + (bl (f (o + (7 - k))) s).toNat
theorem ph_8 (f : Nat → Int64) (o s : Nat) : ph f o s 8 = pv f o 8 s := by
  simp [ph, pv]
  omega
theorem ph_lt (f : Nat → Int64) (o s k : Nat) : ph f o s k < 2 ^ k := by
  induction k with
  | zero => simp [ph]
  | succ k ih =>
    simp only [ph, Nat.pow_succ]
    cases bl (f (o + (7 - k))) s <;> simp <;> omega
end
section
set_option maxRecDepth 100000
/-! LeakageMeter's cells, and the contracts of its private methods on planes -/
def tX (ca : Nat → ClassId) : zt_T := [(ca 0, .boolean), (ca 1, .long), (ca 2, .long), (ca 3, .long), (ca 4, .long), (ca 5, .int), (ca 6, .long), (ca 7, .int), (ca 8, .int), (ca 9, .int), (ca 10, .boolean)]
def wX (h : Nat) (ad : Nat → Nat) (ca : Nat → ClassId) (st pa : Nat) (ac : Int64) (so kc : Nat) (he : Nat → Nat) (pl wk ar ot : Nat → Int64) (cn : Nat → Nat) (tr : Nat → Int64) (ld mb : Nat → Nat) (tb : Nat → Int32) (mt : Nat → Nat) : va_W :=
  [(h, .inr (0, [.int (nI st), .int (nI pa), .ref (ad 0), .ref (ad 1), .ref (ad 2), .long ac, .ref (ad 3), .ref (ad 4), .ref (ad 5), .ref (ad 6), .int (nI so), .int (nI kc), .ref (ad 7), .ref (ad 8), .ref (ad 9), .ref (ad 10)])),
   (ad 0, .inl (ca 0, 4, .inl (nA he))), (ad 1, .inl (ca 1, 32, .inr (.inl pl))), (ad 2, .inl (ca 2, 8, .inr (.inl wk))), (ad 3, .inl (ca 3, 4, .inr (.inl ar))), (ad 4, .inl (ca 4, 4, .inr (.inl ot))), (ad 5, .inl (ca 5, 64, .inl (nA cn))), (ad 6, .inl (ca 6, 64, .inr (.inl tr))), (ad 7, .inl (ca 7, 64, .inl (nA ld))), (ad 8, .inl (ca 8, 64, .inl (nA mb))), (ad 9, .inl (ca 9, 128, .inl tb)), (ad 10, .inl (ca 10, 64, .inl (nA mt)))]
def zushr (x : Int64) (k : Nat) : Int64 := (x.toUInt64 >>> ((nI k).toInt64.toUInt64 &&& Int64.toUInt64 63)).toInt64
def zshl (x : Int64) (k : Nat) : Int64 := x <<< ((nI k).toInt64 &&& 63)
def ziushr (x : Int32) (k : Nat) : Int32 := (x.toUInt32 >>> ((nI k).toUInt32 &&& Int32.toUInt32 31)).toInt32
/-- a counter that goes down to -1 -/
def zb (k : Nat) : Int32 := nI (8 - k) + (-1)
theorem zb_in {k : Nat} (h : k < 8) : zb k = nI (7 - k) := by
  unfold zb
  rw [show 8 - k = (7 - k) + 1 by omega]
  exact pk_m1 _
theorem zb_next {k : Nat} (h : k < 8) : nI (7 - k) + Int32.ofInt (-1) = zb (k + 1) := by
  unfold zb
  rw [show 8 - (k + 1) = 7 - k by omega]
  rfl
theorem bl_lN {n : Nat} (hn : n < 2 ^ 64) {k : Nat} (hk : k < 64) : bl (lN n) k = n.testBit k := by
  unfold bl
  rw [wb_tb, BitVec.getLsbD_ofNat]
  simp [hk]
theorem zbit (x : Int64) {s : Nat} (hs : s < 64) : (zushr x s &&& 1).toInt32 = nI (bl x s).toNat := by
  obtain ⟨n, hn, rfl⟩ := wb_of x
  unfold zushr
  rw [wb_bit hn hs, lN_i, bl_lN hn hs, Nat.testBit_eq_decide_div_mod_eq]
  rcases (show n / 2 ^ s % 2 = 0 ∨ n / 2 ^ s % 2 = 1 by omega) with q | q <;> rw [q] <;> rfl
theorem zbit0 (x : Int64) {s : Nat} (hs : s < 64) : zushr x s &&& 1 = lN (bl x s).toNat := by
  obtain ⟨n, hn, rfl⟩ := wb_of x
  unfold zushr
  rw [wb_bit hn hs, bl_lN hn hs, Nat.testBit_eq_decide_div_mod_eq]
  rcases (show n / 2 ^ s % 2 = 0 ∨ n / 2 ^ s % 2 = 1 by omega) with q | q <;> rw [q] <;> rfl
theorem pv_zero {f : Nat → Int64} {s : Nat} (h : ∀ k, k < 8 → f k = 0) : pv f 0 8 s = 0 := by
  simp [pv, h, bl_0]
/-- the planes of variable v -/
def xp (pl : Nat → Int64) (v k : Nat) : Int64 := pl (8 * v + k)
theorem pv_xp (pl : Nat → Int64) (v n s : Nat) : pv (xp pl v) 0 n s = pv pl (8 * v) n s := pv_eq (fun k _ => by unfold xp; rw [Nat.zero_add])
/-- what combinePlanes does with two words -/
def cmb (c : Nat) (x y : Int64) : Int64 := if c = 5 then x &&& y else if c = 6 then x ||| y else x ^^^ y
def shp (pl : Nat → Int64) (v : Nat) (sh : Int) (k : Nat) : Int64 := if 0 ≤ (k : Int) - sh ∧ (k : Int) - sh < 8 then pl (8 * v + ((k : Int) - sh).toNat) else 0
def zi (x : Int) : Int32 := Int32.ofInt x
theorem zi_sub (i : Nat) (sh : Int) : nI i - zi sh = zi ((i : Int) - sh) := by
  unfold zi nI
  rw [Int32.ofInt_sub, Int32.ofInt_eq_ofNat]
theorem zi_toInt {x : Int} (h1 : -1000 < x) (h2 : x < 1000) : (zi x).toInt = x := by
  unfold zi
  exact Int32.toInt_ofInt_of_le (by omega) (by omega)
theorem zi_nat (n : Nat) : zi (n : Int) = nI n := by
  unfold zi nI
  rw [Int32.ofInt_eq_ofNat]
set_option maxHeartbeats 4000000 in
/-- valueFor(s, v): the number that the planes of v hold for s -/
theorem cX_valueFor (l : Launch) (D : va_G) (h : Nat) (ad : Nat → Nat) (ca : Nat → ClassId) (sz : Nat) (st pa : Nat) (ac : Int64) (so kc : Nat) (he : Nat → Nat) (pl wk ar ot : Nat → Int64) (cn : Nat → Nat) (tr : Nat → Int64) (ld mb : Nat → Nat) (tb : Nat → Int32) (mt : Nat → Nat) (s0 v : Nat) (hs : s0 < 64) (hv : v < 4) : cMi l yX0_valueFor cX0_valueFor 5 .int 0 0 D (tX ca) (wX h ad ca st pa ac so kc he pl wk ar ot cn tr ld mb tb mt) sz [.ref h, .int (nI s0), .int (nI v)] (fun (r : Int32) (u : Unit) => r = nI (pv pl (8 * v) 8 s0)) (fun (u : Unit) => (wX h ad ca st pa ac so kc he pl wk ar ot cn tr ld mb tb mt)) := by
  refine cMi.of (by decide) (Nat.le_of_ble_eq_true rfl) ?_
  intro p e R s m args below meth c A Q ls H locs ⟨hx, hb, hml, hown, hts, hR, hK, hA⟩ hP hD hS hl hret
  have hown : s.vm.findClass RX0 = some m.cls := hown
  have hl : lv_has ls 5 [(0, .ref h), (1, .int (nI s0)), (2, .int (nI v))] := hl
  refine lv_iconst (v := nI 0) hx hb dX0_valueFor_0 (by decide) ?_
  refine xt_i (y := nI (ph pl (8 * v) s0 0)) rfl ?_
  refine lv_istore_n (lv' := [(3, .int (nI (ph pl (8 * v) s0 0))), (0, .ref h), (1, .int (nI s0)), (2, .int (nI v))]) hx hb dX0_valueFor_1 rfl hl (by decide) rfl (fun ls hl => ?_)
  refine lv_bipush (v := nI 7) hx hb dX0_valueFor_2 (by decide) ?_
  refine xt_i (y := zb 0) (by decide) ?_
  refine lv_istore (lv' := [(4, .int (zb 0)), (3, .int (nI (ph pl (8 * v) s0 0))), (0, .ref h), (1, .int (nI s0)), (2, .int (nI v))]) hx hb dX0_valueFor_4 hl (by decide) rfl (fun ls hl => ?_)
  refine lp_w (nL := 5) (pc := 6) 8 (fun (u : Unit) => (wX h ad ca st pa ac so kc he pl wk ar ot cn tr ld mb tb mt)) (fun (i : Nat) (u : Unit) => [(0, .ref h), (1, .int (nI s0)), (2, .int (nI v)), (3, .int (nI (ph pl (8 * v) s0 i))), (4, .int (zb i))]) (fun (i : Nat) (u : Unit) => True) ?_ ?_ 0 (()) _ _ _ (by omega) trivial hP hD hS (lv_sub hl [2, 3, 4, 1, 0] rfl)
  · rintro _ H locs ls hJ hP hD hS hl
    have hJ : True := hJ
    have hP : va_P D vwCl (wX h ad ca st pa ac so kc he pl wk ar ot cn tr ld mb tb mt) H := hP
    have hD : va_D A (wX h ad ca st pa ac so kc he pl wk ar ot cn tr ld mb tb mt) := hD
    have hl : lv_has ls 5 [(0, .ref h), (1, .int (nI s0)), (2, .int (nI v)), (3, .int (nI (ph pl (8 * v) s0 8))), (4, .int (zb 8))] := hl
    have hz : zb 8 < 0 := by decide
    refine lv_iload hx hb dX0_valueFor_6 (lv_at hl 4 rfl) ?_
    refine lv_if_lt (tgt := 39) hx hb dX0_valueFor_8 (by decide) (fun _ => ?_) (fun q => absurd hz q)
    refine lv_iload_n hx hb dX0_valueFor_39 rfl (lv_at hl 3 rfl) ?_
    exact hret 40 ls H locs (nI (ph pl (8 * v) s0 8)) () dX0_valueFor_40 rfl (by rw [ph_8]) hP hD hS
  · rintro i _ H locs ls hi hJ hP hD hS hl ih
    have hJ : True := hJ
    have hP : va_P D vwCl (wX h ad ca st pa ac so kc he pl wk ar ot cn tr ld mb tb mt) H := hP
    have hD : va_D A (wX h ad ca st pa ac so kc he pl wk ar ot cn tr ld mb tb mt) := hD
    have hl : lv_has ls 5 [(0, .ref h), (1, .int (nI s0)), (2, .int (nI v)), (3, .int (nI (ph pl (8 * v) s0 i))), (4, .int (zb i))] := hl
    rw [zb_in hi] at hl
    refine lv_iload hx hb dX0_valueFor_6 (lv_at hl 4 rfl) ?_
    refine xn_iflt_f (tgt := 39) hx hb dX0_valueFor_8 (by decide) (by omega) ?_
    refine lv_iconst (v := nI 2) hx hb dX0_valueFor_11 (by decide) ?_
    refine lv_iload_n hx hb dX0_valueFor_12 rfl (lv_at hl 3 rfl) ?_
    refine xi_mul hx hb dX0_valueFor_13 ?_
    refine lv_aload_n hx hb dX0_valueFor_14 rfl (lv_at hl 0 rfl) ?_
    refine va_get (ci := 0) (v := .ref (ad 1)) (C := RX0) (T := TX0) (N := 16) hx hb hts in_X0 hown hK hP 0 rfl rfl 3 (by decide) (hts _ q41) (fun _ h9 => h9) rfl dX0_valueFor_15 ?_
    refine lv_bipush (v := nI 8) hx hb dX0_valueFor_18 (by decide) ?_
    refine lv_iload_n hx hb dX0_valueFor_20 rfl (lv_at hl 2 rfl) ?_
    refine xi_mul hx hb dX0_valueFor_21 ?_
    refine lv_iload hx hb dX0_valueFor_22 (lv_at hl 4 rfl) ?_
    refine xi_add hx hb dX0_valueFor_24 ?_
    refine xl_ald (k := (8 * v + (7 - i))) hx hb hK hP 2 1 rfl rfl (by omega) (by decide) dX0_valueFor_25 ?_
    refine lv_iload_n hx hb dX0_valueFor_26 rfl (lv_at hl 1 rfl) ?_
    refine lv_lushr (v := zushr (pl (8 * v + (7 - i))) s0) hx hb dX0_valueFor_27 rfl ?_
    refine lv_lconst (v := 1) hx hb dX0_valueFor_28 (by decide) ?_
    refine lv_land hx hb dX0_valueFor_29 ?_
    refine lv_l2i (v := ((zushr (pl (8 * v + (7 - i))) s0) &&& 1).toInt32) hx hb dX0_valueFor_30 rfl ?_
    refine xt_i (y := nI ((bl (pl (8 * v + (7 - i))) s0).toNat)) (zbit _ hs) ?_
    refine xi_add hx hb dX0_valueFor_31 ?_
    refine xt_i (y := nI (ph pl (8 * v) s0 (i + 1))) rfl ?_
    refine lv_istore_n (lv' := [(3, .int (nI (ph pl (8 * v) s0 (i + 1)))), (0, .ref h), (1, .int (nI s0)), (2, .int (nI v)), (4, .int (nI (7 - i)))]) hx hb dX0_valueFor_32 rfl hl (by decide) rfl (fun ls hl => ?_)
    refine lv_iinc (v := (zb (i + 1))) (lv' := [(4, .int (zb (i + 1))), (3, .int (nI (ph pl (8 * v) s0 (i + 1)))), (0, .ref h), (1, .int (nI s0)), (2, .int (nI v))]) hx hb dX0_valueFor_33 hl (k := 4) rfl (zb_next hi) (by decide) rfl (fun ls hl => ?_)
    refine lv_goto (tgt := 6) hx hb dX0_valueFor_36 (by decide) ?_
    exact ih (()) _ _ _ trivial hP hD hS (lv_sub hl [2, 3, 4, 1, 0] rfl)
set_option maxHeartbeats 4000000 in
/-- anyBit(v): the secrets for which v isn't 0 -/
theorem cX_anyBit (l : Launch) (D : va_G) (h : Nat) (ad : Nat → Nat) (ca : Nat → ClassId) (sz : Nat) (st pa : Nat) (ac : Int64) (so kc : Nat) (he : Nat → Nat) (pl wk ar ot : Nat → Int64) (cn : Nat → Nat) (tr : Nat → Int64) (ld mb : Nat → Nat) (tb : Nat → Int32) (mt : Nat → Nat) (v : Nat) (hv : v < 4) : cMl l yX0_anyBit cX0_anyBit 5 0 0 D (tX ca) (wX h ad ca st pa ac so kc he pl wk ar ot cn tr ld mb tb mt) sz [.ref h, .int (nI v)] (fun (r : Int64) (u : Unit) => r = anyp pl (8 * v) 8) (fun (u : Unit) => (wX h ad ca st pa ac so kc he pl wk ar ot cn tr ld mb tb mt)) := by
  refine cMl.of (by decide) (Nat.le_of_ble_eq_true rfl) ?_
  intro p e R s m args below meth c A Q ls H locs ⟨hx, hb, hml, hown, hts, hR, hK, hA⟩ hP hD hS hl hret
  have hown : s.vm.findClass RX0 = some m.cls := hown
  have hl : lv_has ls 5 [(0, .ref h), (1, .int (nI v))] := hl
  refine lv_lconst (v := 0) hx hb dX0_anyBit_0 (by decide) ?_
  refine xt_l (y := anyp pl (8 * v) 0) rfl ?_
  refine lv_lstore_n (lv' := [(2, .long (anyp pl (8 * v) 0)), (0, .ref h), (1, .int (nI v))]) hx hb dX0_anyBit_1 rfl hl (by decide) rfl (fun ls hl => ?_)
  refine lv_iconst (v := nI 0) hx hb dX0_anyBit_2 (by decide) ?_
  refine lv_istore (lv' := [(4, .int (nI 0)), (2, .long (anyp pl (8 * v) 0)), (0, .ref h), (1, .int (nI v))]) hx hb dX0_anyBit_3 hl (by decide) rfl (fun ls hl => ?_)
  refine lp_w (nL := 5) (pc := 5) 8 (fun (u : Unit) => (wX h ad ca st pa ac so kc he pl wk ar ot cn tr ld mb tb mt)) (fun (i : Nat) (u : Unit) => [(0, .ref h), (1, .int (nI v)), (2, .long (anyp pl (8 * v) i)), (4, .int (nI i))]) (fun (i : Nat) (u : Unit) => True) ?_ ?_ 0 (()) _ _ _ (by omega) trivial hP hD hS (lv_sub hl [2, 3, 1, 0] rfl)
  · rintro _ H locs ls hJ hP hD hS hl
    have hJ : True := hJ
    have hP : va_P D vwCl (wX h ad ca st pa ac so kc he pl wk ar ot cn tr ld mb tb mt) H := hP
    have hD : va_D A (wX h ad ca st pa ac so kc he pl wk ar ot cn tr ld mb tb mt) := hD
    have hl : lv_has ls 5 [(0, .ref h), (1, .int (nI v)), (2, .long (anyp pl (8 * v) 8)), (4, .int (nI 8))] := hl
    refine lv_iload hx hb dX0_anyBit_5 (lv_at hl 3 rfl) ?_
    refine lv_bipush (v := nI 8) hx hb dX0_anyBit_7 (by decide) ?_
    refine xn_ge_t (tgt := 33) hx hb dX0_anyBit_9 (by decide) (by omega) (by omega) ?_
    refine lv_lload_n hx hb dX0_anyBit_33 rfl (lv_at hl 2 rfl) ?_
    exact hret 34 ls H locs (anyp pl (8 * v) 8) () dX0_anyBit_34 rfl hP hD hS
  · rintro i _ H locs ls hi hJ hP hD hS hl ih
    have hJ : True := hJ
    have hP : va_P D vwCl (wX h ad ca st pa ac so kc he pl wk ar ot cn tr ld mb tb mt) H := hP
    have hD : va_D A (wX h ad ca st pa ac so kc he pl wk ar ot cn tr ld mb tb mt) := hD
    have hl : lv_has ls 5 [(0, .ref h), (1, .int (nI v)), (2, .long (anyp pl (8 * v) i)), (4, .int (nI i))] := hl
    refine lv_iload hx hb dX0_anyBit_5 (lv_at hl 3 rfl) ?_
    refine lv_bipush (v := nI 8) hx hb dX0_anyBit_7 (by decide) ?_
    refine xn_ge_f (tgt := 33) hx hb dX0_anyBit_9 (by decide) hi (by omega) ?_
    refine lv_lload_n hx hb dX0_anyBit_12 rfl (lv_at hl 2 rfl) ?_
    refine lv_aload_n hx hb dX0_anyBit_13 rfl (lv_at hl 0 rfl) ?_
    refine va_get (ci := 0) (v := .ref (ad 1)) (C := RX0) (T := TX0) (N := 16) hx hb hts in_X0 hown hK hP 0 rfl rfl 3 (by decide) (hts _ q41) (fun _ h9 => h9) rfl dX0_anyBit_14 ?_
    refine lv_bipush (v := nI 8) hx hb dX0_anyBit_17 (by decide) ?_
    refine lv_iload_n hx hb dX0_anyBit_19 rfl (lv_at hl 1 rfl) ?_
    refine xi_mul hx hb dX0_anyBit_20 ?_
    refine lv_iload hx hb dX0_anyBit_21 (lv_at hl 3 rfl) ?_
    refine xi_add hx hb dX0_anyBit_23 ?_
    refine xl_ald (k := (8 * v + i)) hx hb hK hP 2 1 rfl rfl (by omega) (by decide) dX0_anyBit_24 ?_
    refine lv_lor hx hb dX0_anyBit_25 ?_
    refine xt_l (y := anyp pl (8 * v) (i + 1)) rfl ?_
    refine lv_lstore_n (lv' := [(2, .long (anyp pl (8 * v) (i + 1))), (0, .ref h), (1, .int (nI v)), (4, .int (nI i))]) hx hb dX0_anyBit_26 rfl hl (by decide) rfl (fun ls hl => ?_)
    refine lv_iinc (v := nI (i + 1)) (lv' := [(4, .int (nI (i + 1))), (2, .long (anyp pl (8 * v) (i + 1))), (0, .ref h), (1, .int (nI v))]) hx hb dX0_anyBit_27 hl (k := 3) rfl (xi_inc1 _) (by decide) rfl (fun ls hl => ?_)
    refine lv_goto (tgt := 5) hx hb dX0_anyBit_30 (by decide) ?_
    exact ih (()) _ _ _ trivial hP hD hS (lv_sub hl [2, 3, 1, 0] rfl)
theorem keep_J {pl px wk : Nat → Int64} {ac : Int64} {v i : Nat} (hJ : ∀ j, px j = if 8 * v ≤ j ∧ j < 8 * v + i then (pl j &&& (ac ^^^ (-1))) ||| (wk (j - 8 * v) &&& ac) else pl j) : ∀ j, (vp_updL px (8 * v + i) ((px (8 * v + i) &&& (ac ^^^ (-1))) ||| (wk i &&& ac))) j = if 8 * v ≤ j ∧ j < 8 * v + (i + 1) then (pl j &&& (ac ^^^ (-1))) ||| (wk (j - 8 * v) &&& ac) else pl j := by
  intro j
  by_cases hj : j = 8 * v + i
  · subst hj
    rw [pk_uLs, hJ, if_neg (by omega), if_pos (by omega), Nat.add_sub_cancel_left]
  · rw [pk_uLn hj, hJ]
    by_cases hh : 8 * v ≤ j ∧ j < 8 * v + i
    · rw [if_pos hh, if_pos (by omega)]
    · rw [if_neg hh, if_neg (by omega)]
set_option maxHeartbeats 4000000 in
/-- keepResult(v): the variable v is work where active, as it was elsewhere -/
theorem cX_keepResult (l : Launch) (D : va_G) (h : Nat) (ad : Nat → Nat) (ca : Nat → ClassId) (sz : Nat) (st pa : Nat) (ac : Int64) (so kc : Nat) (he : Nat → Nat) (pl wk ar ot : Nat → Int64) (cn : Nat → Nat) (tr : Nat → Int64) (ld mb : Nat → Nat) (tb : Nat → Int32) (mt : Nat → Nat) (v : Nat) (hv : v < 4) : cMv l yX0_keepResult cX0_keepResult 3 0 0 D (tX ca) (wX h ad ca st pa ac so kc he pl wk ar ot cn tr ld mb tb mt) sz [.ref h, .int (nI v)] (fun (u : Nat → Int64) => ∀ j, u j = if 8 * v ≤ j ∧ j < 8 * v + 8 then (pl j &&& (ac ^^^ (-1))) ||| (wk (j - 8 * v) &&& ac) else pl j) (fun (u : Nat → Int64) => (wX h ad ca st pa ac so kc he u wk ar ot cn tr ld mb tb mt)) := by
  refine cMv.of (by decide) (Nat.le_of_ble_eq_true rfl) ?_
  intro p e R s m args below meth c A Q ls H locs ⟨hx, hb, hml, hown, hts, hR, hK, hA⟩ hP hD hS hl hret
  have hown : s.vm.findClass RX0 = some m.cls := hown
  have hl : lv_has ls 3 [(0, .ref h), (1, .int (nI v))] := hl
  refine lv_iconst (v := nI 0) hx hb dX0_keepResult_0 (by decide) ?_
  refine lv_istore_n (lv' := [(2, .int (nI 0)), (0, .ref h), (1, .int (nI v))]) hx hb dX0_keepResult_1 rfl hl (by decide) rfl (fun ls hl => ?_)
  refine lp_w (nL := 3) (pc := 2) 8 (fun (u : (Nat → Int64)) => (wX h ad ca st pa ac so kc he u wk ar ot cn tr ld mb tb mt)) (fun (i : Nat) (u : (Nat → Int64)) => [(0, .ref h), (1, .int (nI v)), (2, .int (nI i))]) (fun (i : Nat) (u : (Nat → Int64)) => ∀ j, u j = if 8 * v ≤ j ∧ j < 8 * v + i then (pl j &&& (ac ^^^ (-1))) ||| (wk (j - 8 * v) &&& ac) else pl j) ?_ ?_ 0 (pl) _ _ _ (by omega) (by intro j; rw [if_neg (by omega)]) hP hD hS (lv_sub hl [1, 2, 0] rfl)
  · rintro px H locs ls hJ hP hD hS hl
    have hJ : ∀ j, px j = if 8 * v ≤ j ∧ j < 8 * v + 8 then (pl j &&& (ac ^^^ (-1))) ||| (wk (j - 8 * v) &&& ac) else pl j := hJ
    have hP : va_P D vwCl (wX h ad ca st pa ac so kc he px wk ar ot cn tr ld mb tb mt) H := hP
    have hD : va_D A (wX h ad ca st pa ac so kc he px wk ar ot cn tr ld mb tb mt) := hD
    have hl : lv_has ls 3 [(0, .ref h), (1, .int (nI v)), (2, .int (nI 8))] := hl
    refine lv_iload_n hx hb dX0_keepResult_2 rfl (lv_at hl 2 rfl) ?_
    refine lv_bipush (v := nI 8) hx hb dX0_keepResult_3 (by decide) ?_
    refine xn_ge_t (tgt := 57) hx hb dX0_keepResult_5 (by decide) (by omega) (by omega) ?_
    exact hret 57 ls H locs px dX0_keepResult_57 hJ hP hD hS
  · rintro i px H locs ls hi hJ hP hD hS hl ih
    have hJ : ∀ j, px j = if 8 * v ≤ j ∧ j < 8 * v + i then (pl j &&& (ac ^^^ (-1))) ||| (wk (j - 8 * v) &&& ac) else pl j := hJ
    have hP : va_P D vwCl (wX h ad ca st pa ac so kc he px wk ar ot cn tr ld mb tb mt) H := hP
    have hD : va_D A (wX h ad ca st pa ac so kc he px wk ar ot cn tr ld mb tb mt) := hD
    have hl : lv_has ls 3 [(0, .ref h), (1, .int (nI v)), (2, .int (nI i))] := hl
    refine lv_iload_n hx hb dX0_keepResult_2 rfl (lv_at hl 2 rfl) ?_
    refine lv_bipush (v := nI 8) hx hb dX0_keepResult_3 (by decide) ?_
    refine xn_ge_f (tgt := 57) hx hb dX0_keepResult_5 (by decide) hi (by omega) ?_
    refine lv_aload_n hx hb dX0_keepResult_8 rfl (lv_at hl 0 rfl) ?_
    refine va_get (ci := 0) (v := .ref (ad 1)) (C := RX0) (T := TX0) (N := 16) hx hb hts in_X0 hown hK hP 0 rfl rfl 3 (by decide) (hts _ q41) (fun _ h9 => h9) rfl dX0_keepResult_9 ?_
    refine lv_bipush (v := nI 8) hx hb dX0_keepResult_12 (by decide) ?_
    refine lv_iload_n hx hb dX0_keepResult_14 rfl (lv_at hl 1 rfl) ?_
    refine xi_mul hx hb dX0_keepResult_15 ?_
    refine lv_iload_n hx hb dX0_keepResult_16 rfl (lv_at hl 2 rfl) ?_
    refine xi_add hx hb dX0_keepResult_17 ?_
    refine lv_aload_n hx hb dX0_keepResult_18 rfl (lv_at hl 0 rfl) ?_
    refine va_get (ci := 0) (v := .ref (ad 1)) (C := RX0) (T := TX0) (N := 16) hx hb hts in_X0 hown hK hP 0 rfl rfl 3 (by decide) (hts _ q41) (fun _ h9 => h9) rfl dX0_keepResult_19 ?_
    refine lv_bipush (v := nI 8) hx hb dX0_keepResult_22 (by decide) ?_
    refine lv_iload_n hx hb dX0_keepResult_24 rfl (lv_at hl 1 rfl) ?_
    refine xi_mul hx hb dX0_keepResult_25 ?_
    refine lv_iload_n hx hb dX0_keepResult_26 rfl (lv_at hl 2 rfl) ?_
    refine xi_add hx hb dX0_keepResult_27 ?_
    refine xl_ald (k := (8 * v + i)) hx hb hK hP 2 1 rfl rfl (by omega) (by decide) dX0_keepResult_28 ?_
    refine lv_aload_n hx hb dX0_keepResult_29 rfl (lv_at hl 0 rfl) ?_
    refine va_get (ci := 0) (v := .long ac) (C := RX0) (T := TX0) (N := 16) hx hb hts in_X0 hown hK hP 0 rfl rfl 5 (by decide) (hts _ q43) (fun _ h9 => h9) rfl dX0_keepResult_30 ?_
    refine lv_ldc2 (v := (-1)) hx hb hown (hts _ q37) dX0_keepResult_33 ?_
    refine lv_lxor hx hb dX0_keepResult_36 ?_
    refine lv_land hx hb dX0_keepResult_37 ?_
    refine lv_aload_n hx hb dX0_keepResult_38 rfl (lv_at hl 0 rfl) ?_
    refine va_get (ci := 0) (v := .ref (ad 2)) (C := RX0) (T := TX0) (N := 16) hx hb hts in_X0 hown hK hP 0 rfl rfl 4 (by decide) (hts _ q42) (fun _ h9 => h9) rfl dX0_keepResult_39 ?_
    refine lv_iload_n hx hb dX0_keepResult_42 rfl (lv_at hl 2 rfl) ?_
    refine xl_ald (k := i) hx hb hK hP 3 2 rfl rfl (by omega) (by decide) dX0_keepResult_43 ?_
    refine lv_aload_n hx hb dX0_keepResult_44 rfl (lv_at hl 0 rfl) ?_
    refine va_get (ci := 0) (v := .long ac) (C := RX0) (T := TX0) (N := 16) hx hb hts in_X0 hown hK hP 0 rfl rfl 5 (by decide) (hts _ q43) (fun _ h9 => h9) rfl dX0_keepResult_45 ?_
    refine lv_land hx hb dX0_keepResult_48 ?_
    refine lv_lor hx hb dX0_keepResult_49 ?_
    refine xl_ast (k := (8 * v + i)) hx hb hK hP hD hS 2 1 rfl rfl (by omega) (by decide) dX0_keepResult_50 (fun H locs hP hD hS => ?_)
    have hP : va_P D vwCl (wX h ad ca st pa ac so kc he (vp_updL px (8 * v + i) (((px (8 * v + i)) &&& (ac ^^^ (-1))) ||| ((wk i) &&& ac))) wk ar ot cn tr ld mb tb mt) H := hP
    have hD : va_D A (wX h ad ca st pa ac so kc he (vp_updL px (8 * v + i) (((px (8 * v + i)) &&& (ac ^^^ (-1))) ||| ((wk i) &&& ac))) wk ar ot cn tr ld mb tb mt) := hD
    refine lv_iinc (v := nI (i + 1)) (lv' := [(2, .int (nI (i + 1))), (0, .ref h), (1, .int (nI v))]) hx hb dX0_keepResult_51 hl (k := 2) rfl (xi_inc1 _) (by decide) rfl (fun ls hl => ?_)
    refine lv_goto (tgt := 2) hx hb dX0_keepResult_54 (by decide) ?_
    exact ih (vp_updL px (8 * v + i) (((px (8 * v + i)) &&& (ac ^^^ (-1))) ||| ((wk i) &&& ac))) _ _ _ (keep_J hJ) hP hD hS (lv_sub hl [1, 2, 0] rfl)
theorem truth_J {wx : Nat → Int64} {t0 : Int64} {i : Nat} (h1 : 1 ≤ i) (hJ : wx 0 = t0 ∧ ∀ k, 1 ≤ k → k < i → wx k = 0) : (vp_updL wx i 0) 0 = t0 ∧ ∀ k, 1 ≤ k → k < i + 1 → (vp_updL wx i 0) k = 0 := by
  refine ⟨by rw [pk_uLn (by omega)]; exact hJ.1, fun k hk hk2 => ?_⟩
  by_cases h : k = i
  · subst h; rw [pk_uLs]
  · rw [pk_uLn h]; exact hJ.2 k hk (by omega)
set_option maxHeartbeats 4000000 in
/-- setTruth(t): work is 1 where t has a bit, 0 elsewhere -/
theorem cX_setTruth (l : Launch) (D : va_G) (h : Nat) (ad : Nat → Nat) (ca : Nat → ClassId) (sz : Nat) (st pa : Nat) (ac : Int64) (so kc : Nat) (he : Nat → Nat) (pl wk ar ot : Nat → Int64) (cn : Nat → Nat) (tr : Nat → Int64) (ld mb : Nat → Nat) (tb : Nat → Int32) (mt : Nat → Nat) (t0 : Int64)  : cMv l yX0_setTruth cX0_setTruth 4 0 0 D (tX ca) (wX h ad ca st pa ac so kc he pl wk ar ot cn tr ld mb tb mt) sz [.ref h, .long t0] (fun (u : Nat → Int64) => u 0 = t0 ∧ ∀ k, 1 ≤ k → k < 8 → u k = 0) (fun (u : Nat → Int64) => (wX h ad ca st pa ac so kc he pl u ar ot cn tr ld mb tb mt)) := by
  refine cMv.of (by decide) (Nat.le_of_ble_eq_true rfl) ?_
  intro p e R s m args below meth c A Q ls H locs ⟨hx, hb, hml, hown, hts, hR, hK, hA⟩ hP hD hS hl hret
  have hown : s.vm.findClass RX0 = some m.cls := hown
  have hl : lv_has ls 4 [(0, .ref h), (1, .long t0)] := hl
  refine lv_aload_n hx hb dX0_setTruth_0 rfl (lv_at hl 0 rfl) ?_
  refine va_get (ci := 0) (v := .ref (ad 2)) (C := RX0) (T := TX0) (N := 16) hx hb hts in_X0 hown hK hP 0 rfl rfl 4 (by decide) (hts _ q42) (fun _ h9 => h9) rfl dX0_setTruth_1 ?_
  refine lv_iconst (v := nI 0) hx hb dX0_setTruth_4 (by decide) ?_
  refine lv_lload_n hx hb dX0_setTruth_5 rfl (lv_at hl 1 rfl) ?_
  refine xl_ast (k := 0) hx hb hK hP hD hS 3 2 rfl rfl (by decide) (by decide) dX0_setTruth_6 (fun H locs hP hD hS => ?_)
  have hP : va_P D vwCl (wX h ad ca st pa ac so kc he pl (vp_updL wk 0 t0) ar ot cn tr ld mb tb mt) H := hP
  have hD : va_D A (wX h ad ca st pa ac so kc he pl (vp_updL wk 0 t0) ar ot cn tr ld mb tb mt) := hD
  refine lv_iconst (v := nI 1) hx hb dX0_setTruth_7 (by decide) ?_
  refine lv_istore_n (lv' := [(3, .int (nI 1)), (0, .ref h), (1, .long t0)]) hx hb dX0_setTruth_8 rfl hl (by decide) rfl (fun ls hl => ?_)
  refine lp_w (nL := 4) (pc := 9) 8 (fun (u : (Nat → Int64)) => (wX h ad ca st pa ac so kc he pl u ar ot cn tr ld mb tb mt)) (fun (i : Nat) (u : (Nat → Int64)) => [(0, .ref h), (3, .int (nI i))]) (fun (i : Nat) (u : (Nat → Int64)) => 1 ≤ i ∧ u 0 = t0 ∧ ∀ k, 1 ≤ k → k < i → u k = 0) ?_ ?_ 1 (vp_updL wk 0 t0) _ _ _ (by omega) ⟨by omega, pk_uLs, fun k hk hk2 => absurd hk2 (by omega)⟩ hP hD hS (lv_sub hl [1, 0] rfl)
  · rintro wx H locs ls hJ hP hD hS hl
    have hJ : 1 ≤ 8 ∧ wx 0 = t0 ∧ ∀ k, 1 ≤ k → k < 8 → wx k = 0 := hJ
    have hP : va_P D vwCl (wX h ad ca st pa ac so kc he pl wx ar ot cn tr ld mb tb mt) H := hP
    have hD : va_D A (wX h ad ca st pa ac so kc he pl wx ar ot cn tr ld mb tb mt) := hD
    have hl : lv_has ls 4 [(0, .ref h), (3, .int (nI 8))] := hl
    obtain ⟨-, hJ⟩ := hJ
    refine lv_iload_n hx hb dX0_setTruth_9 rfl (lv_at hl 1 rfl) ?_
    refine lv_bipush (v := nI 8) hx hb dX0_setTruth_10 (by decide) ?_
    refine xn_ge_t (tgt := 28) hx hb dX0_setTruth_12 (by decide) (by omega) (by omega) ?_
    exact hret 28 ls H locs wx dX0_setTruth_28 hJ hP hD hS
  · rintro i wx H locs ls hi hJ hP hD hS hl ih
    have hJ : 1 ≤ i ∧ wx 0 = t0 ∧ ∀ k, 1 ≤ k → k < i → wx k = 0 := hJ
    have hP : va_P D vwCl (wX h ad ca st pa ac so kc he pl wx ar ot cn tr ld mb tb mt) H := hP
    have hD : va_D A (wX h ad ca st pa ac so kc he pl wx ar ot cn tr ld mb tb mt) := hD
    have hl : lv_has ls 4 [(0, .ref h), (3, .int (nI i))] := hl
    obtain ⟨h1, hJ⟩ := hJ
    refine lv_iload_n hx hb dX0_setTruth_9 rfl (lv_at hl 1 rfl) ?_
    refine lv_bipush (v := nI 8) hx hb dX0_setTruth_10 (by decide) ?_
    refine xn_ge_f (tgt := 28) hx hb dX0_setTruth_12 (by decide) hi (by omega) ?_
    refine lv_aload_n hx hb dX0_setTruth_15 rfl (lv_at hl 0 rfl) ?_
    refine va_get (ci := 0) (v := .ref (ad 2)) (C := RX0) (T := TX0) (N := 16) hx hb hts in_X0 hown hK hP 0 rfl rfl 4 (by decide) (hts _ q42) (fun _ h9 => h9) rfl dX0_setTruth_16 ?_
    refine lv_iload_n hx hb dX0_setTruth_19 rfl (lv_at hl 1 rfl) ?_
    refine lv_lconst (v := 0) hx hb dX0_setTruth_20 (by decide) ?_
    refine xl_ast (k := i) hx hb hK hP hD hS 3 2 rfl rfl (by omega) (by decide) dX0_setTruth_21 (fun H locs hP hD hS => ?_)
    have hP : va_P D vwCl (wX h ad ca st pa ac so kc he pl (vp_updL wx i 0) ar ot cn tr ld mb tb mt) H := hP
    have hD : va_D A (wX h ad ca st pa ac so kc he pl (vp_updL wx i 0) ar ot cn tr ld mb tb mt) := hD
    refine lv_iinc (v := nI (i + 1)) (lv' := [(3, .int (nI (i + 1))), (0, .ref h)]) hx hb dX0_setTruth_22 hl (k := 1) rfl (xi_inc1 _) (by decide) rfl (fun ls hl => ?_)
    refine lv_goto (tgt := 9) hx hb dX0_setTruth_25 (by decide) ?_
    exact ih (vp_updL wx i 0) _ _ _ ⟨by omega, truth_J h1 hJ⟩ hP hD hS (lv_sub hl [1, 0] rfl)
theorem upd_J {wx g : Nat → Int64} {i : Nat} (hJ : ∀ k, k < i → wx k = g k) : ∀ k, k < i + 1 → (vp_updL wx i (g i)) k = g k := by
  intro k hk
  by_cases h : k = i
  · subst h; rw [pk_uLs]
  · rw [pk_uLn h]; exact hJ k (by omega)
set_option maxHeartbeats 4000000 in
/-- addPlanes(v, w): into work -/
theorem cX_addPlanes (l : Launch) (D : va_G) (h : Nat) (ad : Nat → Nat) (ca : Nat → ClassId) (sz : Nat) (st pa : Nat) (ac : Int64) (so kc : Nat) (he : Nat → Nat) (pl wk ar ot : Nat → Int64) (cn : Nat → Nat) (tr : Nat → Int64) (ld mb : Nat → Nat) (tb : Nat → Int32) (mt : Nat → Nat) (v w : Nat) (hv : v < 4) (hw4 : w < 4) : cMv l yX0_addPlanes cX0_addPlanes 10 0 0 D (tX ca) (wX h ad ca st pa ac so kc he pl wk ar ot cn tr ld mb tb mt) sz [.ref h, .int (nI v), .int (nI w)] (fun (u : Nat → Int64) => ∀ k, k < 8 → u k = (xp pl v k ^^^ xp pl w k) ^^^ cy (xp pl v) (xp pl w) k) (fun (u : Nat → Int64) => (wX h ad ca st pa ac so kc he pl u ar ot cn tr ld mb tb mt)) := by
  refine cMv.of (by decide) (Nat.le_of_ble_eq_true rfl) ?_
  intro p e R s m args below meth c A Q ls H locs ⟨hx, hb, hml, hown, hts, hR, hK, hA⟩ hP hD hS hl hret
  have hown : s.vm.findClass RX0 = some m.cls := hown
  have hl : lv_has ls 10 [(0, .ref h), (1, .int (nI v)), (2, .int (nI w))] := hl
  refine lv_lconst (v := 0) hx hb dX0_addPlanes_0 (by decide) ?_
  refine xt_l (y := cy (xp pl v) (xp pl w) 0) rfl ?_
  refine lv_lstore_n (lv' := [(3, .long (cy (xp pl v) (xp pl w) 0)), (0, .ref h), (1, .int (nI v)), (2, .int (nI w))]) hx hb dX0_addPlanes_1 rfl hl (by decide) rfl (fun ls hl => ?_)
  refine lv_iconst (v := nI 0) hx hb dX0_addPlanes_2 (by decide) ?_
  refine lv_istore (lv' := [(5, .int (nI 0)), (3, .long (cy (xp pl v) (xp pl w) 0)), (0, .ref h), (1, .int (nI v)), (2, .int (nI w))]) hx hb dX0_addPlanes_3 hl (by decide) rfl (fun ls hl => ?_)
  refine lp_w (nL := 10) (pc := 5) 8 (fun (u : (Nat → Int64)) => (wX h ad ca st pa ac so kc he pl u ar ot cn tr ld mb tb mt)) (fun (i : Nat) (u : (Nat → Int64)) => [(0, .ref h), (1, .int (nI v)), (2, .int (nI w)), (3, .long (cy (xp pl v) (xp pl w) i)), (5, .int (nI i))]) (fun (i : Nat) (u : (Nat → Int64)) => ∀ k, k < i → u k = (xp pl v k ^^^ xp pl w k) ^^^ cy (xp pl v) (xp pl w) k) ?_ ?_ 0 (wk) _ _ _ (by omega) (fun k hk => absurd hk (by omega)) hP hD hS (lv_sub hl [2, 3, 4, 1, 0] rfl)
  · rintro wx H locs ls hJ hP hD hS hl
    have hJ : ∀ k, k < 8 → wx k = (xp pl v k ^^^ xp pl w k) ^^^ cy (xp pl v) (xp pl w) k := hJ
    have hP : va_P D vwCl (wX h ad ca st pa ac so kc he pl wx ar ot cn tr ld mb tb mt) H := hP
    have hD : va_D A (wX h ad ca st pa ac so kc he pl wx ar ot cn tr ld mb tb mt) := hD
    have hl : lv_has ls 10 [(0, .ref h), (1, .int (nI v)), (2, .int (nI w)), (3, .long (cy (xp pl v) (xp pl w) 8)), (5, .int (nI 8))] := hl
    refine lv_iload hx hb dX0_addPlanes_5 (lv_at hl 4 rfl) ?_
    refine lv_bipush (v := nI 8) hx hb dX0_addPlanes_7 (by decide) ?_
    refine xn_ge_t (tgt := 74) hx hb dX0_addPlanes_9 (by decide) (by omega) (by omega) ?_
    exact hret 74 ls H locs wx dX0_addPlanes_74 hJ hP hD hS
  · rintro i wx H locs ls hi hJ hP hD hS hl ih
    have hJ : ∀ k, k < i → wx k = (xp pl v k ^^^ xp pl w k) ^^^ cy (xp pl v) (xp pl w) k := hJ
    have hP : va_P D vwCl (wX h ad ca st pa ac so kc he pl wx ar ot cn tr ld mb tb mt) H := hP
    have hD : va_D A (wX h ad ca st pa ac so kc he pl wx ar ot cn tr ld mb tb mt) := hD
    have hl : lv_has ls 10 [(0, .ref h), (1, .int (nI v)), (2, .int (nI w)), (3, .long (cy (xp pl v) (xp pl w) i)), (5, .int (nI i))] := hl
    refine lv_iload hx hb dX0_addPlanes_5 (lv_at hl 4 rfl) ?_
    refine lv_bipush (v := nI 8) hx hb dX0_addPlanes_7 (by decide) ?_
    refine xn_ge_f (tgt := 74) hx hb dX0_addPlanes_9 (by decide) hi (by omega) ?_
    refine lv_aload_n hx hb dX0_addPlanes_12 rfl (lv_at hl 0 rfl) ?_
    refine va_get (ci := 0) (v := .ref (ad 1)) (C := RX0) (T := TX0) (N := 16) hx hb hts in_X0 hown hK hP 0 rfl rfl 3 (by decide) (hts _ q41) (fun _ h9 => h9) rfl dX0_addPlanes_13 ?_
    refine lv_bipush (v := nI 8) hx hb dX0_addPlanes_16 (by decide) ?_
    refine lv_iload_n hx hb dX0_addPlanes_18 rfl (lv_at hl 1 rfl) ?_
    refine xi_mul hx hb dX0_addPlanes_19 ?_
    refine lv_iload hx hb dX0_addPlanes_20 (lv_at hl 4 rfl) ?_
    refine xi_add hx hb dX0_addPlanes_22 ?_
    refine xl_ald (k := (8 * v + i)) hx hb hK hP 2 1 rfl rfl (by omega) (by decide) dX0_addPlanes_23 ?_
    refine xt_l (y := xp pl v i) rfl ?_
    refine lv_lstore (lv' := [(6, .long (xp pl v i)), (0, .ref h), (1, .int (nI v)), (2, .int (nI w)), (3, .long (cy (xp pl v) (xp pl w) i)), (5, .int (nI i))]) hx hb dX0_addPlanes_24 hl (by decide) rfl (fun ls hl => ?_)
    refine lv_aload_n hx hb dX0_addPlanes_26 rfl (lv_at hl 1 rfl) ?_
    refine va_get (ci := 0) (v := .ref (ad 1)) (C := RX0) (T := TX0) (N := 16) hx hb hts in_X0 hown hK hP 0 rfl rfl 3 (by decide) (hts _ q41) (fun _ h9 => h9) rfl dX0_addPlanes_27 ?_
    refine lv_bipush (v := nI 8) hx hb dX0_addPlanes_30 (by decide) ?_
    refine lv_iload_n hx hb dX0_addPlanes_32 rfl (lv_at hl 3 rfl) ?_
    refine xi_mul hx hb dX0_addPlanes_33 ?_
    refine lv_iload hx hb dX0_addPlanes_34 (lv_at hl 5 rfl) ?_
    refine xi_add hx hb dX0_addPlanes_36 ?_
    refine xl_ald (k := (8 * w + i)) hx hb hK hP 2 1 rfl rfl (by omega) (by decide) dX0_addPlanes_37 ?_
    refine xt_l (y := xp pl w i) rfl ?_
    refine lv_lstore (lv' := [(8, .long (xp pl w i)), (6, .long (xp pl v i)), (0, .ref h), (1, .int (nI v)), (2, .int (nI w)), (3, .long (cy (xp pl v) (xp pl w) i)), (5, .int (nI i))]) hx hb dX0_addPlanes_38 hl (by decide) rfl (fun ls hl => ?_)
    refine lv_aload_n hx hb dX0_addPlanes_40 rfl (lv_at hl 2 rfl) ?_
    refine va_get (ci := 0) (v := .ref (ad 2)) (C := RX0) (T := TX0) (N := 16) hx hb hts in_X0 hown hK hP 0 rfl rfl 4 (by decide) (hts _ q42) (fun _ h9 => h9) rfl dX0_addPlanes_41 ?_
    refine lv_iload hx hb dX0_addPlanes_44 (lv_at hl 6 rfl) ?_
    refine lv_lload hx hb dX0_addPlanes_46 (lv_at hl 1 rfl) ?_
    refine lv_lload hx hb dX0_addPlanes_48 (lv_at hl 0 rfl) ?_
    refine lv_lxor hx hb dX0_addPlanes_50 ?_
    refine lv_lload_n hx hb dX0_addPlanes_51 rfl (lv_at hl 5 rfl) ?_
    refine lv_lxor hx hb dX0_addPlanes_52 ?_
    refine xl_ast (k := i) hx hb hK hP hD hS 3 2 rfl rfl (by omega) (by decide) dX0_addPlanes_53 (fun H locs hP hD hS => ?_)
    have hP : va_P D vwCl (wX h ad ca st pa ac so kc he pl (vp_updL wx i (((xp pl v i) ^^^ (xp pl w i)) ^^^ (cy (xp pl v) (xp pl w) i))) ar ot cn tr ld mb tb mt) H := hP
    have hD : va_D A (wX h ad ca st pa ac so kc he pl (vp_updL wx i (((xp pl v i) ^^^ (xp pl w i)) ^^^ (cy (xp pl v) (xp pl w) i))) ar ot cn tr ld mb tb mt) := hD
    refine lv_lload hx hb dX0_addPlanes_54 (lv_at hl 1 rfl) ?_
    refine lv_lload hx hb dX0_addPlanes_56 (lv_at hl 0 rfl) ?_
    refine lv_land hx hb dX0_addPlanes_58 ?_
    refine lv_lload hx hb dX0_addPlanes_59 (lv_at hl 1 rfl) ?_
    refine lv_lload hx hb dX0_addPlanes_61 (lv_at hl 0 rfl) ?_
    refine lv_lxor hx hb dX0_addPlanes_63 ?_
    refine lv_lload_n hx hb dX0_addPlanes_64 rfl (lv_at hl 5 rfl) ?_
    refine lv_land hx hb dX0_addPlanes_65 ?_
    refine lv_lor hx hb dX0_addPlanes_66 ?_
    refine xt_l (y := cy (xp pl v) (xp pl w) (i + 1)) rfl ?_
    refine lv_lstore_n (lv' := [(3, .long (cy (xp pl v) (xp pl w) (i + 1))), (8, .long (xp pl w i)), (6, .long (xp pl v i)), (0, .ref h), (1, .int (nI v)), (2, .int (nI w)), (5, .int (nI i))]) hx hb dX0_addPlanes_67 rfl hl (by decide) rfl (fun ls hl => ?_)
    refine lv_iinc (v := nI (i + 1)) (lv' := [(5, .int (nI (i + 1))), (3, .long (cy (xp pl v) (xp pl w) (i + 1))), (8, .long (xp pl w i)), (6, .long (xp pl v i)), (0, .ref h), (1, .int (nI v)), (2, .int (nI w))]) hx hb dX0_addPlanes_68 hl (k := 6) rfl (xi_inc1 _) (by decide) rfl (fun ls hl => ?_)
    refine lv_goto (tgt := 5) hx hb dX0_addPlanes_71 (by decide) ?_
    exact ih (vp_updL wx i (((xp pl v i) ^^^ (xp pl w i)) ^^^ (cy (xp pl v) (xp pl w) i))) _ _ _ (upd_J hJ) hP hD hS (lv_sub hl [4, 5, 6, 1, 0] rfl)
set_option maxHeartbeats 4000000 in
/-- subtractPlanes(v, w): into work -/
theorem cX_subtractPlanes (l : Launch) (D : va_G) (h : Nat) (ad : Nat → Nat) (ca : Nat → ClassId) (sz : Nat) (st pa : Nat) (ac : Int64) (so kc : Nat) (he : Nat → Nat) (pl wk ar ot : Nat → Int64) (cn : Nat → Nat) (tr : Nat → Int64) (ld mb : Nat → Nat) (tb : Nat → Int32) (mt : Nat → Nat) (v w : Nat) (hv : v < 4) (hw4 : w < 4) : cMl l yX0_subtractPlanes cX0_subtractPlanes 10 0 0 D (tX ca) (wX h ad ca st pa ac so kc he pl wk ar ot cn tr ld mb tb mt) sz [.ref h, .int (nI v), .int (nI w)] (fun (r : Int64) (u : Nat → Int64) => r = bw (xp pl v) (xp pl w) 8 ∧ ∀ k, k < 8 → u k = (xp pl v k ^^^ xp pl w k) ^^^ bw (xp pl v) (xp pl w) k) (fun (u : Nat → Int64) => (wX h ad ca st pa ac so kc he pl u ar ot cn tr ld mb tb mt)) := by
  refine cMl.of (by decide) (Nat.le_of_ble_eq_true rfl) ?_
  intro p e R s m args below meth c A Q ls H locs ⟨hx, hb, hml, hown, hts, hR, hK, hA⟩ hP hD hS hl hret
  have hown : s.vm.findClass RX0 = some m.cls := hown
  have hl : lv_has ls 10 [(0, .ref h), (1, .int (nI v)), (2, .int (nI w))] := hl
  refine lv_lconst (v := 0) hx hb dX0_subtractPlanes_0 (by decide) ?_
  refine xt_l (y := bw (xp pl v) (xp pl w) 0) rfl ?_
  refine lv_lstore_n (lv' := [(3, .long (bw (xp pl v) (xp pl w) 0)), (0, .ref h), (1, .int (nI v)), (2, .int (nI w))]) hx hb dX0_subtractPlanes_1 rfl hl (by decide) rfl (fun ls hl => ?_)
  refine lv_iconst (v := nI 0) hx hb dX0_subtractPlanes_2 (by decide) ?_
  refine lv_istore (lv' := [(5, .int (nI 0)), (3, .long (bw (xp pl v) (xp pl w) 0)), (0, .ref h), (1, .int (nI v)), (2, .int (nI w))]) hx hb dX0_subtractPlanes_3 hl (by decide) rfl (fun ls hl => ?_)
  refine lp_w (nL := 10) (pc := 5) 8 (fun (u : (Nat → Int64)) => (wX h ad ca st pa ac so kc he pl u ar ot cn tr ld mb tb mt)) (fun (i : Nat) (u : (Nat → Int64)) => [(0, .ref h), (1, .int (nI v)), (2, .int (nI w)), (3, .long (bw (xp pl v) (xp pl w) i)), (5, .int (nI i))]) (fun (i : Nat) (u : (Nat → Int64)) => ∀ k, k < i → u k = (xp pl v k ^^^ xp pl w k) ^^^ bw (xp pl v) (xp pl w) k) ?_ ?_ 0 (wk) _ _ _ (by omega) (fun k hk => absurd hk (by omega)) hP hD hS (lv_sub hl [2, 3, 4, 1, 0] rfl)
  · rintro wx H locs ls hJ hP hD hS hl
    have hJ : ∀ k, k < 8 → wx k = (xp pl v k ^^^ xp pl w k) ^^^ bw (xp pl v) (xp pl w) k := hJ
    have hP : va_P D vwCl (wX h ad ca st pa ac so kc he pl wx ar ot cn tr ld mb tb mt) H := hP
    have hD : va_D A (wX h ad ca st pa ac so kc he pl wx ar ot cn tr ld mb tb mt) := hD
    have hl : lv_has ls 10 [(0, .ref h), (1, .int (nI v)), (2, .int (nI w)), (3, .long (bw (xp pl v) (xp pl w) 8)), (5, .int (nI 8))] := hl
    refine lv_iload hx hb dX0_subtractPlanes_5 (lv_at hl 4 rfl) ?_
    refine lv_bipush (v := nI 8) hx hb dX0_subtractPlanes_7 (by decide) ?_
    refine xn_ge_t (tgt := 82) hx hb dX0_subtractPlanes_9 (by decide) (by omega) (by omega) ?_
    refine lv_lload_n hx hb dX0_subtractPlanes_82 rfl (lv_at hl 3 rfl) ?_
    exact hret 83 ls H locs (bw (xp pl v) (xp pl w) 8) wx dX0_subtractPlanes_83 ⟨rfl, hJ⟩ hP hD hS
  · rintro i wx H locs ls hi hJ hP hD hS hl ih
    have hJ : ∀ k, k < i → wx k = (xp pl v k ^^^ xp pl w k) ^^^ bw (xp pl v) (xp pl w) k := hJ
    have hP : va_P D vwCl (wX h ad ca st pa ac so kc he pl wx ar ot cn tr ld mb tb mt) H := hP
    have hD : va_D A (wX h ad ca st pa ac so kc he pl wx ar ot cn tr ld mb tb mt) := hD
    have hl : lv_has ls 10 [(0, .ref h), (1, .int (nI v)), (2, .int (nI w)), (3, .long (bw (xp pl v) (xp pl w) i)), (5, .int (nI i))] := hl
    refine lv_iload hx hb dX0_subtractPlanes_5 (lv_at hl 4 rfl) ?_
    refine lv_bipush (v := nI 8) hx hb dX0_subtractPlanes_7 (by decide) ?_
    refine xn_ge_f (tgt := 82) hx hb dX0_subtractPlanes_9 (by decide) hi (by omega) ?_
    refine lv_aload_n hx hb dX0_subtractPlanes_12 rfl (lv_at hl 0 rfl) ?_
    refine va_get (ci := 0) (v := .ref (ad 1)) (C := RX0) (T := TX0) (N := 16) hx hb hts in_X0 hown hK hP 0 rfl rfl 3 (by decide) (hts _ q41) (fun _ h9 => h9) rfl dX0_subtractPlanes_13 ?_
    refine lv_bipush (v := nI 8) hx hb dX0_subtractPlanes_16 (by decide) ?_
    refine lv_iload_n hx hb dX0_subtractPlanes_18 rfl (lv_at hl 1 rfl) ?_
    refine xi_mul hx hb dX0_subtractPlanes_19 ?_
    refine lv_iload hx hb dX0_subtractPlanes_20 (lv_at hl 4 rfl) ?_
    refine xi_add hx hb dX0_subtractPlanes_22 ?_
    refine xl_ald (k := (8 * v + i)) hx hb hK hP 2 1 rfl rfl (by omega) (by decide) dX0_subtractPlanes_23 ?_
    refine xt_l (y := xp pl v i) rfl ?_
    refine lv_lstore (lv' := [(6, .long (xp pl v i)), (0, .ref h), (1, .int (nI v)), (2, .int (nI w)), (3, .long (bw (xp pl v) (xp pl w) i)), (5, .int (nI i))]) hx hb dX0_subtractPlanes_24 hl (by decide) rfl (fun ls hl => ?_)
    refine lv_aload_n hx hb dX0_subtractPlanes_26 rfl (lv_at hl 1 rfl) ?_
    refine va_get (ci := 0) (v := .ref (ad 1)) (C := RX0) (T := TX0) (N := 16) hx hb hts in_X0 hown hK hP 0 rfl rfl 3 (by decide) (hts _ q41) (fun _ h9 => h9) rfl dX0_subtractPlanes_27 ?_
    refine lv_bipush (v := nI 8) hx hb dX0_subtractPlanes_30 (by decide) ?_
    refine lv_iload_n hx hb dX0_subtractPlanes_32 rfl (lv_at hl 3 rfl) ?_
    refine xi_mul hx hb dX0_subtractPlanes_33 ?_
    refine lv_iload hx hb dX0_subtractPlanes_34 (lv_at hl 5 rfl) ?_
    refine xi_add hx hb dX0_subtractPlanes_36 ?_
    refine xl_ald (k := (8 * w + i)) hx hb hK hP 2 1 rfl rfl (by omega) (by decide) dX0_subtractPlanes_37 ?_
    refine xt_l (y := xp pl w i) rfl ?_
    refine lv_lstore (lv' := [(8, .long (xp pl w i)), (6, .long (xp pl v i)), (0, .ref h), (1, .int (nI v)), (2, .int (nI w)), (3, .long (bw (xp pl v) (xp pl w) i)), (5, .int (nI i))]) hx hb dX0_subtractPlanes_38 hl (by decide) rfl (fun ls hl => ?_)
    refine lv_aload_n hx hb dX0_subtractPlanes_40 rfl (lv_at hl 2 rfl) ?_
    refine va_get (ci := 0) (v := .ref (ad 2)) (C := RX0) (T := TX0) (N := 16) hx hb hts in_X0 hown hK hP 0 rfl rfl 4 (by decide) (hts _ q42) (fun _ h9 => h9) rfl dX0_subtractPlanes_41 ?_
    refine lv_iload hx hb dX0_subtractPlanes_44 (lv_at hl 6 rfl) ?_
    refine lv_lload hx hb dX0_subtractPlanes_46 (lv_at hl 1 rfl) ?_
    refine lv_lload hx hb dX0_subtractPlanes_48 (lv_at hl 0 rfl) ?_
    refine lv_lxor hx hb dX0_subtractPlanes_50 ?_
    refine lv_lload_n hx hb dX0_subtractPlanes_51 rfl (lv_at hl 5 rfl) ?_
    refine lv_lxor hx hb dX0_subtractPlanes_52 ?_
    refine xl_ast (k := i) hx hb hK hP hD hS 3 2 rfl rfl (by omega) (by decide) dX0_subtractPlanes_53 (fun H locs hP hD hS => ?_)
    have hP : va_P D vwCl (wX h ad ca st pa ac so kc he pl (vp_updL wx i (((xp pl v i) ^^^ (xp pl w i)) ^^^ (bw (xp pl v) (xp pl w) i))) ar ot cn tr ld mb tb mt) H := hP
    have hD : va_D A (wX h ad ca st pa ac so kc he pl (vp_updL wx i (((xp pl v i) ^^^ (xp pl w i)) ^^^ (bw (xp pl v) (xp pl w) i))) ar ot cn tr ld mb tb mt) := hD
    refine lv_lload hx hb dX0_subtractPlanes_54 (lv_at hl 1 rfl) ?_
    refine lv_ldc2 (v := (-1)) hx hb hown (hts _ q37) dX0_subtractPlanes_56 ?_
    refine lv_lxor hx hb dX0_subtractPlanes_59 ?_
    refine lv_lload hx hb dX0_subtractPlanes_60 (lv_at hl 0 rfl) ?_
    refine lv_land hx hb dX0_subtractPlanes_62 ?_
    refine lv_lload hx hb dX0_subtractPlanes_63 (lv_at hl 1 rfl) ?_
    refine lv_lload hx hb dX0_subtractPlanes_65 (lv_at hl 0 rfl) ?_
    refine lv_lxor hx hb dX0_subtractPlanes_67 ?_
    refine lv_ldc2 (v := (-1)) hx hb hown (hts _ q37) dX0_subtractPlanes_68 ?_
    refine lv_lxor hx hb dX0_subtractPlanes_71 ?_
    refine lv_lload_n hx hb dX0_subtractPlanes_72 rfl (lv_at hl 5 rfl) ?_
    refine lv_land hx hb dX0_subtractPlanes_73 ?_
    refine lv_lor hx hb dX0_subtractPlanes_74 ?_
    refine xt_l (y := bw (xp pl v) (xp pl w) (i + 1)) rfl ?_
    refine lv_lstore_n (lv' := [(3, .long (bw (xp pl v) (xp pl w) (i + 1))), (8, .long (xp pl w i)), (6, .long (xp pl v i)), (0, .ref h), (1, .int (nI v)), (2, .int (nI w)), (5, .int (nI i))]) hx hb dX0_subtractPlanes_75 rfl hl (by decide) rfl (fun ls hl => ?_)
    refine lv_iinc (v := nI (i + 1)) (lv' := [(5, .int (nI (i + 1))), (3, .long (bw (xp pl v) (xp pl w) (i + 1))), (8, .long (xp pl w i)), (6, .long (xp pl v i)), (0, .ref h), (1, .int (nI v)), (2, .int (nI w))]) hx hb dX0_subtractPlanes_76 hl (k := 6) rfl (xi_inc1 _) (by decide) rfl (fun ls hl => ?_)
    refine lv_goto (tgt := 5) hx hb dX0_subtractPlanes_79 (by decide) ?_
    exact ih (vp_updL wx i (((xp pl v i) ^^^ (xp pl w i)) ^^^ (bw (xp pl v) (xp pl w) i))) _ _ _ (upd_J hJ) hP hD hS (lv_sub hl [4, 5, 6, 1, 0] rfl)
theorem shift_C {wk pl : Nat → Int64} {mk : Int64} {v sh i : Nat} (h : sh ≤ i) : ((wk i &&& (pl (8 * v + (i - sh)) &&& mk)) ||| ((wk i ^^^ (pl (8 * v + (i - sh)) &&& mk)) &&& cy (fun j => wk (sh + j)) (fun j => pl (8 * v + j) &&& mk) (i - sh))) = cy (fun j => wk (sh + j)) (fun j => pl (8 * v + j) &&& mk) (i + 1 - sh) := by
  rw [show i + 1 - sh = (i - sh) + 1 by omega]
  simp only [cy]
  rw [show sh + (i - sh) = i by omega]
theorem shift_J {wk wx pl : Nat → Int64} {mk : Int64} {v sh i : Nat} (h : sh ≤ i) (hJ : ∀ k, wx k = if sh ≤ k ∧ k < i then (wk k ^^^ (pl (8 * v + (k - sh)) &&& mk)) ^^^ cy (fun j => wk (sh + j)) (fun j => pl (8 * v + j) &&& mk) (k - sh) else wk k) : ∀ k, (vp_updL wx i ((wk i ^^^ (pl (8 * v + (i - sh)) &&& mk)) ^^^ cy (fun j => wk (sh + j)) (fun j => pl (8 * v + j) &&& mk) (i - sh))) k = if sh ≤ k ∧ k < i + 1 then (wk k ^^^ (pl (8 * v + (k - sh)) &&& mk)) ^^^ cy (fun j => wk (sh + j)) (fun j => pl (8 * v + j) &&& mk) (k - sh) else wk k := by
  intro k
  by_cases hk : k = i
  · subst hk
    rw [pk_uLs, if_pos (by omega)]
  · rw [pk_uLn hk, hJ]
    by_cases hh : sh ≤ k ∧ k < i
    · rw [if_pos hh, if_pos (by omega)]
    · rw [if_neg hh, if_neg (by omega)]
theorem shift_E {wk wx pl : Nat → Int64} {mk : Int64} {v sh : Nat} (hJ : ∀ k, wx k = if sh ≤ k ∧ k < 8 then (wk k ^^^ (pl (8 * v + (k - sh)) &&& mk)) ^^^ cy (fun j => wk (sh + j)) (fun j => pl (8 * v + j) &&& mk) (k - sh) else wk k) : ∀ k, k < 8 → wx k = if k < sh then wk k else (wk k ^^^ (pl (8 * v + (k - sh)) &&& mk)) ^^^ cy (fun j => wk (sh + j)) (fun j => pl (8 * v + j) &&& mk) (k - sh) := by
  intro k hk
  rw [hJ k]
  by_cases hh : k < sh
  · rw [if_neg (by omega), if_pos hh]
  · rw [if_pos (by omega), if_neg hh]
set_option maxHeartbeats 4000000 in
/-- addShifted(v, by, mask): work grows by v, moved up, under the mask -/
theorem cX_addShifted (l : Launch) (D : va_G) (h : Nat) (ad : Nat → Nat) (ca : Nat → ClassId) (sz : Nat) (st pa : Nat) (ac : Int64) (so kc : Nat) (he : Nat → Nat) (pl wk ar ot : Nat → Int64) (cn : Nat → Nat) (tr : Nat → Int64) (ld mb : Nat → Nat) (tb : Nat → Int32) (mt : Nat → Nat) (v sh : Nat) (mk : Int64) (hv : v < 4) (hsh : sh < 8) : cMv l yX0_addShifted cX0_addShifted 12 0 0 D (tX ca) (wX h ad ca st pa ac so kc he pl wk ar ot cn tr ld mb tb mt) sz [.ref h, .int (nI v), .int (nI sh), .long mk] (fun (u : Nat → Int64) => ∀ k, k < 8 → u k = if k < sh then wk k else (wk k ^^^ (pl (8 * v + (k - sh)) &&& mk)) ^^^ cy (fun j => wk (sh + j)) (fun j => pl (8 * v + j) &&& mk) (k - sh)) (fun (u : Nat → Int64) => (wX h ad ca st pa ac so kc he pl u ar ot cn tr ld mb tb mt)) := by
  refine cMv.of (by decide) (Nat.le_of_ble_eq_true rfl) ?_
  intro p e R s m args below meth c A Q ls H locs ⟨hx, hb, hml, hown, hts, hR, hK, hA⟩ hP hD hS hl hret
  have hown : s.vm.findClass RX0 = some m.cls := hown
  have hl : lv_has ls 12 [(0, .ref h), (1, .int (nI v)), (2, .int (nI sh)), (3, .long mk)] := hl
  refine lv_lconst (v := 0) hx hb dX0_addShifted_0 (by decide) ?_
  refine xt_l (y := cy (fun j => wk (sh + j)) (fun j => pl (8 * v + j) &&& mk) (sh - sh)) (by rw [Nat.sub_self]; rfl) ?_
  refine lv_lstore (lv' := [(5, .long (cy (fun j => wk (sh + j)) (fun j => pl (8 * v + j) &&& mk) (sh - sh))), (0, .ref h), (1, .int (nI v)), (2, .int (nI sh)), (3, .long mk)]) hx hb dX0_addShifted_1 hl (by decide) rfl (fun ls hl => ?_)
  refine lv_iload_n hx hb dX0_addShifted_3 rfl (lv_at hl 3 rfl) ?_
  refine lv_istore (lv' := [(7, .int (nI sh)), (5, .long (cy (fun j => wk (sh + j)) (fun j => pl (8 * v + j) &&& mk) (sh - sh))), (0, .ref h), (1, .int (nI v)), (2, .int (nI sh)), (3, .long mk)]) hx hb dX0_addShifted_4 hl (by decide) rfl (fun ls hl => ?_)
  refine lp_w (nL := 12) (pc := 6) 8 (fun (u : (Nat → Int64)) => (wX h ad ca st pa ac so kc he pl u ar ot cn tr ld mb tb mt)) (fun (i : Nat) (u : (Nat → Int64)) => [(0, .ref h), (1, .int (nI v)), (2, .int (nI sh)), (3, .long mk), (5, .long (cy (fun j => wk (sh + j)) (fun j => pl (8 * v + j) &&& mk) (i - sh))), (7, .int (nI i))]) (fun (i : Nat) (u : (Nat → Int64)) => sh ≤ i ∧ ∀ k, u k = if sh ≤ k ∧ k < i then (wk k ^^^ (pl (8 * v + (k - sh)) &&& mk)) ^^^ cy (fun j => wk (sh + j)) (fun j => pl (8 * v + j) &&& mk) (k - sh) else wk k) ?_ ?_ sh (wk) _ _ _ (by omega) ⟨Nat.le_refl _, fun k => by rw [if_neg (by omega)]⟩ hP hD hS (lv_sub hl [2, 3, 4, 5, 1, 0] rfl)
  · rintro wx H locs ls hJ hP hD hS hl
    have hJ : sh ≤ 8 ∧ ∀ k, wx k = if sh ≤ k ∧ k < 8 then (wk k ^^^ (pl (8 * v + (k - sh)) &&& mk)) ^^^ cy (fun j => wk (sh + j)) (fun j => pl (8 * v + j) &&& mk) (k - sh) else wk k := hJ
    have hP : va_P D vwCl (wX h ad ca st pa ac so kc he pl wx ar ot cn tr ld mb tb mt) H := hP
    have hD : va_D A (wX h ad ca st pa ac so kc he pl wx ar ot cn tr ld mb tb mt) := hD
    have hl : lv_has ls 12 [(0, .ref h), (1, .int (nI v)), (2, .int (nI sh)), (3, .long mk), (5, .long (cy (fun j => wk (sh + j)) (fun j => pl (8 * v + j) &&& mk) (8 - sh))), (7, .int (nI 8))] := hl
    obtain ⟨-, hJ⟩ := hJ
    refine lv_iload hx hb dX0_addShifted_6 (lv_at hl 5 rfl) ?_
    refine lv_bipush (v := nI 8) hx hb dX0_addShifted_8 (by decide) ?_
    refine xn_ge_t (tgt := 77) hx hb dX0_addShifted_10 (by decide) (by omega) (by omega) ?_
    exact hret 77 ls H locs wx dX0_addShifted_77 (shift_E hJ) hP hD hS
  · rintro i wx H locs ls hi hJ hP hD hS hl ih
    have hJ : sh ≤ i ∧ ∀ k, wx k = if sh ≤ k ∧ k < i then (wk k ^^^ (pl (8 * v + (k - sh)) &&& mk)) ^^^ cy (fun j => wk (sh + j)) (fun j => pl (8 * v + j) &&& mk) (k - sh) else wk k := hJ
    have hP : va_P D vwCl (wX h ad ca st pa ac so kc he pl wx ar ot cn tr ld mb tb mt) H := hP
    have hD : va_D A (wX h ad ca st pa ac so kc he pl wx ar ot cn tr ld mb tb mt) := hD
    have hl : lv_has ls 12 [(0, .ref h), (1, .int (nI v)), (2, .int (nI sh)), (3, .long mk), (5, .long (cy (fun j => wk (sh + j)) (fun j => pl (8 * v + j) &&& mk) (i - sh))), (7, .int (nI i))] := hl
    obtain ⟨hsi, hJ⟩ := hJ
    refine lv_iload hx hb dX0_addShifted_6 (lv_at hl 5 rfl) ?_
    refine lv_bipush (v := nI 8) hx hb dX0_addShifted_8 (by decide) ?_
    refine xn_ge_f (tgt := 77) hx hb dX0_addShifted_10 (by decide) hi (by omega) ?_
    refine lv_aload_n hx hb dX0_addShifted_13 rfl (lv_at hl 0 rfl) ?_
    refine va_get (ci := 0) (v := .ref (ad 2)) (C := RX0) (T := TX0) (N := 16) hx hb hts in_X0 hown hK hP 0 rfl rfl 4 (by decide) (hts _ q42) (fun _ h9 => h9) rfl dX0_addShifted_14 ?_
    refine lv_iload hx hb dX0_addShifted_17 (lv_at hl 5 rfl) ?_
    refine xl_ald (k := i) hx hb hK hP 3 2 rfl rfl (by omega) (by decide) dX0_addShifted_19 ?_
    refine xt_l (y := wk i) (by rw [hJ i, if_neg (by omega)]) ?_
    refine lv_lstore (lv' := [(8, .long (wk i)), (0, .ref h), (1, .int (nI v)), (2, .int (nI sh)), (3, .long mk), (5, .long (cy (fun j => wk (sh + j)) (fun j => pl (8 * v + j) &&& mk) (i - sh))), (7, .int (nI i))]) hx hb dX0_addShifted_20 hl (by decide) rfl (fun ls hl => ?_)
    refine lv_aload_n hx hb dX0_addShifted_22 rfl (lv_at hl 1 rfl) ?_
    refine va_get (ci := 0) (v := .ref (ad 1)) (C := RX0) (T := TX0) (N := 16) hx hb hts in_X0 hown hK hP 0 rfl rfl 3 (by decide) (hts _ q41) (fun _ h9 => h9) rfl dX0_addShifted_23 ?_
    refine lv_bipush (v := nI 8) hx hb dX0_addShifted_26 (by decide) ?_
    refine lv_iload_n hx hb dX0_addShifted_28 rfl (lv_at hl 2 rfl) ?_
    refine xi_mul hx hb dX0_addShifted_29 ?_
    refine lv_iload hx hb dX0_addShifted_30 (lv_at hl 6 rfl) ?_
    refine xi_add hx hb dX0_addShifted_32 ?_
    refine lv_iload_n hx hb dX0_addShifted_33 rfl (lv_at hl 3 rfl) ?_
    refine xi_sub hx hb dX0_addShifted_34 (by omega) ?_
    refine xl_ald (k := (8 * v + i - sh)) hx hb hK hP 2 1 rfl rfl (by omega) (by decide) dX0_addShifted_35 ?_
    refine xt_l (y := pl (8 * v + (i - sh))) (by rw [Nat.add_sub_assoc hsi]) ?_
    refine lv_lload_n hx hb dX0_addShifted_36 rfl (lv_at hl 4 rfl) ?_
    refine lv_land hx hb dX0_addShifted_37 ?_
    refine lv_lstore (lv' := [(10, .long ((pl (8 * v + (i - sh))) &&& mk)), (8, .long (wk i)), (0, .ref h), (1, .int (nI v)), (2, .int (nI sh)), (3, .long mk), (5, .long (cy (fun j => wk (sh + j)) (fun j => pl (8 * v + j) &&& mk) (i - sh))), (7, .int (nI i))]) hx hb dX0_addShifted_38 hl (by decide) rfl (fun ls hl => ?_)
    refine lv_aload_n hx hb dX0_addShifted_40 rfl (lv_at hl 2 rfl) ?_
    refine va_get (ci := 0) (v := .ref (ad 2)) (C := RX0) (T := TX0) (N := 16) hx hb hts in_X0 hown hK hP 0 rfl rfl 4 (by decide) (hts _ q42) (fun _ h9 => h9) rfl dX0_addShifted_41 ?_
    refine lv_iload hx hb dX0_addShifted_44 (lv_at hl 7 rfl) ?_
    refine lv_lload hx hb dX0_addShifted_46 (lv_at hl 1 rfl) ?_
    refine lv_lload hx hb dX0_addShifted_48 (lv_at hl 0 rfl) ?_
    refine lv_lxor hx hb dX0_addShifted_50 ?_
    refine lv_lload hx hb dX0_addShifted_51 (lv_at hl 6 rfl) ?_
    refine lv_lxor hx hb dX0_addShifted_53 ?_
    refine xl_ast (k := i) hx hb hK hP hD hS 3 2 rfl rfl (by omega) (by decide) dX0_addShifted_54 (fun H locs hP hD hS => ?_)
    have hP : va_P D vwCl (wX h ad ca st pa ac so kc he pl (vp_updL wx i (((wk i) ^^^ ((pl (8 * v + (i - sh))) &&& mk)) ^^^ (cy (fun j => wk (sh + j)) (fun j => pl (8 * v + j) &&& mk) (i - sh)))) ar ot cn tr ld mb tb mt) H := hP
    have hD : va_D A (wX h ad ca st pa ac so kc he pl (vp_updL wx i (((wk i) ^^^ ((pl (8 * v + (i - sh))) &&& mk)) ^^^ (cy (fun j => wk (sh + j)) (fun j => pl (8 * v + j) &&& mk) (i - sh)))) ar ot cn tr ld mb tb mt) := hD
    refine lv_lload hx hb dX0_addShifted_55 (lv_at hl 1 rfl) ?_
    refine lv_lload hx hb dX0_addShifted_57 (lv_at hl 0 rfl) ?_
    refine lv_land hx hb dX0_addShifted_59 ?_
    refine lv_lload hx hb dX0_addShifted_60 (lv_at hl 1 rfl) ?_
    refine lv_lload hx hb dX0_addShifted_62 (lv_at hl 0 rfl) ?_
    refine lv_lxor hx hb dX0_addShifted_64 ?_
    refine lv_lload hx hb dX0_addShifted_65 (lv_at hl 6 rfl) ?_
    refine lv_land hx hb dX0_addShifted_67 ?_
    refine lv_lor hx hb dX0_addShifted_68 ?_
    refine xt_l (y := cy (fun j => wk (sh + j)) (fun j => pl (8 * v + j) &&& mk) (i + 1 - sh)) (shift_C hsi) ?_
    refine lv_lstore (lv' := [(5, .long (cy (fun j => wk (sh + j)) (fun j => pl (8 * v + j) &&& mk) (i + 1 - sh))), (10, .long ((pl (8 * v + (i - sh))) &&& mk)), (8, .long (wk i)), (0, .ref h), (1, .int (nI v)), (2, .int (nI sh)), (3, .long mk), (7, .int (nI i))]) hx hb dX0_addShifted_69 hl (by decide) rfl (fun ls hl => ?_)
    refine lv_iinc (v := nI (i + 1)) (lv' := [(7, .int (nI (i + 1))), (5, .long (cy (fun j => wk (sh + j)) (fun j => pl (8 * v + j) &&& mk) (i + 1 - sh))), (10, .long ((pl (8 * v + (i - sh))) &&& mk)), (8, .long (wk i)), (0, .ref h), (1, .int (nI v)), (2, .int (nI sh)), (3, .long mk)]) hx hb dX0_addShifted_71 hl (k := 7) rfl (xi_inc1 _) (by decide) rfl (fun ls hl => ?_)
    refine lv_goto (tgt := 6) hx hb dX0_addShifted_74 (by decide) ?_
    exact ih (vp_updL wx i (((wk i) ^^^ ((pl (8 * v + (i - sh))) &&& mk)) ^^^ (cy (fun j => wk (sh + j)) (fun j => pl (8 * v + j) &&& mk) (i - sh)))) _ _ _ ⟨by omega, shift_J hsi hJ⟩ hP hD hS (lv_sub hl [4, 5, 6, 7, 1, 0] rfl)
end
section
set_option maxRecDepth 100000
theorem mul_J {pl wy wz : Nat → Int64} {v w i s1 : Nat} (hi : i < 8) (hw : ∀ k, k < 8 → wz k = if k < i then wy k else (wy k ^^^ (pl (8 * v + (k - i)) &&& pl (8 * w + i))) ^^^ cy (fun j => wy (i + j)) (fun j => pl (8 * v + j) &&& pl (8 * w + i)) (k - i)) (hJ : pv wy 0 8 s1 = pv pl (8 * v) 8 s1 * pv pl (8 * w) i s1 % 256) : pv wz 0 8 s1 = pv pl (8 * v) 8 s1 * pv pl (8 * w) (i + 1) s1 % 256 := by
  rw [shadd_pv (pl := pl) (o := 8 * v) (pl (8 * w + i)) hi hw, hJ]
  show _ = pv pl (8 * v) 8 s1 * (pv pl (8 * w) i s1 + (bl (pl (8 * w + i)) s1).toNat * 2 ^ i) % 256
  rw [← mul_step _ _ _ _ (by cases bl (pl (8 * w + i)) s1 <;> simp)]
  cases bl (pl (8 * w + i)) s1 <;> simp
set_option maxHeartbeats 4000000 in
/-- multiplyPlanes(v, w): into work -/
theorem cX_multiplyPlanes (l : Launch) (D : va_G) (h : Nat) (ad : Nat → Nat) (ca : Nat → ClassId) (sz : Nat) (st pa : Nat) (ac : Int64) (so kc : Nat) (he : Nat → Nat) (pl wk ar ot : Nat → Int64) (cn : Nat → Nat) (tr : Nat → Int64) (ld mb : Nat → Nat) (tb : Nat → Int32) (mt : Nat → Nat) (v w : Nat) (hv : v < 4) (hw4 : w < 4) : cMv l yX0_multiplyPlanes cX0_multiplyPlanes 4 1 31 D (tX ca) (wX h ad ca st pa ac so kc he pl wk ar ot cn tr ld mb tb mt) sz [.ref h, .int (nI v), .int (nI w)] (fun (u : Nat → Int64) => ∀ s1, s1 < 64 → pv u 0 8 s1 = pv pl (8 * v) 8 s1 * pv pl (8 * w) 8 s1 % 256) (fun (u : Nat → Int64) => (wX h ad ca st pa ac so kc he pl u ar ot cn tr ld mb tb mt)) := by
  refine cMv.of (by decide) (Nat.le_of_ble_eq_true rfl) ?_
  intro p e R s m args below meth c A Q ls H locs ⟨hx, hb, hml, hown, hts, hR, hK, hA⟩ hP hD hS hl hret
  have hown : s.vm.findClass RX0 = some m.cls := hown
  have hl : lv_has ls 4 [(0, .ref h), (1, .int (nI v)), (2, .int (nI w))] := hl
  refine lv_iconst (v := nI 0) hx hb dX0_multiplyPlanes_0 (by decide) ?_
  refine lv_istore_n (lv' := [(3, .int (nI 0)), (0, .ref h), (1, .int (nI v)), (2, .int (nI w))]) hx hb dX0_multiplyPlanes_1 rfl hl (by decide) rfl (fun ls hl => ?_)
  refine lp_w (nL := 4) (pc := 2) 8 (fun (u : (Nat → Int64)) => (wX h ad ca st pa ac so kc he pl u ar ot cn tr ld mb tb mt)) (fun (i : Nat) (u : (Nat → Int64)) => [(0, .ref h), (1, .int (nI v)), (2, .int (nI w)), (3, .int (nI i))]) (fun (i : Nat) (u : (Nat → Int64)) => ∀ k, k < i → u k = 0) ?_ ?_ 0 (wk) _ _ _ (by omega) (fun k hk => absurd hk (by omega)) hP hD hS (lv_sub hl [1, 2, 3, 0] rfl)
  · rintro wx H locs ls hJ hP hD hS hl
    have hJ : ∀ k, k < 8 → wx k = 0 := hJ
    have hP : va_P D vwCl (wX h ad ca st pa ac so kc he pl wx ar ot cn tr ld mb tb mt) H := hP
    have hD : va_D A (wX h ad ca st pa ac so kc he pl wx ar ot cn tr ld mb tb mt) := hD
    have hl : lv_has ls 4 [(0, .ref h), (1, .int (nI v)), (2, .int (nI w)), (3, .int (nI 8))] := hl
    refine lv_iload_n hx hb dX0_multiplyPlanes_2 rfl (lv_at hl 3 rfl) ?_
    refine lv_bipush (v := nI 8) hx hb dX0_multiplyPlanes_3 (by decide) ?_
    refine xn_ge_t (tgt := 21) hx hb dX0_multiplyPlanes_5 (by decide) (by omega) (by omega) ?_
    refine lv_iconst (v := nI 0) hx hb dX0_multiplyPlanes_21 (by decide) ?_
    refine lv_istore_n (lv' := [(3, .int (nI 0)), (0, .ref h), (1, .int (nI v)), (2, .int (nI w))]) hx hb dX0_multiplyPlanes_22 rfl hl (by decide) rfl (fun ls hl => ?_)
    refine lp_w (nL := 4) (pc := 23) 8 (fun (u : (Nat → Int64)) => (wX h ad ca st pa ac so kc he pl u ar ot cn tr ld mb tb mt)) (fun (i : Nat) (u : (Nat → Int64)) => [(0, .ref h), (1, .int (nI v)), (2, .int (nI w)), (3, .int (nI i))]) (fun (i : Nat) (u : (Nat → Int64)) => ∀ s1, s1 < 64 → pv u 0 8 s1 = pv pl (8 * v) 8 s1 * pv pl (8 * w) i s1 % 256) ?_ ?_ 0 (wx) _ _ _ (by omega) (fun s1 _ => by rw [pv_zero hJ]; simp [pv]) hP hD hS (lv_sub hl [1, 2, 3, 0] rfl)
    · rintro wy H locs ls hJ hP hD hS hl
      have hJ : ∀ s1, s1 < 64 → pv wy 0 8 s1 = pv pl (8 * v) 8 s1 * pv pl (8 * w) 8 s1 % 256 := hJ
      have hP : va_P D vwCl (wX h ad ca st pa ac so kc he pl wy ar ot cn tr ld mb tb mt) H := hP
      have hD : va_D A (wX h ad ca st pa ac so kc he pl wy ar ot cn tr ld mb tb mt) := hD
      have hl : lv_has ls 4 [(0, .ref h), (1, .int (nI v)), (2, .int (nI w)), (3, .int (nI 8))] := hl
      refine lv_iload_n hx hb dX0_multiplyPlanes_23 rfl (lv_at hl 3 rfl) ?_
      refine lv_bipush (v := nI 8) hx hb dX0_multiplyPlanes_24 (by decide) ?_
      refine xn_ge_t (tgt := 52) hx hb dX0_multiplyPlanes_26 (by decide) (by omega) (by omega) ?_
      exact hret 52 ls H locs wy dX0_multiplyPlanes_52 hJ hP hD hS
    · rintro i wy H locs ls hi hJ hP hD hS hl ih
      have hJ : ∀ s1, s1 < 64 → pv wy 0 8 s1 = pv pl (8 * v) 8 s1 * pv pl (8 * w) i s1 % 256 := hJ
      have hP : va_P D vwCl (wX h ad ca st pa ac so kc he pl wy ar ot cn tr ld mb tb mt) H := hP
      have hD : va_D A (wX h ad ca st pa ac so kc he pl wy ar ot cn tr ld mb tb mt) := hD
      have hl : lv_has ls 4 [(0, .ref h), (1, .int (nI v)), (2, .int (nI w)), (3, .int (nI i))] := hl
      refine lv_iload_n hx hb dX0_multiplyPlanes_23 rfl (lv_at hl 3 rfl) ?_
      refine lv_bipush (v := nI 8) hx hb dX0_multiplyPlanes_24 (by decide) ?_
      refine xn_ge_f (tgt := 52) hx hb dX0_multiplyPlanes_26 (by decide) hi (by omega) ?_
      refine lv_aload_n hx hb dX0_multiplyPlanes_29 rfl (lv_at hl 0 rfl) ?_
      refine lv_iload_n hx hb dX0_multiplyPlanes_30 rfl (lv_at hl 1 rfl) ?_
      refine lv_iload_n hx hb dX0_multiplyPlanes_31 rfl (lv_at hl 3 rfl) ?_
      refine lv_aload_n hx hb dX0_multiplyPlanes_32 rfl (lv_at hl 0 rfl) ?_
      refine va_get (ci := 0) (v := .ref (ad 1)) (C := RX0) (T := TX0) (N := 16) hx hb hts in_X0 hown hK hP 0 rfl rfl 3 (by decide) (hts _ q41) (fun _ h9 => h9) rfl dX0_multiplyPlanes_33 ?_
      refine lv_bipush (v := nI 8) hx hb dX0_multiplyPlanes_36 (by decide) ?_
      refine lv_iload_n hx hb dX0_multiplyPlanes_38 rfl (lv_at hl 2 rfl) ?_
      refine xi_mul hx hb dX0_multiplyPlanes_39 ?_
      refine lv_iload_n hx hb dX0_multiplyPlanes_40 rfl (lv_at hl 3 rfl) ?_
      refine xi_add hx hb dX0_multiplyPlanes_41 ?_
      refine xl_ald (k := (8 * w + i)) hx hb hK hP 2 1 rfl rfl (by omega) (by decide) dX0_multiplyPlanes_42 ?_
      refine kv_v (n := 3) (As := [.int (nI v), .int (nI i), .long (pl (8 * w + i))]) (rest := []) ⟨hx, hb, hml, hown, hts⟩ (cX_addShifted l D h ad ca H.size st pa ac so kc he pl wy ar ot cn tr ld mb tb mt v i (pl (8 * w + i)) hv hi) (lw_V q126 q128 qs8 q23 q129) (by decide +kernel) ⟨by rw [hR.1]; decide, by rw [hR.2]; decide⟩ ⟨Nat.zero_le _, Nat.zero_le _⟩ hK hP hD hS hA (ci := 0) rfl rfl rfl rfl hl.1 rfl (Nat.le_of_ble_eq_true rfl) dX0_multiplyPlanes_43 (fun wz H locs hw hP hD hS => ?_)
      have hP : va_P D vwCl (wX h ad ca st pa ac so kc he pl wz ar ot cn tr ld mb tb mt) H := hP
      have hD : va_D A (wX h ad ca st pa ac so kc he pl wz ar ot cn tr ld mb tb mt) := hD
      have hw : ∀ k, k < 8 → wz k = if k < i then wy k else (wy k ^^^ (pl (8 * v + (k - i)) &&& pl (8 * w + i))) ^^^ cy (fun j => wy (i + j)) (fun j => pl (8 * v + j) &&& pl (8 * w + i)) (k - i) := hw
      refine lv_iinc (v := nI (i + 1)) (lv' := [(3, .int (nI (i + 1))), (0, .ref h), (1, .int (nI v)), (2, .int (nI w))]) hx hb dX0_multiplyPlanes_46 hl (k := 3) rfl (xi_inc1 _) (by decide) rfl (fun ls hl => ?_)
      refine lv_goto (tgt := 23) hx hb dX0_multiplyPlanes_49 (by decide) ?_
      exact ih (wz) _ _ _ (fun s1 h1 => mul_J hi hw (hJ s1 h1)) hP hD hS (lv_sub hl [1, 2, 3, 0] rfl)
  · rintro i wx H locs ls hi hJ hP hD hS hl ih
    have hJ : ∀ k, k < i → wx k = 0 := hJ
    have hP : va_P D vwCl (wX h ad ca st pa ac so kc he pl wx ar ot cn tr ld mb tb mt) H := hP
    have hD : va_D A (wX h ad ca st pa ac so kc he pl wx ar ot cn tr ld mb tb mt) := hD
    have hl : lv_has ls 4 [(0, .ref h), (1, .int (nI v)), (2, .int (nI w)), (3, .int (nI i))] := hl
    refine lv_iload_n hx hb dX0_multiplyPlanes_2 rfl (lv_at hl 3 rfl) ?_
    refine lv_bipush (v := nI 8) hx hb dX0_multiplyPlanes_3 (by decide) ?_
    refine xn_ge_f (tgt := 21) hx hb dX0_multiplyPlanes_5 (by decide) hi (by omega) ?_
    refine lv_aload_n hx hb dX0_multiplyPlanes_8 rfl (lv_at hl 0 rfl) ?_
    refine va_get (ci := 0) (v := .ref (ad 2)) (C := RX0) (T := TX0) (N := 16) hx hb hts in_X0 hown hK hP 0 rfl rfl 4 (by decide) (hts _ q42) (fun _ h9 => h9) rfl dX0_multiplyPlanes_9 ?_
    refine lv_iload_n hx hb dX0_multiplyPlanes_12 rfl (lv_at hl 3 rfl) ?_
    refine lv_lconst (v := 0) hx hb dX0_multiplyPlanes_13 (by decide) ?_
    refine xl_ast (k := i) hx hb hK hP hD hS 3 2 rfl rfl (by omega) (by decide) dX0_multiplyPlanes_14 (fun H locs hP hD hS => ?_)
    have hP : va_P D vwCl (wX h ad ca st pa ac so kc he pl (vp_updL wx i 0) ar ot cn tr ld mb tb mt) H := hP
    have hD : va_D A (wX h ad ca st pa ac so kc he pl (vp_updL wx i 0) ar ot cn tr ld mb tb mt) := hD
    refine lv_iinc (v := nI (i + 1)) (lv' := [(3, .int (nI (i + 1))), (0, .ref h), (1, .int (nI v)), (2, .int (nI w))]) hx hb dX0_multiplyPlanes_15 hl (k := 3) rfl (xi_inc1 _) (by decide) rfl (fun ls hl => ?_)
    refine lv_goto (tgt := 2) hx hb dX0_multiplyPlanes_18 (by decide) ?_
    exact ih (vp_updL wx i 0) _ _ _ (upd_J (g := fun _ => 0) hJ) hP hD hS (lv_sub hl [1, 2, 3, 0] rfl)
set_option maxHeartbeats 4000000 in
/-- combinePlanes(code, v, w): and, or, xor into work -/
theorem cX_combinePlanes (l : Launch) (D : va_G) (h : Nat) (ad : Nat → Nat) (ca : Nat → ClassId) (sz : Nat) (st pa : Nat) (ac : Int64) (so kc : Nat) (he : Nat → Nat) (pl wk ar ot : Nat → Int64) (cn : Nat → Nat) (tr : Nat → Int64) (ld mb : Nat → Nat) (tb : Nat → Int32) (mt : Nat → Nat) (c0 v w : Nat) (hc0 : c0 < 16) (hv : v < 4) (hw4 : w < 4) : cMv l yX0_combinePlanes cX0_combinePlanes 9 0 0 D (tX ca) (wX h ad ca st pa ac so kc he pl wk ar ot cn tr ld mb tb mt) sz [.ref h, .int (nI c0), .int (nI v), .int (nI w)] (fun (u : Nat → Int64) => ∀ k, k < 8 → u k = cmb c0 (pl (8 * v + k)) (pl (8 * w + k))) (fun (u : Nat → Int64) => (wX h ad ca st pa ac so kc he pl u ar ot cn tr ld mb tb mt)) := by
  refine cMv.of (by decide) (Nat.le_of_ble_eq_true rfl) ?_
  intro p e R s m args below meth c A Q ls H locs ⟨hx, hb, hml, hown, hts, hR, hK, hA⟩ hP hD hS hl hret
  have hown : s.vm.findClass RX0 = some m.cls := hown
  have hl : lv_has ls 9 [(0, .ref h), (1, .int (nI c0)), (2, .int (nI v)), (3, .int (nI w))] := hl
  refine lv_iconst (v := nI 0) hx hb dX0_combinePlanes_0 (by decide) ?_
  refine lv_istore (lv' := [(4, .int (nI 0)), (0, .ref h), (1, .int (nI c0)), (2, .int (nI v)), (3, .int (nI w))]) hx hb dX0_combinePlanes_1 hl (by decide) rfl (fun ls hl => ?_)
  refine lp_w (nL := 9) (pc := 3) 8 (fun (u : (Nat → Int64)) => (wX h ad ca st pa ac so kc he pl u ar ot cn tr ld mb tb mt)) (fun (i : Nat) (u : (Nat → Int64)) => [(0, .ref h), (1, .int (nI c0)), (2, .int (nI v)), (3, .int (nI w)), (4, .int (nI i))]) (fun (i : Nat) (u : (Nat → Int64)) => ∀ k, k < i → u k = cmb c0 (pl (8 * v + k)) (pl (8 * w + k))) ?_ ?_ 0 (wk) _ _ _ (by omega) (fun k hk => absurd hk (by omega)) hP hD hS (lv_sub hl [1, 2, 3, 4, 0] rfl)
  · rintro wx H locs ls hJ hP hD hS hl
    have hJ : ∀ k, k < 8 → wx k = cmb c0 (pl (8 * v + k)) (pl (8 * w + k)) := hJ
    have hP : va_P D vwCl (wX h ad ca st pa ac so kc he pl wx ar ot cn tr ld mb tb mt) H := hP
    have hD : va_D A (wX h ad ca st pa ac so kc he pl wx ar ot cn tr ld mb tb mt) := hD
    have hl : lv_has ls 9 [(0, .ref h), (1, .int (nI c0)), (2, .int (nI v)), (3, .int (nI w)), (4, .int (nI 8))] := hl
    refine lv_iload hx hb dX0_combinePlanes_3 (lv_at hl 4 rfl) ?_
    refine lv_bipush (v := nI 8) hx hb dX0_combinePlanes_5 (by decide) ?_
    refine xn_ge_t (tgt := 83) hx hb dX0_combinePlanes_7 (by decide) (by omega) (by omega) ?_
    exact hret 83 ls H locs wx dX0_combinePlanes_83 hJ hP hD hS
  · rintro i wx H locs ls hi hJ hP hD hS hl ih
    have hJ : ∀ k, k < i → wx k = cmb c0 (pl (8 * v + k)) (pl (8 * w + k)) := hJ
    have hP : va_P D vwCl (wX h ad ca st pa ac so kc he pl wx ar ot cn tr ld mb tb mt) H := hP
    have hD : va_D A (wX h ad ca st pa ac so kc he pl wx ar ot cn tr ld mb tb mt) := hD
    have hl : lv_has ls 9 [(0, .ref h), (1, .int (nI c0)), (2, .int (nI v)), (3, .int (nI w)), (4, .int (nI i))] := hl
    refine lv_iload hx hb dX0_combinePlanes_3 (lv_at hl 4 rfl) ?_
    refine lv_bipush (v := nI 8) hx hb dX0_combinePlanes_5 (by decide) ?_
    refine xn_ge_f (tgt := 83) hx hb dX0_combinePlanes_7 (by decide) hi (by omega) ?_
    refine lv_aload_n hx hb dX0_combinePlanes_10 rfl (lv_at hl 0 rfl) ?_
    refine va_get (ci := 0) (v := .ref (ad 1)) (C := RX0) (T := TX0) (N := 16) hx hb hts in_X0 hown hK hP 0 rfl rfl 3 (by decide) (hts _ q41) (fun _ h9 => h9) rfl dX0_combinePlanes_11 ?_
    refine lv_bipush (v := nI 8) hx hb dX0_combinePlanes_14 (by decide) ?_
    refine lv_iload_n hx hb dX0_combinePlanes_16 rfl (lv_at hl 2 rfl) ?_
    refine xi_mul hx hb dX0_combinePlanes_17 ?_
    refine lv_iload hx hb dX0_combinePlanes_18 (lv_at hl 4 rfl) ?_
    refine xi_add hx hb dX0_combinePlanes_20 ?_
    refine xl_ald (k := (8 * v + i)) hx hb hK hP 2 1 rfl rfl (by omega) (by decide) dX0_combinePlanes_21 ?_
    refine lv_lstore (lv' := [(5, .long (pl (8 * v + i))), (0, .ref h), (1, .int (nI c0)), (2, .int (nI v)), (3, .int (nI w)), (4, .int (nI i))]) hx hb dX0_combinePlanes_22 hl (by decide) rfl (fun ls hl => ?_)
    refine lv_aload_n hx hb dX0_combinePlanes_24 rfl (lv_at hl 1 rfl) ?_
    refine va_get (ci := 0) (v := .ref (ad 1)) (C := RX0) (T := TX0) (N := 16) hx hb hts in_X0 hown hK hP 0 rfl rfl 3 (by decide) (hts _ q41) (fun _ h9 => h9) rfl dX0_combinePlanes_25 ?_
    refine lv_bipush (v := nI 8) hx hb dX0_combinePlanes_28 (by decide) ?_
    refine lv_iload_n hx hb dX0_combinePlanes_30 rfl (lv_at hl 4 rfl) ?_
    refine xi_mul hx hb dX0_combinePlanes_31 ?_
    refine lv_iload hx hb dX0_combinePlanes_32 (lv_at hl 5 rfl) ?_
    refine xi_add hx hb dX0_combinePlanes_34 ?_
    refine xl_ald (k := (8 * w + i)) hx hb hK hP 2 1 rfl rfl (by omega) (by decide) dX0_combinePlanes_35 ?_
    refine lv_lstore (lv' := [(7, .long (pl (8 * w + i))), (5, .long (pl (8 * v + i))), (0, .ref h), (1, .int (nI c0)), (2, .int (nI v)), (3, .int (nI w)), (4, .int (nI i))]) hx hb dX0_combinePlanes_36 hl (by decide) rfl (fun ls hl => ?_)
    refine lv_aload_n hx hb dX0_combinePlanes_38 rfl (lv_at hl 2 rfl) ?_
    refine va_get (ci := 0) (v := .ref (ad 2)) (C := RX0) (T := TX0) (N := 16) hx hb hts in_X0 hown hK hP 0 rfl rfl 4 (by decide) (hts _ q42) (fun _ h9 => h9) rfl dX0_combinePlanes_39 ?_
    refine lv_iload hx hb dX0_combinePlanes_42 (lv_at hl 6 rfl) ?_
    refine lv_iload_n hx hb dX0_combinePlanes_44 rfl (lv_at hl 3 rfl) ?_
    refine lv_iconst (v := nI 5) hx hb dX0_combinePlanes_45 (by decide) ?_
    refine xn_ne_b (tgt := 57) hx hb dX0_combinePlanes_46 (by decide) (by omega) (by omega) (fun h5 => ?_) (fun h5 => ?_)
    · refine lv_iload_n hx hb dX0_combinePlanes_57 rfl (lv_at hl 3 rfl) ?_
      refine lv_bipush (v := nI 6) hx hb dX0_combinePlanes_58 (by decide) ?_
      refine xn_ne_b (tgt := 71) hx hb dX0_combinePlanes_60 (by decide) (by omega) (by omega) (fun h6 => ?_) (fun h6 => ?_)
      · refine lv_lload hx hb dX0_combinePlanes_71 (lv_at hl 1 rfl) ?_
        refine lv_lload hx hb dX0_combinePlanes_73 (lv_at hl 0 rfl) ?_
        refine lv_lxor hx hb dX0_combinePlanes_75 ?_
        refine xt_l (y := cmb c0 (pl (8 * v + i)) (pl (8 * w + i))) (by simp [cmb, h5, h6]) ?_
        refine xl_ast (k := i) hx hb hK hP hD hS 3 2 rfl rfl (by omega) (by decide) dX0_combinePlanes_76 (fun H locs hP hD hS => ?_)
        have hP : va_P D vwCl (wX h ad ca st pa ac so kc he pl (vp_updL wx i (cmb c0 (pl (8 * v + i)) (pl (8 * w + i)))) ar ot cn tr ld mb tb mt) H := hP
        have hD : va_D A (wX h ad ca st pa ac so kc he pl (vp_updL wx i (cmb c0 (pl (8 * v + i)) (pl (8 * w + i)))) ar ot cn tr ld mb tb mt) := hD
        refine lv_iinc (v := nI (i + 1)) (lv' := [(4, .int (nI (i + 1))), (7, .long (pl (8 * w + i))), (5, .long (pl (8 * v + i))), (0, .ref h), (1, .int (nI c0)), (2, .int (nI v)), (3, .int (nI w))]) hx hb dX0_combinePlanes_77 hl (k := 6) rfl (xi_inc1 _) (by decide) rfl (fun ls hl => ?_)
        refine lv_goto (tgt := 3) hx hb dX0_combinePlanes_80 (by decide) ?_
        exact ih (vp_updL wx i (cmb c0 (pl (8 * v + i)) (pl (8 * w + i)))) _ _ _ (upd_J (g := fun k => cmb c0 (pl (8 * v + k)) (pl (8 * w + k))) hJ) hP hD hS (lv_sub hl [3, 4, 5, 6, 0] rfl)
      · refine lv_lload hx hb dX0_combinePlanes_63 (lv_at hl 1 rfl) ?_
        refine lv_lload hx hb dX0_combinePlanes_65 (lv_at hl 0 rfl) ?_
        refine lv_lor hx hb dX0_combinePlanes_67 ?_
        refine xt_l (y := cmb c0 (pl (8 * v + i)) (pl (8 * w + i))) (by simp [cmb, h6]) ?_
        refine lv_goto (tgt := 76) hx hb dX0_combinePlanes_68 (by decide) ?_
        refine xl_ast (k := i) hx hb hK hP hD hS 3 2 rfl rfl (by omega) (by decide) dX0_combinePlanes_76 (fun H locs hP hD hS => ?_)
        have hP : va_P D vwCl (wX h ad ca st pa ac so kc he pl (vp_updL wx i (cmb c0 (pl (8 * v + i)) (pl (8 * w + i)))) ar ot cn tr ld mb tb mt) H := hP
        have hD : va_D A (wX h ad ca st pa ac so kc he pl (vp_updL wx i (cmb c0 (pl (8 * v + i)) (pl (8 * w + i)))) ar ot cn tr ld mb tb mt) := hD
        refine lv_iinc (v := nI (i + 1)) (lv' := [(4, .int (nI (i + 1))), (7, .long (pl (8 * w + i))), (5, .long (pl (8 * v + i))), (0, .ref h), (1, .int (nI c0)), (2, .int (nI v)), (3, .int (nI w))]) hx hb dX0_combinePlanes_77 hl (k := 6) rfl (xi_inc1 _) (by decide) rfl (fun ls hl => ?_)
        refine lv_goto (tgt := 3) hx hb dX0_combinePlanes_80 (by decide) ?_
        exact ih (vp_updL wx i (cmb c0 (pl (8 * v + i)) (pl (8 * w + i)))) _ _ _ (upd_J (g := fun k => cmb c0 (pl (8 * v + k)) (pl (8 * w + k))) hJ) hP hD hS (lv_sub hl [3, 4, 5, 6, 0] rfl)
    · refine lv_lload hx hb dX0_combinePlanes_49 (lv_at hl 1 rfl) ?_
      refine lv_lload hx hb dX0_combinePlanes_51 (lv_at hl 0 rfl) ?_
      refine lv_land hx hb dX0_combinePlanes_53 ?_
      refine xt_l (y := cmb c0 (pl (8 * v + i)) (pl (8 * w + i))) (by simp [cmb, h5]) ?_
      refine lv_goto (tgt := 76) hx hb dX0_combinePlanes_54 (by decide) ?_
      refine xl_ast (k := i) hx hb hK hP hD hS 3 2 rfl rfl (by omega) (by decide) dX0_combinePlanes_76 (fun H locs hP hD hS => ?_)
      have hP : va_P D vwCl (wX h ad ca st pa ac so kc he pl (vp_updL wx i (cmb c0 (pl (8 * v + i)) (pl (8 * w + i)))) ar ot cn tr ld mb tb mt) H := hP
      have hD : va_D A (wX h ad ca st pa ac so kc he pl (vp_updL wx i (cmb c0 (pl (8 * v + i)) (pl (8 * w + i)))) ar ot cn tr ld mb tb mt) := hD
      refine lv_iinc (v := nI (i + 1)) (lv' := [(4, .int (nI (i + 1))), (7, .long (pl (8 * w + i))), (5, .long (pl (8 * v + i))), (0, .ref h), (1, .int (nI c0)), (2, .int (nI v)), (3, .int (nI w))]) hx hb dX0_combinePlanes_77 hl (k := 6) rfl (xi_inc1 _) (by decide) rfl (fun ls hl => ?_)
      refine lv_goto (tgt := 3) hx hb dX0_combinePlanes_80 (by decide) ?_
      exact ih (vp_updL wx i (cmb c0 (pl (8 * v + i)) (pl (8 * w + i)))) _ _ _ (upd_J (g := fun k => cmb c0 (pl (8 * v + k)) (pl (8 * w + k))) hJ) hP hD hS (lv_sub hl [3, 4, 5, 6, 0] rfl)
set_option maxHeartbeats 4000000 in
/-- shiftPlanes(v, by): into work -/
theorem cX_shiftPlanes (l : Launch) (D : va_G) (h : Nat) (ad : Nat → Nat) (ca : Nat → ClassId) (sz : Nat) (st pa : Nat) (ac : Int64) (so kc : Nat) (he : Nat → Nat) (pl wk ar ot : Nat → Int64) (cn : Nat → Nat) (tr : Nat → Int64) (ld mb : Nat → Nat) (tb : Nat → Int32) (mt : Nat → Nat) (v : Nat) (sh : Int) (hv : v < 4) (hs1 : -8 < sh) (hs2 : sh < 8) : cMv l yX0_shiftPlanes cX0_shiftPlanes 5 0 0 D (tX ca) (wX h ad ca st pa ac so kc he pl wk ar ot cn tr ld mb tb mt) sz [.ref h, .int (nI v), .int (zi sh)] (fun (u : Nat → Int64) => ∀ k, k < 8 → u k = shp pl v sh k) (fun (u : Nat → Int64) => (wX h ad ca st pa ac so kc he pl u ar ot cn tr ld mb tb mt)) := by
  refine cMv.of (by decide) (Nat.le_of_ble_eq_true rfl) ?_
  intro p e R s m args below meth c A Q ls H locs ⟨hx, hb, hml, hown, hts, hR, hK, hA⟩ hP hD hS hl hret
  have hown : s.vm.findClass RX0 = some m.cls := hown
  have hl : lv_has ls 5 [(0, .ref h), (1, .int (nI v)), (2, .int (zi sh))] := hl
  refine lv_iconst (v := nI 0) hx hb dX0_shiftPlanes_0 (by decide) ?_
  refine lv_istore_n (lv' := [(3, .int (nI 0)), (0, .ref h), (1, .int (nI v)), (2, .int (zi sh))]) hx hb dX0_shiftPlanes_1 rfl hl (by decide) rfl (fun ls hl => ?_)
  refine lp_w (nL := 5) (pc := 2) 8 (fun (u : (Nat → Int64)) => (wX h ad ca st pa ac so kc he pl u ar ot cn tr ld mb tb mt)) (fun (i : Nat) (u : (Nat → Int64)) => [(0, .ref h), (1, .int (nI v)), (2, .int (zi sh)), (3, .int (nI i))]) (fun (i : Nat) (u : (Nat → Int64)) => ∀ k, k < i → u k = shp pl v sh k) ?_ ?_ 0 (wk) _ _ _ (by omega) (fun k hk => absurd hk (by omega)) hP hD hS (lv_sub hl [1, 2, 3, 0] rfl)
  · rintro wx H locs ls hJ hP hD hS hl
    have hJ : ∀ k, k < 8 → wx k = shp pl v sh k := hJ
    have hP : va_P D vwCl (wX h ad ca st pa ac so kc he pl wx ar ot cn tr ld mb tb mt) H := hP
    have hD : va_D A (wX h ad ca st pa ac so kc he pl wx ar ot cn tr ld mb tb mt) := hD
    have hl : lv_has ls 5 [(0, .ref h), (1, .int (nI v)), (2, .int (zi sh)), (3, .int (nI 8))] := hl
    refine lv_iload_n hx hb dX0_shiftPlanes_2 rfl (lv_at hl 3 rfl) ?_
    refine lv_bipush (v := nI 8) hx hb dX0_shiftPlanes_3 (by decide) ?_
    refine xn_ge_t (tgt := 53) hx hb dX0_shiftPlanes_5 (by decide) (by omega) (by omega) ?_
    exact hret 53 ls H locs wx dX0_shiftPlanes_53 hJ hP hD hS
  · rintro i wx H locs ls hi hJ hP hD hS hl ih
    have hJ : ∀ k, k < i → wx k = shp pl v sh k := hJ
    have hP : va_P D vwCl (wX h ad ca st pa ac so kc he pl wx ar ot cn tr ld mb tb mt) H := hP
    have hD : va_D A (wX h ad ca st pa ac so kc he pl wx ar ot cn tr ld mb tb mt) := hD
    have hl : lv_has ls 5 [(0, .ref h), (1, .int (nI v)), (2, .int (zi sh)), (3, .int (nI i))] := hl
    refine lv_iload_n hx hb dX0_shiftPlanes_2 rfl (lv_at hl 3 rfl) ?_
    refine lv_bipush (v := nI 8) hx hb dX0_shiftPlanes_3 (by decide) ?_
    refine xn_ge_f (tgt := 53) hx hb dX0_shiftPlanes_5 (by decide) hi (by omega) ?_
    refine lv_iload_n hx hb dX0_shiftPlanes_8 rfl (lv_at hl 3 rfl) ?_
    refine lv_iload_n hx hb dX0_shiftPlanes_9 rfl (lv_at hl 2 rfl) ?_
    refine lv_isub hx hb dX0_shiftPlanes_10 ?_
    refine xt_i (y := (zi ((i : Int) - sh))) (zi_sub i sh) ?_
    refine lv_istore (lv' := [(4, .int (zi ((i : Int) - sh))), (0, .ref h), (1, .int (nI v)), (2, .int (zi sh)), (3, .int (nI i))]) hx hb dX0_shiftPlanes_11 hl (by decide) rfl (fun ls hl => ?_)
    have hz := zi_toInt (x := (i : Int) - sh) (by omega) (by omega)
    refine lv_aload_n hx hb dX0_shiftPlanes_13 rfl (lv_at hl 1 rfl) ?_
    refine va_get (ci := 0) (v := .ref (ad 2)) (C := RX0) (T := TX0) (N := 16) hx hb hts in_X0 hown hK hP 0 rfl rfl 4 (by decide) (hts _ q42) (fun _ h9 => h9) rfl dX0_shiftPlanes_14 ?_
    refine lv_iload_n hx hb dX0_shiftPlanes_17 rfl (lv_at hl 4 rfl) ?_
    refine lv_iload hx hb dX0_shiftPlanes_18 (lv_at hl 0 rfl) ?_
    refine lv_if_lt (tgt := 45) hx hb dX0_shiftPlanes_20 (by decide) (fun h1 => ?_) (fun h1 => ?_)
    · have e1 : shp pl v sh i = 0 := by unfold shp; rw [if_neg]; rw [Int32.lt_iff_toInt_lt, hz] at h1; simp at h1; omega
      refine lv_lconst (v := 0) hx hb dX0_shiftPlanes_45 (by decide) ?_
      refine xt_l (y := shp pl v sh i) e1.symm ?_
      refine xl_ast (k := i) hx hb hK hP hD hS 3 2 rfl rfl (by omega) (by decide) dX0_shiftPlanes_46 (fun H locs hP hD hS => ?_)
      have hP : va_P D vwCl (wX h ad ca st pa ac so kc he pl (vp_updL wx i (shp pl v sh i)) ar ot cn tr ld mb tb mt) H := hP
      have hD : va_D A (wX h ad ca st pa ac so kc he pl (vp_updL wx i (shp pl v sh i)) ar ot cn tr ld mb tb mt) := hD
      refine lv_iinc (v := nI (i + 1)) (lv' := [(3, .int (nI (i + 1))), (4, .int (zi ((i : Int) - sh))), (0, .ref h), (1, .int (nI v)), (2, .int (zi sh))]) hx hb dX0_shiftPlanes_47 hl (k := 4) rfl (xi_inc1 _) (by decide) rfl (fun ls hl => ?_)
      refine lv_goto (tgt := 2) hx hb dX0_shiftPlanes_50 (by decide) ?_
      exact ih (vp_updL wx i (shp pl v sh i)) _ _ _ (upd_J (g := shp pl v sh) hJ) hP hD hS (lv_sub hl [2, 3, 4, 0] rfl)
    · have h1 : 0 ≤ (i : Int) - sh := by rw [Int32.lt_iff_toInt_lt, hz] at h1; simp at h1; omega
      refine lv_iload hx hb dX0_shiftPlanes_23 (lv_at hl 0 rfl) ?_
      refine lv_bipush (v := nI 8) hx hb dX0_shiftPlanes_25 (by decide) ?_
      refine lv_icmp_ge (tgt := 45) hx hb dX0_shiftPlanes_27 (by decide) (fun h2 => ?_) (fun h2 => ?_)
      · have e1 : shp pl v sh i = 0 := by unfold shp; rw [if_neg]; rw [Int32.le_iff_toInt_le, hz, nI_toInt (by decide)] at h2; omega
        refine lv_lconst (v := 0) hx hb dX0_shiftPlanes_45 (by decide) ?_
        refine xt_l (y := shp pl v sh i) e1.symm ?_
        refine xl_ast (k := i) hx hb hK hP hD hS 3 2 rfl rfl (by omega) (by decide) dX0_shiftPlanes_46 (fun H locs hP hD hS => ?_)
        have hP : va_P D vwCl (wX h ad ca st pa ac so kc he pl (vp_updL wx i (shp pl v sh i)) ar ot cn tr ld mb tb mt) H := hP
        have hD : va_D A (wX h ad ca st pa ac so kc he pl (vp_updL wx i (shp pl v sh i)) ar ot cn tr ld mb tb mt) := hD
        refine lv_iinc (v := nI (i + 1)) (lv' := [(3, .int (nI (i + 1))), (4, .int (zi ((i : Int) - sh))), (0, .ref h), (1, .int (nI v)), (2, .int (zi sh))]) hx hb dX0_shiftPlanes_47 hl (k := 4) rfl (xi_inc1 _) (by decide) rfl (fun ls hl => ?_)
        refine lv_goto (tgt := 2) hx hb dX0_shiftPlanes_50 (by decide) ?_
        exact ih (vp_updL wx i (shp pl v sh i)) _ _ _ (upd_J (g := shp pl v sh) hJ) hP hD hS (lv_sub hl [2, 3, 4, 0] rfl)
      · have h2 : (i : Int) - sh < 8 := by rw [Int32.le_iff_toInt_le, hz, nI_toInt (by decide)] at h2; omega
        obtain ⟨j, hj⟩ : ∃ j : Nat, (i : Int) - sh = j := ⟨((i : Int) - sh).toNat, by omega⟩
        have e1 : shp pl v sh i = pl (8 * v + j) := by unfold shp; rw [if_pos ⟨h1, h2⟩, hj]; rfl
        rw [hj, zi_nat] at hl
        refine lv_aload_n hx hb dX0_shiftPlanes_30 rfl (lv_at hl 1 rfl) ?_
        refine va_get (ci := 0) (v := .ref (ad 1)) (C := RX0) (T := TX0) (N := 16) hx hb hts in_X0 hown hK hP 0 rfl rfl 3 (by decide) (hts _ q41) (fun _ h9 => h9) rfl dX0_shiftPlanes_31 ?_
        refine lv_bipush (v := nI 8) hx hb dX0_shiftPlanes_34 (by decide) ?_
        refine lv_iload_n hx hb dX0_shiftPlanes_36 rfl (lv_at hl 2 rfl) ?_
        refine xi_mul hx hb dX0_shiftPlanes_37 ?_
        refine lv_iload hx hb dX0_shiftPlanes_38 (lv_at hl 0 rfl) ?_
        refine xi_add hx hb dX0_shiftPlanes_40 ?_
        refine xl_ald (k := (8 * v + j)) hx hb hK hP 2 1 rfl rfl (by omega) (by decide) dX0_shiftPlanes_41 ?_
        refine xt_l (y := shp pl v sh i) e1.symm ?_
        refine lv_goto (tgt := 46) hx hb dX0_shiftPlanes_42 (by decide) ?_
        refine xl_ast (k := i) hx hb hK hP hD hS 3 2 rfl rfl (by omega) (by decide) dX0_shiftPlanes_46 (fun H locs hP hD hS => ?_)
        have hP : va_P D vwCl (wX h ad ca st pa ac so kc he pl (vp_updL wx i (shp pl v sh i)) ar ot cn tr ld mb tb mt) H := hP
        have hD : va_D A (wX h ad ca st pa ac so kc he pl (vp_updL wx i (shp pl v sh i)) ar ot cn tr ld mb tb mt) := hD
        refine lv_iinc (v := nI (i + 1)) (lv' := [(3, .int (nI (i + 1))), (4, .int (nI j)), (0, .ref h), (1, .int (nI v)), (2, .int (zi sh))]) hx hb dX0_shiftPlanes_47 hl (k := 4) rfl (xi_inc1 _) (by decide) rfl (fun ls hl => ?_)
        refine lv_goto (tgt := 2) hx hb dX0_shiftPlanes_50 (by decide) ?_
        exact ih (vp_updL wx i (shp pl v sh i)) _ _ _ (upd_J (g := shp pl v sh) hJ) hP hD hS (lv_sub hl [2, 3, 4, 0] rfl)
end
section
set_option maxRecDepth 100000
/-! LeakageMeter.compute: what it leaves in work -/
theorem zs_u : ∀ n, n < 32 → (((nI n).toUInt32 &&& Int32.toUInt32 31).toBitVec % 32).toNat = n := by decide +kernel
theorem zibit (b : Int32) {i : Nat} (hi : i < 32) : ub (ziushr b i) % 2 = ((ub b).testBit i).toNat := by
  have h := pk_ushr b (nI i) i (zs_u i hi)
  unfold ub ziushr
  rw [h, Nat.testBit_eq_decide_div_mod_eq]
  rcases (show b.toBitVec.toNat / 2 ^ i % 2 = 0 ∨ b.toBitVec.toNat / 2 ^ i % 2 = 1 by omega) with q | q <;> rw [q] <;> rfl
theorem zi_neg (n : Nat) : -(nI n) = zi (-(n : Int)) := by
  unfold zi nI
  rw [Int32.ofInt_neg, Int32.ofInt_eq_ofNat]
theorem cmp_0 {wx : Nat → Int64} {b0 : Int32} {s1 : Nat} (X Y : Nat) (h1 : s1 < 64) (h : ∀ k, k < 8 → wx k = if (ub b0).testBit k = true then (-1) else 0) : pv wx 0 8 s1 = wrk 0 X Y b0 := by
  show _ = ub b0 % 256
  apply Nat.eq_of_testBit_eq
  intro k
  rw [show (256 : Nat) = 2 ^ 8 from rfl, Nat.testBit_mod_two_pow, pv_testBit, Nat.zero_add]
  by_cases hk : k < 8
  · rw [h k hk]
    cases (ub b0).testBit k
    · simp [bl_0]
    · simp [bl_m1 h1]
  · simp [hk]
theorem cmp_1 {wx pl : Nat → Int64} {b0 : Int32} {s1 w : Nat} (X : Nat) (h : ∀ k, k < 8 → wx k = pl (8 * w + k)) : pv wx 0 8 s1 = wrk 1 X (pv pl (8 * w) 8 s1) b0 := by
  show _ = pv pl (8 * w) 8 s1
  exact pv_eq (fun k hk => by rw [Nat.zero_add, h k hk])
theorem cmp_2 {wx pl : Nat → Int64} {b0 : Int32} {s1 v w : Nat} (h : ∀ k, k < 8 → wx k = (xp pl v k ^^^ xp pl w k) ^^^ cy (xp pl v) (xp pl w) k) : pv wx 0 8 s1 = wrk 2 (pv pl (8 * v) 8 s1) (pv pl (8 * w) 8 s1) b0 := by
  show _ = (_ + _) % 256
  rw [← pv_xp pl v, ← pv_xp pl w, show (256 : Nat) = 2 ^ 8 from rfl, ← add_pv']
  exact pv_eq (fun k hk => by rw [Nat.zero_add, h k hk])
theorem cmp_3' {wx pl : Nat → Int64} {s1 v w : Nat} (h1 : s1 < 64) (h : ∀ k, k < 8 → wx k = (xp pl v k ^^^ xp pl w k) ^^^ bw (xp pl v) (xp pl w) k) : pv wx 0 8 s1 = (pv pl (8 * v) 8 s1 + 256 - pv pl (8 * w) 8 s1) % 256 := by
  rw [← pv_xp pl v, ← pv_xp pl w, ← (sub_pv8 (xp pl v) (xp pl w) h1).1]
  exact pv_eq (fun k hk => by rw [Nat.zero_add, h k hk])
theorem cmp_3 {wx pl : Nat → Int64} {b0 : Int32} {s1 v w : Nat} (h1 : s1 < 64) (h : ∀ k, k < 8 → wx k = (xp pl v k ^^^ xp pl w k) ^^^ bw (xp pl v) (xp pl w) k) : pv wx 0 8 s1 = wrk 3 (pv pl (8 * v) 8 s1) (pv pl (8 * w) 8 s1) b0 := cmp_3' h1 h
theorem cmp_5 {wx pl : Nat → Int64} {b0 : Int32} {s1 c0 v w : Nat} (h4 : ¬ c0 ≤ 4) (h7 : c0 ≤ 7) (h : ∀ k, k < 8 → wx k = cmb c0 (pl (8 * v + k)) (pl (8 * w + k))) : pv wx 0 8 s1 = wrk c0 (pv pl (8 * v) 8 s1) (pv pl (8 * w) 8 s1) b0 := by
  rcases (show c0 = 5 ∨ c0 = 6 ∨ c0 = 7 by omega) with e | e | e <;> subst e
  · exact pv_and pl pl wx _ _ _ (fun k hk => by rw [h k hk]; rfl)
  · exact pv_or pl pl wx _ _ _ (fun k hk => by rw [h k hk]; rfl)
  · exact pv_xor pl pl wx _ _ _ (fun k hk => by rw [h k hk]; rfl)
theorem cmp_8 {wx pl : Nat → Int64} {b0 : Int32} {s1 v : Nat} (Y : Nat) (h : ∀ k, k < 8 → wx k = shp pl v ((ub b0 % 8 : Nat) : Int) k) : pv wx 0 8 s1 = wrk 8 (pv pl (8 * v) 8 s1) Y b0 := by
  show _ = _ * 2 ^ (ub b0 % 8) % 256
  refine pv_shl pl wx (8 * v) (ub b0 % 8) s1 (Nat.mod_lt _ (by decide)) (fun k hk => ?_)
  rw [h k hk]
  unfold shp
  by_cases hh : ub b0 % 8 ≤ k
  · rw [if_pos (by omega), if_pos hh, show ((k : Int) - ((ub b0 % 8 : Nat) : Int)).toNat = k - ub b0 % 8 by omega]
  · rw [if_neg (by omega), if_neg hh]
theorem cmp_9 {wx pl : Nat → Int64} {b0 : Int32} {s1 v : Nat} (Y : Nat) (h : ∀ k, k < 8 → wx k = shp pl v (-((ub b0 % 8 : Nat) : Int)) k) : pv wx 0 8 s1 = wrk 9 (pv pl (8 * v) 8 s1) Y b0 := by
  show _ = _ / 2 ^ (ub b0 % 8)
  refine pv_shr pl wx (8 * v) (ub b0 % 8) s1 (fun k hk => ?_)
  rw [h k hk]
  unfold shp
  by_cases hh : k + ub b0 % 8 < 8
  · rw [if_pos (by omega), if_pos hh, show ((k : Int) - -((ub b0 % 8 : Nat) : Int)).toNat = k + ub b0 % 8 by omega]
  · rw [if_neg (by omega), if_neg hh]
theorem cmp_10 {wx pl : Nat → Int64} {r : Int64} {b0 : Int32} {s1 v w : Nat} (h1 : s1 < 64) (hr : r = bw (xp pl v) (xp pl w) 8) (h : wx 0 = r ∧ ∀ k, 1 ≤ k → k < 8 → wx k = 0) : pv wx 0 8 s1 = wrk 10 (pv pl (8 * v) 8 s1) (pv pl (8 * w) 8 s1) b0 := by
  show _ = if _ < _ then 1 else 0
  rw [pv_truth h.1 h.2, hr, ← pv_xp pl v, ← pv_xp pl w]
  have h2 := (sub_pv8 (xp pl v) (xp pl w) h1).2
  by_cases hh : pv (xp pl v) 0 8 s1 < pv (xp pl w) 0 8 s1
  · rw [if_pos hh, h2.mpr hh]; rfl
  · rw [if_neg hh]
    cases hb : bl (bw (xp pl v) (xp pl w) 8) s1
    · rfl
    · exact absurd (h2.mp hb) hh
theorem xor_ne {a b : Nat} : a ^^^ b = 0 ↔ a = b := by
  constructor
  · intro h
    apply Nat.eq_of_testBit_eq
    intro k
    have h2 : (a ^^^ b).testBit k = false := by rw [h]; simp
    rw [Nat.testBit_xor] at h2
    revert h2
    cases a.testBit k <;> cases b.testBit k <;> simp
  · intro h; subst h; simp
theorem cmp_11 {wx wz pl : Nat → Int64} {b0 : Int32} {s1 v w : Nat} (h1 : s1 < 64) (hz : ∀ k, k < 8 → wz k = cmb 7 (pl (8 * v + k)) (pl (8 * w + k))) (h : wx 0 = (anyp wz 0 8 ^^^ (-1)) ∧ ∀ k, 1 ≤ k → k < 8 → wx k = 0) : pv wx 0 8 s1 = wrk 11 (pv pl (8 * v) 8 s1) (pv pl (8 * w) 8 s1) b0 := by
  show _ = if _ = _ then 1 else 0
  have e := pv_xor pl pl wz (8 * v) (8 * w) s1 (fun k hk => by rw [hz k hk]; rfl)
  rw [pv_truth h.1 h.2, bl_not _ h1, anyp_bl', e]
  by_cases hh : pv pl (8 * v) 8 s1 = pv pl (8 * w) 8 s1
  · rw [if_pos hh, xor_ne.mpr hh]; rfl
  · rw [if_neg hh]
    have h3 : pv pl (8 * v) 8 s1 ^^^ pv pl (8 * w) 8 s1 ≠ 0 := fun q => hh (xor_ne.mp q)
    simp [h3]
theorem tn0 {b : Bool} (h : b.toNat = 0) : b = false := by
  cases b
  · rfl
  · cases h
theorem tn1 {b : Bool} (h : b.toNat ≠ 0) : b = true := by
  cases b
  · exact absurd rfl h
  · rfl
set_option maxHeartbeats 4000000 in
/-- compute(code, v, b): into work what the statement computes, for all secrets -/
theorem cX_compute (l : Launch) (D : va_G) (h : Nat) (ad : Nat → Nat) (ca : Nat → ClassId) (sz : Nat) (st pa : Nat) (ac : Int64) (so kc : Nat) (he : Nat → Nat) (pl wk ar ot : Nat → Int64) (cn : Nat → Nat) (tr : Nat → Int64) (ld mb : Nat → Nat) (tb : Nat → Int32) (mt : Nat → Nat) (c0 v : Nat) (b0 : Int32) (hc0 : c0 ≤ 11) (hv : v < 4) : cMv l yX0_compute cX0_compute 8 2 54 D (tX ca) (wX h ad ca st pa ac so kc he pl wk ar ot cn tr ld mb tb mt) sz [.ref h, .int (nI c0), .int (nI v), .int b0] (fun (u : Nat → Int64) => ∀ s1, s1 < 64 → pv u 0 8 s1 = wrk c0 (pv pl (8 * v) 8 s1) (pv pl (8 * (ub b0 % 4)) 8 s1) b0) (fun (u : Nat → Int64) => (wX h ad ca st pa ac so kc he pl u ar ot cn tr ld mb tb mt)) := by
  refine cMv.of (by decide) (Nat.le_of_ble_eq_true rfl) ?_
  intro p e R s m args below meth c A Q ls H locs ⟨hx, hb, hml, hown, hts, hR, hK, hA⟩ hP hD hS hl hret
  have hown : s.vm.findClass RX0 = some m.cls := hown
  have hl : lv_has ls 8 [(0, .ref h), (1, .int (nI c0)), (2, .int (nI v)), (3, .int b0)] := hl
  have hw4 : ub b0 % 4 < 4 := Nat.mod_lt _ (by decide)
  have hw8 : ub b0 % 8 < 8 := Nat.mod_lt _ (by decide)
  refine lv_iload_n hx hb dX0_compute_0 rfl (lv_at hl 3 rfl) ?_
  refine lv_iconst (v := nI 3) hx hb dX0_compute_1 (by decide) ?_
  refine xi_and 3 4 2 (by decide) (by decide) hx hb dX0_compute_2 ?_
  refine lv_istore (lv' := [(4, .int (nI (ub b0 % 4))), (0, .ref h), (1, .int (nI c0)), (2, .int (nI v)), (3, .int b0)]) hx hb dX0_compute_3 hl (by decide) rfl (fun ls hl => ?_)
  refine lv_iload_n hx hb dX0_compute_5 rfl (lv_at hl 2 rfl) ?_
  refine xn_ifne_b (tgt := 51) hx hb dX0_compute_6 (by decide) (by omega) (fun k0 => ?_) (fun k0 => ?_)
  · refine lv_iload_n hx hb dX0_compute_51 rfl (lv_at hl 2 rfl) ?_
    refine lv_iconst (v := nI 1) hx hb dX0_compute_52 (by decide) ?_
    refine xn_ne_b (tgt := 95) hx hb dX0_compute_53 (by decide) (by omega) (by omega) (fun k1 => ?_) (fun k1 => ?_)
    · refine lv_iload_n hx hb dX0_compute_95 rfl (lv_at hl 2 rfl) ?_
      refine lv_iconst (v := nI 2) hx hb dX0_compute_96 (by decide) ?_
      refine xn_ne_b (tgt := 110) hx hb dX0_compute_97 (by decide) (by omega) (by omega) (fun k2 => ?_) (fun k2 => ?_)
      · refine lv_iload_n hx hb dX0_compute_110 rfl (lv_at hl 2 rfl) ?_
        refine lv_iconst (v := nI 3) hx hb dX0_compute_111 (by decide) ?_
        refine xn_ne_b (tgt := 126) hx hb dX0_compute_112 (by decide) (by omega) (by omega) (fun k3 => ?_) (fun k3 => ?_)
        · refine lv_iload_n hx hb dX0_compute_126 rfl (lv_at hl 2 rfl) ?_
          refine lv_iconst (v := nI 4) hx hb dX0_compute_127 (by decide) ?_
          refine xn_ne_b (tgt := 141) hx hb dX0_compute_128 (by decide) (by omega) (by omega) (fun k4 => ?_) (fun k4 => ?_)
          · refine lv_iload_n hx hb dX0_compute_141 rfl (lv_at hl 2 rfl) ?_
            refine lv_bipush (v := nI 7) hx hb dX0_compute_142 (by decide) ?_
            refine xn_gt_b (tgt := 158) hx hb dX0_compute_144 (by decide) (by omega) (by omega) (fun k7 => ?_) (fun k7 => ?_)
            · refine lv_iload_n hx hb dX0_compute_158 rfl (lv_at hl 2 rfl) ?_
              refine lv_bipush (v := nI 9) hx hb dX0_compute_159 (by decide) ?_
              refine xn_gt_b (tgt := 190) hx hb dX0_compute_161 (by decide) (by omega) (by omega) (fun k9 => ?_) (fun k9 => ?_)
              · refine lv_iload_n hx hb dX0_compute_190 rfl (lv_at hl 2 rfl) ?_
                refine lv_bipush (v := nI 10) hx hb dX0_compute_191 (by decide) ?_
                refine xn_ne_b (tgt := 214) hx hb dX0_compute_193 (by decide) (by omega) (by omega) (fun k10 => ?_) (fun k10 => ?_)
                · refine lv_aload_n hx hb dX0_compute_214 rfl (lv_at hl 1 rfl) ?_
                  refine lv_bipush (v := nI 7) hx hb dX0_compute_215 (by decide) ?_
                  refine lv_iload_n hx hb dX0_compute_217 rfl (lv_at hl 3 rfl) ?_
                  refine lv_iload hx hb dX0_compute_218 (lv_at hl 0 rfl) ?_
                  refine kv_v (n := 3) (As := [.int (nI 7), .int (nI v), .int (nI (ub b0 % 4))]) (rest := []) ⟨hx, hb, hml, hown, hts⟩ (cX_combinePlanes l D h ad ca H.size st pa ac so kc he pl wk ar ot cn tr ld mb tb mt 7 v (ub b0 % 4) (by decide) hv hw4) (lw_V q130 q132 qs9 q23 q133) (by decide +kernel) ⟨by rw [hR.1]; decide, by rw [hR.2]; decide⟩ ⟨Nat.zero_le _, Nat.zero_le _⟩ hK hP hD hS hA (ci := 0) rfl rfl rfl rfl hl.1 rfl (Nat.le_of_ble_eq_true rfl) dX0_compute_220 (fun wz H locs hw hP hD hS => ?_)
                  have hP : va_P D vwCl (wX h ad ca st pa ac so kc he pl wz ar ot cn tr ld mb tb mt) H := hP
                  have hD : va_D A (wX h ad ca st pa ac so kc he pl wz ar ot cn tr ld mb tb mt) := hD
                  have hz := hw
                  refine lv_lconst (v := 0) hx hb dX0_compute_223 (by decide) ?_
                  refine xt_l (y := anyp wz 0 0) rfl ?_
                  refine lv_lstore (lv' := [(5, .long (anyp wz 0 0)), (4, .int (nI (ub b0 % 4))), (0, .ref h), (1, .int (nI c0)), (2, .int (nI v)), (3, .int b0)]) hx hb dX0_compute_224 hl (by decide) rfl (fun ls hl => ?_)
                  refine lv_iconst (v := nI 0) hx hb dX0_compute_226 (by decide) ?_
                  refine lv_istore (lv' := [(7, .int (nI 0)), (5, .long (anyp wz 0 0)), (4, .int (nI (ub b0 % 4))), (0, .ref h), (1, .int (nI c0)), (2, .int (nI v)), (3, .int b0)]) hx hb dX0_compute_227 hl (by decide) rfl (fun ls hl => ?_)
                  refine lp_w (nL := 8) (pc := 229) 8 (fun (u : Unit) => (wX h ad ca st pa ac so kc he pl wz ar ot cn tr ld mb tb mt)) (fun (i : Nat) (u : Unit) => [(0, .ref h), (1, .int (nI c0)), (2, .int (nI v)), (3, .int b0), (4, .int (nI (ub b0 % 4))), (5, .long (anyp wz 0 i)), (7, .int (nI i))]) (fun (i : Nat) (u : Unit) => True) ?_ ?_ 0 (()) _ _ _ (by omega) trivial hP hD hS (lv_sub hl [3, 4, 5, 6, 2, 1, 0] rfl)
                  · rintro _ H locs ls hJ hP hD hS hl
                    have hJ : True := hJ
                    have hP : va_P D vwCl (wX h ad ca st pa ac so kc he pl wz ar ot cn tr ld mb tb mt) H := hP
                    have hD : va_D A (wX h ad ca st pa ac so kc he pl wz ar ot cn tr ld mb tb mt) := hD
                    have hl : lv_has ls 8 [(0, .ref h), (1, .int (nI c0)), (2, .int (nI v)), (3, .int b0), (4, .int (nI (ub b0 % 4))), (5, .long (anyp wz 0 8)), (7, .int (nI 8))] := hl
                    refine lv_iload hx hb dX0_compute_229 (lv_at hl 6 rfl) ?_
                    refine lv_bipush (v := nI 8) hx hb dX0_compute_231 (by decide) ?_
                    refine xn_ge_t (tgt := 254) hx hb dX0_compute_233 (by decide) (by omega) (by omega) ?_
                    refine lv_aload_n hx hb dX0_compute_254 rfl (lv_at hl 0 rfl) ?_
                    refine lv_lload hx hb dX0_compute_255 (lv_at hl 5 rfl) ?_
                    refine lv_ldc2 (v := (-1)) hx hb hown (hts _ q37) dX0_compute_257 ?_
                    refine lv_lxor hx hb dX0_compute_260 ?_
                    refine kv_v (n := 1) (As := [.long ((anyp wz 0 8) ^^^ (-1))]) (rest := []) ⟨hx, hb, hml, hown, hts⟩ (cX_setTruth l D h ad ca H.size st pa ac so kc he pl wz ar ot cn tr ld mb tb mt (anyp wz 0 8 ^^^ (-1))) (lw_V q138 q140 qs11 q23 q141) (by decide +kernel) ⟨by rw [hR.1]; decide, by rw [hR.2]; decide⟩ ⟨Nat.zero_le _, Nat.zero_le _⟩ hK hP hD hS hA (ci := 0) rfl rfl rfl rfl hl.1 rfl (Nat.le_of_ble_eq_true rfl) dX0_compute_261 (fun wx H locs hw hP hD hS => ?_)
                    have hP : va_P D vwCl (wX h ad ca st pa ac so kc he pl wx ar ot cn tr ld mb tb mt) H := hP
                    have hD : va_D A (wX h ad ca st pa ac so kc he pl wx ar ot cn tr ld mb tb mt) := hD
                    exact hret 264 ls H locs wx dX0_compute_264 (fun s1 h1 => by rw [show c0 = 11 by omega]; exact cmp_11 h1 hz hw) hP hD hS
                  · rintro i _ H locs ls hi hJ hP hD hS hl ih
                    have hJ : True := hJ
                    have hP : va_P D vwCl (wX h ad ca st pa ac so kc he pl wz ar ot cn tr ld mb tb mt) H := hP
                    have hD : va_D A (wX h ad ca st pa ac so kc he pl wz ar ot cn tr ld mb tb mt) := hD
                    have hl : lv_has ls 8 [(0, .ref h), (1, .int (nI c0)), (2, .int (nI v)), (3, .int b0), (4, .int (nI (ub b0 % 4))), (5, .long (anyp wz 0 i)), (7, .int (nI i))] := hl
                    refine lv_iload hx hb dX0_compute_229 (lv_at hl 6 rfl) ?_
                    refine lv_bipush (v := nI 8) hx hb dX0_compute_231 (by decide) ?_
                    refine xn_ge_f (tgt := 254) hx hb dX0_compute_233 (by decide) hi (by omega) ?_
                    refine lv_lload hx hb dX0_compute_236 (lv_at hl 5 rfl) ?_
                    refine lv_aload_n hx hb dX0_compute_238 rfl (lv_at hl 0 rfl) ?_
                    refine va_get (ci := 0) (v := .ref (ad 2)) (C := RX0) (T := TX0) (N := 16) hx hb hts in_X0 hown hK hP 0 rfl rfl 4 (by decide) (hts _ q42) (fun _ h9 => h9) rfl dX0_compute_239 ?_
                    refine lv_iload hx hb dX0_compute_242 (lv_at hl 6 rfl) ?_
                    refine xl_ald (k := i) hx hb hK hP 3 2 rfl rfl (by omega) (by decide) dX0_compute_244 ?_
                    refine lv_lor hx hb dX0_compute_245 ?_
                    refine xt_l (y := anyp wz 0 (i + 1)) (by simp only [anyp, Nat.zero_add]) ?_
                    refine lv_lstore (lv' := [(5, .long (anyp wz 0 (i + 1))), (0, .ref h), (1, .int (nI c0)), (2, .int (nI v)), (3, .int b0), (4, .int (nI (ub b0 % 4))), (7, .int (nI i))]) hx hb dX0_compute_246 hl (by decide) rfl (fun ls hl => ?_)
                    refine lv_iinc (v := nI (i + 1)) (lv' := [(7, .int (nI (i + 1))), (5, .long (anyp wz 0 (i + 1))), (0, .ref h), (1, .int (nI c0)), (2, .int (nI v)), (3, .int b0), (4, .int (nI (ub b0 % 4)))]) hx hb dX0_compute_248 hl (k := 6) rfl (xi_inc1 _) (by decide) rfl (fun ls hl => ?_)
                    refine lv_goto (tgt := 229) hx hb dX0_compute_251 (by decide) ?_
                    exact ih (()) _ _ _ trivial hP hD hS (lv_sub hl [2, 3, 4, 5, 6, 1, 0] rfl)
                · refine lv_aload_n hx hb dX0_compute_196 rfl (lv_at hl 1 rfl) ?_
                  refine lv_iload_n hx hb dX0_compute_197 rfl (lv_at hl 3 rfl) ?_
                  refine lv_iload hx hb dX0_compute_198 (lv_at hl 0 rfl) ?_
                  refine kv_l (n := 2) (As := [.int (nI v), .int (nI (ub b0 % 4))]) (rest := []) ⟨hx, hb, hml, hown, hts⟩ (cX_subtractPlanes l D h ad ca H.size st pa ac so kc he pl wk ar ot cn tr ld mb tb mt v (ub b0 % 4) hv hw4) (lw_V q118 q120 qs6 q23 q121) (by decide +kernel) ⟨by rw [hR.1]; decide, by rw [hR.2]; decide⟩ ⟨Nat.zero_le _, Nat.zero_le _⟩ hK hP hD hS hA (ci := 0) rfl rfl rfl rfl hl.1 rfl (Nat.le_of_ble_eq_true rfl) dX0_compute_200 (fun r wz H locs hw hP hD hS => ?_)
                  have hP : va_P D vwCl (wX h ad ca st pa ac so kc he pl wz ar ot cn tr ld mb tb mt) H := hP
                  have hD : va_D A (wX h ad ca st pa ac so kc he pl wz ar ot cn tr ld mb tb mt) := hD
                  obtain ⟨hr, hw1⟩ := hw
                  refine lv_lstore (lv' := [(5, .long r), (4, .int (nI (ub b0 % 4))), (0, .ref h), (1, .int (nI c0)), (2, .int (nI v)), (3, .int b0)]) hx hb dX0_compute_203 hl (by decide) rfl (fun ls hl => ?_)
                  refine lv_aload_n hx hb dX0_compute_205 rfl (lv_at hl 2 rfl) ?_
                  refine lv_lload hx hb dX0_compute_206 (lv_at hl 0 rfl) ?_
                  refine kv_v (n := 1) (As := [.long r]) (rest := []) ⟨hx, hb, hml, hown, hts⟩ (cX_setTruth l D h ad ca H.size st pa ac so kc he pl wz ar ot cn tr ld mb tb mt r) (lw_V q138 q140 qs11 q23 q141) (by decide +kernel) ⟨by rw [hR.1]; decide, by rw [hR.2]; decide⟩ ⟨Nat.zero_le _, Nat.zero_le _⟩ hK hP hD hS hA (ci := 0) rfl rfl rfl rfl hl.1 rfl (Nat.le_of_ble_eq_true rfl) dX0_compute_208 (fun wx H locs hw hP hD hS => ?_)
                  have hP : va_P D vwCl (wX h ad ca st pa ac so kc he pl wx ar ot cn tr ld mb tb mt) H := hP
                  have hD : va_D A (wX h ad ca st pa ac so kc he pl wx ar ot cn tr ld mb tb mt) := hD
                  refine lv_goto (tgt := 264) hx hb dX0_compute_211 (by decide) ?_
                  exact hret 264 ls H locs wx dX0_compute_264 (fun s1 h1 => by rw [k10]; exact cmp_10 h1 hr hw) hP hD hS
              · refine lv_aload_n hx hb dX0_compute_164 rfl (lv_at hl 1 rfl) ?_
                refine lv_iload_n hx hb dX0_compute_165 rfl (lv_at hl 3 rfl) ?_
                refine lv_iload_n hx hb dX0_compute_166 rfl (lv_at hl 2 rfl) ?_
                refine lv_bipush (v := nI 8) hx hb dX0_compute_167 (by decide) ?_
                refine xn_ne_b (tgt := 179) hx hb dX0_compute_169 (by decide) (by omega) (by omega) (fun k8 => ?_) (fun k8 => ?_)
                · refine lv_iload_n hx hb dX0_compute_179 rfl (lv_at hl 4 rfl) ?_
                  refine lv_bipush (v := nI 7) hx hb dX0_compute_180 (by decide) ?_
                  refine xi_and 7 8 3 (by decide) (by decide) hx hb dX0_compute_182 ?_
                  refine lv_ineg hx hb dX0_compute_183 ?_
                  refine xt_i (y := zi (-((ub b0 % 8 : Nat) : Int))) (zi_neg _) ?_
                  refine kv_v (n := 2) (As := [.int (nI v), .int (zi (-((ub b0 % 8 : Nat) : Int)))]) (rest := []) ⟨hx, hb, hml, hown, hts⟩ (cX_shiftPlanes l D h ad ca H.size st pa ac so kc he pl wk ar ot cn tr ld mb tb mt v (-((ub b0 % 8 : Nat) : Int)) hv (by omega) (by omega)) (lw_V q134 q136 qs10 q23 q137) (by decide +kernel) ⟨by rw [hR.1]; decide, by rw [hR.2]; decide⟩ ⟨Nat.zero_le _, Nat.zero_le _⟩ hK hP hD hS hA (ci := 0) rfl rfl rfl rfl hl.1 rfl (Nat.le_of_ble_eq_true rfl) dX0_compute_184 (fun wx H locs hw hP hD hS => ?_)
                  have hP : va_P D vwCl (wX h ad ca st pa ac so kc he pl wx ar ot cn tr ld mb tb mt) H := hP
                  have hD : va_D A (wX h ad ca st pa ac so kc he pl wx ar ot cn tr ld mb tb mt) := hD
                  refine lv_goto (tgt := 264) hx hb dX0_compute_187 (by decide) ?_
                  exact hret 264 ls H locs wx dX0_compute_264 (fun s1 h1 => by rw [show c0 = 9 by omega]; exact cmp_9 _ hw) hP hD hS
                · refine lv_iload_n hx hb dX0_compute_172 rfl (lv_at hl 4 rfl) ?_
                  refine lv_bipush (v := nI 7) hx hb dX0_compute_173 (by decide) ?_
                  refine xi_and 7 8 3 (by decide) (by decide) hx hb dX0_compute_175 ?_
                  refine lv_goto (tgt := 184) hx hb dX0_compute_176 (by decide) ?_
                  refine xt_i (y := zi ((ub b0 % 8 : Nat) : Int)) (zi_nat _).symm ?_
                  refine kv_v (n := 2) (As := [.int (nI v), .int (zi ((ub b0 % 8 : Nat) : Int))]) (rest := []) ⟨hx, hb, hml, hown, hts⟩ (cX_shiftPlanes l D h ad ca H.size st pa ac so kc he pl wk ar ot cn tr ld mb tb mt v ((ub b0 % 8 : Nat) : Int) hv (by omega) (by omega)) (lw_V q134 q136 qs10 q23 q137) (by decide +kernel) ⟨by rw [hR.1]; decide, by rw [hR.2]; decide⟩ ⟨Nat.zero_le _, Nat.zero_le _⟩ hK hP hD hS hA (ci := 0) rfl rfl rfl rfl hl.1 rfl (Nat.le_of_ble_eq_true rfl) dX0_compute_184 (fun wx H locs hw hP hD hS => ?_)
                  have hP : va_P D vwCl (wX h ad ca st pa ac so kc he pl wx ar ot cn tr ld mb tb mt) H := hP
                  have hD : va_D A (wX h ad ca st pa ac so kc he pl wx ar ot cn tr ld mb tb mt) := hD
                  refine lv_goto (tgt := 264) hx hb dX0_compute_187 (by decide) ?_
                  exact hret 264 ls H locs wx dX0_compute_264 (fun s1 h1 => by rw [k8]; exact cmp_8 _ hw) hP hD hS
            · refine lv_aload_n hx hb dX0_compute_147 rfl (lv_at hl 1 rfl) ?_
              refine lv_iload_n hx hb dX0_compute_148 rfl (lv_at hl 2 rfl) ?_
              refine lv_iload_n hx hb dX0_compute_149 rfl (lv_at hl 3 rfl) ?_
              refine lv_iload hx hb dX0_compute_150 (lv_at hl 0 rfl) ?_
              refine kv_v (n := 3) (As := [.int (nI c0), .int (nI v), .int (nI (ub b0 % 4))]) (rest := []) ⟨hx, hb, hml, hown, hts⟩ (cX_combinePlanes l D h ad ca H.size st pa ac so kc he pl wk ar ot cn tr ld mb tb mt c0 v (ub b0 % 4) (by omega) hv hw4) (lw_V q130 q132 qs9 q23 q133) (by decide +kernel) ⟨by rw [hR.1]; decide, by rw [hR.2]; decide⟩ ⟨Nat.zero_le _, Nat.zero_le _⟩ hK hP hD hS hA (ci := 0) rfl rfl rfl rfl hl.1 rfl (Nat.le_of_ble_eq_true rfl) dX0_compute_152 (fun wx H locs hw hP hD hS => ?_)
              have hP : va_P D vwCl (wX h ad ca st pa ac so kc he pl wx ar ot cn tr ld mb tb mt) H := hP
              have hD : va_D A (wX h ad ca st pa ac so kc he pl wx ar ot cn tr ld mb tb mt) := hD
              refine lv_goto (tgt := 264) hx hb dX0_compute_155 (by decide) ?_
              exact hret 264 ls H locs wx dX0_compute_264 (fun s1 h1 => cmp_5 (by omega) k7 hw) hP hD hS
          · refine lv_aload_n hx hb dX0_compute_131 rfl (lv_at hl 1 rfl) ?_
            refine lv_iload_n hx hb dX0_compute_132 rfl (lv_at hl 3 rfl) ?_
            refine lv_iload hx hb dX0_compute_133 (lv_at hl 0 rfl) ?_
            refine kv_v (n := 2) (As := [.int (nI v), .int (nI (ub b0 % 4))]) (rest := []) ⟨hx, hb, hml, hown, hts⟩ (cX_multiplyPlanes l D h ad ca H.size st pa ac so kc he pl wk ar ot cn tr ld mb tb mt v (ub b0 % 4) hv hw4) (lw_V q122 q124 qs7 q23 q125) (by decide +kernel) ⟨by rw [hR.1]; decide, by rw [hR.2]; decide⟩ ⟨Nat.zero_le _, Nat.zero_le _⟩ hK hP hD hS hA (ci := 0) rfl rfl rfl rfl hl.1 rfl (Nat.le_of_ble_eq_true rfl) dX0_compute_135 (fun wx H locs hw hP hD hS => ?_)
            have hP : va_P D vwCl (wX h ad ca st pa ac so kc he pl wx ar ot cn tr ld mb tb mt) H := hP
            have hD : va_D A (wX h ad ca st pa ac so kc he pl wx ar ot cn tr ld mb tb mt) := hD
            refine lv_goto (tgt := 264) hx hb dX0_compute_138 (by decide) ?_
            exact hret 264 ls H locs wx dX0_compute_264 (fun s1 h1 => by rw [k4]; exact hw s1 h1) hP hD hS
        · refine lv_aload_n hx hb dX0_compute_115 rfl (lv_at hl 1 rfl) ?_
          refine lv_iload_n hx hb dX0_compute_116 rfl (lv_at hl 3 rfl) ?_
          refine lv_iload hx hb dX0_compute_117 (lv_at hl 0 rfl) ?_
          refine kv_l (n := 2) (As := [.int (nI v), .int (nI (ub b0 % 4))]) (rest := []) ⟨hx, hb, hml, hown, hts⟩ (cX_subtractPlanes l D h ad ca H.size st pa ac so kc he pl wk ar ot cn tr ld mb tb mt v (ub b0 % 4) hv hw4) (lw_V q118 q120 qs6 q23 q121) (by decide +kernel) ⟨by rw [hR.1]; decide, by rw [hR.2]; decide⟩ ⟨Nat.zero_le _, Nat.zero_le _⟩ hK hP hD hS hA (ci := 0) rfl rfl rfl rfl hl.1 rfl (Nat.le_of_ble_eq_true rfl) dX0_compute_119 (fun r wx H locs hw hP hD hS => ?_)
          have hP : va_P D vwCl (wX h ad ca st pa ac so kc he pl wx ar ot cn tr ld mb tb mt) H := hP
          have hD : va_D A (wX h ad ca st pa ac so kc he pl wx ar ot cn tr ld mb tb mt) := hD
          refine lv_pop2_2 hx hb dX0_compute_122 rfl ?_
          refine lv_goto (tgt := 264) hx hb dX0_compute_123 (by decide) ?_
          exact hret 264 ls H locs wx dX0_compute_264 (fun s1 h1 => by rw [k3]; exact cmp_3 h1 hw.2) hP hD hS
      · refine lv_aload_n hx hb dX0_compute_100 rfl (lv_at hl 1 rfl) ?_
        refine lv_iload_n hx hb dX0_compute_101 rfl (lv_at hl 3 rfl) ?_
        refine lv_iload hx hb dX0_compute_102 (lv_at hl 0 rfl) ?_
        refine kv_v (n := 2) (As := [.int (nI v), .int (nI (ub b0 % 4))]) (rest := []) ⟨hx, hb, hml, hown, hts⟩ (cX_addPlanes l D h ad ca H.size st pa ac so kc he pl wk ar ot cn tr ld mb tb mt v (ub b0 % 4) hv hw4) (lw_V q114 q116 qs5 q23 q117) (by decide +kernel) ⟨by rw [hR.1]; decide, by rw [hR.2]; decide⟩ ⟨Nat.zero_le _, Nat.zero_le _⟩ hK hP hD hS hA (ci := 0) rfl rfl rfl rfl hl.1 rfl (Nat.le_of_ble_eq_true rfl) dX0_compute_104 (fun wx H locs hw hP hD hS => ?_)
        have hP : va_P D vwCl (wX h ad ca st pa ac so kc he pl wx ar ot cn tr ld mb tb mt) H := hP
        have hD : va_D A (wX h ad ca st pa ac so kc he pl wx ar ot cn tr ld mb tb mt) := hD
        refine lv_goto (tgt := 264) hx hb dX0_compute_107 (by decide) ?_
        exact hret 264 ls H locs wx dX0_compute_264 (fun s1 h1 => by rw [k2]; exact cmp_2 hw) hP hD hS
    · refine lv_iconst (v := nI 0) hx hb dX0_compute_56 (by decide) ?_
      refine lv_istore (lv' := [(5, .int (nI 0)), (4, .int (nI (ub b0 % 4))), (0, .ref h), (1, .int (nI c0)), (2, .int (nI v)), (3, .int b0)]) hx hb dX0_compute_57 hl (by decide) rfl (fun ls hl => ?_)
      refine lp_w (nL := 8) (pc := 59) 8 (fun (u : (Nat → Int64)) => (wX h ad ca st pa ac so kc he pl u ar ot cn tr ld mb tb mt)) (fun (i : Nat) (u : (Nat → Int64)) => [(0, .ref h), (1, .int (nI c0)), (2, .int (nI v)), (3, .int b0), (4, .int (nI (ub b0 % 4))), (5, .int (nI i))]) (fun (i : Nat) (u : (Nat → Int64)) => ∀ k, k < i → u k = pl (8 * (ub b0 % 4) + k)) ?_ ?_ 0 (wk) _ _ _ (by omega) (fun k hk => absurd hk (by omega)) hP hD hS (lv_sub hl [2, 3, 4, 5, 1, 0] rfl)
      · rintro wx H locs ls hJ hP hD hS hl
        have hJ : ∀ k, k < 8 → wx k = pl (8 * (ub b0 % 4) + k) := hJ
        have hP : va_P D vwCl (wX h ad ca st pa ac so kc he pl wx ar ot cn tr ld mb tb mt) H := hP
        have hD : va_D A (wX h ad ca st pa ac so kc he pl wx ar ot cn tr ld mb tb mt) := hD
        have hl : lv_has ls 8 [(0, .ref h), (1, .int (nI c0)), (2, .int (nI v)), (3, .int b0), (4, .int (nI (ub b0 % 4))), (5, .int (nI 8))] := hl
        refine lv_iload hx hb dX0_compute_59 (lv_at hl 5 rfl) ?_
        refine lv_bipush (v := nI 8) hx hb dX0_compute_61 (by decide) ?_
        refine xn_ge_t (tgt := 92) hx hb dX0_compute_63 (by decide) (by omega) (by omega) ?_
        refine lv_goto (tgt := 264) hx hb dX0_compute_92 (by decide) ?_
        exact hret 264 ls H locs wx dX0_compute_264 (fun s1 h1 => by rw [k1]; exact cmp_1 _ hJ) hP hD hS
      · rintro i wx H locs ls hi hJ hP hD hS hl ih
        have hJ : ∀ k, k < i → wx k = pl (8 * (ub b0 % 4) + k) := hJ
        have hP : va_P D vwCl (wX h ad ca st pa ac so kc he pl wx ar ot cn tr ld mb tb mt) H := hP
        have hD : va_D A (wX h ad ca st pa ac so kc he pl wx ar ot cn tr ld mb tb mt) := hD
        have hl : lv_has ls 8 [(0, .ref h), (1, .int (nI c0)), (2, .int (nI v)), (3, .int b0), (4, .int (nI (ub b0 % 4))), (5, .int (nI i))] := hl
        refine lv_iload hx hb dX0_compute_59 (lv_at hl 5 rfl) ?_
        refine lv_bipush (v := nI 8) hx hb dX0_compute_61 (by decide) ?_
        refine xn_ge_f (tgt := 92) hx hb dX0_compute_63 (by decide) hi (by omega) ?_
        refine lv_aload_n hx hb dX0_compute_66 rfl (lv_at hl 0 rfl) ?_
        refine va_get (ci := 0) (v := .ref (ad 2)) (C := RX0) (T := TX0) (N := 16) hx hb hts in_X0 hown hK hP 0 rfl rfl 4 (by decide) (hts _ q42) (fun _ h9 => h9) rfl dX0_compute_67 ?_
        refine lv_iload hx hb dX0_compute_70 (lv_at hl 5 rfl) ?_
        refine lv_aload_n hx hb dX0_compute_72 rfl (lv_at hl 0 rfl) ?_
        refine va_get (ci := 0) (v := .ref (ad 1)) (C := RX0) (T := TX0) (N := 16) hx hb hts in_X0 hown hK hP 0 rfl rfl 3 (by decide) (hts _ q41) (fun _ h9 => h9) rfl dX0_compute_73 ?_
        refine lv_bipush (v := nI 8) hx hb dX0_compute_76 (by decide) ?_
        refine lv_iload hx hb dX0_compute_78 (lv_at hl 4 rfl) ?_
        refine xi_mul hx hb dX0_compute_80 ?_
        refine lv_iload hx hb dX0_compute_81 (lv_at hl 5 rfl) ?_
        refine xi_add hx hb dX0_compute_83 ?_
        refine xl_ald (k := (8 * (ub b0 % 4) + i)) hx hb hK hP 2 1 rfl rfl (by omega) (by decide) dX0_compute_84 ?_
        refine xl_ast (k := i) hx hb hK hP hD hS 3 2 rfl rfl (by omega) (by decide) dX0_compute_85 (fun H locs hP hD hS => ?_)
        have hP : va_P D vwCl (wX h ad ca st pa ac so kc he pl (vp_updL wx i (pl (8 * (ub b0 % 4) + i))) ar ot cn tr ld mb tb mt) H := hP
        have hD : va_D A (wX h ad ca st pa ac so kc he pl (vp_updL wx i (pl (8 * (ub b0 % 4) + i))) ar ot cn tr ld mb tb mt) := hD
        refine lv_iinc (v := nI (i + 1)) (lv' := [(5, .int (nI (i + 1))), (0, .ref h), (1, .int (nI c0)), (2, .int (nI v)), (3, .int b0), (4, .int (nI (ub b0 % 4)))]) hx hb dX0_compute_86 hl (k := 5) rfl (xi_inc1 _) (by decide) rfl (fun ls hl => ?_)
        refine lv_goto (tgt := 59) hx hb dX0_compute_89 (by decide) ?_
        exact ih (vp_updL wx i (pl (8 * (ub b0 % 4) + i))) _ _ _ (upd_J (g := fun k => pl (8 * (ub b0 % 4) + k)) hJ) hP hD hS (lv_sub hl [1, 2, 3, 4, 5, 0] rfl)
  · refine lv_iconst (v := nI 0) hx hb dX0_compute_9 (by decide) ?_
    refine lv_istore (lv' := [(5, .int (nI 0)), (4, .int (nI (ub b0 % 4))), (0, .ref h), (1, .int (nI c0)), (2, .int (nI v)), (3, .int b0)]) hx hb dX0_compute_10 hl (by decide) rfl (fun ls hl => ?_)
    refine lp_w (nL := 8) (pc := 12) 8 (fun (u : (Nat → Int64)) => (wX h ad ca st pa ac so kc he pl u ar ot cn tr ld mb tb mt)) (fun (i : Nat) (u : (Nat → Int64)) => [(0, .ref h), (1, .int (nI c0)), (2, .int (nI v)), (3, .int b0), (4, .int (nI (ub b0 % 4))), (5, .int (nI i))]) (fun (i : Nat) (u : (Nat → Int64)) => ∀ k, k < i → u k = if (ub b0).testBit k = true then (-1) else 0) ?_ ?_ 0 (wk) _ _ _ (by omega) (fun k hk => absurd hk (by omega)) hP hD hS (lv_sub hl [2, 3, 4, 5, 1, 0] rfl)
    · rintro wx H locs ls hJ hP hD hS hl
      have hJ : ∀ k, k < 8 → wx k = if (ub b0).testBit k = true then (-1) else 0 := hJ
      have hP : va_P D vwCl (wX h ad ca st pa ac so kc he pl wx ar ot cn tr ld mb tb mt) H := hP
      have hD : va_D A (wX h ad ca st pa ac so kc he pl wx ar ot cn tr ld mb tb mt) := hD
      have hl : lv_has ls 8 [(0, .ref h), (1, .int (nI c0)), (2, .int (nI v)), (3, .int b0), (4, .int (nI (ub b0 % 4))), (5, .int (nI 8))] := hl
      refine lv_iload hx hb dX0_compute_12 (lv_at hl 5 rfl) ?_
      refine lv_bipush (v := nI 8) hx hb dX0_compute_14 (by decide) ?_
      refine xn_ge_t (tgt := 48) hx hb dX0_compute_16 (by decide) (by omega) (by omega) ?_
      refine lv_goto (tgt := 264) hx hb dX0_compute_48 (by decide) ?_
      exact hret 264 ls H locs wx dX0_compute_264 (fun s1 h1 => by rw [k0]; exact cmp_0 _ _ h1 hJ) hP hD hS
    · rintro i wx H locs ls hi hJ hP hD hS hl ih
      have hJ : ∀ k, k < i → wx k = if (ub b0).testBit k = true then (-1) else 0 := hJ
      have hP : va_P D vwCl (wX h ad ca st pa ac so kc he pl wx ar ot cn tr ld mb tb mt) H := hP
      have hD : va_D A (wX h ad ca st pa ac so kc he pl wx ar ot cn tr ld mb tb mt) := hD
      have hl : lv_has ls 8 [(0, .ref h), (1, .int (nI c0)), (2, .int (nI v)), (3, .int b0), (4, .int (nI (ub b0 % 4))), (5, .int (nI i))] := hl
      refine lv_iload hx hb dX0_compute_12 (lv_at hl 5 rfl) ?_
      refine lv_bipush (v := nI 8) hx hb dX0_compute_14 (by decide) ?_
      refine xn_ge_f (tgt := 48) hx hb dX0_compute_16 (by decide) hi (by omega) ?_
      refine lv_aload_n hx hb dX0_compute_19 rfl (lv_at hl 0 rfl) ?_
      refine va_get (ci := 0) (v := .ref (ad 2)) (C := RX0) (T := TX0) (N := 16) hx hb hts in_X0 hown hK hP 0 rfl rfl 4 (by decide) (hts _ q42) (fun _ h9 => h9) rfl dX0_compute_20 ?_
      refine lv_iload hx hb dX0_compute_23 (lv_at hl 5 rfl) ?_
      refine lv_iload_n hx hb dX0_compute_25 rfl (lv_at hl 3 rfl) ?_
      refine lv_iload hx hb dX0_compute_26 (lv_at hl 5 rfl) ?_
      refine lv_iushr (v := ziushr b0 i) hx hb dX0_compute_28 rfl ?_
      refine lv_iconst (v := nI 1) hx hb dX0_compute_29 (by decide) ?_
      refine xi_and 1 2 1 (by decide) (by decide) hx hb dX0_compute_30 ?_
      refine xt_i (y := nI (((ub b0).testBit i).toNat)) (by rw [zibit b0 (by omega)]) ?_
      have h2 : ((ub b0).testBit i).toNat ≤ 1 := by cases (ub b0).testBit i <;> decide
      refine xn_ifeq_b (tgt := 40) hx hb dX0_compute_31 (by decide) (by omega) (fun h1 => ?_) (fun h1 => ?_)
      · have e1 : (ub b0).testBit i = false := tn0 h1
        refine lv_lconst (v := 0) hx hb dX0_compute_40 (by decide) ?_
        refine xt_l (y := if (ub b0).testBit i = true then (-1) else 0) (by rw [if_neg (by rw [e1]; decide)]) ?_
        refine xl_ast (k := i) hx hb hK hP hD hS 3 2 rfl rfl (by omega) (by decide) dX0_compute_41 (fun H locs hP hD hS => ?_)
        have hP : va_P D vwCl (wX h ad ca st pa ac so kc he pl (vp_updL wx i (if (ub b0).testBit i = true then (-1) else 0)) ar ot cn tr ld mb tb mt) H := hP
        have hD : va_D A (wX h ad ca st pa ac so kc he pl (vp_updL wx i (if (ub b0).testBit i = true then (-1) else 0)) ar ot cn tr ld mb tb mt) := hD
        refine lv_iinc (v := nI (i + 1)) (lv' := [(5, .int (nI (i + 1))), (0, .ref h), (1, .int (nI c0)), (2, .int (nI v)), (3, .int b0), (4, .int (nI (ub b0 % 4)))]) hx hb dX0_compute_42 hl (k := 5) rfl (xi_inc1 _) (by decide) rfl (fun ls hl => ?_)
        refine lv_goto (tgt := 12) hx hb dX0_compute_45 (by decide) ?_
        exact ih (vp_updL wx i (if (ub b0).testBit i = true then (-1) else 0)) _ _ _ (upd_J (g := fun k => if (ub b0).testBit k = true then (-1) else 0) hJ) hP hD hS (lv_sub hl [1, 2, 3, 4, 5, 0] rfl)
      · have e1 : (ub b0).testBit i = true := tn1 h1
        refine lv_ldc2 (v := (-1)) hx hb hown (hts _ q37) dX0_compute_34 ?_
        refine xt_l (y := if (ub b0).testBit i = true then (-1) else 0) (by rw [if_pos e1]) ?_
        refine lv_goto (tgt := 41) hx hb dX0_compute_37 (by decide) ?_
        refine xl_ast (k := i) hx hb hK hP hD hS 3 2 rfl rfl (by omega) (by decide) dX0_compute_41 (fun H locs hP hD hS => ?_)
        have hP : va_P D vwCl (wX h ad ca st pa ac so kc he pl (vp_updL wx i (if (ub b0).testBit i = true then (-1) else 0)) ar ot cn tr ld mb tb mt) H := hP
        have hD : va_D A (wX h ad ca st pa ac so kc he pl (vp_updL wx i (if (ub b0).testBit i = true then (-1) else 0)) ar ot cn tr ld mb tb mt) := hD
        refine lv_iinc (v := nI (i + 1)) (lv' := [(5, .int (nI (i + 1))), (0, .ref h), (1, .int (nI c0)), (2, .int (nI v)), (3, .int b0), (4, .int (nI (ub b0 % 4)))]) hx hb dX0_compute_42 hl (k := 5) rfl (xi_inc1 _) (by decide) rfl (fun ls hl => ?_)
        refine lv_goto (tgt := 12) hx hb dX0_compute_45 (by decide) ?_
        exact ih (vp_updL wx i (if (ub b0).testBit i = true then (-1) else 0)) _ _ _ (upd_J (g := fun k => if (ub b0).testBit k = true then (-1) else 0) hJ) hP hD hS (lv_sub hl [1, 2, 3, 4, 5, 0] rfl)
end
section
set_option maxRecDepth 100000
set_option maxHeartbeats 4000000 in
/-- branch(13, v) -/
theorem cX_branch13 (l : Launch) (D : va_G) (h : Nat) (ad : Nat → Nat) (ca : Nat → ClassId) (sz : Nat) (st pa : Nat) (ac : Int64) (so kc : Nat) (he : Nat → Nat) (pl wk ar ot : Nat → Int64) (cn : Nat → Nat) (tr : Nat → Int64) (ld mb : Nat → Nat) (tb : Nat → Int32) (mt : Nat → Nat) (v : Nat) (hv : v < 4) (hp : pa < 4) : cMv l yX0_branch cX0_branch 5 1 24 D (tX ca) (wX h ad ca st pa ac so kc he pl wk ar ot cn tr ld mb tb mt) sz [.ref h, .int (nI 13), .int (nI v)] (fun (u : Unit) => True) (fun (u : Unit) => (wX h ad ca st (pa + 1) (ac &&& anyp pl (8 * v) 8) so kc (va_up he pa 0) pl wk (vp_updL ar pa ac) (vp_updL ot pa (ac &&& ((anyp pl (8 * v) 8) ^^^ (-1)))) cn tr ld mb tb mt)) := by
  refine cMv.of (by decide) (Nat.le_of_ble_eq_true rfl) ?_
  intro p e R s m args below meth c A Q ls H locs ⟨hx, hb, hml, hown, hts, hR, hK, hA⟩ hP hD hS hl hret
  have hown : s.vm.findClass RX0 = some m.cls := hown
  have hl : lv_has ls 5 [(0, .ref h), (1, .int (nI 13)), (2, .int (nI v))] := hl
  refine lv_iload_n hx hb dX0_branch_0 rfl (lv_at hl 1 rfl) ?_
  refine lv_bipush (v := nI 13) hx hb dX0_branch_1 (by decide) ?_
  refine xn_ne_b (tgt := 77) hx hb dX0_branch_3 (by decide) (by omega) (by omega) (fun c3 => absurd c3 (fun h => h rfl)) (fun c3 => ?_)
  refine lv_aload_n hx hb dX0_branch_6 rfl (lv_at hl 0 rfl) ?_
  refine lv_iload_n hx hb dX0_branch_7 rfl (lv_at hl 2 rfl) ?_
  refine kv_l (n := 1) (As := [.int (nI v)]) (rest := []) ⟨hx, hb, hml, hown, hts⟩ (cX_anyBit l D h ad ca H.size st pa ac so kc he pl wk ar ot cn tr ld mb tb mt v hv) (lw_V q98 q100 qs1 q23 q101) (by decide +kernel) ⟨by rw [hR.1]; decide, by rw [hR.2]; decide⟩ ⟨Nat.zero_le _, Nat.zero_le _⟩ hK hP hD hS hA (ci := 0) rfl rfl rfl rfl hl.1 rfl (Nat.le_of_ble_eq_true rfl) dX0_branch_8 (fun r _u H locs hw hP hD hS => ?_)
  have hP : va_P D vwCl (wX h ad ca st pa ac so kc he pl wk ar ot cn tr ld mb tb mt) H := hP
  have hD : va_D A (wX h ad ca st pa ac so kc he pl wk ar ot cn tr ld mb tb mt) := hD
  have hw : r = anyp pl (8 * v) 8 := hw
  subst hw
  refine lv_lstore_n (lv' := [(3, .long (anyp pl (8 * v) 8)), (0, .ref h), (1, .int (nI 13)), (2, .int (nI v))]) hx hb dX0_branch_11 rfl hl (by decide) rfl (fun ls hl => ?_)
  refine lv_aload_n hx hb dX0_branch_12 rfl (lv_at hl 1 rfl) ?_
  refine va_get (ci := 0) (v := .ref (ad 3)) (C := RX0) (T := TX0) (N := 16) hx hb hts in_X0 hown hK hP 0 rfl rfl 6 (by decide) (hts _ q44) (fun _ h9 => h9) rfl dX0_branch_13 ?_
  refine lv_aload_n hx hb dX0_branch_16 rfl (lv_at hl 1 rfl) ?_
  refine va_get (ci := 0) (v := .int (nI pa)) (C := RX0) (T := TX0) (N := 16) hx hb hts in_X0 hown hK hP 0 rfl rfl 1 (by decide) (hts _ q39) (fun _ h9 => h9) rfl dX0_branch_17 ?_
  refine lv_aload_n hx hb dX0_branch_20 rfl (lv_at hl 1 rfl) ?_
  refine va_get (ci := 0) (v := .long ac) (C := RX0) (T := TX0) (N := 16) hx hb hts in_X0 hown hK hP 0 rfl rfl 5 (by decide) (hts _ q43) (fun _ h9 => h9) rfl dX0_branch_21 ?_
  refine xl_ast (k := pa) hx hb hK hP hD hS 4 3 rfl rfl (by omega) (by decide) dX0_branch_24 (fun H locs hP hD hS => ?_)
  have hP : va_P D vwCl (wX h ad ca st pa ac so kc he pl wk (vp_updL ar pa ac) ot cn tr ld mb tb mt) H := hP
  have hD : va_D A (wX h ad ca st pa ac so kc he pl wk (vp_updL ar pa ac) ot cn tr ld mb tb mt) := hD
  refine lv_aload_n hx hb dX0_branch_25 rfl (lv_at hl 1 rfl) ?_
  refine va_get (ci := 0) (v := .ref (ad 4)) (C := RX0) (T := TX0) (N := 16) hx hb hts in_X0 hown hK hP 0 rfl rfl 7 (by decide) (hts _ q45) (fun _ h9 => h9) rfl dX0_branch_26 ?_
  refine lv_aload_n hx hb dX0_branch_29 rfl (lv_at hl 1 rfl) ?_
  refine va_get (ci := 0) (v := .int (nI pa)) (C := RX0) (T := TX0) (N := 16) hx hb hts in_X0 hown hK hP 0 rfl rfl 1 (by decide) (hts _ q39) (fun _ h9 => h9) rfl dX0_branch_30 ?_
  refine lv_aload_n hx hb dX0_branch_33 rfl (lv_at hl 1 rfl) ?_
  refine va_get (ci := 0) (v := .long ac) (C := RX0) (T := TX0) (N := 16) hx hb hts in_X0 hown hK hP 0 rfl rfl 5 (by decide) (hts _ q43) (fun _ h9 => h9) rfl dX0_branch_34 ?_
  refine lv_lload_n hx hb dX0_branch_37 rfl (lv_at hl 0 rfl) ?_
  refine lv_ldc2 (v := (-1)) hx hb hown (hts _ q37) dX0_branch_38 ?_
  refine lv_lxor hx hb dX0_branch_41 ?_
  refine lv_land hx hb dX0_branch_42 ?_
  refine xl_ast (k := pa) hx hb hK hP hD hS 5 4 rfl rfl (by omega) (by decide) dX0_branch_43 (fun H locs hP hD hS => ?_)
  have hP : va_P D vwCl (wX h ad ca st pa ac so kc he pl wk (vp_updL ar pa ac) (vp_updL ot pa (ac &&& ((anyp pl (8 * v) 8) ^^^ (-1)))) cn tr ld mb tb mt) H := hP
  have hD : va_D A (wX h ad ca st pa ac so kc he pl wk (vp_updL ar pa ac) (vp_updL ot pa (ac &&& ((anyp pl (8 * v) 8) ^^^ (-1)))) cn tr ld mb tb mt) := hD
  refine lv_aload_n hx hb dX0_branch_44 rfl (lv_at hl 1 rfl) ?_
  refine va_get (ci := 0) (v := .ref (ad 0)) (C := RX0) (T := TX0) (N := 16) hx hb hts in_X0 hown hK hP 0 rfl rfl 2 (by decide) (hts _ q40) (fun _ h9 => h9) rfl dX0_branch_45 ?_
  refine lv_aload_n hx hb dX0_branch_48 rfl (lv_at hl 1 rfl) ?_
  refine va_get (ci := 0) (v := .int (nI pa)) (C := RX0) (T := TX0) (N := 16) hx hb hts in_X0 hown hK hP 0 rfl rfl 1 (by decide) (hts _ q39) (fun _ h9 => h9) rfl dX0_branch_49 ?_
  refine lv_iconst (v := nI 0) hx hb dX0_branch_52 (by decide) ?_
  refine xz_ast (k := pa) hx hb hK hP hD hS 1 0 rfl rfl (by omega) (by decide) rfl dX0_branch_53 (fun H locs hP hD hS => ?_)
  have hP : va_P D vwCl (wX h ad ca st pa ac so kc (va_up he pa 0) pl wk (vp_updL ar pa ac) (vp_updL ot pa (ac &&& ((anyp pl (8 * v) 8) ^^^ (-1)))) cn tr ld mb tb mt) H := hP
  have hD : va_D A (wX h ad ca st pa ac so kc (va_up he pa 0) pl wk (vp_updL ar pa ac) (vp_updL ot pa (ac &&& ((anyp pl (8 * v) 8) ^^^ (-1)))) cn tr ld mb tb mt) := hD
  refine lv_aload_n hx hb dX0_branch_54 rfl (lv_at hl 1 rfl) ?_
  refine lv_dup hx hb dX0_branch_55 rfl ?_
  refine va_get (ci := 0) (v := .long ac) (C := RX0) (T := TX0) (N := 16) hx hb hts in_X0 hown hK hP 0 rfl rfl 5 (by decide) (hts _ q43) (fun _ h9 => h9) rfl dX0_branch_56 ?_
  refine lv_lload_n hx hb dX0_branch_59 rfl (lv_at hl 0 rfl) ?_
  refine lv_land hx hb dX0_branch_60 ?_
  refine va_put (ci := 0) (v := .long (ac &&& (anyp pl (8 * v) 8))) (ty := .long) (C := RX0) (T := TX0) (N := 16) hx hb hts in_X0 tyX0 tyX0_ok nmX0 hown hK hP hD hS 0 rfl rfl 5 (by decide) (hts _ q43) (fun _ h9 => h9) rfl (by decide +kernel) rfl rfl (Nat.le_of_ble_eq_true rfl) dX0_branch_61 (fun H locs hP hD hS => ?_)
  have hP : va_P D vwCl (wX h ad ca st pa (ac &&& (anyp pl (8 * v) 8)) so kc (va_up he pa 0) pl wk (vp_updL ar pa ac) (vp_updL ot pa (ac &&& ((anyp pl (8 * v) 8) ^^^ (-1)))) cn tr ld mb tb mt) H := hP
  have hD : va_D A (wX h ad ca st pa (ac &&& (anyp pl (8 * v) 8)) so kc (va_up he pa 0) pl wk (vp_updL ar pa ac) (vp_updL ot pa (ac &&& ((anyp pl (8 * v) 8) ^^^ (-1)))) cn tr ld mb tb mt) := hD
  refine lv_aload_n hx hb dX0_branch_64 rfl (lv_at hl 1 rfl) ?_
  refine lv_dup hx hb dX0_branch_65 rfl ?_
  refine va_get (ci := 0) (v := .int (nI pa)) (C := RX0) (T := TX0) (N := 16) hx hb hts in_X0 hown hK hP 0 rfl rfl 1 (by decide) (hts _ q39) (fun _ h9 => h9) rfl dX0_branch_66 ?_
  refine lv_iconst (v := nI 1) hx hb dX0_branch_69 (by decide) ?_
  refine xi_add hx hb dX0_branch_70 ?_
  refine va_put (ci := 0) (v := .int (nI (pa + 1))) (ty := .int) (C := RX0) (T := TX0) (N := 16) hx hb hts in_X0 tyX0 tyX0_ok nmX0 hown hK hP hD hS 0 rfl rfl 1 (by decide) (hts _ q39) (fun _ h9 => h9) rfl (by decide +kernel) rfl rfl (Nat.le_of_ble_eq_true rfl) dX0_branch_71 (fun H locs hP hD hS => ?_)
  have hP : va_P D vwCl (wX h ad ca st (pa + 1) (ac &&& (anyp pl (8 * v) 8)) so kc (va_up he pa 0) pl wk (vp_updL ar pa ac) (vp_updL ot pa (ac &&& ((anyp pl (8 * v) 8) ^^^ (-1)))) cn tr ld mb tb mt) H := hP
  have hD : va_D A (wX h ad ca st (pa + 1) (ac &&& (anyp pl (8 * v) 8)) so kc (va_up he pa 0) pl wk (vp_updL ar pa ac) (vp_updL ot pa (ac &&& ((anyp pl (8 * v) 8) ^^^ (-1)))) cn tr ld mb tb mt) := hD
  refine lv_goto (tgt := 136) hx hb dX0_branch_74 (by decide) ?_
  exact hret 136 ls H locs () dX0_branch_136 trivial hP hD hS
set_option maxHeartbeats 4000000 in
/-- branch(14, v) -/
theorem cX_branch14 (l : Launch) (D : va_G) (h : Nat) (ad : Nat → Nat) (ca : Nat → ClassId) (sz : Nat) (st pa : Nat) (ac : Int64) (so kc : Nat) (he : Nat → Nat) (pl wk ar ot : Nat → Int64) (cn : Nat → Nat) (tr : Nat → Int64) (ld mb : Nat → Nat) (tb : Nat → Int32) (mt : Nat → Nat) (v : Nat) (hv : v < 4) (hp : 0 < pa) (hp4 : pa ≤ 4) : cMv l yX0_branch cX0_branch 5 1 24 D (tX ca) (wX h ad ca st pa ac so kc he pl wk ar ot cn tr ld mb tb mt) sz [.ref h, .int (nI 14), .int (nI v)] (fun (u : Unit) => True) (fun (u : Unit) => (wX h ad ca st pa (ot (pa - 1)) so kc (va_up he (pa - 1) 1) pl wk ar ot cn tr ld mb tb mt)) := by
  refine cMv.of (by decide) (Nat.le_of_ble_eq_true rfl) ?_
  intro p e R s m args below meth c A Q ls H locs ⟨hx, hb, hml, hown, hts, hR, hK, hA⟩ hP hD hS hl hret
  have hown : s.vm.findClass RX0 = some m.cls := hown
  have hl : lv_has ls 5 [(0, .ref h), (1, .int (nI 14)), (2, .int (nI v))] := hl
  refine lv_iload_n hx hb dX0_branch_0 rfl (lv_at hl 1 rfl) ?_
  refine lv_bipush (v := nI 13) hx hb dX0_branch_1 (by decide) ?_
  refine xn_ne_b (tgt := 77) hx hb dX0_branch_3 (by decide) (by omega) (by omega) (fun c3 => ?_) (fun c3 => absurd c3 (by decide))
  refine lv_iload_n hx hb dX0_branch_77 rfl (lv_at hl 1 rfl) ?_
  refine lv_bipush (v := nI 14) hx hb dX0_branch_78 (by decide) ?_
  refine xn_ne_b (tgt := 113) hx hb dX0_branch_80 (by decide) (by omega) (by omega) (fun c80 => absurd c80 (fun h => h rfl)) (fun c80 => ?_)
  refine lv_aload_n hx hb dX0_branch_83 rfl (lv_at hl 0 rfl) ?_
  refine lv_aload_n hx hb dX0_branch_84 rfl (lv_at hl 0 rfl) ?_
  refine va_get (ci := 0) (v := .ref (ad 4)) (C := RX0) (T := TX0) (N := 16) hx hb hts in_X0 hown hK hP 0 rfl rfl 7 (by decide) (hts _ q45) (fun _ h9 => h9) rfl dX0_branch_85 ?_
  refine lv_aload_n hx hb dX0_branch_88 rfl (lv_at hl 0 rfl) ?_
  refine va_get (ci := 0) (v := .int (nI pa)) (C := RX0) (T := TX0) (N := 16) hx hb hts in_X0 hown hK hP 0 rfl rfl 1 (by decide) (hts _ q39) (fun _ h9 => h9) rfl dX0_branch_89 ?_
  refine lv_iconst (v := nI 1) hx hb dX0_branch_92 (by decide) ?_
  refine xi_sub hx hb dX0_branch_93 (by omega) ?_
  refine xl_ald (k := (pa - 1)) hx hb hK hP 5 4 rfl rfl (by omega) (by decide) dX0_branch_94 ?_
  refine va_put (ci := 0) (v := .long (ot (pa - 1))) (ty := .long) (C := RX0) (T := TX0) (N := 16) hx hb hts in_X0 tyX0 tyX0_ok nmX0 hown hK hP hD hS 0 rfl rfl 5 (by decide) (hts _ q43) (fun _ h9 => h9) rfl (by decide +kernel) rfl rfl (Nat.le_of_ble_eq_true rfl) dX0_branch_95 (fun H locs hP hD hS => ?_)
  have hP : va_P D vwCl (wX h ad ca st pa (ot (pa - 1)) so kc he pl wk ar ot cn tr ld mb tb mt) H := hP
  have hD : va_D A (wX h ad ca st pa (ot (pa - 1)) so kc he pl wk ar ot cn tr ld mb tb mt) := hD
  refine lv_aload_n hx hb dX0_branch_98 rfl (lv_at hl 0 rfl) ?_
  refine va_get (ci := 0) (v := .ref (ad 0)) (C := RX0) (T := TX0) (N := 16) hx hb hts in_X0 hown hK hP 0 rfl rfl 2 (by decide) (hts _ q40) (fun _ h9 => h9) rfl dX0_branch_99 ?_
  refine lv_aload_n hx hb dX0_branch_102 rfl (lv_at hl 0 rfl) ?_
  refine va_get (ci := 0) (v := .int (nI pa)) (C := RX0) (T := TX0) (N := 16) hx hb hts in_X0 hown hK hP 0 rfl rfl 1 (by decide) (hts _ q39) (fun _ h9 => h9) rfl dX0_branch_103 ?_
  refine lv_iconst (v := nI 1) hx hb dX0_branch_106 (by decide) ?_
  refine xi_sub hx hb dX0_branch_107 (by omega) ?_
  refine lv_iconst (v := nI 1) hx hb dX0_branch_108 (by decide) ?_
  refine xz_ast (k := (pa - 1)) hx hb hK hP hD hS 1 0 rfl rfl (by omega) (by decide) rfl dX0_branch_109 (fun H locs hP hD hS => ?_)
  have hP : va_P D vwCl (wX h ad ca st pa (ot (pa - 1)) so kc (va_up he (pa - 1) 1) pl wk ar ot cn tr ld mb tb mt) H := hP
  have hD : va_D A (wX h ad ca st pa (ot (pa - 1)) so kc (va_up he (pa - 1) 1) pl wk ar ot cn tr ld mb tb mt) := hD
  refine lv_goto (tgt := 136) hx hb dX0_branch_110 (by decide) ?_
  exact hret 136 ls H locs () dX0_branch_136 trivial hP hD hS
set_option maxHeartbeats 4000000 in
/-- branch(15, v) -/
theorem cX_branch15 (l : Launch) (D : va_G) (h : Nat) (ad : Nat → Nat) (ca : Nat → ClassId) (sz : Nat) (st pa : Nat) (ac : Int64) (so kc : Nat) (he : Nat → Nat) (pl wk ar ot : Nat → Int64) (cn : Nat → Nat) (tr : Nat → Int64) (ld mb : Nat → Nat) (tb : Nat → Int32) (mt : Nat → Nat) (v : Nat) (hv : v < 4) (hp : 0 < pa) (hp4 : pa ≤ 4) : cMv l yX0_branch cX0_branch 5 1 24 D (tX ca) (wX h ad ca st pa ac so kc he pl wk ar ot cn tr ld mb tb mt) sz [.ref h, .int (nI 15), .int (nI v)] (fun (u : Unit) => True) (fun (u : Unit) => (wX h ad ca st (pa - 1) (ar (pa - 1)) so kc he pl wk ar ot cn tr ld mb tb mt)) := by
  refine cMv.of (by decide) (Nat.le_of_ble_eq_true rfl) ?_
  intro p e R s m args below meth c A Q ls H locs ⟨hx, hb, hml, hown, hts, hR, hK, hA⟩ hP hD hS hl hret
  have hown : s.vm.findClass RX0 = some m.cls := hown
  have hl : lv_has ls 5 [(0, .ref h), (1, .int (nI 15)), (2, .int (nI v))] := hl
  refine lv_iload_n hx hb dX0_branch_0 rfl (lv_at hl 1 rfl) ?_
  refine lv_bipush (v := nI 13) hx hb dX0_branch_1 (by decide) ?_
  refine xn_ne_b (tgt := 77) hx hb dX0_branch_3 (by decide) (by omega) (by omega) (fun c3 => ?_) (fun c3 => absurd c3 (by decide))
  refine lv_iload_n hx hb dX0_branch_77 rfl (lv_at hl 1 rfl) ?_
  refine lv_bipush (v := nI 14) hx hb dX0_branch_78 (by decide) ?_
  refine xn_ne_b (tgt := 113) hx hb dX0_branch_80 (by decide) (by omega) (by omega) (fun c80 => ?_) (fun c80 => absurd c80 (by decide))
  refine lv_aload_n hx hb dX0_branch_113 rfl (lv_at hl 0 rfl) ?_
  refine lv_dup hx hb dX0_branch_114 rfl ?_
  refine va_get (ci := 0) (v := .int (nI pa)) (C := RX0) (T := TX0) (N := 16) hx hb hts in_X0 hown hK hP 0 rfl rfl 1 (by decide) (hts _ q39) (fun _ h9 => h9) rfl dX0_branch_115 ?_
  refine lv_iconst (v := nI 1) hx hb dX0_branch_118 (by decide) ?_
  refine xi_sub hx hb dX0_branch_119 (by omega) ?_
  refine va_put (ci := 0) (v := .int (nI (pa - 1))) (ty := .int) (C := RX0) (T := TX0) (N := 16) hx hb hts in_X0 tyX0 tyX0_ok nmX0 hown hK hP hD hS 0 rfl rfl 1 (by decide) (hts _ q39) (fun _ h9 => h9) rfl (by decide +kernel) rfl rfl (Nat.le_of_ble_eq_true rfl) dX0_branch_120 (fun H locs hP hD hS => ?_)
  have hP : va_P D vwCl (wX h ad ca st (pa - 1) ac so kc he pl wk ar ot cn tr ld mb tb mt) H := hP
  have hD : va_D A (wX h ad ca st (pa - 1) ac so kc he pl wk ar ot cn tr ld mb tb mt) := hD
  refine lv_aload_n hx hb dX0_branch_123 rfl (lv_at hl 0 rfl) ?_
  refine lv_aload_n hx hb dX0_branch_124 rfl (lv_at hl 0 rfl) ?_
  refine va_get (ci := 0) (v := .ref (ad 3)) (C := RX0) (T := TX0) (N := 16) hx hb hts in_X0 hown hK hP 0 rfl rfl 6 (by decide) (hts _ q44) (fun _ h9 => h9) rfl dX0_branch_125 ?_
  refine lv_aload_n hx hb dX0_branch_128 rfl (lv_at hl 0 rfl) ?_
  refine va_get (ci := 0) (v := .int (nI (pa - 1))) (C := RX0) (T := TX0) (N := 16) hx hb hts in_X0 hown hK hP 0 rfl rfl 1 (by decide) (hts _ q39) (fun _ h9 => h9) rfl dX0_branch_129 ?_
  refine xl_ald (k := (pa - 1)) hx hb hK hP 4 3 rfl rfl (by omega) (by decide) dX0_branch_132 ?_
  refine va_put (ci := 0) (v := .long (ar (pa - 1))) (ty := .long) (C := RX0) (T := TX0) (N := 16) hx hb hts in_X0 tyX0 tyX0_ok nmX0 hown hK hP hD hS 0 rfl rfl 5 (by decide) (hts _ q43) (fun _ h9 => h9) rfl (by decide +kernel) rfl rfl (Nat.le_of_ble_eq_true rfl) dX0_branch_133 (fun H locs hP hD hS => ?_)
  have hP : va_P D vwCl (wX h ad ca st (pa - 1) (ar (pa - 1)) so kc he pl wk ar ot cn tr ld mb tb mt) H := hP
  have hD : va_D A (wX h ad ca st (pa - 1) (ar (pa - 1)) so kc he pl wk ar ot cn tr ld mb tb mt) := hD
  exact hret 136 ls H locs () dX0_branch_136 trivial hP hD hS
def poB (ac : Int64) (cn : Nat → Nat) (j : Nat) : Bool := bl ac j && decide (cn j < 7)
def poC (ac : Int64) (cn : Nat → Nat) (j : Nat) : Nat := if poB ac cn j = true then cn j + 1 else cn j
def poT (ac : Int64) (cn : Nat → Nat) (tr pl : Nat → Int64) (v j : Nat) : Int64 := if poB ac cn j = true then zshl (tr j) 8 ||| (nI (pv pl (8 * v) 8 j)).toInt64 else tr j
theorem po_n {α : Type} {f g x : Nat → α} {i : Nat} (hJ : ∀ j, x j = if j < i then g j else f j) (h : g i = f i) : ∀ j, x j = if j < i + 1 then g j else f j := by
  intro j
  rw [hJ]
  by_cases h1 : j < i
  · rw [if_pos h1, if_pos (by omega)]
  · rw [if_neg h1]
    by_cases h2 : j = i
    · subst h2; rw [if_pos (by omega), h]
    · rw [if_neg (by omega)]
theorem po_u {f g x : Nat → Nat} {y i : Nat} (hJ : ∀ j, x j = if j < i then g j else f j) (h : y = g i) : ∀ j, (va_up x i y) j = if j < i + 1 then g j else f j := by
  intro j
  by_cases h2 : j = i
  · subst h2; rw [va_up_self, if_pos (by omega), h]
  · rw [va_up_ne _ _ h2, hJ]
    by_cases h1 : j < i
    · rw [if_pos h1, if_pos (by omega)]
    · rw [if_neg h1, if_neg (by omega)]
theorem po_l {f g x : Nat → Int64} {y : Int64} {i : Nat} (hJ : ∀ j, x j = if j < i then g j else f j) (h : y = g i) : ∀ j, (vp_updL x i y) j = if j < i + 1 then g j else f j := by
  intro j
  by_cases h2 : j = i
  · subst h2; rw [pk_uLs, if_pos (by omega), h]
  · rw [pk_uLn h2, hJ]
    by_cases h1 : j < i
    · rw [if_pos h1, if_pos (by omega)]
    · rw [if_neg h1, if_neg (by omega)]
theorem zcmp1 (ac : Int64) {i : Nat} (hi : i < 64) : lg_cmp (zushr ac i &&& 1) 0 = nI (bl ac i).toNat := by
  rw [zbit0 ac hi]
  cases bl ac i <;> decide
set_option maxHeartbeats 4000000 in
/-- putOut(v): the views of the active secrets grow by v -/
theorem cX_putOut (l : Launch) (D : va_G) (h : Nat) (ad : Nat → Nat) (ca : Nat → ClassId) (sz : Nat) (st pa : Nat) (ac : Int64) (so kc : Nat) (he : Nat → Nat) (pl wk ar ot : Nat → Int64) (cn : Nat → Nat) (tr : Nat → Int64) (ld mb : Nat → Nat) (tb : Nat → Int32) (mt : Nat → Nat) (v : Nat) (hv : v < 4) (hcn : ∀ j, j < 64 → cn j ≤ 7) : cMv l yX0_putOut cX0_putOut 4 1 24 D (tX ca) (wX h ad ca st pa ac so kc he pl wk ar ot cn tr ld mb tb mt) sz [.ref h, .int (nI v)] (fun (u : (Nat → Nat) × (Nat → Int64)) => (∀ j, j < 64 → u.1 j = poC ac cn j) ∧ (∀ j, j < 64 → u.2 j = poT ac cn tr pl v j)) (fun (u : (Nat → Nat) × (Nat → Int64)) => (wX h ad ca st pa ac 0 kc he pl wk ar ot u.1 u.2 ld mb tb mt)) := by
  refine cMv.of (by decide) (Nat.le_of_ble_eq_true rfl) ?_
  intro p e R s m args below meth c A Q ls H locs ⟨hx, hb, hml, hown, hts, hR, hK, hA⟩ hP hD hS hl hret
  have hown : s.vm.findClass RX0 = some m.cls := hown
  have hl : lv_has ls 4 [(0, .ref h), (1, .int (nI v))] := hl
  refine lv_aload_n hx hb dX0_putOut_0 rfl (lv_at hl 0 rfl) ?_
  refine lv_iconst (v := nI 0) hx hb dX0_putOut_1 (by decide) ?_
  refine va_put (ci := 0) (v := .int (nI 0)) (ty := .boolean) (C := RX0) (T := TX0) (N := 16) hx hb hts in_X0 tyX0 tyX0_ok nmX0 hown hK hP hD hS 0 rfl rfl 10 (by decide) (hts _ q48) (fun _ h9 => h9) rfl (by decide +kernel) rfl rfl (Nat.le_of_ble_eq_true rfl) dX0_putOut_2 (fun H locs hP hD hS => ?_)
  have hP : va_P D vwCl (wX h ad ca st pa ac 0 kc he pl wk ar ot cn tr ld mb tb mt) H := hP
  have hD : va_D A (wX h ad ca st pa ac 0 kc he pl wk ar ot cn tr ld mb tb mt) := hD
  refine lv_iconst (v := nI 0) hx hb dX0_putOut_5 (by decide) ?_
  refine lv_istore_n (lv' := [(2, .int (nI 0)), (0, .ref h), (1, .int (nI v))]) hx hb dX0_putOut_6 rfl hl (by decide) rfl (fun ls hl => ?_)
  refine lp_w (nL := 4) (pc := 7) 64 (fun (u : (Nat → Nat) × (Nat → Int64)) => (wX h ad ca st pa ac 0 kc he pl wk ar ot u.1 u.2 ld mb tb mt)) (fun (i : Nat) (u : (Nat → Nat) × (Nat → Int64)) => [(0, .ref h), (1, .int (nI v)), (2, .int (nI i))]) (fun (i : Nat) (u : (Nat → Nat) × (Nat → Int64)) => (∀ j, u.1 j = if j < i then poC ac cn j else cn j) ∧ (∀ j, u.2 j = if j < i then poT ac cn tr pl v j else tr j)) ?_ ?_ 0 (cn, tr) _ _ _ (by omega) ⟨fun j => by rw [if_neg (by omega)], fun j => by rw [if_neg (by omega)]⟩ hP hD hS (lv_sub hl [1, 2, 0] rfl)
  · rintro ⟨cx, tx⟩ H locs ls hJ hP hD hS hl
    have hJ : (∀ j, cx j = if j < 64 then poC ac cn j else cn j) ∧ (∀ j, tx j = if j < 64 then poT ac cn tr pl v j else tr j) := hJ
    have hP : va_P D vwCl (wX h ad ca st pa ac 0 kc he pl wk ar ot cx tx ld mb tb mt) H := hP
    have hD : va_D A (wX h ad ca st pa ac 0 kc he pl wk ar ot cx tx ld mb tb mt) := hD
    have hl : lv_has ls 4 [(0, .ref h), (1, .int (nI v)), (2, .int (nI 64))] := hl
    refine lv_iload_n hx hb dX0_putOut_7 rfl (lv_at hl 2 rfl) ?_
    refine lv_bipush (v := nI 64) hx hb dX0_putOut_8 (by decide) ?_
    refine xn_ge_t (tgt := 78) hx hb dX0_putOut_10 (by decide) (by omega) (by omega) ?_
    exact hret 78 ls H locs (cx, tx) dX0_putOut_78 ⟨fun j hj => (hJ.1 j).trans (if_pos hj), fun j hj => (hJ.2 j).trans (if_pos hj)⟩ hP hD hS
  · rintro i ⟨cx, tx⟩ H locs ls hi hJ hP hD hS hl ih
    have hJ : (∀ j, cx j = if j < i then poC ac cn j else cn j) ∧ (∀ j, tx j = if j < i then poT ac cn tr pl v j else tr j) := hJ
    have hP : va_P D vwCl (wX h ad ca st pa ac 0 kc he pl wk ar ot cx tx ld mb tb mt) H := hP
    have hD : va_D A (wX h ad ca st pa ac 0 kc he pl wk ar ot cx tx ld mb tb mt) := hD
    have hl : lv_has ls 4 [(0, .ref h), (1, .int (nI v)), (2, .int (nI i))] := hl
    have hci : cx i = cn i := by rw [hJ.1 i, if_neg (by omega)]
    have hti : tx i = tr i := by rw [hJ.2 i, if_neg (by omega)]
    have hcb := hcn i hi
    have hbt : (bl ac i).toNat ≤ 1 := by cases bl ac i <;> decide
    refine lv_iload_n hx hb dX0_putOut_7 rfl (lv_at hl 2 rfl) ?_
    refine lv_bipush (v := nI 64) hx hb dX0_putOut_8 (by decide) ?_
    refine xn_ge_f (tgt := 78) hx hb dX0_putOut_10 (by decide) hi (by omega) ?_
    refine lv_aload_n hx hb dX0_putOut_13 rfl (lv_at hl 0 rfl) ?_
    refine va_get (ci := 0) (v := .long ac) (C := RX0) (T := TX0) (N := 16) hx hb hts in_X0 hown hK hP 0 rfl rfl 5 (by decide) (hts _ q43) (fun _ h9 => h9) rfl dX0_putOut_14 ?_
    refine lv_iload_n hx hb dX0_putOut_17 rfl (lv_at hl 2 rfl) ?_
    refine lv_lushr (v := zushr ac i) hx hb dX0_putOut_18 rfl ?_
    refine lv_lconst (v := 1) hx hb dX0_putOut_19 (by decide) ?_
    refine lv_land hx hb dX0_putOut_20 ?_
    refine lv_lconst (v := 0) hx hb dX0_putOut_21 (by decide) ?_
    refine W.lcmp hx hb dX0_putOut_22 ?_
    refine xt_i (y := nI ((bl ac i).toNat)) (zcmp1 ac hi) ?_
    refine xn_ifeq_b (tgt := 72) hx hb dX0_putOut_23 (by decide) (by omega) (fun h1 => ?_) (fun h1 => ?_)
    · have e1 : poB ac cn i = false := by unfold poB; rw [tn0 h1]; rfl
      refine lv_iinc (v := nI (i + 1)) (lv' := [(2, .int (nI (i + 1))), (0, .ref h), (1, .int (nI v))]) hx hb dX0_putOut_72 hl (k := 2) rfl (xi_inc1 _) (by decide) rfl (fun ls hl => ?_)
      refine lv_goto (tgt := 7) hx hb dX0_putOut_75 (by decide) ?_
      exact ih (cx, tx) _ _ _ ⟨po_n hJ.1 (by unfold poC; rw [if_neg (by rw [e1]; decide)]), po_n hJ.2 (by unfold poT; rw [if_neg (by rw [e1]; decide)])⟩ hP hD hS (lv_sub hl [1, 2, 0] rfl)
    · have h1 := tn1 h1
      refine lv_aload_n hx hb dX0_putOut_26 rfl (lv_at hl 0 rfl) ?_
      refine va_get (ci := 0) (v := .ref (ad 5)) (C := RX0) (T := TX0) (N := 16) hx hb hts in_X0 hown hK hP 0 rfl rfl 8 (by decide) (hts _ q46) (fun _ h9 => h9) rfl dX0_putOut_27 ?_
      refine lv_iload_n hx hb dX0_putOut_30 rfl (lv_at hl 2 rfl) ?_
      refine xn_ald (k := i) hx hb hK hP 6 5 rfl rfl (by omega) (by decide) dX0_putOut_31 ?_
      refine lv_bipush (v := nI 7) hx hb dX0_putOut_32 (by decide) ?_
      refine xn_ge_b (tgt := 72) hx hb dX0_putOut_34 (by decide) (by omega) (by omega) (fun h2 => ?_) (fun h2 => ?_)
      · have e1 : poB ac cn i = false := by unfold poB; rw [h1, ← hci]; simp; omega
        refine lv_iinc (v := nI (i + 1)) (lv' := [(2, .int (nI (i + 1))), (0, .ref h), (1, .int (nI v))]) hx hb dX0_putOut_72 hl (k := 2) rfl (xi_inc1 _) (by decide) rfl (fun ls hl => ?_)
        refine lv_goto (tgt := 7) hx hb dX0_putOut_75 (by decide) ?_
        exact ih (cx, tx) _ _ _ ⟨po_n hJ.1 (by unfold poC; rw [if_neg (by rw [e1]; decide)]), po_n hJ.2 (by unfold poT; rw [if_neg (by rw [e1]; decide)])⟩ hP hD hS (lv_sub hl [1, 2, 0] rfl)
      · have e1 : poB ac cn i = true := by unfold poB; rw [h1, ← hci]; simp; omega
        refine lv_aload_n hx hb dX0_putOut_37 rfl (lv_at hl 0 rfl) ?_
        refine lv_iload_n hx hb dX0_putOut_38 rfl (lv_at hl 2 rfl) ?_
        refine lv_iload_n hx hb dX0_putOut_39 rfl (lv_at hl 1 rfl) ?_
        refine kv_i (n := 2) (As := [.int (nI i), .int (nI v)]) (rest := []) ⟨hx, hb, hml, hown, hts⟩ (cX_valueFor l D h ad ca H.size st pa ac 0 kc he pl wk ar ot cx tx ld mb tb mt i v hi hv) (lw_V q106 q108 qs3 q23 q109) (by decide +kernel) ⟨by rw [hR.1]; decide, by rw [hR.2]; decide⟩ ⟨Nat.zero_le _, Nat.zero_le _⟩ hK hP hD hS hA (ci := 0) rfl rfl rfl rfl hl.1 rfl (Nat.le_of_ble_eq_true rfl) dX0_putOut_40 (fun r _u H locs hw hP hD hS => ?_)
        have hP : va_P D vwCl (wX h ad ca st pa ac 0 kc he pl wk ar ot cx tx ld mb tb mt) H := hP
        have hD : va_D A (wX h ad ca st pa ac 0 kc he pl wk ar ot cx tx ld mb tb mt) := hD
        have hw : r = nI (pv pl (8 * v) 8 i) := hw
        subst hw
        refine lv_istore_n (lv' := [(3, .int (nI (pv pl (8 * v) 8 i))), (0, .ref h), (1, .int (nI v)), (2, .int (nI i))]) hx hb dX0_putOut_43 rfl hl (by decide) rfl (fun ls hl => ?_)
        refine lv_aload_n hx hb dX0_putOut_44 rfl (lv_at hl 1 rfl) ?_
        refine va_get (ci := 0) (v := .ref (ad 6)) (C := RX0) (T := TX0) (N := 16) hx hb hts in_X0 hown hK hP 0 rfl rfl 9 (by decide) (hts _ q47) (fun _ h9 => h9) rfl dX0_putOut_45 ?_
        refine lv_iload_n hx hb dX0_putOut_48 rfl (lv_at hl 3 rfl) ?_
        refine lv_aload_n hx hb dX0_putOut_49 rfl (lv_at hl 1 rfl) ?_
        refine va_get (ci := 0) (v := .ref (ad 6)) (C := RX0) (T := TX0) (N := 16) hx hb hts in_X0 hown hK hP 0 rfl rfl 9 (by decide) (hts _ q47) (fun _ h9 => h9) rfl dX0_putOut_50 ?_
        refine lv_iload_n hx hb dX0_putOut_53 rfl (lv_at hl 3 rfl) ?_
        refine xl_ald (k := i) hx hb hK hP 7 6 rfl rfl (by omega) (by decide) dX0_putOut_54 ?_
        refine lv_bipush (v := nI 8) hx hb dX0_putOut_55 (by decide) ?_
        refine lv_lshl (v := zshl (tx i) 8) hx hb dX0_putOut_57 rfl ?_
        refine lv_iload_n hx hb dX0_putOut_58 rfl (lv_at hl 0 rfl) ?_
        refine lv_i2l (v := (nI (pv pl (8 * v) 8 i)).toInt64) hx hb dX0_putOut_59 rfl ?_
        refine lv_lor hx hb dX0_putOut_60 ?_
        refine xl_ast (k := i) hx hb hK hP hD hS 7 6 rfl rfl (by omega) (by decide) dX0_putOut_61 (fun H locs hP hD hS => ?_)
        have hP : va_P D vwCl (wX h ad ca st pa ac 0 kc he pl wk ar ot cx (vp_updL tx i ((zshl (tx i) 8) ||| ((nI (pv pl (8 * v) 8 i)).toInt64))) ld mb tb mt) H := hP
        have hD : va_D A (wX h ad ca st pa ac 0 kc he pl wk ar ot cx (vp_updL tx i ((zshl (tx i) 8) ||| ((nI (pv pl (8 * v) 8 i)).toInt64))) ld mb tb mt) := hD
        refine lv_aload_n hx hb dX0_putOut_62 rfl (lv_at hl 1 rfl) ?_
        refine va_get (ci := 0) (v := .ref (ad 5)) (C := RX0) (T := TX0) (N := 16) hx hb hts in_X0 hown hK hP 0 rfl rfl 8 (by decide) (hts _ q46) (fun _ h9 => h9) rfl dX0_putOut_63 ?_
        refine lv_iload_n hx hb dX0_putOut_66 rfl (lv_at hl 3 rfl) ?_
        refine lv_dup2_11 hx hb dX0_putOut_67 rfl rfl ?_
        refine xn_ald (k := i) hx hb hK hP 6 5 rfl rfl (by omega) (by decide) dX0_putOut_68 ?_
        refine lv_iconst (v := nI 1) hx hb dX0_putOut_69 (by decide) ?_
        refine xi_add hx hb dX0_putOut_70 ?_
        refine xn_ast (k := i) hx hb hK hP hD hS 6 5 rfl rfl (by omega) (by decide) dX0_putOut_71 (fun H locs hP hD hS => ?_)
        have hP : va_P D vwCl (wX h ad ca st pa ac 0 kc he pl wk ar ot (va_up cx i (cx i + 1)) (vp_updL tx i ((zshl (tx i) 8) ||| ((nI (pv pl (8 * v) 8 i)).toInt64))) ld mb tb mt) H := hP
        have hD : va_D A (wX h ad ca st pa ac 0 kc he pl wk ar ot (va_up cx i (cx i + 1)) (vp_updL tx i ((zshl (tx i) 8) ||| ((nI (pv pl (8 * v) 8 i)).toInt64))) ld mb tb mt) := hD
        refine lv_iinc (v := nI (i + 1)) (lv' := [(2, .int (nI (i + 1))), (3, .int (nI (pv pl (8 * v) 8 i))), (0, .ref h), (1, .int (nI v))]) hx hb dX0_putOut_72 hl (k := 3) rfl (xi_inc1 _) (by decide) rfl (fun ls hl => ?_)
        refine lv_goto (tgt := 7) hx hb dX0_putOut_75 (by decide) ?_
        exact ih (va_up cx i (cx i + 1), vp_updL tx i ((zshl (tx i) 8) ||| ((nI (pv pl (8 * v) 8 i)).toInt64))) _ _ _ ⟨po_u hJ.1 (by unfold poC; rw [if_pos e1, hci]), po_l hJ.2 (by unfold poT; rw [if_pos e1, hti])⟩ hP hD hS (lv_sub hl [2, 3, 0] rfl)
end
section
set_option maxRecDepth 100000
/-! the table of views -/
def mxd (c : Nat) (t : Int64) : Int64 := t * 31 + (nI c).toInt64
/-- the place where the search for a view begins -/
def hsh (c : Nat) (t : Int64) : Nat := ub ((mxd c t ^^^ zushr (mxd c t) 17) ^^^ zushr (mxd c t) 37).toInt32 % 128
theorem hsh_lt (c : Nat) (t : Int64) : hsh c t < 128 := Nat.mod_lt _ (by decide)
theorem hsh_0 (c : Nat) (t : Int64) : (hsh c t + 0) % 128 = hsh c t := Nat.mod_eq_of_lt (hsh_lt c t)
/-- the search for the view of s0 ends at j -/
def stp (tb : Nat → Int32) (cn : Nat → Nat) (tr : Nat → Int64) (s0 j : Nat) : Prop := tb j = -1 ∨ ∃ t, t < 64 ∧ tb j = nI t ∧ tr t = tr s0 ∧ cn t = cn s0
theorem m1_neg : (-1 : Int32) < 0 := by decide
theorem nI_m1 {t : Nat} (h : t < 64) : nI t ≠ -1 := by
  intro q
  have h1 := nI_pos (n := t) (by omega)
  rw [q] at h1
  exact h1 m1_neg
theorem st_no {tb : Nat → Int32} {cn : Nat → Nat} {tr : Nat → Int64} {s0 j t : Nat} (ht : t < 64) (et : tb j = nI t) (h : ¬ (tr t = tr s0 ∧ cn t = cn s0)) : ¬ stp tb cn tr s0 j := by
  intro q
  rcases q with q | ⟨t', ht', et', q⟩
  · rw [et] at q
    exact nI_m1 ht q
  · rw [et] at et'
    have := (nI_eq (by omega) (by omega)).mp et'
    subst this
    exact h q
theorem st_next {P : Nat → Prop} {f : Nat → Nat} {i : Nat} (hJ : ∀ k, k < i → ¬ P (f k)) (h : ¬ P (f i)) : ∀ k, k < i + 1 → ¬ P (f k) := by
  intro k hk
  by_cases q : k = i
  · subst q; exact h
  · exact hJ k (by omega)
set_option maxHeartbeats 4000000 in
/-- placeInTable(s): the first place from its hash on that is free or holds its view -/
theorem cX_placeInTable (l : Launch) (D : va_G) (h : Nat) (ad : Nat → Nat) (ca : Nat → ClassId) (sz : Nat) (st pa : Nat) (ac : Int64) (so kc : Nat) (he : Nat → Nat) (pl wk ar ot : Nat → Int64) (cn : Nat → Nat) (tr : Nat → Int64) (ld mb : Nat → Nat) (tb : Nat → Int32) (mt : Nat → Nat) (s0 : Nat) (hs : s0 < 64) (hcn : ∀ j, j < 64 → cn j ≤ 7) (htb : ∀ j, j < 128 → tb j = -1 ∨ ∃ t, t < 64 ∧ tb j = nI t) (hex : ∃ k, k < 128 ∧ stp tb cn tr s0 ((hsh (cn s0) (tr s0) + k) % 128)) : cMi l yX0_placeInTable cX0_placeInTable 7 .int 0 0 D (tX ca) (wX h ad ca st pa ac so kc he pl wk ar ot cn tr ld mb tb mt) sz [.ref h, .int (nI s0)] (fun (r : Int32) (u : Unit) => ∃ k, k < 128 ∧ r = nI ((hsh (cn s0) (tr s0) + k) % 128) ∧ stp tb cn tr s0 ((hsh (cn s0) (tr s0) + k) % 128) ∧ ∀ k', k' < k → ¬ stp tb cn tr s0 ((hsh (cn s0) (tr s0) + k') % 128)) (fun (u : Unit) => (wX h ad ca st pa ac so kc he pl wk ar ot cn tr ld mb tb mt)) := by
  refine cMi.of (by decide) (Nat.le_of_ble_eq_true rfl) ?_
  intro p e R s m args below meth c A Q ls H locs ⟨hx, hb, hml, hown, hts, hR, hK, hA⟩ hP hD hS hl hret
  have hown : s.vm.findClass RX0 = some m.cls := hown
  have hl : lv_has ls 7 [(0, .ref h), (1, .int (nI s0))] := hl
  refine lv_aload_n hx hb dX0_placeInTable_0 rfl (lv_at hl 0 rfl) ?_
  refine va_get (ci := 0) (v := .ref (ad 6)) (C := RX0) (T := TX0) (N := 16) hx hb hts in_X0 hown hK hP 0 rfl rfl 9 (by decide) (hts _ q47) (fun _ h9 => h9) rfl dX0_placeInTable_1 ?_
  refine lv_iload_n hx hb dX0_placeInTable_4 rfl (lv_at hl 1 rfl) ?_
  refine xl_ald (k := s0) hx hb hK hP 7 6 rfl rfl (by omega) (by decide) dX0_placeInTable_5 ?_
  refine lv_ldc2 (v := (31)) hx hb hown (hts _ q163) dX0_placeInTable_6 ?_
  refine lv_lmul hx hb dX0_placeInTable_9 ?_
  refine lv_aload_n hx hb dX0_placeInTable_10 rfl (lv_at hl 0 rfl) ?_
  refine va_get (ci := 0) (v := .ref (ad 5)) (C := RX0) (T := TX0) (N := 16) hx hb hts in_X0 hown hK hP 0 rfl rfl 8 (by decide) (hts _ q46) (fun _ h9 => h9) rfl dX0_placeInTable_11 ?_
  refine lv_iload_n hx hb dX0_placeInTable_14 rfl (lv_at hl 1 rfl) ?_
  refine xn_ald (k := s0) hx hb hK hP 6 5 rfl rfl (by omega) (by decide) dX0_placeInTable_15 ?_
  refine lv_i2l (v := (nI (cn s0)).toInt64) hx hb dX0_placeInTable_16 rfl ?_
  refine lv_ladd hx hb dX0_placeInTable_17 ?_
  refine xt_l (y := mxd (cn s0) (tr s0)) rfl ?_
  refine lv_lstore_n (lv' := [(2, .long (mxd (cn s0) (tr s0))), (0, .ref h), (1, .int (nI s0))]) hx hb dX0_placeInTable_18 rfl hl (by decide) rfl (fun ls hl => ?_)
  refine lv_lload_n hx hb dX0_placeInTable_19 rfl (lv_at hl 0 rfl) ?_
  refine lv_lload_n hx hb dX0_placeInTable_20 rfl (lv_at hl 0 rfl) ?_
  refine lv_bipush (v := nI 17) hx hb dX0_placeInTable_21 (by decide) ?_
  refine lv_lushr (v := zushr (mxd (cn s0) (tr s0)) 17) hx hb dX0_placeInTable_23 rfl ?_
  refine lv_lxor hx hb dX0_placeInTable_24 ?_
  refine lv_lload_n hx hb dX0_placeInTable_25 rfl (lv_at hl 0 rfl) ?_
  refine lv_bipush (v := nI 37) hx hb dX0_placeInTable_26 (by decide) ?_
  refine lv_lushr (v := zushr (mxd (cn s0) (tr s0)) 37) hx hb dX0_placeInTable_28 rfl ?_
  refine lv_lxor hx hb dX0_placeInTable_29 ?_
  refine lv_l2i (v := (((mxd (cn s0) (tr s0)) ^^^ (zushr (mxd (cn s0) (tr s0)) 17)) ^^^ (zushr (mxd (cn s0) (tr s0)) 37)).toInt32) hx hb dX0_placeInTable_30 rfl ?_
  refine lv_bipush (v := nI 127) hx hb dX0_placeInTable_31 (by decide) ?_
  refine xi_and 127 128 7 (by decide) (by decide) hx hb dX0_placeInTable_33 ?_
  refine xt_i (y := nI ((hsh (cn s0) (tr s0) + 0) % 128)) (by rw [hsh_0]; rfl) ?_
  refine lv_istore (lv' := [(4, .int (nI ((hsh (cn s0) (tr s0) + 0) % 128))), (2, .long (mxd (cn s0) (tr s0))), (0, .ref h), (1, .int (nI s0))]) hx hb dX0_placeInTable_34 hl (by decide) rfl (fun ls hl => ?_)
  refine lv_iconst (v := nI 0) hx hb dX0_placeInTable_36 (by decide) ?_
  refine lv_istore (lv' := [(5, .int (nI 0)), (4, .int (nI ((hsh (cn s0) (tr s0) + 0) % 128))), (2, .long (mxd (cn s0) (tr s0))), (0, .ref h), (1, .int (nI s0))]) hx hb dX0_placeInTable_37 hl (by decide) rfl (fun ls hl => ?_)
  refine lp_w (nL := 7) (pc := 39) 128 (fun (u : Unit) => (wX h ad ca st pa ac so kc he pl wk ar ot cn tr ld mb tb mt)) (fun (i : Nat) (u : Unit) => [(0, .ref h), (1, .int (nI s0)), (4, .int (nI ((hsh (cn s0) (tr s0) + i) % 128))), (5, .int (nI i))]) (fun (i : Nat) (u : Unit) => ∀ k', k' < i → ¬ stp tb cn tr s0 ((hsh (cn s0) (tr s0) + k') % 128)) ?_ ?_ 0 (()) _ _ _ (by omega) (fun k' hk => absurd hk (by omega)) hP hD hS (lv_sub hl [3, 4, 1, 0] rfl)
  · rintro _ H locs ls hJ hP hD hS hl
    have hJ : ∀ k', k' < 128 → ¬ stp tb cn tr s0 ((hsh (cn s0) (tr s0) + k') % 128) := hJ
    have hP : va_P D vwCl (wX h ad ca st pa ac so kc he pl wk ar ot cn tr ld mb tb mt) H := hP
    have hD : va_D A (wX h ad ca st pa ac so kc he pl wk ar ot cn tr ld mb tb mt) := hD
    have hl : lv_has ls 7 [(0, .ref h), (1, .int (nI s0)), (4, .int (nI ((hsh (cn s0) (tr s0) + 128) % 128))), (5, .int (nI 128))] := hl
    obtain ⟨k, hk, hst⟩ := hex
    exact absurd hst (hJ k hk)
  · rintro i _ H locs ls hi hJ hP hD hS hl ih
    have hJ : ∀ k', k' < i → ¬ stp tb cn tr s0 ((hsh (cn s0) (tr s0) + k') % 128) := hJ
    have hP : va_P D vwCl (wX h ad ca st pa ac so kc he pl wk ar ot cn tr ld mb tb mt) H := hP
    have hD : va_D A (wX h ad ca st pa ac so kc he pl wk ar ot cn tr ld mb tb mt) := hD
    have hl : lv_has ls 7 [(0, .ref h), (1, .int (nI s0)), (4, .int (nI ((hsh (cn s0) (tr s0) + i) % 128))), (5, .int (nI i))] := hl
    have hat : (hsh (cn s0) (tr s0) + i) % 128 < 128 := Nat.mod_lt _ (by decide)
    refine lv_iload hx hb dX0_placeInTable_39 (lv_at hl 3 rfl) ?_
    refine lv_sipush (v := nI 128) hx hb dX0_placeInTable_41 (by decide) ?_
    refine xn_ge_f (tgt := 112) hx hb dX0_placeInTable_44 (by decide) hi (by omega) ?_
    refine lv_aload_n hx hb dX0_placeInTable_47 rfl (lv_at hl 0 rfl) ?_
    refine va_get (ci := 0) (v := .ref (ad 9)) (C := RX0) (T := TX0) (N := 16) hx hb hts in_X0 hown hK hP 0 rfl rfl 14 (by decide) (hts _ q52) (fun _ h9 => h9) rfl dX0_placeInTable_48 ?_
    refine lv_iload hx hb dX0_placeInTable_51 (lv_at hl 2 rfl) ?_
    refine xi_ald (k := ((hsh (cn s0) (tr s0) + i) % 128)) hx hb hK hP 10 9 rfl rfl (by omega) (by decide) dX0_placeInTable_53 ?_
    refine lv_istore (lv' := [(6, .int (tb ((hsh (cn s0) (tr s0) + i) % 128))), (0, .ref h), (1, .int (nI s0)), (4, .int (nI ((hsh (cn s0) (tr s0) + i) % 128))), (5, .int (nI i))]) hx hb dX0_placeInTable_54 hl (by decide) rfl (fun ls hl => ?_)
    refine lv_iload hx hb dX0_placeInTable_56 (lv_at hl 0 rfl) ?_
    refine lv_if_lt (tgt := 94) hx hb dX0_placeInTable_58 (by decide) (fun h1 => ?_) (fun h1 => ?_)
    · have hstop : stp tb cn tr s0 ((hsh (cn s0) (tr s0) + i) % 128) := (htb _ hat).elim Or.inl (fun ⟨t, ht, q⟩ => absurd h1 (by rw [q]; exact nI_pos (by omega)))
      refine lv_iload hx hb dX0_placeInTable_94 (lv_at hl 3 rfl) ?_
      exact hret 96 ls H locs (nI ((hsh (cn s0) (tr s0) + i) % 128)) () dX0_placeInTable_96 rfl ⟨i, hi, rfl, hstop, hJ⟩ hP hD hS
    · obtain ⟨t, ht, et⟩ : ∃ t, t < 64 ∧ tb ((hsh (cn s0) (tr s0) + i) % 128) = nI t := (htb _ hat).resolve_left (fun q => h1 (by rw [q]; exact m1_neg))
      rw [et] at hl
      refine lv_aload_n hx hb dX0_placeInTable_61 rfl (lv_at hl 1 rfl) ?_
      refine va_get (ci := 0) (v := .ref (ad 6)) (C := RX0) (T := TX0) (N := 16) hx hb hts in_X0 hown hK hP 0 rfl rfl 9 (by decide) (hts _ q47) (fun _ h9 => h9) rfl dX0_placeInTable_62 ?_
      refine lv_iload hx hb dX0_placeInTable_65 (lv_at hl 0 rfl) ?_
      refine xl_ald (k := t) hx hb hK hP 7 6 rfl rfl (by omega) (by decide) dX0_placeInTable_67 ?_
      refine lv_aload_n hx hb dX0_placeInTable_68 rfl (lv_at hl 1 rfl) ?_
      refine va_get (ci := 0) (v := .ref (ad 6)) (C := RX0) (T := TX0) (N := 16) hx hb hts in_X0 hown hK hP 0 rfl rfl 9 (by decide) (hts _ q47) (fun _ h9 => h9) rfl dX0_placeInTable_69 ?_
      refine lv_iload_n hx hb dX0_placeInTable_72 rfl (lv_at hl 2 rfl) ?_
      refine xl_ald (k := s0) hx hb hK hP 7 6 rfl rfl (by omega) (by decide) dX0_placeInTable_73 ?_
      refine W.lcmp hx hb dX0_placeInTable_74 ?_
      refine lv_if_ne (tgt := 97) hx hb dX0_placeInTable_75 (by decide) (fun h2 => ?_) (fun h2 => ?_)
      · have h2 : tr t ≠ tr s0 := fun q => h2 ((lg_cmp_eq _ _).mpr q)
        have hno : ¬ stp tb cn tr s0 ((hsh (cn s0) (tr s0) + i) % 128) := st_no ht et (fun q => absurd q.1 h2)
        refine lv_iload hx hb dX0_placeInTable_97 (lv_at hl 3 rfl) ?_
        refine lv_iconst (v := nI 1) hx hb dX0_placeInTable_99 (by decide) ?_
        refine xi_add hx hb dX0_placeInTable_100 ?_
        refine lv_bipush (v := nI 127) hx hb dX0_placeInTable_101 (by decide) ?_
        refine xi_andN 127 128 7 (by decide) (by decide) (by omega) hx hb dX0_placeInTable_103 ?_
        refine xt_i (y := nI ((hsh (cn s0) (tr s0) + (i + 1)) % 128)) (by rw [Nat.mod_add_mod, Nat.add_assoc]) ?_
        refine lv_istore (lv' := [(4, .int (nI ((hsh (cn s0) (tr s0) + (i + 1)) % 128))), (6, .int (nI t)), (0, .ref h), (1, .int (nI s0)), (5, .int (nI i))]) hx hb dX0_placeInTable_104 hl (by decide) rfl (fun ls hl => ?_)
        refine lv_iinc (v := nI (i + 1)) (lv' := [(5, .int (nI (i + 1))), (4, .int (nI ((hsh (cn s0) (tr s0) + (i + 1)) % 128))), (6, .int (nI t)), (0, .ref h), (1, .int (nI s0))]) hx hb dX0_placeInTable_106 hl (k := 4) rfl (xi_inc1 _) (by decide) rfl (fun ls hl => ?_)
        refine lv_goto (tgt := 39) hx hb dX0_placeInTable_109 (by decide) ?_
        exact ih (()) _ _ _ (st_next hJ hno) hP hD hS (lv_sub hl [3, 4, 1, 0] rfl)
      · have h2 : tr t = tr s0 := (lg_cmp_eq _ _).mp h2
        have hct := hcn t ht
        have hcs := hcn s0 hs
        refine lv_aload_n hx hb dX0_placeInTable_78 rfl (lv_at hl 1 rfl) ?_
        refine va_get (ci := 0) (v := .ref (ad 5)) (C := RX0) (T := TX0) (N := 16) hx hb hts in_X0 hown hK hP 0 rfl rfl 8 (by decide) (hts _ q46) (fun _ h9 => h9) rfl dX0_placeInTable_79 ?_
        refine lv_iload hx hb dX0_placeInTable_82 (lv_at hl 0 rfl) ?_
        refine xn_ald (k := t) hx hb hK hP 6 5 rfl rfl (by omega) (by decide) dX0_placeInTable_84 ?_
        refine lv_aload_n hx hb dX0_placeInTable_85 rfl (lv_at hl 1 rfl) ?_
        refine va_get (ci := 0) (v := .ref (ad 5)) (C := RX0) (T := TX0) (N := 16) hx hb hts in_X0 hown hK hP 0 rfl rfl 8 (by decide) (hts _ q46) (fun _ h9 => h9) rfl dX0_placeInTable_86 ?_
        refine lv_iload_n hx hb dX0_placeInTable_89 rfl (lv_at hl 2 rfl) ?_
        refine xn_ald (k := s0) hx hb hK hP 6 5 rfl rfl (by omega) (by decide) dX0_placeInTable_90 ?_
        refine xn_ne_b (tgt := 97) hx hb dX0_placeInTable_91 (by decide) (by omega) (by omega) (fun h3 => ?_) (fun h3 => ?_)
        · have hno : ¬ stp tb cn tr s0 ((hsh (cn s0) (tr s0) + i) % 128) := st_no ht et (fun q => absurd q.2 h3)
          refine lv_iload hx hb dX0_placeInTable_97 (lv_at hl 3 rfl) ?_
          refine lv_iconst (v := nI 1) hx hb dX0_placeInTable_99 (by decide) ?_
          refine xi_add hx hb dX0_placeInTable_100 ?_
          refine lv_bipush (v := nI 127) hx hb dX0_placeInTable_101 (by decide) ?_
          refine xi_andN 127 128 7 (by decide) (by decide) (by omega) hx hb dX0_placeInTable_103 ?_
          refine xt_i (y := nI ((hsh (cn s0) (tr s0) + (i + 1)) % 128)) (by rw [Nat.mod_add_mod, Nat.add_assoc]) ?_
          refine lv_istore (lv' := [(4, .int (nI ((hsh (cn s0) (tr s0) + (i + 1)) % 128))), (6, .int (nI t)), (0, .ref h), (1, .int (nI s0)), (5, .int (nI i))]) hx hb dX0_placeInTable_104 hl (by decide) rfl (fun ls hl => ?_)
          refine lv_iinc (v := nI (i + 1)) (lv' := [(5, .int (nI (i + 1))), (4, .int (nI ((hsh (cn s0) (tr s0) + (i + 1)) % 128))), (6, .int (nI t)), (0, .ref h), (1, .int (nI s0))]) hx hb dX0_placeInTable_106 hl (k := 4) rfl (xi_inc1 _) (by decide) rfl (fun ls hl => ?_)
          refine lv_goto (tgt := 39) hx hb dX0_placeInTable_109 (by decide) ?_
          exact ih (()) _ _ _ (st_next hJ hno) hP hD hS (lv_sub hl [3, 4, 1, 0] rfl)
        · have hstop : stp tb cn tr s0 ((hsh (cn s0) (tr s0) + i) % 128) := Or.inr ⟨t, ht, et, h2, h3⟩
          refine lv_iload hx hb dX0_placeInTable_94 (lv_at hl 3 rfl) ?_
          exact hret 96 ls H locs (nI ((hsh (cn s0) (tr s0) + i) % 128)) () dX0_placeInTable_96 rfl ⟨i, hi, rfl, hstop, hJ⟩ hP hD hS
end
section
/-! Views: which secrets are alike, counted; the table of views -/
def ct (p : Nat → Bool) : Nat → Nat
  | 0 => 0
  | n + 1 => ct p n + (p n).toNat
theorem ct_congr {p q : Nat → Bool} {n : Nat} (h : ∀ k, k < n → p k = q k) : ct p n = ct q n := by
  induction n with
  | zero => rfl
  | succ n ih => simp only [ct]; rw [ih (fun k hk => h k (by omega)), h n (by omega)]
theorem ct_0 {p : Nat → Bool} {n : Nat} (h : ∀ k, k < n → p k = false) : ct p n = 0 := by
  induction n with
  | zero => rfl
  | succ n ih => simp only [ct]; rw [ih (fun k hk => h k (by omega)), h n (by omega)]; rfl
theorem ct_all {p : Nat → Bool} {n : Nat} (h : ∀ k, k < n → p k = true) : ct p n = n := by
  induction n with
  | zero => rfl
  | succ n ih => simp only [ct]; rw [ih (fun k hk => h k (by omega)), h n (by omega)]; rfl
theorem ct_le (p : Nat → Bool) (n : Nat) : ct p n ≤ n := by
  induction n with
  | zero => exact Nat.le_refl _
  | succ n ih =>
    simp only [ct]
    have : (p n).toNat ≤ 1 := by cases p n <;> decide
    omega
/-- one place more -/
theorem ct_up {p q : Nat → Bool} {n a : Nat} (h : ∀ k, k < n → k ≠ a → q k = p k) : ct q n ≤ ct p n + 1 := by
  induction n with
  | zero => simp [ct]
  | succ n ih =>
    simp only [ct]
    by_cases e : n = a
    · have h1 : ct q n = ct p n := ct_congr (fun k hk => h k (by omega) (by omega))
      have : (q n).toNat ≤ 1 := by cases q n <;> decide
      omega
    · rw [h n (by omega) e]
      have := ih (fun k hk hka => h k (by omega) hka)
      omega
/-- s has the view of nobody from lo on before it -/
def nwk (E : Nat → Nat → Bool) (lo s : Nat) : Nat → Bool
  | 0 => true
  | k + 1 => nwk E lo s k && !(E s (lo + k))
def nw (E : Nat → Nat → Bool) (lo s : Nat) : Bool := nwk E lo s (s - lo)
theorem nwk_iff (E : Nat → Nat → Bool) (lo s k : Nat) : nwk E lo s k = true ↔ ∀ t, lo ≤ t → t < lo + k → E s t = false := by
  induction k with
  | zero => simp only [nwk, true_iff]; intro t h1 h2; omega
  | succ k ih =>
    simp only [nwk, Bool.and_eq_true, Bool.not_eq_true', ih]
    constructor
    · intro ⟨h1, h2⟩ t h3 h4
      by_cases e : t = lo + k
      · rw [e]; exact h2
      · exact h1 t h3 (by omega)
    · intro h
      exact ⟨fun t h1 h2 => h t h1 (by omega), h _ (by omega) (by omega)⟩
theorem nw_iff (E : Nat → Nat → Bool) (lo s : Nat) : nw E lo s = true ↔ ∀ t, lo ≤ t → t < s → E s t = false := by
  unfold nw
  rw [nwk_iff]
  constructor
  · intro h t h1 h2; exact h t h1 (by omega)
  · intro h t h1 h2; exact h t h1 (by omega)
/-- how many different views the k secrets from lo on have -/
def dif (E : Nat → Nat → Bool) (lo : Nat) : Nat → Nat
  | 0 => 0
  | k + 1 => dif E lo k + (nw E lo (lo + k)).toNat
theorem dif_le (E : Nat → Nat → Bool) (lo k : Nat) : dif E lo k ≤ k := by
  induction k with
  | zero => exact Nat.le_refl _
  | succ k ih =>
    simp only [dif]
    have : (nw E lo (lo + k)).toNat ≤ 1 := by cases nw E lo (lo + k) <;> decide
    omega
theorem dif_congr {E F : Nat → Nat → Bool} {lo k : Nat} (h : ∀ s t, s < lo + k → t < s → E s t = F s t) : dif E lo k = dif F lo k := by
  induction k with
  | zero => rfl
  | succ k ih =>
    simp only [dif]
    rw [ih (fun s t h1 h2 => h s t (by omega) h2)]
    have e : nw E lo (lo + k) = nw F lo (lo + k) := by
      rw [Bool.eq_iff_iff, nw_iff, nw_iff]
      constructor
      · intro q t h1 h2; rw [← h (lo + k) t (by omega) h2]; exact q t h1 h2
      · intro q t h1 h2; rw [h (lo + k) t (by omega) h2]; exact q t h1 h2
    rw [e]
/-- alike: the same number of outputs, the same trace -/
def kq (cn : Nat → Nat) (tr : Nat → Int64) (s t : Nat) : Bool := decide (cn s = cn t) && decide (tr s = tr t)
theorem kq_iff {cn : Nat → Nat} {tr : Nat → Int64} {s t : Nat} : kq cn tr s t = true ↔ cn s = cn t ∧ tr s = tr t := by simp [kq]
theorem kq_sym {cn : Nat → Nat} {tr : Nat → Int64} (s t : Nat) : kq cn tr s t = kq cn tr t s := by
  rw [Bool.eq_iff_iff, kq_iff, kq_iff]
  exact ⟨fun h => ⟨h.1.symm, h.2.symm⟩, fun h => ⟨h.1.symm, h.2.symm⟩⟩
theorem kq_eq {cn : Nat → Nat} {tr : Nat → Int64} {s t : Nat} (h : kq cn tr s t = true) (u : Nat) : kq cn tr s u = kq cn tr t u := by
  have h := kq_iff.mp h
  unfold kq
  rw [h.1, h.2]
theorem kq_self {cn : Nat → Nat} {tr : Nat → Int64} (s : Nat) : kq cn tr s s = true := kq_iff.mpr ⟨rfl, rfl⟩
/-- what sortViews leaves: leaders, members, the number of views -/
def SV (cn : Nat → Nat) (tr : Nat → Int64) (kc : Nat) (ld mb : Nat → Nat) : Prop :=
  (∀ s, s < 64 → ld s ≤ s ∧ kq cn tr s (ld s) = true ∧ ∀ t, t < ld s → kq cn tr s t = false) ∧ (∀ s, s < 64 → mb (ld s) = ct (kq cn tr s) 64) ∧ kc = dif (kq cn tr) 0 64
/-- sortViews on the way: the secrets below i have their places -/
def SI (cn : Nat → Nat) (tr : Nat → Int64) (i kx : Nat) (lx mx : Nat → Nat) (tx : Nat → Int32) : Prop :=
  (∀ j, j < 128 → tx j = -1 ∨ ∃ t, t < i ∧ tx j = nI t ∧ nw (kq cn tr) 0 t = true) ∧
  (∀ t, t < i → nw (kq cn tr) 0 t = true → ∃ k, k < 128 ∧ tx ((hsh (cn t) (tr t) + k) % 128) = nI t ∧ ∀ k', k' < k → tx ((hsh (cn t) (tr t) + k') % 128) ≠ -1) ∧
  ct (fun j => decide (tx j ≠ -1)) 128 ≤ i ∧
  (∀ s, s < i → lx s ≤ s ∧ kq cn tr s (lx s) = true ∧ ∀ t, t < lx s → kq cn tr s t = false) ∧
  (∀ t, t < i → nw (kq cn tr) 0 t = true → mx t = ct (kq cn tr t) i) ∧ kx = dif (kq cn tr) 0 i
theorem SI_0 {cn : Nat → Nat} {tr : Nat → Int64} {lx mx : Nat → Nat} {tx : Nat → Int32} (h : ∀ j, j < 128 → tx j = -1) : SI cn tr 0 0 lx mx tx := by
  refine ⟨fun j hj => Or.inl (h j hj), fun t ht => absurd ht (by omega), ?_, fun s hs => absurd hs (by omega), fun t ht => absurd ht (by omega), rfl⟩
  rw [ct_0 (fun k hk => by rw [h k hk]; decide)]
  exact Nat.le_refl _
/-- a free place, and the search comes to it -/
theorem SI_ex {cn : Nat → Nat} {tr : Nat → Int64} {i kx : Nat} {lx mx : Nat → Nat} {tx : Nat → Int32} (hi : i < 64) (h : SI cn tr i kx lx mx tx) (s0 : Nat) : ∃ k, k < 128 ∧ stp tx cn tr s0 ((hsh (cn s0) (tr s0) + k) % 128) := by
  obtain ⟨-, -, hc, -⟩ := h
  have hf : ∃ j, j < 128 ∧ tx j = -1 := by
    apply Classical.byContradiction
    intro q
    have : ct (fun j => decide (tx j ≠ -1)) 128 = 128 := ct_all (fun k hk => by
      rw [decide_eq_true_iff]
      intro e
      exact q ⟨k, hk, e⟩)
    omega
  obtain ⟨j, hj, e⟩ := hf
  have hl := hsh_lt (cn s0) (tr s0)
  refine ⟨(j + 128 - hsh (cn s0) (tr s0)) % 128, Nat.mod_lt _ (by decide), Or.inl ?_⟩
  have : (hsh (cn s0) (tr s0) + (j + 128 - hsh (cn s0) (tr s0)) % 128) % 128 = j := by omega
  rw [this]
  exact e
theorem SI_tb {cn : Nat → Nat} {tr : Nat → Int64} {i kx : Nat} {lx mx : Nat → Nat} {tx : Nat → Int32} (hi : i < 64) (h : SI cn tr i kx lx mx tx) : ∀ j, j < 128 → tx j = -1 ∨ ∃ t, t < 64 ∧ tx j = nI t := by
  intro j hj
  rcases h.1 j hj with q | ⟨t, ht, q, -⟩
  · exact Or.inl q
  · exact Or.inr ⟨t, by omega, q⟩
/-- a leader's first-ness -/
theorem lead_nw {cn : Nat → Nat} {tr : Nat → Int64} {s t : Nat} (h1 : kq cn tr s t = true) (h2 : ∀ u, u < t → kq cn tr s u = false) : nw (kq cn tr) 0 t = true := by
  rw [nw_iff]
  intro u _ hu
  rw [← kq_eq h1]
  exact h2 u hu
theorem nw_uniq {cn : Nat → Nat} {tr : Nat → Int64} {s t : Nat} (h1 : nw (kq cn tr) 0 s = true) (h2 : nw (kq cn tr) 0 t = true) (h : kq cn tr s t = true) : s = t := by
  rw [nw_iff] at h1 h2
  rcases Nat.lt_trichotomy s t with q | q | q
  · have := h2 s (by omega) q
    rw [kq_sym, h] at this
    cases this
  · exact q
  · have := h1 t (by omega) q
    rw [h] at this
    cases this
theorem SI_free {cn : Nat → Nat} {tr : Nat → Int64} {i kx k : Nat} {lx mx : Nat → Nat} {tx : Nat → Int32} (hi : i < 64) (h : SI cn tr i kx lx mx tx) (hk : k < 128) (hf : tx ((hsh (cn i) (tr i) + k) % 128) = -1) (hno : ∀ k', k' < k → ¬ stp tx cn tr i ((hsh (cn i) (tr i) + k') % 128)) :
    SI cn tr (i + 1) (kx + 1) (va_up lx i i) (va_up (va_up mx i 0) i (va_up mx i 0 i + 1)) (upd tx ((hsh (cn i) (tr i) + k) % 128) (nI i)) := by
  obtain ⟨hA, hB, hC, hE, hF, hG⟩ := h
  have hnw : nw (kq cn tr) 0 i = true := by
    rw [nw_iff]
    intro t _ ht
    cases hq : kq cn tr i t with
    | false => rfl
    | true =>
      exfalso
      obtain ⟨e1, e2, e3⟩ := hE t ht
      have hL := lead_nw e2 e3
      obtain ⟨k2, hk2, e4, e5⟩ := hB (lx t) (by omega) hL
      have e6 : kq cn tr i (lx t) = true := by rw [kq_eq hq]; exact e2
      have e7 := kq_iff.mp e6
      rw [← e7.1, ← e7.2] at e4 e5
      rcases Nat.lt_trichotomy k k2 with q | q | q
      · exact e5 k q hf
      · subst q
        rw [e4] at hf
        exact nI_m1 (by omega) hf
      · exact hno k2 q (Or.inr ⟨lx t, by omega, e4, e7.2.symm, e7.1.symm⟩)
  have hs0 : ∀ k', k' < k → tx ((hsh (cn i) (tr i) + k') % 128) ≠ -1 := fun k' q e => hno k' q (Or.inl e)
  generalize hat : (hsh (cn i) (tr i) + k) % 128 = a at *
  have ha : a < 128 := by rw [← hat]; exact Nat.mod_lt _ (by decide)
  refine ⟨fun j hj => ?_, fun t ht htn => ?_, ?_, fun s hs => ?_, fun t ht htn => ?_, ?_⟩
  · by_cases q : j = a
    · subst q
      rw [pk_us]
      exact Or.inr ⟨i, by omega, rfl, hnw⟩
    · rw [pk_un q]
      rcases hA j hj with e | ⟨t, e1, e2, e3⟩
      · exact Or.inl e
      · exact Or.inr ⟨t, by omega, e2, e3⟩
  · have keep : ∀ j, tx j ≠ -1 → upd tx a (nI i) j ≠ -1 := by
      intro j q
      by_cases e : j = a
      · subst e; rw [pk_us]; exact nI_m1 hi
      · rw [pk_un e]; exact q
    by_cases q : t = i
    · subst q
      refine ⟨k, hk, ?_, fun k' hk' => keep _ (hs0 k' hk')⟩
      rw [hat, pk_us]
    · obtain ⟨k2, e1, e2, e3⟩ := hB t (by omega) htn
      refine ⟨k2, e1, ?_, fun k' hk' => keep _ (e3 k' hk')⟩
      rw [pk_un (fun e => ?_)]
      · exact e2
      · rw [e, hf] at e2
        exact nI_m1 (by omega) e2.symm
  · have := ct_up (p := fun j => decide (tx j ≠ -1)) (q := fun j => decide (upd tx a (nI i) j ≠ -1)) (n := 128) (a := a) (fun k _ q => by show decide (upd tx a (nI i) k ≠ -1) = decide (tx k ≠ -1); rw [pk_un q])
    omega
  · by_cases q : s = i
    · subst q
      rw [va_up_self]
      refine ⟨Nat.le_refl _, kq_self s, fun t ht => ?_⟩
      rw [nw_iff] at hnw
      exact hnw t (by omega) ht
    · rw [va_up_ne _ _ q]
      exact hE s (by omega)
  · by_cases q : t = i
    · subst q
      rw [va_up_self, va_up_self]
      simp only [ct]
      rw [ct_0 (fun u hu => by rw [nw_iff] at hnw; exact hnw u (by omega) hu), kq_self]
      rfl
    · rw [va_up_ne _ _ q, va_up_ne _ _ q, hF t (by omega) htn]
      simp only [ct]
      have : kq cn tr t i = false := by
        rw [kq_sym]
        rw [nw_iff] at hnw
        exact hnw t (by omega) (by omega)
      rw [this]
      rfl
  · show kx + 1 = dif (kq cn tr) 0 i + (nw (kq cn tr) 0 (0 + i)).toNat
    rw [Nat.zero_add, hnw, hG]
    rfl
theorem SI_occ {cn : Nat → Nat} {tr : Nat → Int64} {i kx k t : Nat} {lx mx : Nat → Nat} {tx : Nat → Int32} (hi : i < 64) (h : SI cn tr i kx lx mx tx) (ht : t < 64) (et : tx ((hsh (cn i) (tr i) + k) % 128) = nI t) (e1 : tr t = tr i) (e2 : cn t = cn i) :
    SI cn tr (i + 1) kx (va_up lx i t) (va_up (va_up mx i 0) t (va_up mx i 0 t + 1)) tx := by
  obtain ⟨hA, hB, hC, hE, hF, hG⟩ := h
  have hq : kq cn tr i t = true := kq_iff.mpr ⟨e2.symm, e1.symm⟩
  have hat : (hsh (cn i) (tr i) + k) % 128 < 128 := Nat.mod_lt _ (by decide)
  obtain ⟨hti, htn⟩ : t < i ∧ nw (kq cn tr) 0 t = true := by
    rcases hA _ hat with q | ⟨t', h1, h2, h3⟩
    · rw [et] at q
      exact absurd q (nI_m1 ht)
    · rw [et] at h2
      have := (nI_eq (by omega) (by omega)).mp h2
      subst this
      exact ⟨h1, h3⟩
  have hni : nw (kq cn tr) 0 i = false := by
    cases q : nw (kq cn tr) 0 i with
    | false => rfl
    | true =>
      rw [nw_iff] at q
      have := q t (by omega) hti
      rw [hq] at this
      cases this
  refine ⟨fun j hj => ?_, fun u hu hun => ?_, by omega, fun s hs => ?_, fun u hu hun => ?_, ?_⟩
  · rcases hA j hj with q | ⟨t', h1, h2, h3⟩
    · exact Or.inl q
    · exact Or.inr ⟨t', by omega, h2, h3⟩
  · by_cases q : u = i
    · subst q; rw [hni] at hun; cases hun
    · exact hB u (by omega) hun
  · by_cases q : s = i
    · subst q
      rw [va_up_self]
      refine ⟨by omega, hq, fun u hu => ?_⟩
      rw [kq_eq hq]
      rw [nw_iff] at htn
      exact htn u (by omega) hu
    · rw [va_up_ne _ _ q]
      exact hE s (by omega)
  · by_cases q : u = i
    · subst q; rw [hni] at hun; cases hun
    · by_cases q2 : u = t
      · subst q2
        rw [va_up_self, va_up_ne _ _ q, hF u hti hun]
        simp only [ct]
        rw [kq_sym u i, hq]
        rfl
      · rw [va_up_ne _ _ q2, va_up_ne _ _ q, hF u (by omega) hun]
        simp only [ct]
        have : kq cn tr u i = false := by
          cases q3 : kq cn tr u i with
          | false => rfl
          | true =>
            exfalso
            apply q2
            refine nw_uniq hun htn ?_
            rw [kq_eq q3]
            exact hq
        rw [this]
        rfl
  · show kx = dif (kq cn tr) 0 i + (nw (kq cn tr) 0 (0 + i)).toNat
    rw [Nat.zero_add, hni, hG]
    rfl
theorem SI_end {cn : Nat → Nat} {tr : Nat → Int64} {kx : Nat} {lx mx : Nat → Nat} {tx : Nat → Int32} (h : SI cn tr 64 kx lx mx tx) : SV cn tr kx lx mx := by
  obtain ⟨-, -, -, hE, hF, hG⟩ := h
  refine ⟨hE, fun s hs => ?_, hG⟩
  obtain ⟨h1, h2, h3⟩ := hE s hs
  rw [hF (lx s) (by omega) (lead_nw h2 h3)]
  exact ct_congr (fun k _ => (kq_eq h2 k).symm)
end
section
/-! The program's meaning, one secret at a time, statement by statement; LeakageMeter's state against it -/
/-- how many parts are open behind n statements -/
def dp (cd : Nat → Nat) : Nat → Nat
  | 0 => 0
  | n + 1 => if cd n = 13 then dp cd n + 1 else if cd n = 15 then dp cd n - 1 else dp cd n
/-- which open parts have an ELSE -/
def hE (cd : Nat → Nat) : Nat → Nat → Bool
  | 0, _ => false
  | n + 1, j => if cd n = 13 then (if j = dp cd n then false else hE cd n j) else if cd n = 14 then (if j = dp cd n - 1 then true else hE cd n j) else hE cd n j
abbrev IS : Type := (Nat → Nat) × Nat × Nat × Bool × (Nat → Bool) × (Nat → Bool)
/-- one statement, for one secret: variables, number of outputs, outputs, active, around, otherwise -/
def icS (c : Nat) (a b : Int32) (d : Nat) (u : IS) : IS :=
  if c ≤ 11 then ((if u.2.2.2.1 = true then va_up u.1 (ub a % 4) (wrk c (u.1 (ub a % 4)) (u.1 (ub b % 4)) b) else u.1), u.2)
  else if c = 12 then (if u.2.2.2.1 = true ∧ u.2.1 < 7 then (u.1, u.2.1 + 1, u.2.2.1 * 256 + u.1 (ub a % 4), u.2.2.2) else u)
  else if c = 13 then (u.1, u.2.1, u.2.2.1, u.2.2.2.1 && decide (u.1 (ub a % 4) ≠ 0), va_up u.2.2.2.2.1 d u.2.2.2.1, va_up u.2.2.2.2.2 d (u.2.2.2.1 && decide (u.1 (ub a % 4) = 0)))
  else if c = 14 then (u.1, u.2.1, u.2.2.1, u.2.2.2.2.2 (d - 1), u.2.2.2.2.1, u.2.2.2.2.2)
  else (u.1, u.2.1, u.2.2.1, u.2.2.2.2.1 (d - 1), u.2.2.2.2.1, u.2.2.2.2.2)
def ic (cd : Nat → Nat) (lf rt : Nat → Int32) (s : Nat) : Nat → IS
  | 0 => (fun v => if v = 0 then s else 0, 0, 0, true, fun _ => false, fun _ => false)
  | n + 1 => icS (cd n) (lf n) (rt n) (dp cd n) (ic cd lf rt s n)
theorem dp_congr {cd cd' : Nat → Nat} {n : Nat} (h : ∀ j, j < n → cd' j = cd j) : dp cd' n = dp cd n := by
  induction n with
  | zero => rfl
  | succ n ih => simp only [dp]; rw [ih (fun j hj => h j (by omega)), h n (by omega)]
theorem hE_congr {cd cd' : Nat → Nat} {n : Nat} (h : ∀ j, j < n → cd' j = cd j) (k : Nat) : hE cd' n k = hE cd n k := by
  induction n with
  | zero => rfl
  | succ n ih => simp only [hE]; rw [ih (fun j hj => h j (by omega)), h n (by omega), dp_congr (fun j hj => h j (by omega))]
theorem ic_congr {cd cd' : Nat → Nat} {lf lf' rt rt' : Nat → Int32} {s n : Nat} (h : ∀ j, j < n → cd' j = cd j) (h2 : ∀ j, j < n → lf' j = lf j) (h3 : ∀ j, j < n → rt' j = rt j) : ic cd' lf' rt' s n = ic cd lf rt s n := by
  induction n with
  | zero => rfl
  | succ n ih => simp only [ic]; rw [ih (fun j hj => h j (by omega)) (fun j hj => h2 j (by omega)) (fun j hj => h3 j (by omega)), h n (by omega), h2 n (by omega), h3 n (by omega), dp_congr (fun j hj => h j (by omega))]
/-- what an added statement must meet -/
def ac1 (cd : Nat → Nat) (n k : Nat) : Prop := k ≤ 15 ∧ (k = 13 → dp cd n < 4) ∧ (k = 14 ∨ k = 15 → 0 < dp cd n) ∧ (k = 14 → hE cd n (dp cd n - 1) = false)
/-- all statements met it -/
def VP (cd : Nat → Nat) (n : Nat) : Prop := ∀ j, j < n → ac1 cd j (cd j)
theorem dp_le {cd : Nat → Nat} {n : Nat} (h : VP cd n) : dp cd n ≤ 4 := by
  induction n with
  | zero => simp [dp]
  | succ n ih =>
    have h1 := ih (fun j hj => h j (by omega))
    have h2 := (h n (by omega)).2.1
    simp only [dp]
    split
    · next e => have := h2 e; omega
    · split <;> omega
theorem VP_add {cd : Nat → Nat} {n k : Nat} (h : VP cd n) (ha : ac1 cd n k) : VP (va_up cd n k) (n + 1) := by
  have e : ∀ j, j < n → va_up cd n k j = cd j := fun j hj => va_up_ne _ _ (by omega)
  intro j hj
  by_cases q : j = n
  · subst q
    rw [va_up_self]
    unfold ac1
    rw [dp_congr e, hE_congr e]
    exact ha
  · rw [e j (by omega)]
    unfold ac1
    rw [dp_congr (fun i hi => e i (by omega)), hE_congr (fun i hi => e i (by omega))]
    exact h j (by omega)
/-- bounds of the numbers -/
theorem ic_lt (cd : Nat → Nat) (lf rt : Nat → Int32) {s : Nat} (hs : s < 64) (n : Nat) : (∀ v, (ic cd lf rt s n).1 v < 256) ∧ (ic cd lf rt s n).2.1 ≤ 7 ∧ (ic cd lf rt s n).2.2.1 < 256 ^ (ic cd lf rt s n).2.1 := by
  induction n with
  | zero =>
    refine ⟨fun v => ?_, by simp [ic], by simp [ic]⟩
    simp only [ic]
    split <;> omega
  | succ n ih =>
    obtain ⟨h1, h2, h3⟩ := ih
    simp only [ic, icS]
    split
    · refine ⟨fun v => ?_, h2, h3⟩
      show (if (ic cd lf rt s n).2.2.2.1 = true then va_up (ic cd lf rt s n).1 (ub (lf n) % 4) _ else (ic cd lf rt s n).1) v < 256
      split
      · by_cases q : v = ub (lf n) % 4
        · subst q; rw [va_up_self]; exact wrk_lt _ (h1 _) (h1 _)
        · rw [va_up_ne _ _ q]; exact h1 v
      · exact h1 v
    · split
      · split
        · next e =>
          refine ⟨h1, by show _ + 1 ≤ 7; omega, ?_⟩
          show _ * 256 + _ < 256 ^ (_ + 1)
          rw [Nat.pow_succ]
          have := h1 (ub (lf n) % 4)
          omega
        · exact ⟨h1, h2, h3⟩
      · split
        · exact ⟨h1, h2, h3⟩
        · split
          · exact ⟨h1, h2, h3⟩
          · exact ⟨h1, h2, h3⟩
/-- LeakageMeter's state holds the program -/
def XR (cd : Nat → Nat) (lf rt : Nat → Int32) (n : Nat) (st pa : Nat) (ac : Int64) (so kc : Nat) (he : Nat → Nat) (pl ar ot : Nat → Int64) (cn : Nat → Nat) (tr : Nat → Int64) (ld mb : Nat → Nat) : Prop :=
  st = n ∧ pa = dp cd n ∧ (∀ s, s < 64 → ∀ v, v < 4 → pv pl (8 * v) 8 s = (ic cd lf rt s n).1 v) ∧ (∀ s, s < 64 → cn s = (ic cd lf rt s n).2.1) ∧ (∀ s, s < 64 → tr s = lN (ic cd lf rt s n).2.2.1) ∧ (∀ s, s < 64 → bl ac s = (ic cd lf rt s n).2.2.2.1) ∧
  (∀ s, s < 64 → ∀ j, j < dp cd n → bl (ar j) s = (ic cd lf rt s n).2.2.2.2.1 j ∧ bl (ot j) s = (ic cd lf rt s n).2.2.2.2.2 j) ∧ (∀ j, j < dp cd n → he j = (hE cd n j).toNat) ∧ so ≤ 1 ∧ (so = 1 → SV cn tr kc ld mb)
section XRS
variable {cd : Nat → Nat} {lf rt : Nat → Int32} {n st pa : Nat} {ac : Int64} {so kc : Nat} {he : Nat → Nat} {pl ar ot : Nat → Int64} {cn : Nat → Nat} {tr : Nat → Int64} {ld mb : Nat → Nat}
theorem XR.cn7 (h : XR cd lf rt n st pa ac so kc he pl ar ot cn tr ld mb) : ∀ j, j < 64 → cn j ≤ 7 := by
  intro j hj
  rw [h.2.2.2.1 j hj]
  exact (ic_lt cd lf rt hj n).2.1
/-- the extended program -/
theorem ext_ic {k : Nat} {a b : Int32} (s : Nat) : ic (va_up cd n k) (upd lf n a) (upd rt n b) s (n + 1) = icS k a b (dp cd n) (ic cd lf rt s n) := by
  have e : ∀ j, j < n → va_up cd n k j = cd j := fun j hj => va_up_ne _ _ (by omega)
  simp only [ic]
  rw [ic_congr e (fun j hj => pk_un (by omega)) (fun j hj => pk_un (by omega)), dp_congr e, va_up_self, pk_us, pk_us]
theorem ext_dp {k : Nat} : dp (va_up cd n k) (n + 1) = if k = 13 then dp cd n + 1 else if k = 15 then dp cd n - 1 else dp cd n := by
  have e : ∀ j, j < n → va_up cd n k j = cd j := fun j hj => va_up_ne _ _ (by omega)
  simp only [dp]
  rw [dp_congr e, va_up_self]
theorem ext_hE {k j : Nat} : hE (va_up cd n k) (n + 1) j = if k = 13 then (if j = dp cd n then false else hE cd n j) else if k = 14 then (if j = dp cd n - 1 then true else hE cd n j) else hE cd n j := by
  have e : ∀ j, j < n → va_up cd n k j = cd j := fun j hj => va_up_ne _ _ (by omega)
  simp only [hE]
  rw [dp_congr e, hE_congr e, va_up_self]
theorem keep_pv {pl pl' wk : Nat → Int64} {ac : Int64} {v s : Nat} (hs : s < 64) (h : ∀ j, pl' j = if 8 * v ≤ j ∧ j < 8 * v + 8 then (pl j &&& (ac ^^^ (-1))) ||| (wk (j - 8 * v) &&& ac) else pl j) (v' : Nat) : pv pl' (8 * v') 8 s = if v' = v then (if bl ac s = true then pv wk 0 8 s else pv pl (8 * v) 8 s) else pv pl (8 * v') 8 s := by
  by_cases q : v' = v
  · subst q
    rw [if_pos rfl]
    by_cases e : bl ac s = true
    · rw [if_pos e]
      refine pv_congr (fun k hk => ?_)
      rw [h, if_pos (by omega), bl_or, bl_and, bl_and, bl_not _ hs, e, Nat.add_sub_cancel_left, Nat.zero_add]
      simp
    · rw [if_neg e]
      have e : bl ac s = false := by simpa using e
      refine pv_congr (fun k hk => ?_)
      rw [h, if_pos (by omega), bl_or, bl_and, bl_and, bl_not _ hs, e]
      simp
  · rw [if_neg q]
    exact pv_eq (fun k hk => by rw [h, if_neg (by omega)])
theorem XR_comp {k : Nat} {a b : Int32} {pl' wk : Nat → Int64} (h : XR cd lf rt n st pa ac so kc he pl ar ot cn tr ld mb) (hk : k ≤ 11)
    (hw : ∀ s1, s1 < 64 → pv wk 0 8 s1 = wrk k (pv pl (8 * (ub a % 4)) 8 s1) (pv pl (8 * (ub b % 4)) 8 s1) b)
    (hp : ∀ j, pl' j = if 8 * (ub a % 4) ≤ j ∧ j < 8 * (ub a % 4) + 8 then (pl j &&& (ac ^^^ (-1))) ||| (wk (j - 8 * (ub a % 4)) &&& ac) else pl j) :
    XR (va_up cd n k) (upd lf n a) (upd rt n b) (n + 1) (st + 1) pa ac so kc he pl' ar ot cn tr ld mb := by
  obtain ⟨h1, h2, h3, h4, h5, h6, h7, h8, h9⟩ := h
  have ed : dp (va_up cd n k) (n + 1) = dp cd n := by rw [ext_dp, if_neg (by omega), if_neg (by omega)]
  have ma : ub a % 4 < 4 := Nat.mod_lt _ (by decide)
  have mb4 : ub b % 4 < 4 := Nat.mod_lt _ (by decide)
  have ei : ∀ s, ic (va_up cd n k) (upd lf n a) (upd rt n b) s (n + 1) = ((if (ic cd lf rt s n).2.2.2.1 = true then va_up (ic cd lf rt s n).1 (ub a % 4) (wrk k ((ic cd lf rt s n).1 (ub a % 4)) ((ic cd lf rt s n).1 (ub b % 4)) b) else (ic cd lf rt s n).1), (ic cd lf rt s n).2) := by
    intro s
    rw [ext_ic]
    unfold icS
    rw [if_pos hk]
  refine ⟨by omega, by rw [ed]; exact h2, fun s hs v hv => ?_, fun s hs => by rw [ei]; exact h4 s hs, fun s hs => by rw [ei]; exact h5 s hs, fun s hs => by rw [ei]; exact h6 s hs, fun s hs j hj => by rw [ei]; exact h7 s hs j (by rw [ed] at hj; exact hj), fun j hj => ?_, h9⟩
  · rw [ei, keep_pv hs hp v]
    show _ = (if _ then _ else _ : Nat → Nat) v
    rw [← h6 s hs]
    by_cases e : bl ac s = true
    · rw [if_pos e, if_pos e]
      by_cases q : v = ub a % 4
      · subst q
        rw [if_pos rfl, va_up_self, hw s hs, h3 s hs _ ma, h3 s hs _ mb4]
      · rw [if_neg q, va_up_ne _ _ q]
        exact h3 s hs v hv
    · rw [if_neg e, if_neg e]
      by_cases q : v = ub a % 4
      · subst q
        rw [if_pos rfl]
        exact h3 s hs _ hv
      · rw [if_neg q]
        exact h3 s hs v hv
  · rw [ed] at hj
    rw [ext_hE, if_neg (by omega), if_neg (by omega)]
    exact h8 j hj
theorem out_lN {t x : Nat} (ht : t < 2 ^ 48) (hx : x < 256) : zshl (lN t) 8 ||| (nI x).toInt64 = lN (t * 256 + x) := by
  unfold zshl
  rw [wb_shl t (by decide), nI_l (by omega), wb_or (by omega) (by omega)]
  congr 1
  rw [show t * 2 ^ 8 = 2 ^ 8 * t by omega]
  exact (Nat.two_pow_add_eq_or_of_lt (i := 8) hx t).symm
theorem XR_put {a b : Int32} {cn' : Nat → Nat} {tr' : Nat → Int64} (h : XR cd lf rt n st pa ac so kc he pl ar ot cn tr ld mb)
    (hc : ∀ j, j < 64 → cn' j = poC ac cn j) (ht : ∀ j, j < 64 → tr' j = poT ac cn tr pl (ub a % 4) j) :
    XR (va_up cd n 12) (upd lf n a) (upd rt n b) (n + 1) (st + 1) pa ac 0 kc he pl ar ot cn' tr' ld mb := by
  have hl := fun s (hs : s < 64) => ic_lt cd lf rt hs n
  obtain ⟨h1, h2, h3, h4, h5, h6, h7, h8, h9⟩ := h
  have ed : dp (va_up cd n 12) (n + 1) = dp cd n := by rw [ext_dp, if_neg (by omega), if_neg (by omega)]
  have ma : ub a % 4 < 4 := Nat.mod_lt _ (by decide)
  have ei : ∀ s, ic (va_up cd n 12) (upd lf n a) (upd rt n b) s (n + 1) = (if (ic cd lf rt s n).2.2.2.1 = true ∧ (ic cd lf rt s n).2.1 < 7 then ((ic cd lf rt s n).1, (ic cd lf rt s n).2.1 + 1, (ic cd lf rt s n).2.2.1 * 256 + (ic cd lf rt s n).1 (ub a % 4), (ic cd lf rt s n).2.2.2) else (ic cd lf rt s n)) := by
    intro s
    rw [ext_ic]
    unfold icS
    rw [if_neg (by omega), if_pos rfl]
  have e1 : ∀ s, (ic (va_up cd n 12) (upd lf n a) (upd rt n b) s (n + 1)).1 = (ic cd lf rt s n).1 := by
    intro s; rw [ei]; split <;> rfl
  have e2 : ∀ s, (ic (va_up cd n 12) (upd lf n a) (upd rt n b) s (n + 1)).2.2.2 = (ic cd lf rt s n).2.2.2 := by
    intro s; rw [ei]; split <;> rfl
  have eB : ∀ s, s < 64 → (poB ac cn s = true ↔ (ic cd lf rt s n).2.2.2.1 = true ∧ (ic cd lf rt s n).2.1 < 7) := by
    intro s hs
    unfold poB
    rw [h6 s hs, h4 s hs]
    simp
  refine ⟨by omega, by rw [ed]; exact h2, fun s hs v hv => by rw [e1]; exact h3 s hs v hv, fun s hs => ?_, fun s hs => ?_, fun s hs => by rw [e2]; exact h6 s hs, fun s hs j hj => by rw [e2]; exact h7 s hs j (by rw [ed] at hj; exact hj), fun j hj => ?_, by omega, fun q => absurd q (by omega)⟩
  · rw [hc s hs, ei]
    unfold poC
    by_cases q : (ic cd lf rt s n).2.2.2.1 = true ∧ (ic cd lf rt s n).2.1 < 7
    · rw [if_pos ((eB s hs).mpr q), if_pos q, h4 s hs]
    · rw [if_neg (fun z => q ((eB s hs).mp z)), if_neg q, h4 s hs]
  · rw [ht s hs, ei]
    unfold poT
    by_cases q : (ic cd lf rt s n).2.2.2.1 = true ∧ (ic cd lf rt s n).2.1 < 7
    · rw [if_pos ((eB s hs).mpr q), if_pos q, h5 s hs, h3 s hs _ ma]
      have hb := (hl s hs).2.2
      have hp : 256 ^ (ic cd lf rt s n).2.1 ≤ 256 ^ 6 := Nat.pow_le_pow_right (by omega) (by omega)
      exact out_lN (Nat.lt_of_lt_of_le hb (Nat.le_trans hp (by decide))) ((hl s hs).1 _)
    · rw [if_neg (fun z => q ((eB s hs).mp z)), if_neg q, h5 s hs]
  · rw [ed] at hj
    rw [ext_hE, if_neg (by omega), if_neg (by omega)]
    exact h8 j hj
theorem XR_13 {a b : Int32} (h : XR cd lf rt n st pa ac so kc he pl ar ot cn tr ld mb) :
    XR (va_up cd n 13) (upd lf n a) (upd rt n b) (n + 1) (st + 1) (pa + 1) (ac &&& anyp pl (8 * (ub a % 4)) 8) so kc (va_up he pa 0) pl (vp_updL ar pa ac) (vp_updL ot pa (ac &&& (anyp pl (8 * (ub a % 4)) 8 ^^^ (-1)))) cn tr ld mb := by
  obtain ⟨h1, h2, h3, h4, h5, h6, h7, h8, h9⟩ := h
  have ed : dp (va_up cd n 13) (n + 1) = dp cd n + 1 := by rw [ext_dp, if_pos rfl]
  have ma : ub a % 4 < 4 := Nat.mod_lt _ (by decide)
  have ei : ∀ s, ic (va_up cd n 13) (upd lf n a) (upd rt n b) s (n + 1) = ((ic cd lf rt s n).1, (ic cd lf rt s n).2.1, (ic cd lf rt s n).2.2.1, (ic cd lf rt s n).2.2.2.1 && decide ((ic cd lf rt s n).1 (ub a % 4) ≠ 0), va_up (ic cd lf rt s n).2.2.2.2.1 (dp cd n) (ic cd lf rt s n).2.2.2.1, va_up (ic cd lf rt s n).2.2.2.2.2 (dp cd n) ((ic cd lf rt s n).2.2.2.1 && decide ((ic cd lf rt s n).1 (ub a % 4) = 0))) := by
    intro s
    rw [ext_ic]
    unfold icS
    rw [if_neg (by omega), if_neg (by omega), if_pos rfl]
  refine ⟨by omega, by rw [ed]; omega, fun s hs v hv => by rw [ei]; exact h3 s hs v hv, fun s hs => by rw [ei]; exact h4 s hs, fun s hs => by rw [ei]; exact h5 s hs, fun s hs => ?_, fun s hs j hj => ?_, fun j hj => ?_, h9⟩
  · rw [ei, bl_and, anyp_bl', h6 s hs, h3 s hs _ ma]
  · rw [ei]
    show _ = va_up _ _ _ j ∧ _ = va_up _ _ _ j
    rw [h2]
    by_cases q : j = dp cd n
    · rw [q, pk_uLs, pk_uLs, va_up_self, va_up_self, bl_and, bl_not _ hs, anyp_bl', h6 s hs, h3 s hs _ ma]
      refine ⟨rfl, ?_⟩
      congr 1
      simp
    · rw [pk_uLn q, pk_uLn q, va_up_ne _ _ q, va_up_ne _ _ q]
      exact h7 s hs j (by omega)
  · rw [ext_hE, if_pos rfl, h2]
    by_cases q : j = dp cd n
    · rw [if_pos q, q, va_up_self]; rfl
    · rw [if_neg q, va_up_ne _ _ q]
      exact h8 j (by omega)
theorem XR_14 {a b : Int32} (h : XR cd lf rt n st pa ac so kc he pl ar ot cn tr ld mb) (hd : 0 < dp cd n) :
    XR (va_up cd n 14) (upd lf n a) (upd rt n b) (n + 1) (st + 1) pa (ot (pa - 1)) so kc (va_up he (pa - 1) 1) pl ar ot cn tr ld mb := by
  obtain ⟨h1, h2, h3, h4, h5, h6, h7, h8, h9⟩ := h
  have ed : dp (va_up cd n 14) (n + 1) = dp cd n := by rw [ext_dp, if_neg (by omega), if_neg (by omega)]
  have ei : ∀ s, ic (va_up cd n 14) (upd lf n a) (upd rt n b) s (n + 1) = ((ic cd lf rt s n).1, (ic cd lf rt s n).2.1, (ic cd lf rt s n).2.2.1, (ic cd lf rt s n).2.2.2.2.2 (dp cd n - 1), (ic cd lf rt s n).2.2.2.2.1, (ic cd lf rt s n).2.2.2.2.2) := by
    intro s
    rw [ext_ic]
    unfold icS
    rw [if_neg (by omega), if_neg (by omega), if_neg (by omega), if_pos rfl]
  refine ⟨by omega, by rw [ed]; exact h2, fun s hs v hv => by rw [ei]; exact h3 s hs v hv, fun s hs => by rw [ei]; exact h4 s hs, fun s hs => by rw [ei]; exact h5 s hs, fun s hs => ?_, fun s hs j hj => ?_, fun j hj => ?_, h9⟩
  · rw [ei, h2]
    exact (h7 s hs (dp cd n - 1) (by omega)).2
  · rw [ei]
    exact h7 s hs j (by rw [ed] at hj; exact hj)
  · rw [ed] at hj
    rw [ext_hE, if_neg (by omega), if_pos rfl, h2]
    by_cases q : j = dp cd n - 1
    · rw [if_pos q, q, va_up_self]; rfl
    · rw [if_neg q, va_up_ne _ _ q]
      exact h8 j hj
theorem XR_15 {a b : Int32} (h : XR cd lf rt n st pa ac so kc he pl ar ot cn tr ld mb) (hd : 0 < dp cd n) :
    XR (va_up cd n 15) (upd lf n a) (upd rt n b) (n + 1) (st + 1) (pa - 1) (ar (pa - 1)) so kc he pl ar ot cn tr ld mb := by
  obtain ⟨h1, h2, h3, h4, h5, h6, h7, h8, h9⟩ := h
  have ed : dp (va_up cd n 15) (n + 1) = dp cd n - 1 := by rw [ext_dp, if_neg (by omega), if_pos rfl]
  have ei : ∀ s, ic (va_up cd n 15) (upd lf n a) (upd rt n b) s (n + 1) = ((ic cd lf rt s n).1, (ic cd lf rt s n).2.1, (ic cd lf rt s n).2.2.1, (ic cd lf rt s n).2.2.2.2.1 (dp cd n - 1), (ic cd lf rt s n).2.2.2.2.1, (ic cd lf rt s n).2.2.2.2.2) := by
    intro s
    rw [ext_ic]
    unfold icS
    rw [if_neg (by omega), if_neg (by omega), if_neg (by omega), if_neg (by omega)]
  refine ⟨by omega, by rw [ed]; omega, fun s hs v hv => by rw [ei]; exact h3 s hs v hv, fun s hs => by rw [ei]; exact h4 s hs, fun s hs => by rw [ei]; exact h5 s hs, fun s hs => ?_, fun s hs j hj => ?_, fun j hj => ?_, h9⟩
  · rw [ei, h2]
    exact (h7 s hs (dp cd n - 1) (by omega)).1
  · rw [ei]
    exact h7 s hs j (by rw [ed] at hj; omega)
  · rw [ed] at hj
    rw [ext_hE, if_neg (by omega), if_neg (by omega)]
    exact h8 j (by omega)
/-- behind clear() -/
theorem XR_clear {pl' : Nat → Int64} {cn' : Nat → Nat} {tr' : Nat → Int64} (hp : ∀ s, s < 64 → ∀ v, v < 4 → pv pl' (8 * v) 8 s = if v = 0 then s else 0) (hc : ∀ s, s < 64 → cn' s = 0) (ht : ∀ s, s < 64 → tr' s = 0) :
    XR cd lf rt 0 0 0 (-1) 0 kc he pl' ar ot cn' tr' ld mb := by
  refine ⟨rfl, rfl, hp, hc, ht, fun s hs => bl_m1 hs, fun s hs j hj => absurd hj (by simp [dp]), fun j hj => absurd hj (by simp [dp]), by omega, fun q => absurd q (by omega)⟩
end XRS
end
section
set_option maxRecDepth 100000
theorem tab_J {tx : Nat → Int32} {i : Nat} (hJ : ∀ j, j < i → tx j = -1) : ∀ j, j < i + 1 → (upd tx i (-1)) j = -1 := by
  intro j hj
  by_cases h : j = i
  · subst h; rw [pk_us]
  · rw [pk_un h]; exact hJ j (by omega)
set_option maxHeartbeats 4000000 in
/-- sortViews(): leaders, members and the number of views are those of the views -/
theorem cX_sortViews (l : Launch) (D : va_G) (h : Nat) (ad : Nat → Nat) (ca : Nat → ClassId) (sz : Nat) (st pa : Nat) (ac : Int64) (so kc : Nat) (he : Nat → Nat) (pl wk ar ot : Nat → Int64) (cn : Nat → Nat) (tr : Nat → Int64) (ld mb : Nat → Nat) (tb : Nat → Int32) (mt : Nat → Nat)  (hcn : ∀ j, j < 64 → cn j ≤ 7) (hso : so ≤ 1) (hsv : so = 1 → SV cn tr kc ld mb) : cMv l yX0_sortViews cX0_sortViews 3 1 26 D (tX ca) (wX h ad ca st pa ac so kc he pl wk ar ot cn tr ld mb tb mt) sz [.ref h] (fun (u : Nat × (Nat → Nat) × (Nat → Nat) × (Nat → Int32)) => SV cn tr u.1 u.2.1 u.2.2.1) (fun (u : Nat × (Nat → Nat) × (Nat → Nat) × (Nat → Int32)) => (wX h ad ca st pa ac 1 u.1 he pl wk ar ot cn tr u.2.1 u.2.2.1 u.2.2.2 mt)) := by
  refine cMv.of (by decide) (Nat.le_of_ble_eq_true rfl) ?_
  intro p e R s m args below meth c A Q ls H locs ⟨hx, hb, hml, hown, hts, hR, hK, hA⟩ hP hD hS hl hret
  have hown : s.vm.findClass RX0 = some m.cls := hown
  have hl : lv_has ls 3 [(0, .ref h)] := hl
  refine lv_aload_n hx hb dX0_sortViews_0 rfl (lv_at hl 0 rfl) ?_
  refine va_get (ci := 0) (v := .int (nI so)) (C := RX0) (T := TX0) (N := 16) hx hb hts in_X0 hown hK hP 0 rfl rfl 10 (by decide) (hts _ q48) (fun _ h9 => h9) rfl dX0_sortViews_1 ?_
  refine xn_ifeq_b (tgt := 8) hx hb dX0_sortViews_4 (by decide) (by omega) (fun h0 => ?_) (fun h0 => ?_)
  · refine lv_aload_n hx hb dX0_sortViews_8 rfl (lv_at hl 0 rfl) ?_
    refine lv_iconst (v := nI 1) hx hb dX0_sortViews_9 (by decide) ?_
    refine va_put (ci := 0) (v := .int (nI 1)) (ty := .boolean) (C := RX0) (T := TX0) (N := 16) hx hb hts in_X0 tyX0 tyX0_ok nmX0 hown hK hP hD hS 0 rfl rfl 10 (by decide) (hts _ q48) (fun _ h9 => h9) rfl (by decide +kernel) rfl rfl (Nat.le_of_ble_eq_true rfl) dX0_sortViews_10 (fun H locs hP hD hS => ?_)
    have hP : va_P D vwCl (wX h ad ca st pa ac 1 kc he pl wk ar ot cn tr ld mb tb mt) H := hP
    have hD : va_D A (wX h ad ca st pa ac 1 kc he pl wk ar ot cn tr ld mb tb mt) := hD
    refine lv_aload_n hx hb dX0_sortViews_13 rfl (lv_at hl 0 rfl) ?_
    refine lv_iconst (v := nI 0) hx hb dX0_sortViews_14 (by decide) ?_
    refine va_put (ci := 0) (v := .int (nI 0)) (ty := .int) (C := RX0) (T := TX0) (N := 16) hx hb hts in_X0 tyX0 tyX0_ok nmX0 hown hK hP hD hS 0 rfl rfl 11 (by decide) (hts _ q49) (fun _ h9 => h9) rfl (by decide +kernel) rfl rfl (Nat.le_of_ble_eq_true rfl) dX0_sortViews_15 (fun H locs hP hD hS => ?_)
    have hP : va_P D vwCl (wX h ad ca st pa ac 1 0 he pl wk ar ot cn tr ld mb tb mt) H := hP
    have hD : va_D A (wX h ad ca st pa ac 1 0 he pl wk ar ot cn tr ld mb tb mt) := hD
    refine lv_iconst (v := nI 0) hx hb dX0_sortViews_18 (by decide) ?_
    refine lv_istore_n (lv' := [(1, .int (nI 0)), (0, .ref h)]) hx hb dX0_sortViews_19 rfl hl (by decide) rfl (fun ls hl => ?_)
    refine lp_w (nL := 3) (pc := 20) 128 (fun (u : (Nat → Int32)) => (wX h ad ca st pa ac 1 0 he pl wk ar ot cn tr ld mb u mt)) (fun (i : Nat) (u : (Nat → Int32)) => [(0, .ref h), (1, .int (nI i))]) (fun (i : Nat) (u : (Nat → Int32)) => ∀ j, j < i → u j = -1) ?_ ?_ 0 (tb) _ _ _ (by omega) (fun j hj => absurd hj (by omega)) hP hD hS (lv_sub hl [1, 0] rfl)
    · rintro tx H locs ls hJ hP hD hS hl
      have hJ : ∀ j, j < 128 → tx j = -1 := hJ
      have hP : va_P D vwCl (wX h ad ca st pa ac 1 0 he pl wk ar ot cn tr ld mb tx mt) H := hP
      have hD : va_D A (wX h ad ca st pa ac 1 0 he pl wk ar ot cn tr ld mb tx mt) := hD
      have hl : lv_has ls 3 [(0, .ref h), (1, .int (nI 128))] := hl
      refine lv_iload_n hx hb dX0_sortViews_20 rfl (lv_at hl 1 rfl) ?_
      refine lv_sipush (v := nI 128) hx hb dX0_sortViews_21 (by decide) ?_
      refine xn_ge_t (tgt := 40) hx hb dX0_sortViews_24 (by decide) (by omega) (by omega) ?_
      refine lv_iconst (v := nI 0) hx hb dX0_sortViews_40 (by decide) ?_
      refine lv_istore_n (lv' := [(1, .int (nI 0)), (0, .ref h)]) hx hb dX0_sortViews_41 rfl hl (by decide) rfl (fun ls hl => ?_)
      refine lp_w (nL := 3) (pc := 42) 64 (fun (u : Nat × (Nat → Nat) × (Nat → Nat) × (Nat → Int32)) => (wX h ad ca st pa ac 1 u.1 he pl wk ar ot cn tr u.2.1 u.2.2.1 u.2.2.2 mt)) (fun (i : Nat) (u : Nat × (Nat → Nat) × (Nat → Nat) × (Nat → Int32)) => [(0, .ref h), (1, .int (nI i))]) (fun (i : Nat) (u : Nat × (Nat → Nat) × (Nat → Nat) × (Nat → Int32)) => SI cn tr i u.1 u.2.1 u.2.2.1 u.2.2.2) ?_ ?_ 0 (0, ld, mb, tx) _ _ _ (by omega) (SI_0 hJ) hP hD hS (lv_sub hl [1, 0] rfl)
      · rintro ⟨kx, lx, mx, ty⟩ H locs ls hJ hP hD hS hl
        have hJ : SI cn tr 64 kx lx mx ty := hJ
        have hP : va_P D vwCl (wX h ad ca st pa ac 1 kx he pl wk ar ot cn tr lx mx ty mt) H := hP
        have hD : va_D A (wX h ad ca st pa ac 1 kx he pl wk ar ot cn tr lx mx ty mt) := hD
        have hl : lv_has ls 3 [(0, .ref h), (1, .int (nI 64))] := hl
        refine lv_iload_n hx hb dX0_sortViews_42 rfl (lv_at hl 1 rfl) ?_
        refine lv_bipush (v := nI 64) hx hb dX0_sortViews_43 (by decide) ?_
        refine xn_ge_t (tgt := 120) hx hb dX0_sortViews_45 (by decide) (by omega) (by omega) ?_
        exact hret 120 ls H locs (kx, lx, mx, ty) dX0_sortViews_120 (SI_end hJ) hP hD hS
      · rintro i ⟨kx, lx, mx, ty⟩ H locs ls hi hJ hP hD hS hl ih
        have hJ : SI cn tr i kx lx mx ty := hJ
        have hP : va_P D vwCl (wX h ad ca st pa ac 1 kx he pl wk ar ot cn tr lx mx ty mt) H := hP
        have hD : va_D A (wX h ad ca st pa ac 1 kx he pl wk ar ot cn tr lx mx ty mt) := hD
        have hl : lv_has ls 3 [(0, .ref h), (1, .int (nI i))] := hl
        refine lv_iload_n hx hb dX0_sortViews_42 rfl (lv_at hl 1 rfl) ?_
        refine lv_bipush (v := nI 64) hx hb dX0_sortViews_43 (by decide) ?_
        refine xn_ge_f (tgt := 120) hx hb dX0_sortViews_45 (by decide) hi (by omega) ?_
        refine lv_aload_n hx hb dX0_sortViews_48 rfl (lv_at hl 0 rfl) ?_
        refine va_get (ci := 0) (v := .ref (ad 8)) (C := RX0) (T := TX0) (N := 16) hx hb hts in_X0 hown hK hP 0 rfl rfl 13 (by decide) (hts _ q51) (fun _ h9 => h9) rfl dX0_sortViews_49 ?_
        refine lv_iload_n hx hb dX0_sortViews_52 rfl (lv_at hl 1 rfl) ?_
        refine lv_iconst (v := nI 0) hx hb dX0_sortViews_53 (by decide) ?_
        refine xn_ast (k := i) hx hb hK hP hD hS 9 8 rfl rfl (by omega) (by decide) dX0_sortViews_54 (fun H locs hP hD hS => ?_)
        have hP : va_P D vwCl (wX h ad ca st pa ac 1 kx he pl wk ar ot cn tr lx (va_up mx i 0) ty mt) H := hP
        have hD : va_D A (wX h ad ca st pa ac 1 kx he pl wk ar ot cn tr lx (va_up mx i 0) ty mt) := hD
        refine lv_aload_n hx hb dX0_sortViews_55 rfl (lv_at hl 0 rfl) ?_
        refine lv_iload_n hx hb dX0_sortViews_56 rfl (lv_at hl 1 rfl) ?_
        refine kv_i (n := 1) (As := [.int (nI i)]) (rest := []) ⟨hx, hb, hml, hown, hts⟩ (cX_placeInTable l D h ad ca H.size st pa ac 1 kx he pl wk ar ot cn tr lx (va_up mx i 0) ty mt i hi hcn (SI_tb hi hJ) (SI_ex hi hJ i)) (lw_V q159 q161 qs14 q23 q162) (by decide +kernel) ⟨by rw [hR.1]; decide, by rw [hR.2]; decide⟩ ⟨Nat.zero_le _, Nat.zero_le _⟩ hK hP hD hS hA (ci := 0) rfl rfl rfl rfl hl.1 rfl (Nat.le_of_ble_eq_true rfl) dX0_sortViews_57 (fun r _u H locs hw hP hD hS => ?_)
        have hP : va_P D vwCl (wX h ad ca st pa ac 1 kx he pl wk ar ot cn tr lx (va_up mx i 0) ty mt) H := hP
        have hD : va_D A (wX h ad ca st pa ac 1 kx he pl wk ar ot cn tr lx (va_up mx i 0) ty mt) := hD
        obtain ⟨k, hk, rfl, hst, hno⟩ := hw
        refine lv_istore_n (lv' := [(2, .int (nI ((hsh (cn i) (tr i) + k) % 128))), (0, .ref h), (1, .int (nI i))]) hx hb dX0_sortViews_60 rfl hl (by decide) rfl (fun ls hl => ?_)
        refine lv_aload_n hx hb dX0_sortViews_61 rfl (lv_at hl 1 rfl) ?_
        refine va_get (ci := 0) (v := .ref (ad 9)) (C := RX0) (T := TX0) (N := 16) hx hb hts in_X0 hown hK hP 0 rfl rfl 14 (by decide) (hts _ q52) (fun _ h9 => h9) rfl dX0_sortViews_62 ?_
        refine lv_iload_n hx hb dX0_sortViews_65 rfl (lv_at hl 0 rfl) ?_
        refine xi_ald (k := ((hsh (cn i) (tr i) + k) % 128)) hx hb hK hP 10 9 rfl rfl (by omega) (by decide) dX0_sortViews_66 ?_
        refine lv_if_ge (tgt := 87) hx hb dX0_sortViews_67 (by decide) (fun h1 => ?_) (fun h1 => ?_)
        · obtain ⟨t, ht, et, e1, e2⟩ : ∃ t, t < 64 ∧ ty ((hsh (cn i) (tr i) + k) % 128) = nI t ∧ tr t = tr i ∧ cn t = cn i := hst.resolve_left (fun q => by rw [q] at h1; exact absurd h1 (by decide))
          refine lv_aload_n hx hb dX0_sortViews_87 rfl (lv_at hl 1 rfl) ?_
          refine va_get (ci := 0) (v := .ref (ad 7)) (C := RX0) (T := TX0) (N := 16) hx hb hts in_X0 hown hK hP 0 rfl rfl 12 (by decide) (hts _ q50) (fun _ h9 => h9) rfl dX0_sortViews_88 ?_
          refine lv_iload_n hx hb dX0_sortViews_91 rfl (lv_at hl 2 rfl) ?_
          refine lv_aload_n hx hb dX0_sortViews_92 rfl (lv_at hl 1 rfl) ?_
          refine va_get (ci := 0) (v := .ref (ad 9)) (C := RX0) (T := TX0) (N := 16) hx hb hts in_X0 hown hK hP 0 rfl rfl 14 (by decide) (hts _ q52) (fun _ h9 => h9) rfl dX0_sortViews_93 ?_
          refine lv_iload_n hx hb dX0_sortViews_96 rfl (lv_at hl 0 rfl) ?_
          refine xi_ald (k := ((hsh (cn i) (tr i) + k) % 128)) hx hb hK hP 10 9 rfl rfl (by omega) (by decide) dX0_sortViews_97 ?_
          refine xt_i (y := nI t) et ?_
          refine xn_ast (k := i) hx hb hK hP hD hS 8 7 rfl rfl (by omega) (by decide) dX0_sortViews_98 (fun H locs hP hD hS => ?_)
          have hP : va_P D vwCl (wX h ad ca st pa ac 1 kx he pl wk ar ot cn tr (va_up lx i t) (va_up mx i 0) ty mt) H := hP
          have hD : va_D A (wX h ad ca st pa ac 1 kx he pl wk ar ot cn tr (va_up lx i t) (va_up mx i 0) ty mt) := hD
          refine lv_aload_n hx hb dX0_sortViews_99 rfl (lv_at hl 1 rfl) ?_
          refine va_get (ci := 0) (v := .ref (ad 8)) (C := RX0) (T := TX0) (N := 16) hx hb hts in_X0 hown hK hP 0 rfl rfl 13 (by decide) (hts _ q51) (fun _ h9 => h9) rfl dX0_sortViews_100 ?_
          refine lv_aload_n hx hb dX0_sortViews_103 rfl (lv_at hl 1 rfl) ?_
          refine va_get (ci := 0) (v := .ref (ad 9)) (C := RX0) (T := TX0) (N := 16) hx hb hts in_X0 hown hK hP 0 rfl rfl 14 (by decide) (hts _ q52) (fun _ h9 => h9) rfl dX0_sortViews_104 ?_
          refine lv_iload_n hx hb dX0_sortViews_107 rfl (lv_at hl 0 rfl) ?_
          refine xi_ald (k := ((hsh (cn i) (tr i) + k) % 128)) hx hb hK hP 10 9 rfl rfl (by omega) (by decide) dX0_sortViews_108 ?_
          refine xt_i (y := nI t) et ?_
          refine lv_dup2_11 hx hb dX0_sortViews_109 rfl rfl ?_
          refine xn_ald (k := t) hx hb hK hP 9 8 rfl rfl (by omega) (by decide) dX0_sortViews_110 ?_
          refine lv_iconst (v := nI 1) hx hb dX0_sortViews_111 (by decide) ?_
          refine xi_add hx hb dX0_sortViews_112 ?_
          refine xn_ast (k := t) hx hb hK hP hD hS 9 8 rfl rfl (by omega) (by decide) dX0_sortViews_113 (fun H locs hP hD hS => ?_)
          have hP : va_P D vwCl (wX h ad ca st pa ac 1 kx he pl wk ar ot cn tr (va_up lx i t) (va_up (va_up mx i 0) t ((va_up mx i 0) t + 1)) ty mt) H := hP
          have hD : va_D A (wX h ad ca st pa ac 1 kx he pl wk ar ot cn tr (va_up lx i t) (va_up (va_up mx i 0) t ((va_up mx i 0) t + 1)) ty mt) := hD
          refine lv_iinc (v := nI (i + 1)) (lv' := [(1, .int (nI (i + 1))), (2, .int (nI ((hsh (cn i) (tr i) + k) % 128))), (0, .ref h)]) hx hb dX0_sortViews_114 hl (k := 2) rfl (xi_inc1 _) (by decide) rfl (fun ls hl => ?_)
          refine lv_goto (tgt := 42) hx hb dX0_sortViews_117 (by decide) ?_
          exact ih (kx, va_up lx i t, va_up (va_up mx i 0) t ((va_up mx i 0) t + 1), ty) _ _ _ (SI_occ hi hJ ht et e1 e2) hP hD hS (lv_sub hl [2, 0] rfl)
        · have hf : ty ((hsh (cn i) (tr i) + k) % 128) = -1 := hst.resolve_right (fun ⟨t, ht, et, _⟩ => h1 (by rw [et]; exact nI_pos' (by omega)))
          refine lv_aload_n hx hb dX0_sortViews_70 rfl (lv_at hl 1 rfl) ?_
          refine va_get (ci := 0) (v := .ref (ad 9)) (C := RX0) (T := TX0) (N := 16) hx hb hts in_X0 hown hK hP 0 rfl rfl 14 (by decide) (hts _ q52) (fun _ h9 => h9) rfl dX0_sortViews_71 ?_
          refine lv_iload_n hx hb dX0_sortViews_74 rfl (lv_at hl 0 rfl) ?_
          refine lv_iload_n hx hb dX0_sortViews_75 rfl (lv_at hl 2 rfl) ?_
          refine xi_ast (k := ((hsh (cn i) (tr i) + k) % 128)) hx hb hK hP hD hS 10 9 rfl rfl (by omega) (by decide) dX0_sortViews_76 (fun H locs hP hD hS => ?_)
          have hP : va_P D vwCl (wX h ad ca st pa ac 1 kx he pl wk ar ot cn tr lx (va_up mx i 0) (upd ty ((hsh (cn i) (tr i) + k) % 128) (nI i)) mt) H := hP
          have hD : va_D A (wX h ad ca st pa ac 1 kx he pl wk ar ot cn tr lx (va_up mx i 0) (upd ty ((hsh (cn i) (tr i) + k) % 128) (nI i)) mt) := hD
          refine lv_aload_n hx hb dX0_sortViews_77 rfl (lv_at hl 1 rfl) ?_
          refine lv_dup hx hb dX0_sortViews_78 rfl ?_
          refine va_get (ci := 0) (v := .int (nI kx)) (C := RX0) (T := TX0) (N := 16) hx hb hts in_X0 hown hK hP 0 rfl rfl 11 (by decide) (hts _ q49) (fun _ h9 => h9) rfl dX0_sortViews_79 ?_
          refine lv_iconst (v := nI 1) hx hb dX0_sortViews_82 (by decide) ?_
          refine xi_add hx hb dX0_sortViews_83 ?_
          refine va_put (ci := 0) (v := .int (nI (kx + 1))) (ty := .int) (C := RX0) (T := TX0) (N := 16) hx hb hts in_X0 tyX0 tyX0_ok nmX0 hown hK hP hD hS 0 rfl rfl 11 (by decide) (hts _ q49) (fun _ h9 => h9) rfl (by decide +kernel) rfl rfl (Nat.le_of_ble_eq_true rfl) dX0_sortViews_84 (fun H locs hP hD hS => ?_)
          have hP : va_P D vwCl (wX h ad ca st pa ac 1 (kx + 1) he pl wk ar ot cn tr lx (va_up mx i 0) (upd ty ((hsh (cn i) (tr i) + k) % 128) (nI i)) mt) H := hP
          have hD : va_D A (wX h ad ca st pa ac 1 (kx + 1) he pl wk ar ot cn tr lx (va_up mx i 0) (upd ty ((hsh (cn i) (tr i) + k) % 128) (nI i)) mt) := hD
          refine lv_aload_n hx hb dX0_sortViews_87 rfl (lv_at hl 1 rfl) ?_
          refine va_get (ci := 0) (v := .ref (ad 7)) (C := RX0) (T := TX0) (N := 16) hx hb hts in_X0 hown hK hP 0 rfl rfl 12 (by decide) (hts _ q50) (fun _ h9 => h9) rfl dX0_sortViews_88 ?_
          refine lv_iload_n hx hb dX0_sortViews_91 rfl (lv_at hl 2 rfl) ?_
          refine lv_aload_n hx hb dX0_sortViews_92 rfl (lv_at hl 1 rfl) ?_
          refine va_get (ci := 0) (v := .ref (ad 9)) (C := RX0) (T := TX0) (N := 16) hx hb hts in_X0 hown hK hP 0 rfl rfl 14 (by decide) (hts _ q52) (fun _ h9 => h9) rfl dX0_sortViews_93 ?_
          refine lv_iload_n hx hb dX0_sortViews_96 rfl (lv_at hl 0 rfl) ?_
          refine xi_ald (k := ((hsh (cn i) (tr i) + k) % 128)) hx hb hK hP 10 9 rfl rfl (by omega) (by decide) dX0_sortViews_97 ?_
          refine xt_i (y := nI i) pk_us ?_
          refine xn_ast (k := i) hx hb hK hP hD hS 8 7 rfl rfl (by omega) (by decide) dX0_sortViews_98 (fun H locs hP hD hS => ?_)
          have hP : va_P D vwCl (wX h ad ca st pa ac 1 (kx + 1) he pl wk ar ot cn tr (va_up lx i i) (va_up mx i 0) (upd ty ((hsh (cn i) (tr i) + k) % 128) (nI i)) mt) H := hP
          have hD : va_D A (wX h ad ca st pa ac 1 (kx + 1) he pl wk ar ot cn tr (va_up lx i i) (va_up mx i 0) (upd ty ((hsh (cn i) (tr i) + k) % 128) (nI i)) mt) := hD
          refine lv_aload_n hx hb dX0_sortViews_99 rfl (lv_at hl 1 rfl) ?_
          refine va_get (ci := 0) (v := .ref (ad 8)) (C := RX0) (T := TX0) (N := 16) hx hb hts in_X0 hown hK hP 0 rfl rfl 13 (by decide) (hts _ q51) (fun _ h9 => h9) rfl dX0_sortViews_100 ?_
          refine lv_aload_n hx hb dX0_sortViews_103 rfl (lv_at hl 1 rfl) ?_
          refine va_get (ci := 0) (v := .ref (ad 9)) (C := RX0) (T := TX0) (N := 16) hx hb hts in_X0 hown hK hP 0 rfl rfl 14 (by decide) (hts _ q52) (fun _ h9 => h9) rfl dX0_sortViews_104 ?_
          refine lv_iload_n hx hb dX0_sortViews_107 rfl (lv_at hl 0 rfl) ?_
          refine xi_ald (k := ((hsh (cn i) (tr i) + k) % 128)) hx hb hK hP 10 9 rfl rfl (by omega) (by decide) dX0_sortViews_108 ?_
          refine xt_i (y := nI i) pk_us ?_
          refine lv_dup2_11 hx hb dX0_sortViews_109 rfl rfl ?_
          refine xn_ald (k := i) hx hb hK hP 9 8 rfl rfl (by omega) (by decide) dX0_sortViews_110 ?_
          refine lv_iconst (v := nI 1) hx hb dX0_sortViews_111 (by decide) ?_
          refine xi_add hx hb dX0_sortViews_112 ?_
          refine xn_ast (k := i) hx hb hK hP hD hS 9 8 rfl rfl (by omega) (by decide) dX0_sortViews_113 (fun H locs hP hD hS => ?_)
          have hP : va_P D vwCl (wX h ad ca st pa ac 1 (kx + 1) he pl wk ar ot cn tr (va_up lx i i) (va_up (va_up mx i 0) i ((va_up mx i 0) i + 1)) (upd ty ((hsh (cn i) (tr i) + k) % 128) (nI i)) mt) H := hP
          have hD : va_D A (wX h ad ca st pa ac 1 (kx + 1) he pl wk ar ot cn tr (va_up lx i i) (va_up (va_up mx i 0) i ((va_up mx i 0) i + 1)) (upd ty ((hsh (cn i) (tr i) + k) % 128) (nI i)) mt) := hD
          refine lv_iinc (v := nI (i + 1)) (lv' := [(1, .int (nI (i + 1))), (2, .int (nI ((hsh (cn i) (tr i) + k) % 128))), (0, .ref h)]) hx hb dX0_sortViews_114 hl (k := 2) rfl (xi_inc1 _) (by decide) rfl (fun ls hl => ?_)
          refine lv_goto (tgt := 42) hx hb dX0_sortViews_117 (by decide) ?_
          exact ih (kx + 1, va_up lx i i, va_up (va_up mx i 0) i ((va_up mx i 0) i + 1), upd ty ((hsh (cn i) (tr i) + k) % 128) (nI i)) _ _ _ (SI_free hi hJ hk hf hno) hP hD hS (lv_sub hl [2, 0] rfl)
    · rintro i tx H locs ls hi hJ hP hD hS hl ih
      have hJ : ∀ j, j < i → tx j = -1 := hJ
      have hP : va_P D vwCl (wX h ad ca st pa ac 1 0 he pl wk ar ot cn tr ld mb tx mt) H := hP
      have hD : va_D A (wX h ad ca st pa ac 1 0 he pl wk ar ot cn tr ld mb tx mt) := hD
      have hl : lv_has ls 3 [(0, .ref h), (1, .int (nI i))] := hl
      refine lv_iload_n hx hb dX0_sortViews_20 rfl (lv_at hl 1 rfl) ?_
      refine lv_sipush (v := nI 128) hx hb dX0_sortViews_21 (by decide) ?_
      refine xn_ge_f (tgt := 40) hx hb dX0_sortViews_24 (by decide) hi (by omega) ?_
      refine lv_aload_n hx hb dX0_sortViews_27 rfl (lv_at hl 0 rfl) ?_
      refine va_get (ci := 0) (v := .ref (ad 9)) (C := RX0) (T := TX0) (N := 16) hx hb hts in_X0 hown hK hP 0 rfl rfl 14 (by decide) (hts _ q52) (fun _ h9 => h9) rfl dX0_sortViews_28 ?_
      refine lv_iload_n hx hb dX0_sortViews_31 rfl (lv_at hl 1 rfl) ?_
      refine lv_iconst (v := (-1)) hx hb dX0_sortViews_32 (by decide) ?_
      refine xi_ast (k := i) hx hb hK hP hD hS 10 9 rfl rfl (by omega) (by decide) dX0_sortViews_33 (fun H locs hP hD hS => ?_)
      have hP : va_P D vwCl (wX h ad ca st pa ac 1 0 he pl wk ar ot cn tr ld mb (upd tx i (-1)) mt) H := hP
      have hD : va_D A (wX h ad ca st pa ac 1 0 he pl wk ar ot cn tr ld mb (upd tx i (-1)) mt) := hD
      refine lv_iinc (v := nI (i + 1)) (lv' := [(1, .int (nI (i + 1))), (0, .ref h)]) hx hb dX0_sortViews_34 hl (k := 1) rfl (xi_inc1 _) (by decide) rfl (fun ls hl => ?_)
      refine lv_goto (tgt := 20) hx hb dX0_sortViews_37 (by decide) ?_
      exact ih (upd tx i (-1)) _ _ _ (tab_J hJ) hP hD hS (lv_sub hl [1, 0] rfl)
  · obtain rfl : so = 1 := by omega
    exact hret 7 ls H locs (kc, ld, mb, tb) dX0_sortViews_7 (hsv rfl) hP hD hS
end
section
set_option maxRecDepth 100000
/-! LeakageMeter's public methods, against the program -/
abbrev XS : Type := Nat × Nat × Int64 × Nat × Nat × (Nat → Nat) × (Nat → Int64) × (Nat → Int64) × (Nat → Int64) × (Nat → Int64) × (Nat → Nat) × (Nat → Int64) × (Nat → Nat) × (Nat → Nat) × (Nat → Int32) × (Nat → Nat)
abbrev XRu (cd : Nat → Nat) (lf rt : Nat → Int32) (n : Nat) (u : XS) : Prop := XR cd lf rt n u.1 u.2.1 u.2.2.1 u.2.2.2.1 u.2.2.2.2.1 u.2.2.2.2.2.1 u.2.2.2.2.2.2.1 u.2.2.2.2.2.2.2.2.1 u.2.2.2.2.2.2.2.2.2.1 u.2.2.2.2.2.2.2.2.2.2.1 u.2.2.2.2.2.2.2.2.2.2.2.1 u.2.2.2.2.2.2.2.2.2.2.2.2.1 u.2.2.2.2.2.2.2.2.2.2.2.2.2.1
/-- alike, by the program -/
def kI (cd : Nat → Nat) (lf rt : Nat → Int32) (n s t : Nat) : Bool := decide ((ic cd lf rt s n).2.1 = (ic cd lf rt t n).2.1) && decide ((ic cd lf rt s n).2.2.1 = (ic cd lf rt t n).2.2.1)
theorem tn_lt (cd : Nat → Nat) (lf rt : Nat → Int32) {s : Nat} (hs : s < 64) (n : Nat) : (ic cd lf rt s n).2.2.1 < 2 ^ 56 := by
  have h := ic_lt cd lf rt hs n
  have hp : 256 ^ (ic cd lf rt s n).2.1 ≤ 256 ^ 7 := Nat.pow_le_pow_right (by omega) h.2.1
  exact Nat.lt_of_lt_of_le h.2.2 (Nat.le_trans hp (by decide))
theorem XR_kq {cd : Nat → Nat} {lf rt : Nat → Int32} {n st pa : Nat} {ac : Int64} {so kc : Nat} {he : Nat → Nat} {pl ar ot : Nat → Int64} {cn : Nat → Nat} {tr : Nat → Int64} {ld mb : Nat → Nat} (h : XR cd lf rt n st pa ac so kc he pl ar ot cn tr ld mb) {s t : Nat} (hs : s < 64) (ht : t < 64) : kq cn tr s t = kI cd lf rt n s t := by
  have a1 := tn_lt cd lf rt hs n
  have a2 := tn_lt cd lf rt ht n
  unfold kq kI
  rw [h.2.2.2.1 s hs, h.2.2.2.1 t ht, h.2.2.2.2.1 s hs, h.2.2.2.2.1 t ht]
  congr 1
  rw [Bool.eq_iff_iff, decide_eq_true_iff, decide_eq_true_iff]
  exact pk_lEQ (by omega) (by omega)
theorem XR_sv {cd : Nat → Nat} {lf rt : Nat → Int32} {n st pa : Nat} {ac : Int64} {so kc kc' : Nat} {he : Nat → Nat} {pl ar ot : Nat → Int64} {cn : Nat → Nat} {tr : Nat → Int64} {ld mb ld' mb' : Nat → Nat} (h : XR cd lf rt n st pa ac so kc he pl ar ot cn tr ld mb) (hs : SV cn tr kc' ld' mb') : XR cd lf rt n st pa ac 1 kc' he pl ar ot cn tr ld' mb' := by
  obtain ⟨h1, h2, h3, h4, h5, h6, h7, h8, -⟩ := h
  exact ⟨h1, h2, h3, h4, h5, h6, h7, h8, by omega, fun _ => hs⟩
theorem ub_nI {n : Nat} (h : n < 2 ^ 32) : ub (nI n) = n := pk_tn h
/-- the answer of output(secret, place) -/
def outv (c t : Nat) (p : Int32) : Int32 := if p < 0 ∨ nI c ≤ p then -1 else nI (t / 256 ^ (c - 1 - p.toNatClampNeg) % 256)
set_option maxHeartbeats 4000000 in
/-- open(): how many parts are open -/
theorem cX_open (l : Launch) (D : va_G) (h : Nat) (ad : Nat → Nat) (ca : Nat → ClassId) (sz : Nat) (st pa : Nat) (ac : Int64) (so kc : Nat) (he : Nat → Nat) (pl wk ar ot : Nat → Int64) (cn : Nat → Nat) (tr : Nat → Int64) (ld mb : Nat → Nat) (tb : Nat → Int32) (mt : Nat → Nat) (cd : Nat → Nat) (lf rt : Nat → Int32) (n : Nat)  (hX : XR cd lf rt n st pa ac so kc he pl ar ot cn tr ld mb) : cMi l yX0_open cX0_open 1 .int 0 0 D (tX ca) (wX h ad ca st pa ac so kc he pl wk ar ot cn tr ld mb tb mt) sz [.ref h] (fun (r : Int32) (u : XS) => r = nI (dp cd n) ∧ XRu cd lf rt n u) (fun (u : XS) => (wX h ad ca u.1 u.2.1 u.2.2.1 u.2.2.2.1 u.2.2.2.2.1 u.2.2.2.2.2.1 u.2.2.2.2.2.2.1 u.2.2.2.2.2.2.2.1 u.2.2.2.2.2.2.2.2.1 u.2.2.2.2.2.2.2.2.2.1 u.2.2.2.2.2.2.2.2.2.2.1 u.2.2.2.2.2.2.2.2.2.2.2.1 u.2.2.2.2.2.2.2.2.2.2.2.2.1 u.2.2.2.2.2.2.2.2.2.2.2.2.2.1 u.2.2.2.2.2.2.2.2.2.2.2.2.2.2.1 u.2.2.2.2.2.2.2.2.2.2.2.2.2.2.2)) := by
  refine cMi.of (by decide) (Nat.le_of_ble_eq_true rfl) ?_
  intro p e R s m args below meth c A Q ls H locs ⟨hx, hb, hml, hown, hts, hR, hK, hA⟩ hP hD hS hl hret
  have hown : s.vm.findClass RX0 = some m.cls := hown
  have hl : lv_has ls 1 [(0, .ref h)] := hl
  refine lv_aload_n hx hb dX0_open_0 rfl (lv_at hl 0 rfl) ?_
  refine va_get (ci := 0) (v := .int (nI pa)) (C := RX0) (T := TX0) (N := 16) hx hb hts in_X0 hown hK hP 0 rfl rfl 1 (by decide) (hts _ q39) (fun _ h9 => h9) rfl dX0_open_1 ?_
  exact hret 4 ls H locs (nI pa) (st, pa, ac, so, kc, he, pl, wk, ar, ot, cn, tr, ld, mb, tb, mt) dX0_open_4 rfl ⟨by rw [hX.2.1], hX⟩ hP hD hS
set_option maxHeartbeats 4000000 in
/-- classes() -/
theorem cX_classes (l : Launch) (D : va_G) (h : Nat) (ad : Nat → Nat) (ca : Nat → ClassId) (sz : Nat) (st pa : Nat) (ac : Int64) (so kc : Nat) (he : Nat → Nat) (pl wk ar ot : Nat → Int64) (cn : Nat → Nat) (tr : Nat → Int64) (ld mb : Nat → Nat) (tb : Nat → Int32) (mt : Nat → Nat) (cd : Nat → Nat) (lf rt : Nat → Int32) (n : Nat)  (hX : XR cd lf rt n st pa ac so kc he pl ar ot cn tr ld mb) : cMi l yX0_classes cX0_classes 1 .int 2 48 D (tX ca) (wX h ad ca st pa ac so kc he pl wk ar ot cn tr ld mb tb mt) sz [.ref h] (fun (r : Int32) (u : XS) => r = nI (dif (kI cd lf rt n) 0 64) ∧ XRu cd lf rt n u) (fun (u : XS) => (wX h ad ca u.1 u.2.1 u.2.2.1 u.2.2.2.1 u.2.2.2.2.1 u.2.2.2.2.2.1 u.2.2.2.2.2.2.1 u.2.2.2.2.2.2.2.1 u.2.2.2.2.2.2.2.2.1 u.2.2.2.2.2.2.2.2.2.1 u.2.2.2.2.2.2.2.2.2.2.1 u.2.2.2.2.2.2.2.2.2.2.2.1 u.2.2.2.2.2.2.2.2.2.2.2.2.1 u.2.2.2.2.2.2.2.2.2.2.2.2.2.1 u.2.2.2.2.2.2.2.2.2.2.2.2.2.2.1 u.2.2.2.2.2.2.2.2.2.2.2.2.2.2.2)) := by
  refine cMi.of (by decide) (Nat.le_of_ble_eq_true rfl) ?_
  intro p e R s m args below meth c A Q ls H locs ⟨hx, hb, hml, hown, hts, hR, hK, hA⟩ hP hD hS hl hret
  have hown : s.vm.findClass RX0 = some m.cls := hown
  have hl : lv_has ls 1 [(0, .ref h)] := hl
  refine lv_aload_n hx hb dX0_classes_0 rfl (lv_at hl 0 rfl) ?_
  refine kv_v (n := 0) (As := []) (rest := []) ⟨hx, hb, hml, hown, hts⟩ (cX_sortViews l D h ad ca H.size st pa ac so kc he pl wk ar ot cn tr ld mb tb mt hX.cn7 hX.2.2.2.2.2.2.2.2.1 hX.2.2.2.2.2.2.2.2.2) (lw_V q155 q157 qs13 q23 q158) (by decide +kernel) ⟨by rw [hR.1]; decide, by rw [hR.2]; decide⟩ ⟨Nat.zero_le _, Nat.zero_le _⟩ hK hP hD hS hA (ci := 0) rfl rfl rfl rfl hl.1 rfl (Nat.le_of_ble_eq_true rfl) dX0_classes_1 (fun ⟨kc', ld', mb', tb'⟩ H locs hw hP hD hS => ?_)
  have hP : va_P D vwCl (wX h ad ca st pa ac 1 kc' he pl wk ar ot cn tr ld' mb' tb' mt) H := hP
  have hD : va_D A (wX h ad ca st pa ac 1 kc' he pl wk ar ot cn tr ld' mb' tb' mt) := hD
  have hw : SV cn tr kc' ld' mb' := hw
  have hX' := XR_sv hX hw
  refine lv_aload_n hx hb dX0_classes_4 rfl (lv_at hl 0 rfl) ?_
  refine va_get (ci := 0) (v := .int (nI kc')) (C := RX0) (T := TX0) (N := 16) hx hb hts in_X0 hown hK hP 0 rfl rfl 11 (by decide) (hts _ q49) (fun _ h9 => h9) rfl dX0_classes_5 ?_
  exact hret 8 ls H locs (nI kc') (st, pa, ac, 1, kc', he, pl, wk, ar, ot, cn, tr, ld', mb', tb', mt) dX0_classes_8 rfl ⟨by rw [hw.2.2, dif_congr (fun s1 t1 h1 h2 => XR_kq hX (by omega) (by omega))], hX'⟩ hP hD hS
set_option maxHeartbeats 4000000 in
/-- least(secret) -/
theorem cX_least (l : Launch) (D : va_G) (h : Nat) (ad : Nat → Nat) (ca : Nat → ClassId) (sz : Nat) (st pa : Nat) (ac : Int64) (so kc : Nat) (he : Nat → Nat) (pl wk ar ot : Nat → Int64) (cn : Nat → Nat) (tr : Nat → Int64) (ld mb : Nat → Nat) (tb : Nat → Int32) (mt : Nat → Nat) (cd : Nat → Nat) (lf rt : Nat → Int32) (n : Nat) (x0 : Int32) (hX : XR cd lf rt n st pa ac so kc he pl ar ot cn tr ld mb) : cMi l yX0_least cX0_least 2 .int 2 48 D (tX ca) (wX h ad ca st pa ac so kc he pl wk ar ot cn tr ld mb tb mt) sz [.ref h, .int x0] (fun (r : Int32) (u : XS) => (∃ k, r = nI k ∧ k < 64 ∧ kI cd lf rt n (ub x0 % 64) k = true ∧ ∀ t, t < k → kI cd lf rt n (ub x0 % 64) t = false) ∧ XRu cd lf rt n u) (fun (u : XS) => (wX h ad ca u.1 u.2.1 u.2.2.1 u.2.2.2.1 u.2.2.2.2.1 u.2.2.2.2.2.1 u.2.2.2.2.2.2.1 u.2.2.2.2.2.2.2.1 u.2.2.2.2.2.2.2.2.1 u.2.2.2.2.2.2.2.2.2.1 u.2.2.2.2.2.2.2.2.2.2.1 u.2.2.2.2.2.2.2.2.2.2.2.1 u.2.2.2.2.2.2.2.2.2.2.2.2.1 u.2.2.2.2.2.2.2.2.2.2.2.2.2.1 u.2.2.2.2.2.2.2.2.2.2.2.2.2.2.1 u.2.2.2.2.2.2.2.2.2.2.2.2.2.2.2)) := by
  refine cMi.of (by decide) (Nat.le_of_ble_eq_true rfl) ?_
  intro p e R s m args below meth c A Q ls H locs ⟨hx, hb, hml, hown, hts, hR, hK, hA⟩ hP hD hS hl hret
  have hown : s.vm.findClass RX0 = some m.cls := hown
  have hl : lv_has ls 2 [(0, .ref h), (1, .int x0)] := hl
  refine lv_aload_n hx hb dX0_least_0 rfl (lv_at hl 0 rfl) ?_
  refine kv_v (n := 0) (As := []) (rest := []) ⟨hx, hb, hml, hown, hts⟩ (cX_sortViews l D h ad ca H.size st pa ac so kc he pl wk ar ot cn tr ld mb tb mt hX.cn7 hX.2.2.2.2.2.2.2.2.1 hX.2.2.2.2.2.2.2.2.2) (lw_V q155 q157 qs13 q23 q158) (by decide +kernel) ⟨by rw [hR.1]; decide, by rw [hR.2]; decide⟩ ⟨Nat.zero_le _, Nat.zero_le _⟩ hK hP hD hS hA (ci := 0) rfl rfl rfl rfl hl.1 rfl (Nat.le_of_ble_eq_true rfl) dX0_least_1 (fun ⟨kc', ld', mb', tb'⟩ H locs hw hP hD hS => ?_)
  have hP : va_P D vwCl (wX h ad ca st pa ac 1 kc' he pl wk ar ot cn tr ld' mb' tb' mt) H := hP
  have hD : va_D A (wX h ad ca st pa ac 1 kc' he pl wk ar ot cn tr ld' mb' tb' mt) := hD
  have hw : SV cn tr kc' ld' mb' := hw
  have hX' := XR_sv hX hw
  have hx64 : ub x0 % 64 < 64 := Nat.mod_lt _ (by decide)
  have hq := hw.1 _ hx64
  refine lv_aload_n hx hb dX0_least_4 rfl (lv_at hl 0 rfl) ?_
  refine va_get (ci := 0) (v := .ref (ad 7)) (C := RX0) (T := TX0) (N := 16) hx hb hts in_X0 hown hK hP 0 rfl rfl 12 (by decide) (hts _ q50) (fun _ h9 => h9) rfl dX0_least_5 ?_
  refine lv_iload_n hx hb dX0_least_8 rfl (lv_at hl 1 rfl) ?_
  refine lv_bipush (v := nI 63) hx hb dX0_least_9 (by decide) ?_
  refine xi_and 63 64 6 (by decide) (by decide) hx hb dX0_least_11 ?_
  refine xn_ald (k := (ub x0 % 64)) hx hb hK hP 8 7 rfl rfl (by omega) (by decide) dX0_least_12 ?_
  exact hret 13 ls H locs (nI (ld' (ub x0 % 64))) (st, pa, ac, 1, kc', he, pl, wk, ar, ot, cn, tr, ld', mb', tb', mt) dX0_least_13 rfl ⟨⟨_, rfl, by omega, by rw [← XR_kq hX hx64 (by omega)]; exact hq.2.1, fun t ht => by rw [← XR_kq hX hx64 (by omega)]; exact hq.2.2 t ht⟩, hX'⟩ hP hD hS
set_option maxHeartbeats 4000000 in
/-- alike(secret) -/
theorem cX_alike (l : Launch) (D : va_G) (h : Nat) (ad : Nat → Nat) (ca : Nat → ClassId) (sz : Nat) (st pa : Nat) (ac : Int64) (so kc : Nat) (he : Nat → Nat) (pl wk ar ot : Nat → Int64) (cn : Nat → Nat) (tr : Nat → Int64) (ld mb : Nat → Nat) (tb : Nat → Int32) (mt : Nat → Nat) (cd : Nat → Nat) (lf rt : Nat → Int32) (n : Nat) (x0 : Int32) (hX : XR cd lf rt n st pa ac so kc he pl ar ot cn tr ld mb) : cMi l yX0_alike cX0_alike 2 .int 2 48 D (tX ca) (wX h ad ca st pa ac so kc he pl wk ar ot cn tr ld mb tb mt) sz [.ref h, .int x0] (fun (r : Int32) (u : XS) => r = nI (ct (kI cd lf rt n (ub x0 % 64)) 64) ∧ XRu cd lf rt n u) (fun (u : XS) => (wX h ad ca u.1 u.2.1 u.2.2.1 u.2.2.2.1 u.2.2.2.2.1 u.2.2.2.2.2.1 u.2.2.2.2.2.2.1 u.2.2.2.2.2.2.2.1 u.2.2.2.2.2.2.2.2.1 u.2.2.2.2.2.2.2.2.2.1 u.2.2.2.2.2.2.2.2.2.2.1 u.2.2.2.2.2.2.2.2.2.2.2.1 u.2.2.2.2.2.2.2.2.2.2.2.2.1 u.2.2.2.2.2.2.2.2.2.2.2.2.2.1 u.2.2.2.2.2.2.2.2.2.2.2.2.2.2.1 u.2.2.2.2.2.2.2.2.2.2.2.2.2.2.2)) := by
  refine cMi.of (by decide) (Nat.le_of_ble_eq_true rfl) ?_
  intro p e R s m args below meth c A Q ls H locs ⟨hx, hb, hml, hown, hts, hR, hK, hA⟩ hP hD hS hl hret
  have hown : s.vm.findClass RX0 = some m.cls := hown
  have hl : lv_has ls 2 [(0, .ref h), (1, .int x0)] := hl
  refine lv_aload_n hx hb dX0_alike_0 rfl (lv_at hl 0 rfl) ?_
  refine kv_v (n := 0) (As := []) (rest := []) ⟨hx, hb, hml, hown, hts⟩ (cX_sortViews l D h ad ca H.size st pa ac so kc he pl wk ar ot cn tr ld mb tb mt hX.cn7 hX.2.2.2.2.2.2.2.2.1 hX.2.2.2.2.2.2.2.2.2) (lw_V q155 q157 qs13 q23 q158) (by decide +kernel) ⟨by rw [hR.1]; decide, by rw [hR.2]; decide⟩ ⟨Nat.zero_le _, Nat.zero_le _⟩ hK hP hD hS hA (ci := 0) rfl rfl rfl rfl hl.1 rfl (Nat.le_of_ble_eq_true rfl) dX0_alike_1 (fun ⟨kc', ld', mb', tb'⟩ H locs hw hP hD hS => ?_)
  have hP : va_P D vwCl (wX h ad ca st pa ac 1 kc' he pl wk ar ot cn tr ld' mb' tb' mt) H := hP
  have hD : va_D A (wX h ad ca st pa ac 1 kc' he pl wk ar ot cn tr ld' mb' tb' mt) := hD
  have hw : SV cn tr kc' ld' mb' := hw
  have hX' := XR_sv hX hw
  have hx64 : ub x0 % 64 < 64 := Nat.mod_lt _ (by decide)
  have hq := hw.1 _ hx64
  refine lv_aload_n hx hb dX0_alike_4 rfl (lv_at hl 0 rfl) ?_
  refine va_get (ci := 0) (v := .ref (ad 8)) (C := RX0) (T := TX0) (N := 16) hx hb hts in_X0 hown hK hP 0 rfl rfl 13 (by decide) (hts _ q51) (fun _ h9 => h9) rfl dX0_alike_5 ?_
  refine lv_aload_n hx hb dX0_alike_8 rfl (lv_at hl 0 rfl) ?_
  refine va_get (ci := 0) (v := .ref (ad 7)) (C := RX0) (T := TX0) (N := 16) hx hb hts in_X0 hown hK hP 0 rfl rfl 12 (by decide) (hts _ q50) (fun _ h9 => h9) rfl dX0_alike_9 ?_
  refine lv_iload_n hx hb dX0_alike_12 rfl (lv_at hl 1 rfl) ?_
  refine lv_bipush (v := nI 63) hx hb dX0_alike_13 (by decide) ?_
  refine xi_and 63 64 6 (by decide) (by decide) hx hb dX0_alike_15 ?_
  refine xn_ald (k := (ub x0 % 64)) hx hb hK hP 8 7 rfl rfl (by omega) (by decide) dX0_alike_16 ?_
  refine xn_ald (k := (ld' (ub x0 % 64))) hx hb hK hP 9 8 rfl rfl (by omega) (by decide) dX0_alike_17 ?_
  exact hret 18 ls H locs (nI (mb' (ld' (ub x0 % 64)))) (st, pa, ac, 1, kc', he, pl, wk, ar, ot, cn, tr, ld', mb', tb', mt) dX0_alike_18 rfl ⟨by rw [hw.2.1 _ hx64, ct_congr (fun t1 h1 => XR_kq hX hx64 h1)], hX'⟩ hP hD hS
set_option maxHeartbeats 4000000 in
/-- outputs(secret) -/
theorem cX_outputs (l : Launch) (D : va_G) (h : Nat) (ad : Nat → Nat) (ca : Nat → ClassId) (sz : Nat) (st pa : Nat) (ac : Int64) (so kc : Nat) (he : Nat → Nat) (pl wk ar ot : Nat → Int64) (cn : Nat → Nat) (tr : Nat → Int64) (ld mb : Nat → Nat) (tb : Nat → Int32) (mt : Nat → Nat) (cd : Nat → Nat) (lf rt : Nat → Int32) (n : Nat) (x0 : Int32) (hX : XR cd lf rt n st pa ac so kc he pl ar ot cn tr ld mb) : cMi l yX0_outputs cX0_outputs 2 .int 0 0 D (tX ca) (wX h ad ca st pa ac so kc he pl wk ar ot cn tr ld mb tb mt) sz [.ref h, .int x0] (fun (r : Int32) (u : XS) => r = nI (ic cd lf rt (ub x0 % 64) n).2.1 ∧ XRu cd lf rt n u) (fun (u : XS) => (wX h ad ca u.1 u.2.1 u.2.2.1 u.2.2.2.1 u.2.2.2.2.1 u.2.2.2.2.2.1 u.2.2.2.2.2.2.1 u.2.2.2.2.2.2.2.1 u.2.2.2.2.2.2.2.2.1 u.2.2.2.2.2.2.2.2.2.1 u.2.2.2.2.2.2.2.2.2.2.1 u.2.2.2.2.2.2.2.2.2.2.2.1 u.2.2.2.2.2.2.2.2.2.2.2.2.1 u.2.2.2.2.2.2.2.2.2.2.2.2.2.1 u.2.2.2.2.2.2.2.2.2.2.2.2.2.2.1 u.2.2.2.2.2.2.2.2.2.2.2.2.2.2.2)) := by
  refine cMi.of (by decide) (Nat.le_of_ble_eq_true rfl) ?_
  intro p e R s m args below meth c A Q ls H locs ⟨hx, hb, hml, hown, hts, hR, hK, hA⟩ hP hD hS hl hret
  have hown : s.vm.findClass RX0 = some m.cls := hown
  have hl : lv_has ls 2 [(0, .ref h), (1, .int x0)] := hl
  have hx64 : ub x0 % 64 < 64 := Nat.mod_lt _ (by decide)
  refine lv_aload_n hx hb dX0_outputs_0 rfl (lv_at hl 0 rfl) ?_
  refine va_get (ci := 0) (v := .ref (ad 5)) (C := RX0) (T := TX0) (N := 16) hx hb hts in_X0 hown hK hP 0 rfl rfl 8 (by decide) (hts _ q46) (fun _ h9 => h9) rfl dX0_outputs_1 ?_
  refine lv_iload_n hx hb dX0_outputs_4 rfl (lv_at hl 1 rfl) ?_
  refine lv_bipush (v := nI 63) hx hb dX0_outputs_5 (by decide) ?_
  refine xi_and 63 64 6 (by decide) (by decide) hx hb dX0_outputs_7 ?_
  refine xn_ald (k := (ub x0 % 64)) hx hb hK hP 6 5 rfl rfl (by omega) (by decide) dX0_outputs_8 ?_
  exact hret 9 ls H locs (nI (cn (ub x0 % 64))) (st, pa, ac, so, kc, he, pl, wk, ar, ot, cn, tr, ld, mb, tb, mt) dX0_outputs_9 rfl ⟨by rw [hX.2.2.2.1 _ hx64], hX⟩ hP hD hS
set_option maxHeartbeats 4000000 in
/-- end(secret, a) -/
theorem cX_end (l : Launch) (D : va_G) (h : Nat) (ad : Nat → Nat) (ca : Nat → ClassId) (sz : Nat) (st pa : Nat) (ac : Int64) (so kc : Nat) (he : Nat → Nat) (pl wk ar ot : Nat → Int64) (cn : Nat → Nat) (tr : Nat → Int64) (ld mb : Nat → Nat) (tb : Nat → Int32) (mt : Nat → Nat) (cd : Nat → Nat) (lf rt : Nat → Int32) (n : Nat) (x0 a0 : Int32) (hX : XR cd lf rt n st pa ac so kc he pl ar ot cn tr ld mb) : cMi l yX0_end cX0_end 3 .int 1 24 D (tX ca) (wX h ad ca st pa ac so kc he pl wk ar ot cn tr ld mb tb mt) sz [.ref h, .int x0, .int a0] (fun (r : Int32) (u : XS) => r = nI ((ic cd lf rt (ub x0 % 64) n).1 (ub a0 % 4)) ∧ XRu cd lf rt n u) (fun (u : XS) => (wX h ad ca u.1 u.2.1 u.2.2.1 u.2.2.2.1 u.2.2.2.2.1 u.2.2.2.2.2.1 u.2.2.2.2.2.2.1 u.2.2.2.2.2.2.2.1 u.2.2.2.2.2.2.2.2.1 u.2.2.2.2.2.2.2.2.2.1 u.2.2.2.2.2.2.2.2.2.2.1 u.2.2.2.2.2.2.2.2.2.2.2.1 u.2.2.2.2.2.2.2.2.2.2.2.2.1 u.2.2.2.2.2.2.2.2.2.2.2.2.2.1 u.2.2.2.2.2.2.2.2.2.2.2.2.2.2.1 u.2.2.2.2.2.2.2.2.2.2.2.2.2.2.2)) := by
  refine cMi.of (by decide) (Nat.le_of_ble_eq_true rfl) ?_
  intro p e R s m args below meth c A Q ls H locs ⟨hx, hb, hml, hown, hts, hR, hK, hA⟩ hP hD hS hl hret
  have hown : s.vm.findClass RX0 = some m.cls := hown
  have hl : lv_has ls 3 [(0, .ref h), (1, .int x0), (2, .int a0)] := hl
  have hx64 : ub x0 % 64 < 64 := Nat.mod_lt _ (by decide)
  have ha4 : ub a0 % 4 < 4 := Nat.mod_lt _ (by decide)
  refine lv_aload_n hx hb dX0_end_0 rfl (lv_at hl 0 rfl) ?_
  refine lv_iload_n hx hb dX0_end_1 rfl (lv_at hl 1 rfl) ?_
  refine lv_bipush (v := nI 63) hx hb dX0_end_2 (by decide) ?_
  refine xi_and 63 64 6 (by decide) (by decide) hx hb dX0_end_4 ?_
  refine lv_iload_n hx hb dX0_end_5 rfl (lv_at hl 2 rfl) ?_
  refine lv_iconst (v := nI 3) hx hb dX0_end_6 (by decide) ?_
  refine xi_and 3 4 2 (by decide) (by decide) hx hb dX0_end_7 ?_
  refine kv_i (n := 2) (As := [.int (nI (ub x0 % 64)), .int (nI (ub a0 % 4))]) (rest := []) ⟨hx, hb, hml, hown, hts⟩ (cX_valueFor l D h ad ca H.size st pa ac so kc he pl wk ar ot cn tr ld mb tb mt (ub x0 % 64) (ub a0 % 4) hx64 ha4) (lw_V q106 q108 qs3 q23 q109) (by decide +kernel) ⟨by rw [hR.1]; decide, by rw [hR.2]; decide⟩ ⟨Nat.zero_le _, Nat.zero_le _⟩ hK hP hD hS hA (ci := 0) rfl rfl rfl rfl hl.1 rfl (Nat.le_of_ble_eq_true rfl) dX0_end_8 (fun r _u H locs hw hP hD hS => ?_)
  have hP : va_P D vwCl (wX h ad ca st pa ac so kc he pl wk ar ot cn tr ld mb tb mt) H := hP
  have hD : va_D A (wX h ad ca st pa ac so kc he pl wk ar ot cn tr ld mb tb mt) := hD
  have hw : r = nI (pv pl (8 * (ub a0 % 4)) 8 (ub x0 % 64)) := hw
  subst hw
  exact hret 11 ls H locs (nI (pv pl (8 * (ub a0 % 4)) 8 (ub x0 % 64))) (st, pa, ac, so, kc, he, pl, wk, ar, ot, cn, tr, ld, mb, tb, mt) dX0_end_11 rfl ⟨by rw [hX.2.2.1 _ hx64 _ ha4], hX⟩ hP hD hS
theorem out_E {c t j : Nat} (h1 : ¬ nI j < 0) (hj : j < 2 ^ 31) (h2 : j < c) (h3 : c ≤ 7) (ht : t < 2 ^ 56) : nI (ub (nI (t / 2 ^ (8 * (c - 1 - j)))) % 256) = outv c t (nI j) := by
  unfold outv
  rw [if_neg (fun q => q.elim h1 (fun z => absurd ((nI_leI (by omega) hj).mp z) (by omega))), nI_clamp hj]
  congr 1
  have e : (256 : Nat) ^ (c - 1 - j) = 2 ^ (8 * (c - 1 - j)) := by rw [Nat.pow_mul]
  rw [e]
  unfold ub
  generalize t / 2 ^ (8 * (c - 1 - j)) = q
  show (BitVec.ofNat 32 q).toNat % 256 = q % 256
  rw [BitVec.toNat_ofNat]
  omega
set_option maxHeartbeats 4000000 in
/-- output(secret, place) -/
theorem cX_output (l : Launch) (D : va_G) (h : Nat) (ad : Nat → Nat) (ca : Nat → ClassId) (sz : Nat) (st pa : Nat) (ac : Int64) (so kc : Nat) (he : Nat → Nat) (pl wk ar ot : Nat → Int64) (cn : Nat → Nat) (tr : Nat → Int64) (ld mb : Nat → Nat) (tb : Nat → Int32) (mt : Nat → Nat) (cd : Nat → Nat) (lf rt : Nat → Int32) (n : Nat) (x0 p0 : Int32) (hX : XR cd lf rt n st pa ac so kc he pl ar ot cn tr ld mb) : cMi l yX0_output cX0_output 4 .int 0 0 D (tX ca) (wX h ad ca st pa ac so kc he pl wk ar ot cn tr ld mb tb mt) sz [.ref h, .int x0, .int p0] (fun (r : Int32) (u : XS) => r = outv (ic cd lf rt (ub x0 % 64) n).2.1 (ic cd lf rt (ub x0 % 64) n).2.2.1 p0 ∧ XRu cd lf rt n u) (fun (u : XS) => (wX h ad ca u.1 u.2.1 u.2.2.1 u.2.2.2.1 u.2.2.2.2.1 u.2.2.2.2.2.1 u.2.2.2.2.2.2.1 u.2.2.2.2.2.2.2.1 u.2.2.2.2.2.2.2.2.1 u.2.2.2.2.2.2.2.2.2.1 u.2.2.2.2.2.2.2.2.2.2.1 u.2.2.2.2.2.2.2.2.2.2.2.1 u.2.2.2.2.2.2.2.2.2.2.2.2.1 u.2.2.2.2.2.2.2.2.2.2.2.2.2.1 u.2.2.2.2.2.2.2.2.2.2.2.2.2.2.1 u.2.2.2.2.2.2.2.2.2.2.2.2.2.2.2)) := by
  refine cMi.of (by decide) (Nat.le_of_ble_eq_true rfl) ?_
  intro p e R s m args below meth c A Q ls H locs ⟨hx, hb, hml, hown, hts, hR, hK, hA⟩ hP hD hS hl hret
  have hown : s.vm.findClass RX0 = some m.cls := hown
  have hl : lv_has ls 4 [(0, .ref h), (1, .int x0), (2, .int p0)] := hl
  have hx64 : ub x0 % 64 < 64 := Nat.mod_lt _ (by decide)
  have hc7 := hX.cn7 _ hx64
  have ht56 := tn_lt cd lf rt hx64 n
  refine lv_iload_n hx hb dX0_output_0 rfl (lv_at hl 1 rfl) ?_
  refine lv_bipush (v := nI 63) hx hb dX0_output_1 (by decide) ?_
  refine xi_and 63 64 6 (by decide) (by decide) hx hb dX0_output_3 ?_
  refine lv_istore_n (lv' := [(3, .int (nI (ub x0 % 64))), (0, .ref h), (1, .int x0), (2, .int p0)]) hx hb dX0_output_4 rfl hl (by decide) rfl (fun ls hl => ?_)
  refine lv_iload_n hx hb dX0_output_5 rfl (lv_at hl 3 rfl) ?_
  refine lv_if_lt (tgt := 19) hx hb dX0_output_6 (by decide) (fun h1 => ?_) (fun h1 => ?_)
  · refine lv_iconst (v := (-1)) hx hb dX0_output_19 (by decide) ?_
    exact hret 20 ls H locs (-1) (st, pa, ac, so, kc, he, pl, wk, ar, ot, cn, tr, ld, mb, tb, mt) dX0_output_20 rfl ⟨by unfold outv; rw [if_pos (Or.inl h1)], hX⟩ hP hD hS
  · refine lv_iload_n hx hb dX0_output_9 rfl (lv_at hl 3 rfl) ?_
    refine lv_aload_n hx hb dX0_output_10 rfl (lv_at hl 1 rfl) ?_
    refine va_get (ci := 0) (v := .ref (ad 5)) (C := RX0) (T := TX0) (N := 16) hx hb hts in_X0 hown hK hP 0 rfl rfl 8 (by decide) (hts _ q46) (fun _ h9 => h9) rfl dX0_output_11 ?_
    refine lv_iload_n hx hb dX0_output_14 rfl (lv_at hl 0 rfl) ?_
    refine xn_ald (k := (ub x0 % 64)) hx hb hK hP 6 5 rfl rfl (by omega) (by decide) dX0_output_15 ?_
    refine lv_icmp_lt (tgt := 21) hx hb dX0_output_16 (by decide) (fun h2 => ?_) (fun h2 => ?_)
    · obtain ⟨j, hj, ej⟩ := nI_of h1
      subst ej
      have h2 : j < cn (ub x0 % 64) := (nI_ltI hj (by omega)).mp h2
      refine lv_aload_n hx hb dX0_output_21 rfl (lv_at hl 1 rfl) ?_
      refine va_get (ci := 0) (v := .ref (ad 6)) (C := RX0) (T := TX0) (N := 16) hx hb hts in_X0 hown hK hP 0 rfl rfl 9 (by decide) (hts _ q47) (fun _ h9 => h9) rfl dX0_output_22 ?_
      refine lv_iload_n hx hb dX0_output_25 rfl (lv_at hl 0 rfl) ?_
      refine xl_ald (k := (ub x0 % 64)) hx hb hK hP 7 6 rfl rfl (by omega) (by decide) dX0_output_26 ?_
      refine lv_bipush (v := nI 8) hx hb dX0_output_27 (by decide) ?_
      refine lv_aload_n hx hb dX0_output_29 rfl (lv_at hl 1 rfl) ?_
      refine va_get (ci := 0) (v := .ref (ad 5)) (C := RX0) (T := TX0) (N := 16) hx hb hts in_X0 hown hK hP 0 rfl rfl 8 (by decide) (hts _ q46) (fun _ h9 => h9) rfl dX0_output_30 ?_
      refine lv_iload_n hx hb dX0_output_33 rfl (lv_at hl 0 rfl) ?_
      refine xn_ald (k := (ub x0 % 64)) hx hb hK hP 6 5 rfl rfl (by omega) (by decide) dX0_output_34 ?_
      refine lv_iconst (v := nI 1) hx hb dX0_output_35 (by decide) ?_
      refine xi_sub hx hb dX0_output_36 (by omega) ?_
      refine lv_iload_n hx hb dX0_output_37 rfl (lv_at hl 3 rfl) ?_
      refine xi_sub hx hb dX0_output_38 (by omega) ?_
      refine xi_mul hx hb dX0_output_39 ?_
      refine lv_lushr (v := zushr (tr (ub x0 % 64)) (8 * (cn (ub x0 % 64) - 1 - j))) hx hb dX0_output_40 rfl ?_
      refine lv_l2i (v := (zushr (tr (ub x0 % 64)) (8 * (cn (ub x0 % 64) - 1 - j))).toInt32) hx hb dX0_output_41 rfl ?_
      refine xt_i (y := (nI ((ic cd lf rt (ub x0 % 64) n).2.2.1 / 2 ^ (8 * (cn (ub x0 % 64) - 1 - j))))) (by rw [hX.2.2.2.2.1 _ hx64]; unfold zushr; rw [wb_shr (by omega) (by omega), lN_i]) ?_
      refine lv_sipush (v := nI 255) hx hb dX0_output_42 (by decide) ?_
      refine xi_and 255 256 8 (by decide) (by decide) hx hb dX0_output_45 ?_
      exact hret 46 ls H locs (nI (ub (nI ((ic cd lf rt (ub x0 % 64) n).2.2.1 / 2 ^ (8 * (cn (ub x0 % 64) - 1 - j)))) % 256)) (st, pa, ac, so, kc, he, pl, wk, ar, ot, cn, tr, ld, mb, tb, mt) dX0_output_46 rfl ⟨by rw [← hX.2.2.2.1 _ hx64]; exact out_E h1 hj h2 (by omega) ht56, hX⟩ hP hD hS
    · obtain ⟨j, hj, ej⟩ := nI_of h1
      subst ej
      have h2 : cn (ub x0 % 64) ≤ j := Nat.le_of_not_lt (fun q => h2 ((nI_ltI hj (by omega)).mpr q))
      refine lv_iconst (v := (-1)) hx hb dX0_output_19 (by decide) ?_
      exact hret 20 ls H locs (-1) (st, pa, ac, so, kc, he, pl, wk, ar, ot, cn, tr, ld, mb, tb, mt) dX0_output_20 rfl ⟨by rw [← hX.2.2.2.1 _ hx64]; unfold outv; rw [if_pos (Or.inr (nI_le h2 hj))], hX⟩ hP hD hS
theorem met_0 {mx : Nat → Nat} {i : Nat} (hJ : ∀ j, j < i → mx j = 0) : ∀ j, j < i + 1 → (va_up mx i 0) j = 0 := by
  intro j hj
  by_cases h : j = i
  · subst h; rw [va_up_self]
  · rw [va_up_ne _ _ h]; exact hJ j (by omega)
/-- met: the leaders of the secrets from lo to i -/
def metJ (ld : Nat → Nat) (lo i : Nat) (mx : Nat → Nat) : Prop := lo ≤ i ∧ (∀ j, j < 64 → mx j ≤ 1) ∧ ∀ j, j < 64 → (mx j = 1 ↔ ∃ t, lo ≤ t ∧ t < i ∧ ld t = j)
theorem met_I {ld mx : Nat → Nat} {lo : Nat} (h : ∀ j, j < 64 → mx j = 0) : metJ ld lo lo mx := by
  refine ⟨Nat.le_refl _, fun j hj => by rw [h j hj]; omega, fun j hj => ?_⟩
  rw [h j hj]
  constructor
  · intro q; omega
  · intro ⟨t, h1, h2, _⟩; omega
section MET
variable {cn : Nat → Nat} {tr : Nat → Int64} {kc lo i : Nat} {ld mb mx : Nat → Nat}
theorem met_lead (hw : SV cn tr kc ld mb) {s t : Nat} (hs : s < 64) (ht : t < 64) : kq cn tr s t = true ↔ ld t = ld s := by
  obtain ⟨a1, a2, a3⟩ := hw.1 s hs
  obtain ⟨b1, b2, b3⟩ := hw.1 t ht
  constructor
  · intro h
    refine nw_uniq (lead_nw b2 b3) (lead_nw a2 a3) ?_
    rw [← kq_eq b2, ← kq_eq h]
    exact a2
  · intro h
    rw [kq_eq a2, ← h, ← kq_eq b2]
    exact kq_self t
theorem met_D1 (hw : SV cn tr kc ld mb) (hJ : metJ ld lo i mx) (hi : i < 64) (h : mx (ld i) ≠ 0) : dif (kq cn tr) lo (i + 1 - lo) = dif (kq cn tr) lo (i - lo) := by
  have hl := (hw.1 i hi).1
  have h1 : mx (ld i) = 1 := by have := hJ.2.1 (ld i) (by omega); omega
  obtain ⟨t, q1, q2, q3⟩ := (hJ.2.2 (ld i) (by omega)).mp h1
  have e : nw (kq cn tr) lo i = false := by
    cases q : nw (kq cn tr) lo i with
    | false => rfl
    | true =>
      rw [nw_iff] at q
      have := q t q1 q2
      rw [(met_lead hw hi (by omega)).mpr q3] at this
      cases this
  have := hJ.1
  rw [show i + 1 - lo = (i - lo) + 1 by omega]
  simp only [dif]
  rw [show lo + (i - lo) = i by omega, e]
  rfl
theorem met_D2 (hw : SV cn tr kc ld mb) (hJ : metJ ld lo i mx) (hi : i < 64) (h : mx (ld i) = 0) : dif (kq cn tr) lo (i + 1 - lo) = dif (kq cn tr) lo (i - lo) + 1 := by
  have hl := (hw.1 i hi).1
  have e : nw (kq cn tr) lo i = true := by
    rw [nw_iff]
    intro t q1 q2
    cases q : kq cn tr i t with
    | false => rfl
    | true =>
      have := (hJ.2.2 (ld i) (by omega)).mpr ⟨t, q1, q2, (met_lead hw hi (by omega)).mp q⟩
      omega
  have := hJ.1
  rw [show i + 1 - lo = (i - lo) + 1 by omega]
  simp only [dif]
  rw [show lo + (i - lo) = i by omega, e]
  rfl
theorem met_J1 (hJ : metJ ld lo i mx) (hl : ld i < 64) (h : mx (ld i) ≠ 0) : metJ ld lo (i + 1) mx := by
  obtain ⟨h1, h2, h3⟩ := hJ
  refine ⟨by omega, h2, fun j hj => ?_⟩
  rw [h3 j hj]
  constructor
  · intro ⟨t, q1, q2, q3⟩; exact ⟨t, q1, by omega, q3⟩
  · intro ⟨t, q1, q2, q3⟩
    by_cases q : t = i
    · subst q
      rw [q3] at hl h
      have := h2 j hl
      exact (h3 j hj).mp (by omega)
    · exact ⟨t, q1, by omega, q3⟩
theorem met_J2 (hJ : metJ ld lo i mx) (hl : ld i < 64) : metJ ld lo (i + 1) (va_up mx (ld i) 1) := by
  obtain ⟨h1, h2, h3⟩ := hJ
  refine ⟨by omega, fun j hj => ?_, fun j hj => ?_⟩
  · by_cases q : j = ld i
    · rw [q, va_up_self]; omega
    · rw [va_up_ne _ _ q]; exact h2 j hj
  · by_cases q : j = ld i
    · rw [q, va_up_self]
      exact ⟨fun _ => ⟨i, h1, by omega, rfl⟩, fun _ => rfl⟩
    · rw [va_up_ne _ _ q, h3 j hj]
      constructor
      · intro ⟨t, q1, q2, q3⟩; exact ⟨t, q1, by omega, q3⟩
      · intro ⟨t, q1, q2, q3⟩
        by_cases z : t = i
        · subst z; exact absurd q3.symm q
        · exact ⟨t, q1, by omega, q3⟩
end MET
set_option maxHeartbeats 4000000 in
/-- guessed(from, to): how many views they have -/
theorem cX_guessed (l : Launch) (D : va_G) (h : Nat) (ad : Nat → Nat) (ca : Nat → ClassId) (sz : Nat) (st pa : Nat) (ac : Int64) (so kc : Nat) (he : Nat → Nat) (pl wk ar ot : Nat → Int64) (cn : Nat → Nat) (tr : Nat → Int64) (ld mb : Nat → Nat) (tb : Nat → Int32) (mt : Nat → Nat) (cd : Nat → Nat) (lf rt : Nat → Int32) (n : Nat) (x0 y0 : Int32) (hX : XR cd lf rt n st pa ac so kc he pl ar ot cn tr ld mb) : cMi l yX0_guessed cX0_guessed 9 .int 2 48 D (tX ca) (wX h ad ca st pa ac so kc he pl wk ar ot cn tr ld mb tb mt) sz [.ref h, .int x0, .int y0] (fun (r : Int32) (u : XS) => (∃ lo hi, lo ≤ hi ∧ hi < 64 ∧ (lo = ub x0 % 64 ∧ hi = ub y0 % 64 ∨ lo = ub y0 % 64 ∧ hi = ub x0 % 64) ∧ r = nI (dif (kI cd lf rt n) lo (hi + 1 - lo))) ∧ XRu cd lf rt n u) (fun (u : XS) => (wX h ad ca u.1 u.2.1 u.2.2.1 u.2.2.2.1 u.2.2.2.2.1 u.2.2.2.2.2.1 u.2.2.2.2.2.2.1 u.2.2.2.2.2.2.2.1 u.2.2.2.2.2.2.2.2.1 u.2.2.2.2.2.2.2.2.2.1 u.2.2.2.2.2.2.2.2.2.2.1 u.2.2.2.2.2.2.2.2.2.2.2.1 u.2.2.2.2.2.2.2.2.2.2.2.2.1 u.2.2.2.2.2.2.2.2.2.2.2.2.2.1 u.2.2.2.2.2.2.2.2.2.2.2.2.2.2.1 u.2.2.2.2.2.2.2.2.2.2.2.2.2.2.2)) := by
  refine cMi.of (by decide) (Nat.le_of_ble_eq_true rfl) ?_
  intro p e R s m args below meth c A Q ls H locs ⟨hx, hb, hml, hown, hts, hR, hK, hA⟩ hP hD hS hl hret
  have hown : s.vm.findClass RX0 = some m.cls := hown
  have hl : lv_has ls 9 [(0, .ref h), (1, .int x0), (2, .int y0)] := hl
  have hx64 : ub x0 % 64 < 64 := Nat.mod_lt _ (by decide)
  have hy64 : ub y0 % 64 < 64 := Nat.mod_lt _ (by decide)
  refine lv_aload_n hx hb dX0_guessed_0 rfl (lv_at hl 0 rfl) ?_
  refine kv_v (n := 0) (As := []) (rest := []) ⟨hx, hb, hml, hown, hts⟩ (cX_sortViews l D h ad ca H.size st pa ac so kc he pl wk ar ot cn tr ld mb tb mt hX.cn7 hX.2.2.2.2.2.2.2.2.1 hX.2.2.2.2.2.2.2.2.2) (lw_V q155 q157 qs13 q23 q158) (by decide +kernel) ⟨by rw [hR.1]; decide, by rw [hR.2]; decide⟩ ⟨Nat.zero_le _, Nat.zero_le _⟩ hK hP hD hS hA (ci := 0) rfl rfl rfl rfl hl.1 rfl (Nat.le_of_ble_eq_true rfl) dX0_guessed_1 (fun ⟨kc', ld', mb', tb'⟩ H locs hw hP hD hS => ?_)
  have hP : va_P D vwCl (wX h ad ca st pa ac 1 kc' he pl wk ar ot cn tr ld' mb' tb' mt) H := hP
  have hD : va_D A (wX h ad ca st pa ac 1 kc' he pl wk ar ot cn tr ld' mb' tb' mt) := hD
  have hw : SV cn tr kc' ld' mb' := hw
  have hX' := XR_sv hX hw
  refine lv_iload_n hx hb dX0_guessed_4 rfl (lv_at hl 1 rfl) ?_
  refine lv_bipush (v := nI 63) hx hb dX0_guessed_5 (by decide) ?_
  refine xi_and 63 64 6 (by decide) (by decide) hx hb dX0_guessed_7 ?_
  refine lv_istore_n (lv' := [(3, .int (nI (ub x0 % 64))), (0, .ref h), (1, .int x0), (2, .int y0)]) hx hb dX0_guessed_8 rfl hl (by decide) rfl (fun ls hl => ?_)
  refine lv_iload_n hx hb dX0_guessed_9 rfl (lv_at hl 3 rfl) ?_
  refine lv_bipush (v := nI 63) hx hb dX0_guessed_10 (by decide) ?_
  refine xi_and 63 64 6 (by decide) (by decide) hx hb dX0_guessed_12 ?_
  refine lv_istore (lv' := [(4, .int (nI (ub y0 % 64))), (3, .int (nI (ub x0 % 64))), (0, .ref h), (1, .int x0), (2, .int y0)]) hx hb dX0_guessed_13 hl (by decide) rfl (fun ls hl => ?_)
  refine lv_iload_n hx hb dX0_guessed_15 rfl (lv_at hl 1 rfl) ?_
  refine lv_iload hx hb dX0_guessed_16 (lv_at hl 0 rfl) ?_
  refine xn_ge_b (tgt := 25) hx hb dX0_guessed_18 (by decide) (by omega) (by omega) (fun h1 => ?_) (fun h1 => ?_)
  · refine lv_iload hx hb dX0_guessed_25 (lv_at hl 0 rfl) ?_
    refine lv_istore (lv' := [(5, .int (nI (ub y0 % 64))), (4, .int (nI (ub y0 % 64))), (3, .int (nI (ub x0 % 64))), (0, .ref h), (1, .int x0), (2, .int y0)]) hx hb dX0_guessed_27 hl (by decide) rfl (fun ls hl => ?_)
    refine lv_iload_n hx hb dX0_guessed_29 rfl (lv_at hl 2 rfl) ?_
    refine lv_iload hx hb dX0_guessed_30 (lv_at hl 1 rfl) ?_
    refine xn_ge_t (tgt := 40) hx hb dX0_guessed_32 (by decide) h1 (by omega) ?_
    refine lv_iload_n hx hb dX0_guessed_40 rfl (lv_at hl 2 rfl) ?_
    refine lv_istore (lv' := [(6, .int (nI (ub x0 % 64))), (5, .int (nI (ub y0 % 64))), (4, .int (nI (ub y0 % 64))), (3, .int (nI (ub x0 % 64))), (0, .ref h), (1, .int x0), (2, .int y0)]) hx hb dX0_guessed_41 hl (by decide) rfl (fun ls hl => ?_)
    refine lv_iconst (v := nI 0) hx hb dX0_guessed_43 (by decide) ?_
    refine lv_istore (lv' := [(7, .int (nI 0)), (6, .int (nI (ub x0 % 64))), (5, .int (nI (ub y0 % 64))), (4, .int (nI (ub y0 % 64))), (3, .int (nI (ub x0 % 64))), (0, .ref h), (1, .int x0), (2, .int y0)]) hx hb dX0_guessed_44 hl (by decide) rfl (fun ls hl => ?_)
    refine lp_w (nL := 9) (pc := 46) 64 (fun (u : (Nat → Nat)) => (wX h ad ca st pa ac 1 kc' he pl wk ar ot cn tr ld' mb' tb' u)) (fun (i : Nat) (u : (Nat → Nat)) => [(0, .ref h), (5, .int (nI (ub y0 % 64))), (6, .int (nI (ub x0 % 64))), (7, .int (nI i))]) (fun (i : Nat) (u : (Nat → Nat)) => ∀ j, j < i → u j = 0) ?_ ?_ 0 (mt) _ _ _ (by omega) (fun j hj => absurd hj (by omega)) hP hD hS (lv_sub hl [5, 2, 1, 0] rfl)
    · rintro mx H locs ls hJ hP hD hS hl
      have hJ : ∀ j, j < 64 → mx j = 0 := hJ
      have hP : va_P D vwCl (wX h ad ca st pa ac 1 kc' he pl wk ar ot cn tr ld' mb' tb' mx) H := hP
      have hD : va_D A (wX h ad ca st pa ac 1 kc' he pl wk ar ot cn tr ld' mb' tb' mx) := hD
      have hl : lv_has ls 9 [(0, .ref h), (5, .int (nI (ub y0 % 64))), (6, .int (nI (ub x0 % 64))), (7, .int (nI 64))] := hl
      refine lv_iload hx hb dX0_guessed_46 (lv_at hl 3 rfl) ?_
      refine lv_bipush (v := nI 64) hx hb dX0_guessed_48 (by decide) ?_
      refine xn_ge_t (tgt := 67) hx hb dX0_guessed_50 (by decide) (by omega) (by omega) ?_
      refine lv_iconst (v := nI 0) hx hb dX0_guessed_67 (by decide) ?_
      refine xt_i (y := nI (dif (kq cn tr) (ub y0 % 64) (ub y0 % 64 - (ub y0 % 64)))) (by rw [Nat.sub_self]; rfl) ?_
      refine lv_istore (lv' := [(7, .int (nI (dif (kq cn tr) (ub y0 % 64) (ub y0 % 64 - (ub y0 % 64))))), (0, .ref h), (5, .int (nI (ub y0 % 64))), (6, .int (nI (ub x0 % 64)))]) hx hb dX0_guessed_68 hl (by decide) rfl (fun ls hl => ?_)
      refine lv_iload hx hb dX0_guessed_70 (lv_at hl 2 rfl) ?_
      refine lv_istore (lv' := [(8, .int (nI (ub y0 % 64))), (7, .int (nI (dif (kq cn tr) (ub y0 % 64) (ub y0 % 64 - (ub y0 % 64))))), (0, .ref h), (5, .int (nI (ub y0 % 64))), (6, .int (nI (ub x0 % 64)))]) hx hb dX0_guessed_72 hl (by decide) rfl (fun ls hl => ?_)
      refine lp_w (nL := 9) (pc := 74) (ub x0 % 64 + 1) (fun (u : (Nat → Nat)) => (wX h ad ca st pa ac 1 kc' he pl wk ar ot cn tr ld' mb' tb' u)) (fun (i : Nat) (u : (Nat → Nat)) => [(0, .ref h), (6, .int (nI (ub x0 % 64))), (7, .int (nI (dif (kq cn tr) (ub y0 % 64) (i - (ub y0 % 64))))), (8, .int (nI i))]) (fun (i : Nat) (u : (Nat → Nat)) => metJ ld' (ub y0 % 64) (i) u) ?_ ?_ (ub y0 % 64) (mx) _ _ _ (by omega) (met_I hJ) hP hD hS (lv_sub hl [2, 4, 1, 0] rfl)
      · rintro my H locs ls hJ hP hD hS hl
        have hJ : metJ ld' (ub y0 % 64) ((ub x0 % 64 + 1)) my := hJ
        have hP : va_P D vwCl (wX h ad ca st pa ac 1 kc' he pl wk ar ot cn tr ld' mb' tb' my) H := hP
        have hD : va_D A (wX h ad ca st pa ac 1 kc' he pl wk ar ot cn tr ld' mb' tb' my) := hD
        have hl : lv_has ls 9 [(0, .ref h), (6, .int (nI (ub x0 % 64))), (7, .int (nI (dif (kq cn tr) (ub y0 % 64) ((ub x0 % 64 + 1) - (ub y0 % 64))))), (8, .int (nI (ub x0 % 64 + 1)))] := hl
        have hdl := dif_le (kq cn tr) (ub y0 % 64) (ub x0 % 64 + 1 - (ub y0 % 64))
        refine lv_iload hx hb dX0_guessed_74 (lv_at hl 3 rfl) ?_
        refine lv_iload hx hb dX0_guessed_76 (lv_at hl 1 rfl) ?_
        refine xn_gt_b (tgt := 118) hx hb dX0_guessed_78 (by decide) (by omega) (by omega) (fun c78 => ?_) (fun c78 => absurd c78 (by omega))
        refine lv_iload hx hb dX0_guessed_118 (lv_at hl 2 rfl) ?_
        exact hret 120 ls H locs (nI (dif (kq cn tr) (ub y0 % 64) ((ub x0 % 64 + 1) - (ub y0 % 64)))) (st, pa, ac, 1, kc', he, pl, wk, ar, ot, cn, tr, ld', mb', tb', my) dX0_guessed_120 rfl ⟨⟨ub y0 % 64, ub x0 % 64, by omega, by omega, Or.inr ⟨rfl, rfl⟩, by rw [dif_congr (fun s1 t1 q1 q2 => XR_kq hX (by omega) (by omega))]⟩, hX'⟩ hP hD hS
      · rintro i my H locs ls hi hJ hP hD hS hl ih
        have hJ : metJ ld' (ub y0 % 64) (i) my := hJ
        have hP : va_P D vwCl (wX h ad ca st pa ac 1 kc' he pl wk ar ot cn tr ld' mb' tb' my) H := hP
        have hD : va_D A (wX h ad ca st pa ac 1 kc' he pl wk ar ot cn tr ld' mb' tb' my) := hD
        have hl : lv_has ls 9 [(0, .ref h), (6, .int (nI (ub x0 % 64))), (7, .int (nI (dif (kq cn tr) (ub y0 % 64) (i - (ub y0 % 64))))), (8, .int (nI i))] := hl
        have hld := hw.1 i (by omega)
        have hm1 := hJ.2.1 (ld' i) (by omega)
        refine lv_iload hx hb dX0_guessed_74 (lv_at hl 3 rfl) ?_
        refine lv_iload hx hb dX0_guessed_76 (lv_at hl 1 rfl) ?_
        refine xn_gt_b (tgt := 118) hx hb dX0_guessed_78 (by decide) (by omega) (by omega) (fun c78 => absurd c78 (by omega)) (fun c78 => ?_)
        refine lv_aload_n hx hb dX0_guessed_81 rfl (lv_at hl 0 rfl) ?_
        refine va_get (ci := 0) (v := .ref (ad 10)) (C := RX0) (T := TX0) (N := 16) hx hb hts in_X0 hown hK hP 0 rfl rfl 15 (by decide) (hts _ q53) (fun _ h9 => h9) rfl dX0_guessed_82 ?_
        refine lv_aload_n hx hb dX0_guessed_85 rfl (lv_at hl 0 rfl) ?_
        refine va_get (ci := 0) (v := .ref (ad 7)) (C := RX0) (T := TX0) (N := 16) hx hb hts in_X0 hown hK hP 0 rfl rfl 12 (by decide) (hts _ q50) (fun _ h9 => h9) rfl dX0_guessed_86 ?_
        refine lv_iload hx hb dX0_guessed_89 (lv_at hl 3 rfl) ?_
        refine xn_ald (k := i) hx hb hK hP 8 7 rfl rfl (by omega) (by decide) dX0_guessed_91 ?_
        refine xz_ald (k := (ld' i)) hx hb hK hP 11 10 rfl rfl (by omega) (by decide) dX0_guessed_92 ?_
        refine xn_ifne_b (tgt := 112) hx hb dX0_guessed_93 (by decide) (by omega) (fun h3 => ?_) (fun h3 => ?_)
        · rw [← met_D1 hw hJ (by omega) h3] at hl
          refine lv_iinc (v := nI (i + 1)) (lv' := [(8, .int (nI (i + 1))), (0, .ref h), (6, .int (nI (ub x0 % 64))), (7, .int (nI (dif (kq cn tr) (ub y0 % 64) (i + 1 - (ub y0 % 64)))))]) hx hb dX0_guessed_112 hl (k := 3) rfl (xi_inc1 _) (by decide) rfl (fun ls hl => ?_)
          refine lv_goto (tgt := 74) hx hb dX0_guessed_115 (by decide) ?_
          exact ih (my) _ _ _ (met_J1 hJ (by omega) h3) hP hD hS (lv_sub hl [1, 2, 3, 0] rfl)
        · refine lv_aload_n hx hb dX0_guessed_96 rfl (lv_at hl 0 rfl) ?_
          refine va_get (ci := 0) (v := .ref (ad 10)) (C := RX0) (T := TX0) (N := 16) hx hb hts in_X0 hown hK hP 0 rfl rfl 15 (by decide) (hts _ q53) (fun _ h9 => h9) rfl dX0_guessed_97 ?_
          refine lv_aload_n hx hb dX0_guessed_100 rfl (lv_at hl 0 rfl) ?_
          refine va_get (ci := 0) (v := .ref (ad 7)) (C := RX0) (T := TX0) (N := 16) hx hb hts in_X0 hown hK hP 0 rfl rfl 12 (by decide) (hts _ q50) (fun _ h9 => h9) rfl dX0_guessed_101 ?_
          refine lv_iload hx hb dX0_guessed_104 (lv_at hl 3 rfl) ?_
          refine xn_ald (k := i) hx hb hK hP 8 7 rfl rfl (by omega) (by decide) dX0_guessed_106 ?_
          refine lv_iconst (v := nI 1) hx hb dX0_guessed_107 (by decide) ?_
          refine xz_ast (k := (ld' i)) hx hb hK hP hD hS 11 10 rfl rfl (by omega) (by decide) rfl dX0_guessed_108 (fun H locs hP hD hS => ?_)
          have hP : va_P D vwCl (wX h ad ca st pa ac 1 kc' he pl wk ar ot cn tr ld' mb' tb' (va_up my (ld' i) 1)) H := hP
          have hD : va_D A (wX h ad ca st pa ac 1 kc' he pl wk ar ot cn tr ld' mb' tb' (va_up my (ld' i) 1)) := hD
          refine lv_iinc (v := nI (dif (kq cn tr) (ub y0 % 64) (i - (ub y0 % 64)) + 1)) (lv' := [(7, .int (nI (dif (kq cn tr) (ub y0 % 64) (i - (ub y0 % 64)) + 1))), (0, .ref h), (6, .int (nI (ub x0 % 64))), (8, .int (nI i))]) hx hb dX0_guessed_109 hl (k := 2) rfl (xi_inc1 _) (by decide) rfl (fun ls hl => ?_)
          rw [← met_D2 hw hJ (by omega) h3] at hl
          refine lv_iinc (v := nI (i + 1)) (lv' := [(8, .int (nI (i + 1))), (7, .int (nI (dif (kq cn tr) (ub y0 % 64) (i + 1 - (ub y0 % 64))))), (0, .ref h), (6, .int (nI (ub x0 % 64)))]) hx hb dX0_guessed_112 hl (k := 3) rfl (xi_inc1 _) (by decide) rfl (fun ls hl => ?_)
          refine lv_goto (tgt := 74) hx hb dX0_guessed_115 (by decide) ?_
          exact ih (va_up my (ld' i) 1) _ _ _ (met_J2 hJ (by omega)) hP hD hS (lv_sub hl [2, 3, 1, 0] rfl)
    · rintro i mx H locs ls hi hJ hP hD hS hl ih
      have hJ : ∀ j, j < i → mx j = 0 := hJ
      have hP : va_P D vwCl (wX h ad ca st pa ac 1 kc' he pl wk ar ot cn tr ld' mb' tb' mx) H := hP
      have hD : va_D A (wX h ad ca st pa ac 1 kc' he pl wk ar ot cn tr ld' mb' tb' mx) := hD
      have hl : lv_has ls 9 [(0, .ref h), (5, .int (nI (ub y0 % 64))), (6, .int (nI (ub x0 % 64))), (7, .int (nI i))] := hl
      refine lv_iload hx hb dX0_guessed_46 (lv_at hl 3 rfl) ?_
      refine lv_bipush (v := nI 64) hx hb dX0_guessed_48 (by decide) ?_
      refine xn_ge_f (tgt := 67) hx hb dX0_guessed_50 (by decide) hi (by omega) ?_
      refine lv_aload_n hx hb dX0_guessed_53 rfl (lv_at hl 0 rfl) ?_
      refine va_get (ci := 0) (v := .ref (ad 10)) (C := RX0) (T := TX0) (N := 16) hx hb hts in_X0 hown hK hP 0 rfl rfl 15 (by decide) (hts _ q53) (fun _ h9 => h9) rfl dX0_guessed_54 ?_
      refine lv_iload hx hb dX0_guessed_57 (lv_at hl 3 rfl) ?_
      refine lv_iconst (v := nI 0) hx hb dX0_guessed_59 (by decide) ?_
      refine xz_ast (k := i) hx hb hK hP hD hS 11 10 rfl rfl (by omega) (by decide) rfl dX0_guessed_60 (fun H locs hP hD hS => ?_)
      have hP : va_P D vwCl (wX h ad ca st pa ac 1 kc' he pl wk ar ot cn tr ld' mb' tb' (va_up mx i 0)) H := hP
      have hD : va_D A (wX h ad ca st pa ac 1 kc' he pl wk ar ot cn tr ld' mb' tb' (va_up mx i 0)) := hD
      refine lv_iinc (v := nI (i + 1)) (lv' := [(7, .int (nI (i + 1))), (0, .ref h), (5, .int (nI (ub y0 % 64))), (6, .int (nI (ub x0 % 64)))]) hx hb dX0_guessed_61 hl (k := 3) rfl (xi_inc1 _) (by decide) rfl (fun ls hl => ?_)
      refine lv_goto (tgt := 46) hx hb dX0_guessed_64 (by decide) ?_
      exact ih (va_up mx i 0) _ _ _ (met_0 hJ) hP hD hS (lv_sub hl [1, 2, 3, 0] rfl)
  · refine lv_iload_n hx hb dX0_guessed_21 rfl (lv_at hl 1 rfl) ?_
    refine lv_goto (tgt := 27) hx hb dX0_guessed_22 (by decide) ?_
    refine lv_istore (lv' := [(5, .int (nI (ub x0 % 64))), (4, .int (nI (ub y0 % 64))), (3, .int (nI (ub x0 % 64))), (0, .ref h), (1, .int x0), (2, .int y0)]) hx hb dX0_guessed_27 hl (by decide) rfl (fun ls hl => ?_)
    refine lv_iload_n hx hb dX0_guessed_29 rfl (lv_at hl 2 rfl) ?_
    refine lv_iload hx hb dX0_guessed_30 (lv_at hl 1 rfl) ?_
    refine xn_ge_f (tgt := 40) hx hb dX0_guessed_32 (by decide) h1 (by omega) ?_
    refine lv_iload hx hb dX0_guessed_35 (lv_at hl 1 rfl) ?_
    refine lv_goto (tgt := 41) hx hb dX0_guessed_37 (by decide) ?_
    refine lv_istore (lv' := [(6, .int (nI (ub y0 % 64))), (5, .int (nI (ub x0 % 64))), (4, .int (nI (ub y0 % 64))), (3, .int (nI (ub x0 % 64))), (0, .ref h), (1, .int x0), (2, .int y0)]) hx hb dX0_guessed_41 hl (by decide) rfl (fun ls hl => ?_)
    refine lv_iconst (v := nI 0) hx hb dX0_guessed_43 (by decide) ?_
    refine lv_istore (lv' := [(7, .int (nI 0)), (6, .int (nI (ub y0 % 64))), (5, .int (nI (ub x0 % 64))), (4, .int (nI (ub y0 % 64))), (3, .int (nI (ub x0 % 64))), (0, .ref h), (1, .int x0), (2, .int y0)]) hx hb dX0_guessed_44 hl (by decide) rfl (fun ls hl => ?_)
    refine lp_w (nL := 9) (pc := 46) 64 (fun (u : (Nat → Nat)) => (wX h ad ca st pa ac 1 kc' he pl wk ar ot cn tr ld' mb' tb' u)) (fun (i : Nat) (u : (Nat → Nat)) => [(0, .ref h), (5, .int (nI (ub x0 % 64))), (6, .int (nI (ub y0 % 64))), (7, .int (nI i))]) (fun (i : Nat) (u : (Nat → Nat)) => ∀ j, j < i → u j = 0) ?_ ?_ 0 (mt) _ _ _ (by omega) (fun j hj => absurd hj (by omega)) hP hD hS (lv_sub hl [5, 2, 1, 0] rfl)
    · rintro mx H locs ls hJ hP hD hS hl
      have hJ : ∀ j, j < 64 → mx j = 0 := hJ
      have hP : va_P D vwCl (wX h ad ca st pa ac 1 kc' he pl wk ar ot cn tr ld' mb' tb' mx) H := hP
      have hD : va_D A (wX h ad ca st pa ac 1 kc' he pl wk ar ot cn tr ld' mb' tb' mx) := hD
      have hl : lv_has ls 9 [(0, .ref h), (5, .int (nI (ub x0 % 64))), (6, .int (nI (ub y0 % 64))), (7, .int (nI 64))] := hl
      refine lv_iload hx hb dX0_guessed_46 (lv_at hl 3 rfl) ?_
      refine lv_bipush (v := nI 64) hx hb dX0_guessed_48 (by decide) ?_
      refine xn_ge_t (tgt := 67) hx hb dX0_guessed_50 (by decide) (by omega) (by omega) ?_
      refine lv_iconst (v := nI 0) hx hb dX0_guessed_67 (by decide) ?_
      refine xt_i (y := nI (dif (kq cn tr) (ub x0 % 64) (ub x0 % 64 - (ub x0 % 64)))) (by rw [Nat.sub_self]; rfl) ?_
      refine lv_istore (lv' := [(7, .int (nI (dif (kq cn tr) (ub x0 % 64) (ub x0 % 64 - (ub x0 % 64))))), (0, .ref h), (5, .int (nI (ub x0 % 64))), (6, .int (nI (ub y0 % 64)))]) hx hb dX0_guessed_68 hl (by decide) rfl (fun ls hl => ?_)
      refine lv_iload hx hb dX0_guessed_70 (lv_at hl 2 rfl) ?_
      refine lv_istore (lv' := [(8, .int (nI (ub x0 % 64))), (7, .int (nI (dif (kq cn tr) (ub x0 % 64) (ub x0 % 64 - (ub x0 % 64))))), (0, .ref h), (5, .int (nI (ub x0 % 64))), (6, .int (nI (ub y0 % 64)))]) hx hb dX0_guessed_72 hl (by decide) rfl (fun ls hl => ?_)
      refine lp_w (nL := 9) (pc := 74) (ub y0 % 64 + 1) (fun (u : (Nat → Nat)) => (wX h ad ca st pa ac 1 kc' he pl wk ar ot cn tr ld' mb' tb' u)) (fun (i : Nat) (u : (Nat → Nat)) => [(0, .ref h), (6, .int (nI (ub y0 % 64))), (7, .int (nI (dif (kq cn tr) (ub x0 % 64) (i - (ub x0 % 64))))), (8, .int (nI i))]) (fun (i : Nat) (u : (Nat → Nat)) => metJ ld' (ub x0 % 64) (i) u) ?_ ?_ (ub x0 % 64) (mx) _ _ _ (by omega) (met_I hJ) hP hD hS (lv_sub hl [2, 4, 1, 0] rfl)
      · rintro my H locs ls hJ hP hD hS hl
        have hJ : metJ ld' (ub x0 % 64) ((ub y0 % 64 + 1)) my := hJ
        have hP : va_P D vwCl (wX h ad ca st pa ac 1 kc' he pl wk ar ot cn tr ld' mb' tb' my) H := hP
        have hD : va_D A (wX h ad ca st pa ac 1 kc' he pl wk ar ot cn tr ld' mb' tb' my) := hD
        have hl : lv_has ls 9 [(0, .ref h), (6, .int (nI (ub y0 % 64))), (7, .int (nI (dif (kq cn tr) (ub x0 % 64) ((ub y0 % 64 + 1) - (ub x0 % 64))))), (8, .int (nI (ub y0 % 64 + 1)))] := hl
        have hdl := dif_le (kq cn tr) (ub x0 % 64) (ub y0 % 64 + 1 - (ub x0 % 64))
        refine lv_iload hx hb dX0_guessed_74 (lv_at hl 3 rfl) ?_
        refine lv_iload hx hb dX0_guessed_76 (lv_at hl 1 rfl) ?_
        refine xn_gt_b (tgt := 118) hx hb dX0_guessed_78 (by decide) (by omega) (by omega) (fun c78 => ?_) (fun c78 => absurd c78 (by omega))
        refine lv_iload hx hb dX0_guessed_118 (lv_at hl 2 rfl) ?_
        exact hret 120 ls H locs (nI (dif (kq cn tr) (ub x0 % 64) ((ub y0 % 64 + 1) - (ub x0 % 64)))) (st, pa, ac, 1, kc', he, pl, wk, ar, ot, cn, tr, ld', mb', tb', my) dX0_guessed_120 rfl ⟨⟨ub x0 % 64, ub y0 % 64, by omega, by omega, Or.inl ⟨rfl, rfl⟩, by rw [dif_congr (fun s1 t1 q1 q2 => XR_kq hX (by omega) (by omega))]⟩, hX'⟩ hP hD hS
      · rintro i my H locs ls hi hJ hP hD hS hl ih
        have hJ : metJ ld' (ub x0 % 64) (i) my := hJ
        have hP : va_P D vwCl (wX h ad ca st pa ac 1 kc' he pl wk ar ot cn tr ld' mb' tb' my) H := hP
        have hD : va_D A (wX h ad ca st pa ac 1 kc' he pl wk ar ot cn tr ld' mb' tb' my) := hD
        have hl : lv_has ls 9 [(0, .ref h), (6, .int (nI (ub y0 % 64))), (7, .int (nI (dif (kq cn tr) (ub x0 % 64) (i - (ub x0 % 64))))), (8, .int (nI i))] := hl
        have hld := hw.1 i (by omega)
        have hm1 := hJ.2.1 (ld' i) (by omega)
        refine lv_iload hx hb dX0_guessed_74 (lv_at hl 3 rfl) ?_
        refine lv_iload hx hb dX0_guessed_76 (lv_at hl 1 rfl) ?_
        refine xn_gt_b (tgt := 118) hx hb dX0_guessed_78 (by decide) (by omega) (by omega) (fun c78 => absurd c78 (by omega)) (fun c78 => ?_)
        refine lv_aload_n hx hb dX0_guessed_81 rfl (lv_at hl 0 rfl) ?_
        refine va_get (ci := 0) (v := .ref (ad 10)) (C := RX0) (T := TX0) (N := 16) hx hb hts in_X0 hown hK hP 0 rfl rfl 15 (by decide) (hts _ q53) (fun _ h9 => h9) rfl dX0_guessed_82 ?_
        refine lv_aload_n hx hb dX0_guessed_85 rfl (lv_at hl 0 rfl) ?_
        refine va_get (ci := 0) (v := .ref (ad 7)) (C := RX0) (T := TX0) (N := 16) hx hb hts in_X0 hown hK hP 0 rfl rfl 12 (by decide) (hts _ q50) (fun _ h9 => h9) rfl dX0_guessed_86 ?_
        refine lv_iload hx hb dX0_guessed_89 (lv_at hl 3 rfl) ?_
        refine xn_ald (k := i) hx hb hK hP 8 7 rfl rfl (by omega) (by decide) dX0_guessed_91 ?_
        refine xz_ald (k := (ld' i)) hx hb hK hP 11 10 rfl rfl (by omega) (by decide) dX0_guessed_92 ?_
        refine xn_ifne_b (tgt := 112) hx hb dX0_guessed_93 (by decide) (by omega) (fun h3 => ?_) (fun h3 => ?_)
        · rw [← met_D1 hw hJ (by omega) h3] at hl
          refine lv_iinc (v := nI (i + 1)) (lv' := [(8, .int (nI (i + 1))), (0, .ref h), (6, .int (nI (ub y0 % 64))), (7, .int (nI (dif (kq cn tr) (ub x0 % 64) (i + 1 - (ub x0 % 64)))))]) hx hb dX0_guessed_112 hl (k := 3) rfl (xi_inc1 _) (by decide) rfl (fun ls hl => ?_)
          refine lv_goto (tgt := 74) hx hb dX0_guessed_115 (by decide) ?_
          exact ih (my) _ _ _ (met_J1 hJ (by omega) h3) hP hD hS (lv_sub hl [1, 2, 3, 0] rfl)
        · refine lv_aload_n hx hb dX0_guessed_96 rfl (lv_at hl 0 rfl) ?_
          refine va_get (ci := 0) (v := .ref (ad 10)) (C := RX0) (T := TX0) (N := 16) hx hb hts in_X0 hown hK hP 0 rfl rfl 15 (by decide) (hts _ q53) (fun _ h9 => h9) rfl dX0_guessed_97 ?_
          refine lv_aload_n hx hb dX0_guessed_100 rfl (lv_at hl 0 rfl) ?_
          refine va_get (ci := 0) (v := .ref (ad 7)) (C := RX0) (T := TX0) (N := 16) hx hb hts in_X0 hown hK hP 0 rfl rfl 12 (by decide) (hts _ q50) (fun _ h9 => h9) rfl dX0_guessed_101 ?_
          refine lv_iload hx hb dX0_guessed_104 (lv_at hl 3 rfl) ?_
          refine xn_ald (k := i) hx hb hK hP 8 7 rfl rfl (by omega) (by decide) dX0_guessed_106 ?_
          refine lv_iconst (v := nI 1) hx hb dX0_guessed_107 (by decide) ?_
          refine xz_ast (k := (ld' i)) hx hb hK hP hD hS 11 10 rfl rfl (by omega) (by decide) rfl dX0_guessed_108 (fun H locs hP hD hS => ?_)
          have hP : va_P D vwCl (wX h ad ca st pa ac 1 kc' he pl wk ar ot cn tr ld' mb' tb' (va_up my (ld' i) 1)) H := hP
          have hD : va_D A (wX h ad ca st pa ac 1 kc' he pl wk ar ot cn tr ld' mb' tb' (va_up my (ld' i) 1)) := hD
          refine lv_iinc (v := nI (dif (kq cn tr) (ub x0 % 64) (i - (ub x0 % 64)) + 1)) (lv' := [(7, .int (nI (dif (kq cn tr) (ub x0 % 64) (i - (ub x0 % 64)) + 1))), (0, .ref h), (6, .int (nI (ub y0 % 64))), (8, .int (nI i))]) hx hb dX0_guessed_109 hl (k := 2) rfl (xi_inc1 _) (by decide) rfl (fun ls hl => ?_)
          rw [← met_D2 hw hJ (by omega) h3] at hl
          refine lv_iinc (v := nI (i + 1)) (lv' := [(8, .int (nI (i + 1))), (7, .int (nI (dif (kq cn tr) (ub x0 % 64) (i + 1 - (ub x0 % 64))))), (0, .ref h), (6, .int (nI (ub y0 % 64)))]) hx hb dX0_guessed_112 hl (k := 3) rfl (xi_inc1 _) (by decide) rfl (fun ls hl => ?_)
          refine lv_goto (tgt := 74) hx hb dX0_guessed_115 (by decide) ?_
          exact ih (va_up my (ld' i) 1) _ _ _ (met_J2 hJ (by omega)) hP hD hS (lv_sub hl [2, 3, 1, 0] rfl)
    · rintro i mx H locs ls hi hJ hP hD hS hl ih
      have hJ : ∀ j, j < i → mx j = 0 := hJ
      have hP : va_P D vwCl (wX h ad ca st pa ac 1 kc' he pl wk ar ot cn tr ld' mb' tb' mx) H := hP
      have hD : va_D A (wX h ad ca st pa ac 1 kc' he pl wk ar ot cn tr ld' mb' tb' mx) := hD
      have hl : lv_has ls 9 [(0, .ref h), (5, .int (nI (ub x0 % 64))), (6, .int (nI (ub y0 % 64))), (7, .int (nI i))] := hl
      refine lv_iload hx hb dX0_guessed_46 (lv_at hl 3 rfl) ?_
      refine lv_bipush (v := nI 64) hx hb dX0_guessed_48 (by decide) ?_
      refine xn_ge_f (tgt := 67) hx hb dX0_guessed_50 (by decide) hi (by omega) ?_
      refine lv_aload_n hx hb dX0_guessed_53 rfl (lv_at hl 0 rfl) ?_
      refine va_get (ci := 0) (v := .ref (ad 10)) (C := RX0) (T := TX0) (N := 16) hx hb hts in_X0 hown hK hP 0 rfl rfl 15 (by decide) (hts _ q53) (fun _ h9 => h9) rfl dX0_guessed_54 ?_
      refine lv_iload hx hb dX0_guessed_57 (lv_at hl 3 rfl) ?_
      refine lv_iconst (v := nI 0) hx hb dX0_guessed_59 (by decide) ?_
      refine xz_ast (k := i) hx hb hK hP hD hS 11 10 rfl rfl (by omega) (by decide) rfl dX0_guessed_60 (fun H locs hP hD hS => ?_)
      have hP : va_P D vwCl (wX h ad ca st pa ac 1 kc' he pl wk ar ot cn tr ld' mb' tb' (va_up mx i 0)) H := hP
      have hD : va_D A (wX h ad ca st pa ac 1 kc' he pl wk ar ot cn tr ld' mb' tb' (va_up mx i 0)) := hD
      refine lv_iinc (v := nI (i + 1)) (lv' := [(7, .int (nI (i + 1))), (0, .ref h), (5, .int (nI (ub x0 % 64))), (6, .int (nI (ub y0 % 64)))]) hx hb dX0_guessed_61 hl (k := 3) rfl (xi_inc1 _) (by decide) rfl (fun ls hl => ?_)
      refine lv_goto (tgt := 46) hx hb dX0_guessed_64 (by decide) ?_
      exact ih (va_up mx i 0) _ _ _ (met_0 hJ) hP hD hS (lv_sub hl [1, 2, 3, 0] rfl)
end
section
set_option maxRecDepth 100000
/-! LeakageMeter.clear and add -/
/-- the planes while clear() fills them: all of the secrets below i, and of i the planes below b -/
def clJ (i b : Nat) (px : Nat → Int64) : Prop := ∀ j, j < 32 → ∀ s, s < 64 → bl (px j) s = (decide (j < 6 ∧ (s < i ∨ s = i ∧ j < b)) && s.testBit j)
theorem cl_0 {px : Nat → Int64} (h : ∀ j, j < 32 → px j = 0) : clJ 0 0 px := by
  intro j hj s hs
  rw [h j hj, bl_0]
  have : ¬ (j < 6 ∧ (s < 0 ∨ s = 0 ∧ j < 0)) := by omega
  simp [this]
theorem cl_next {i : Nat} {px : Nat → Int64} (h : clJ i 6 px) : clJ (i + 1) 0 px := by
  intro j hj s hs
  rw [h j hj s hs]
  congr 1
  rw [Bool.eq_iff_iff, decide_eq_true_iff, decide_eq_true_iff]
  omega
theorem cl_bit {i t s : Nat} (hi : i < 64) (hs : s < 64) (ht : t ≤ 1) : bl (zshl (nI t).toInt64 i) s = (decide (t = 1) && decide (s = i)) := by
  unfold zshl
  rw [nI_l (by omega), wb_shl t hi]
  have hp : 2 ^ i < 2 ^ 64 := Nat.pow_lt_pow_right (by decide) hi
  rcases (show t = 0 ∨ t = 1 by omega) with e | e <;> subst e
  · rw [Nat.zero_mul, bl_lN (by decide) hs]; simp
  · rw [Nat.one_mul, bl_lN hp hs, Nat.testBit_two_pow]
    simp [eq_comm]
theorem cl_step {i b : Nat} {px : Nat → Int64} (hi : i < 64) (hb : b < 6) (h : clJ i b px) : clJ i (b + 1) (vp_updL px b (px b ||| zshl (nI (i.testBit b).toNat).toInt64 i)) := by
  intro j hj s hs
  by_cases q : j = b
  · subst q
    rw [pk_uLs, bl_or, h j hj s hs, cl_bit hi hs (by cases i.testBit j <;> decide)]
    by_cases e : s = i
    · subst e
      have a1 : ¬ (j < 6 ∧ (s < s ∨ s = s ∧ j < j)) := by omega
      have a2 : j < 6 ∧ (s < s ∨ s = s ∧ j < j + 1) := by omega
      rw [decide_eq_false a1, decide_eq_true a2]
      cases s.testBit j <;> simp
    · have a1 : (j < 6 ∧ (s < i ∨ s = i ∧ j < j)) ↔ (j < 6 ∧ (s < i ∨ s = i ∧ j < j + 1)) := by omega
      rw [show decide (j < 6 ∧ (s < i ∨ s = i ∧ j < j)) = decide (j < 6 ∧ (s < i ∨ s = i ∧ j < j + 1)) from by rw [Bool.eq_iff_iff, decide_eq_true_iff, decide_eq_true_iff]; exact a1]
      simp [e]
  · rw [pk_uLn q, h j hj s hs]
    congr 1
    rw [Bool.eq_iff_iff, decide_eq_true_iff, decide_eq_true_iff]
    omega
theorem cl_end {px : Nat → Int64} (h : clJ 64 0 px) : ∀ s, s < 64 → ∀ v, v < 4 → pv px (8 * v) 8 s = if v = 0 then s else 0 := by
  intro s hs v hv
  apply Nat.eq_of_testBit_eq
  intro k
  rw [pv_testBit]
  by_cases hk : k < 8
  · rw [h _ (by omega) s hs]
    by_cases q : v = 0
    · subst q
      rw [if_pos rfl]
      by_cases k6 : k < 6
      · have : 8 * 0 + k < 6 ∧ (s < 64 ∨ s = 64 ∧ 8 * 0 + k < 0) := by omega
        rw [decide_eq_true this]
        simp [hk]
      · have : ¬ (8 * 0 + k < 6 ∧ (s < 64 ∨ s = 64 ∧ 8 * 0 + k < 0)) := by omega
        rw [decide_eq_false this]
        have e : s.testBit k = false := Nat.testBit_lt_two_pow (Nat.lt_of_lt_of_le hs (Nat.pow_le_pow_right (n := 2) (i := 6) (by decide) (by omega)))
        rw [e]
        simp
    · rw [if_neg q]
      have : ¬ (8 * v + k < 6 ∧ (s < 64 ∨ s = 64 ∧ 8 * v + k < 0)) := by omega
      rw [decide_eq_false this]
      simp
  · have e : (if v = 0 then s else 0).testBit k = false := by
      apply Nat.testBit_lt_two_pow
      have : 2 ^ 8 ≤ 2 ^ k := Nat.pow_le_pow_right (by decide) (by omega)
      split <;> omega
    rw [e]
    simp [hk]
theorem cl_n {cx : Nat → Nat} {i : Nat} (h : ∀ j, j < i → cx j = 0) : ∀ j, j < i + 1 → (va_up cx i 0) j = 0 := by
  intro j hj
  by_cases q : j = i
  · subst q; rw [va_up_self]
  · rw [va_up_ne _ _ q]; exact h j (by omega)
set_option maxHeartbeats 4000000 in
/-- clear(): the empty program -/
theorem cX_clear (l : Launch) (D : va_G) (h : Nat) (ad : Nat → Nat) (ca : Nat → ClassId) (sz : Nat) (st pa : Nat) (ac : Int64) (so kc : Nat) (he : Nat → Nat) (pl wk ar ot : Nat → Int64) (cn : Nat → Nat) (tr : Nat → Int64) (ld mb : Nat → Nat) (tb : Nat → Int32) (mt : Nat → Nat) (cd : Nat → Nat) (lf rt : Nat → Int32)  : cMv l yX0_clear cX0_clear 3 0 0 D (tX ca) (wX h ad ca st pa ac so kc he pl wk ar ot cn tr ld mb tb mt) sz [.ref h] (fun (u : XS) => XRu cd lf rt 0 u) (fun (u : XS) => (wX h ad ca u.1 u.2.1 u.2.2.1 u.2.2.2.1 u.2.2.2.2.1 u.2.2.2.2.2.1 u.2.2.2.2.2.2.1 u.2.2.2.2.2.2.2.1 u.2.2.2.2.2.2.2.2.1 u.2.2.2.2.2.2.2.2.2.1 u.2.2.2.2.2.2.2.2.2.2.1 u.2.2.2.2.2.2.2.2.2.2.2.1 u.2.2.2.2.2.2.2.2.2.2.2.2.1 u.2.2.2.2.2.2.2.2.2.2.2.2.2.1 u.2.2.2.2.2.2.2.2.2.2.2.2.2.2.1 u.2.2.2.2.2.2.2.2.2.2.2.2.2.2.2)) := by
  refine cMv.of (by decide) (Nat.le_of_ble_eq_true rfl) ?_
  intro p e R s m args below meth c A Q ls H locs ⟨hx, hb, hml, hown, hts, hR, hK, hA⟩ hP hD hS hl hret
  have hown : s.vm.findClass RX0 = some m.cls := hown
  have hl : lv_has ls 3 [(0, .ref h)] := hl
  refine lv_aload_n hx hb dX0_clear_0 rfl (lv_at hl 0 rfl) ?_
  refine lv_iconst (v := nI 0) hx hb dX0_clear_1 (by decide) ?_
  refine va_put (ci := 0) (v := .int (nI 0)) (ty := .int) (C := RX0) (T := TX0) (N := 16) hx hb hts in_X0 tyX0 tyX0_ok nmX0 hown hK hP hD hS 0 rfl rfl 0 (by decide) (hts _ q38) (fun _ h9 => h9) rfl (by decide +kernel) rfl rfl (Nat.le_of_ble_eq_true rfl) dX0_clear_2 (fun H locs hP hD hS => ?_)
  have hP : va_P D vwCl (wX h ad ca 0 pa ac so kc he pl wk ar ot cn tr ld mb tb mt) H := hP
  have hD : va_D A (wX h ad ca 0 pa ac so kc he pl wk ar ot cn tr ld mb tb mt) := hD
  refine lv_aload_n hx hb dX0_clear_5 rfl (lv_at hl 0 rfl) ?_
  refine lv_iconst (v := nI 0) hx hb dX0_clear_6 (by decide) ?_
  refine va_put (ci := 0) (v := .int (nI 0)) (ty := .int) (C := RX0) (T := TX0) (N := 16) hx hb hts in_X0 tyX0 tyX0_ok nmX0 hown hK hP hD hS 0 rfl rfl 1 (by decide) (hts _ q39) (fun _ h9 => h9) rfl (by decide +kernel) rfl rfl (Nat.le_of_ble_eq_true rfl) dX0_clear_7 (fun H locs hP hD hS => ?_)
  have hP : va_P D vwCl (wX h ad ca 0 0 ac so kc he pl wk ar ot cn tr ld mb tb mt) H := hP
  have hD : va_D A (wX h ad ca 0 0 ac so kc he pl wk ar ot cn tr ld mb tb mt) := hD
  refine lv_aload_n hx hb dX0_clear_10 rfl (lv_at hl 0 rfl) ?_
  refine lv_ldc2 (v := (-1)) hx hb hown (hts _ q37) dX0_clear_11 ?_
  refine va_put (ci := 0) (v := .long (-1)) (ty := .long) (C := RX0) (T := TX0) (N := 16) hx hb hts in_X0 tyX0 tyX0_ok nmX0 hown hK hP hD hS 0 rfl rfl 5 (by decide) (hts _ q43) (fun _ h9 => h9) rfl (by decide +kernel) rfl rfl (Nat.le_of_ble_eq_true rfl) dX0_clear_14 (fun H locs hP hD hS => ?_)
  have hP : va_P D vwCl (wX h ad ca 0 0 (-1) so kc he pl wk ar ot cn tr ld mb tb mt) H := hP
  have hD : va_D A (wX h ad ca 0 0 (-1) so kc he pl wk ar ot cn tr ld mb tb mt) := hD
  refine lv_aload_n hx hb dX0_clear_17 rfl (lv_at hl 0 rfl) ?_
  refine lv_iconst (v := nI 0) hx hb dX0_clear_18 (by decide) ?_
  refine va_put (ci := 0) (v := .int (nI 0)) (ty := .boolean) (C := RX0) (T := TX0) (N := 16) hx hb hts in_X0 tyX0 tyX0_ok nmX0 hown hK hP hD hS 0 rfl rfl 10 (by decide) (hts _ q48) (fun _ h9 => h9) rfl (by decide +kernel) rfl rfl (Nat.le_of_ble_eq_true rfl) dX0_clear_19 (fun H locs hP hD hS => ?_)
  have hP : va_P D vwCl (wX h ad ca 0 0 (-1) 0 kc he pl wk ar ot cn tr ld mb tb mt) H := hP
  have hD : va_D A (wX h ad ca 0 0 (-1) 0 kc he pl wk ar ot cn tr ld mb tb mt) := hD
  refine lv_iconst (v := nI 0) hx hb dX0_clear_22 (by decide) ?_
  refine lv_istore_n (lv' := [(1, .int (nI 0)), (0, .ref h)]) hx hb dX0_clear_23 rfl hl (by decide) rfl (fun ls hl => ?_)
  refine lp_w (nL := 3) (pc := 24) 32 (fun (u : (Nat → Int64)) => (wX h ad ca 0 0 (-1) 0 kc he u wk ar ot cn tr ld mb tb mt)) (fun (i : Nat) (u : (Nat → Int64)) => [(0, .ref h), (1, .int (nI i))]) (fun (i : Nat) (u : (Nat → Int64)) => ∀ j, j < i → u j = 0) ?_ ?_ 0 (pl) _ _ _ (by omega) (fun j hj => absurd hj (by omega)) hP hD hS (lv_sub hl [1, 0] rfl)
  · rintro px H locs ls hJ hP hD hS hl
    have hJ : ∀ j, j < 32 → px j = 0 := hJ
    have hP : va_P D vwCl (wX h ad ca 0 0 (-1) 0 kc he px wk ar ot cn tr ld mb tb mt) H := hP
    have hD : va_D A (wX h ad ca 0 0 (-1) 0 kc he px wk ar ot cn tr ld mb tb mt) := hD
    have hl : lv_has ls 3 [(0, .ref h), (1, .int (nI 32))] := hl
    refine lv_iload_n hx hb dX0_clear_24 rfl (lv_at hl 1 rfl) ?_
    refine lv_bipush (v := nI 32) hx hb dX0_clear_25 (by decide) ?_
    refine xn_ge_t (tgt := 43) hx hb dX0_clear_27 (by decide) (by omega) (by omega) ?_
    refine lv_iconst (v := nI 0) hx hb dX0_clear_43 (by decide) ?_
    refine lv_istore_n (lv' := [(1, .int (nI 0)), (0, .ref h)]) hx hb dX0_clear_44 rfl hl (by decide) rfl (fun ls hl => ?_)
    refine lp_w (nL := 3) (pc := 45) 64 (fun (u : (Nat → Int64) × (Nat → Nat) × (Nat → Int64)) => (wX h ad ca 0 0 (-1) 0 kc he u.1 wk ar ot u.2.1 u.2.2 ld mb tb mt)) (fun (i : Nat) (u : (Nat → Int64) × (Nat → Nat) × (Nat → Int64)) => [(0, .ref h), (1, .int (nI i))]) (fun (i : Nat) (u : (Nat → Int64) × (Nat → Nat) × (Nat → Int64)) => clJ i 0 u.1 ∧ (∀ j, j < i → u.2.1 j = 0) ∧ (∀ j, j < i → u.2.2 j = 0)) ?_ ?_ 0 (px, cn, tr) _ _ _ (by omega) ⟨cl_0 hJ, fun j hj => absurd hj (by omega), fun j hj => absurd hj (by omega)⟩ hP hD hS (lv_sub hl [1, 0] rfl)
    · rintro ⟨py, cx, tx⟩ H locs ls hJ hP hD hS hl
      have hJ : clJ 64 0 py ∧ (∀ j, j < 64 → cx j = 0) ∧ (∀ j, j < 64 → tx j = 0) := hJ
      have hP : va_P D vwCl (wX h ad ca 0 0 (-1) 0 kc he py wk ar ot cx tx ld mb tb mt) H := hP
      have hD : va_D A (wX h ad ca 0 0 (-1) 0 kc he py wk ar ot cx tx ld mb tb mt) := hD
      have hl : lv_has ls 3 [(0, .ref h), (1, .int (nI 64))] := hl
      refine lv_iload_n hx hb dX0_clear_45 rfl (lv_at hl 1 rfl) ?_
      refine lv_bipush (v := nI 64) hx hb dX0_clear_46 (by decide) ?_
      refine xn_ge_t (tgt := 102) hx hb dX0_clear_48 (by decide) (by omega) (by omega) ?_
      exact hret 102 ls H locs (0, 0, (-1), 0, kc, he, py, wk, ar, ot, cx, tx, ld, mb, tb, mt) dX0_clear_102 (XR_clear (cl_end hJ.1) hJ.2.1 hJ.2.2) hP hD hS
    · rintro i ⟨py, cx, tx⟩ H locs ls hi hJ hP hD hS hl ih
      have hJ : clJ i 0 py ∧ (∀ j, j < i → cx j = 0) ∧ (∀ j, j < i → tx j = 0) := hJ
      have hP : va_P D vwCl (wX h ad ca 0 0 (-1) 0 kc he py wk ar ot cx tx ld mb tb mt) H := hP
      have hD : va_D A (wX h ad ca 0 0 (-1) 0 kc he py wk ar ot cx tx ld mb tb mt) := hD
      have hl : lv_has ls 3 [(0, .ref h), (1, .int (nI i))] := hl
      refine lv_iload_n hx hb dX0_clear_45 rfl (lv_at hl 1 rfl) ?_
      refine lv_bipush (v := nI 64) hx hb dX0_clear_46 (by decide) ?_
      refine xn_ge_f (tgt := 102) hx hb dX0_clear_48 (by decide) hi (by omega) ?_
      refine lv_aload_n hx hb dX0_clear_51 rfl (lv_at hl 0 rfl) ?_
      refine va_get (ci := 0) (v := .ref (ad 5)) (C := RX0) (T := TX0) (N := 16) hx hb hts in_X0 hown hK hP 0 rfl rfl 8 (by decide) (hts _ q46) (fun _ h9 => h9) rfl dX0_clear_52 ?_
      refine lv_iload_n hx hb dX0_clear_55 rfl (lv_at hl 1 rfl) ?_
      refine lv_iconst (v := nI 0) hx hb dX0_clear_56 (by decide) ?_
      refine xn_ast (k := i) hx hb hK hP hD hS 6 5 rfl rfl (by omega) (by decide) dX0_clear_57 (fun H locs hP hD hS => ?_)
      have hP : va_P D vwCl (wX h ad ca 0 0 (-1) 0 kc he py wk ar ot (va_up cx i 0) tx ld mb tb mt) H := hP
      have hD : va_D A (wX h ad ca 0 0 (-1) 0 kc he py wk ar ot (va_up cx i 0) tx ld mb tb mt) := hD
      refine lv_aload_n hx hb dX0_clear_58 rfl (lv_at hl 0 rfl) ?_
      refine va_get (ci := 0) (v := .ref (ad 6)) (C := RX0) (T := TX0) (N := 16) hx hb hts in_X0 hown hK hP 0 rfl rfl 9 (by decide) (hts _ q47) (fun _ h9 => h9) rfl dX0_clear_59 ?_
      refine lv_iload_n hx hb dX0_clear_62 rfl (lv_at hl 1 rfl) ?_
      refine lv_lconst (v := 0) hx hb dX0_clear_63 (by decide) ?_
      refine xl_ast (k := i) hx hb hK hP hD hS 7 6 rfl rfl (by omega) (by decide) dX0_clear_64 (fun H locs hP hD hS => ?_)
      have hP : va_P D vwCl (wX h ad ca 0 0 (-1) 0 kc he py wk ar ot (va_up cx i 0) (vp_updL tx i 0) ld mb tb mt) H := hP
      have hD : va_D A (wX h ad ca 0 0 (-1) 0 kc he py wk ar ot (va_up cx i 0) (vp_updL tx i 0) ld mb tb mt) := hD
      refine lv_iconst (v := nI 0) hx hb dX0_clear_65 (by decide) ?_
      refine lv_istore_n (lv' := [(2, .int (nI 0)), (0, .ref h), (1, .int (nI i))]) hx hb dX0_clear_66 rfl hl (by decide) rfl (fun ls hl => ?_)
      refine lp_w (nL := 3) (pc := 67) 6 (fun (u : (Nat → Int64)) => (wX h ad ca 0 0 (-1) 0 kc he u wk ar ot (va_up cx i 0) (vp_updL tx i 0) ld mb tb mt)) (fun (b2 : Nat) (u : (Nat → Int64)) => [(0, .ref h), (1, .int (nI i)), (2, .int (nI b2))]) (fun (b2 : Nat) (u : (Nat → Int64)) => clJ i b2 u) ?_ ?_ 0 (py) _ _ _ (by omega) hJ.1 hP hD hS (lv_sub hl [1, 2, 0] rfl)
      · rintro pz H locs ls hK2 hP hD hS hl
        have hK2 : clJ i 6 pz := hK2
        have hP : va_P D vwCl (wX h ad ca 0 0 (-1) 0 kc he pz wk ar ot (va_up cx i 0) (vp_updL tx i 0) ld mb tb mt) H := hP
        have hD : va_D A (wX h ad ca 0 0 (-1) 0 kc he pz wk ar ot (va_up cx i 0) (vp_updL tx i 0) ld mb tb mt) := hD
        have hl : lv_has ls 3 [(0, .ref h), (1, .int (nI i)), (2, .int (nI 6))] := hl
        refine lv_iload_n hx hb dX0_clear_67 rfl (lv_at hl 2 rfl) ?_
        refine lv_bipush (v := nI 6) hx hb dX0_clear_68 (by decide) ?_
        refine xn_ge_t (tgt := 96) hx hb dX0_clear_70 (by decide) (by omega) (by omega) ?_
        refine lv_iinc (v := nI (i + 1)) (lv' := [(1, .int (nI (i + 1))), (0, .ref h), (2, .int (nI 6))]) hx hb dX0_clear_96 hl (k := 1) rfl (xi_inc1 _) (by decide) rfl (fun ls hl => ?_)
        refine lv_goto (tgt := 45) hx hb dX0_clear_99 (by decide) ?_
        exact ih (pz, va_up cx i 0, vp_updL tx i 0) _ _ _ ⟨cl_next hK2, cl_n hJ.2.1, upd_J (g := fun _ => 0) hJ.2.2⟩ hP hD hS (lv_sub hl [1, 0] rfl)
      · rintro b2 pz H locs ls hb2 hK2 hP hD hS hl ih2
        have hK2 : clJ i b2 pz := hK2
        have hP : va_P D vwCl (wX h ad ca 0 0 (-1) 0 kc he pz wk ar ot (va_up cx i 0) (vp_updL tx i 0) ld mb tb mt) H := hP
        have hD : va_D A (wX h ad ca 0 0 (-1) 0 kc he pz wk ar ot (va_up cx i 0) (vp_updL tx i 0) ld mb tb mt) := hD
        have hl : lv_has ls 3 [(0, .ref h), (1, .int (nI i)), (2, .int (nI b2))] := hl
        refine lv_iload_n hx hb dX0_clear_67 rfl (lv_at hl 2 rfl) ?_
        refine lv_bipush (v := nI 6) hx hb dX0_clear_68 (by decide) ?_
        refine xn_ge_f (tgt := 96) hx hb dX0_clear_70 (by decide) hb2 (by omega) ?_
        refine lv_aload_n hx hb dX0_clear_73 rfl (lv_at hl 0 rfl) ?_
        refine va_get (ci := 0) (v := .ref (ad 1)) (C := RX0) (T := TX0) (N := 16) hx hb hts in_X0 hown hK hP 0 rfl rfl 3 (by decide) (hts _ q41) (fun _ h9 => h9) rfl dX0_clear_74 ?_
        refine lv_iload_n hx hb dX0_clear_77 rfl (lv_at hl 2 rfl) ?_
        refine lv_dup2_11 hx hb dX0_clear_78 rfl rfl ?_
        refine xl_ald (k := b2) hx hb hK hP 2 1 rfl rfl (by omega) (by decide) dX0_clear_79 ?_
        refine lv_iload_n hx hb dX0_clear_80 rfl (lv_at hl 1 rfl) ?_
        refine lv_iload_n hx hb dX0_clear_81 rfl (lv_at hl 2 rfl) ?_
        refine lv_iushr (v := ziushr (nI i) b2) hx hb dX0_clear_82 rfl ?_
        refine lv_iconst (v := nI 1) hx hb dX0_clear_83 (by decide) ?_
        refine xi_and 1 2 1 (by decide) (by decide) hx hb dX0_clear_84 ?_
        refine xt_i (y := nI ((i.testBit b2).toNat)) (by rw [zibit (nI i) (by omega), ub_nI (by omega)]) ?_
        refine lv_i2l (v := (nI ((i.testBit b2).toNat)).toInt64) hx hb dX0_clear_85 rfl ?_
        refine lv_iload_n hx hb dX0_clear_86 rfl (lv_at hl 1 rfl) ?_
        refine lv_lshl (v := zshl ((nI ((i.testBit b2).toNat)).toInt64) i) hx hb dX0_clear_87 rfl ?_
        refine lv_lor hx hb dX0_clear_88 ?_
        refine xl_ast (k := b2) hx hb hK hP hD hS 2 1 rfl rfl (by omega) (by decide) dX0_clear_89 (fun H locs hP hD hS => ?_)
        have hP : va_P D vwCl (wX h ad ca 0 0 (-1) 0 kc he (vp_updL pz b2 ((pz b2) ||| (zshl ((nI ((i.testBit b2).toNat)).toInt64) i))) wk ar ot (va_up cx i 0) (vp_updL tx i 0) ld mb tb mt) H := hP
        have hD : va_D A (wX h ad ca 0 0 (-1) 0 kc he (vp_updL pz b2 ((pz b2) ||| (zshl ((nI ((i.testBit b2).toNat)).toInt64) i))) wk ar ot (va_up cx i 0) (vp_updL tx i 0) ld mb tb mt) := hD
        refine lv_iinc (v := nI (b2 + 1)) (lv' := [(2, .int (nI (b2 + 1))), (0, .ref h), (1, .int (nI i))]) hx hb dX0_clear_90 hl (k := 2) rfl (xi_inc1 _) (by decide) rfl (fun ls hl => ?_)
        refine lv_goto (tgt := 67) hx hb dX0_clear_93 (by decide) ?_
        exact ih2 (vp_updL pz b2 ((pz b2) ||| (zshl ((nI ((i.testBit b2).toNat)).toInt64) i))) _ _ _ (cl_step hi hb2 hK2) hP hD hS (lv_sub hl [1, 2, 0] rfl)
  · rintro i px H locs ls hi hJ hP hD hS hl ih
    have hJ : ∀ j, j < i → px j = 0 := hJ
    have hP : va_P D vwCl (wX h ad ca 0 0 (-1) 0 kc he px wk ar ot cn tr ld mb tb mt) H := hP
    have hD : va_D A (wX h ad ca 0 0 (-1) 0 kc he px wk ar ot cn tr ld mb tb mt) := hD
    have hl : lv_has ls 3 [(0, .ref h), (1, .int (nI i))] := hl
    refine lv_iload_n hx hb dX0_clear_24 rfl (lv_at hl 1 rfl) ?_
    refine lv_bipush (v := nI 32) hx hb dX0_clear_25 (by decide) ?_
    refine xn_ge_f (tgt := 43) hx hb dX0_clear_27 (by decide) hi (by omega) ?_
    refine lv_aload_n hx hb dX0_clear_30 rfl (lv_at hl 0 rfl) ?_
    refine va_get (ci := 0) (v := .ref (ad 1)) (C := RX0) (T := TX0) (N := 16) hx hb hts in_X0 hown hK hP 0 rfl rfl 3 (by decide) (hts _ q41) (fun _ h9 => h9) rfl dX0_clear_31 ?_
    refine lv_iload_n hx hb dX0_clear_34 rfl (lv_at hl 1 rfl) ?_
    refine lv_lconst (v := 0) hx hb dX0_clear_35 (by decide) ?_
    refine xl_ast (k := i) hx hb hK hP hD hS 2 1 rfl rfl (by omega) (by decide) dX0_clear_36 (fun H locs hP hD hS => ?_)
    have hP : va_P D vwCl (wX h ad ca 0 0 (-1) 0 kc he (vp_updL px i 0) wk ar ot cn tr ld mb tb mt) H := hP
    have hD : va_D A (wX h ad ca 0 0 (-1) 0 kc he (vp_updL px i 0) wk ar ot cn tr ld mb tb mt) := hD
    refine lv_iinc (v := nI (i + 1)) (lv' := [(1, .int (nI (i + 1))), (0, .ref h)]) hx hb dX0_clear_37 hl (k := 1) rfl (xi_inc1 _) (by decide) rfl (fun ls hl => ?_)
    refine lv_goto (tgt := 24) hx hb dX0_clear_40 (by decide) ?_
    exact ih (vp_updL px i 0) _ _ _ (upd_J (g := fun _ => 0) hJ) hP hD hS (lv_sub hl [1, 0] rfl)
end
section
set_option maxRecDepth 100000
theorem rej {cd : Nat → Nat} {n k : Nat} (hk : k ≤ 15) (h : ¬ (n < 40 ∧ ac1 cd n k)) : ¬ ∃ k', nI k = nI k' ∧ n < 40 ∧ ac1 cd n k' := by
  intro ⟨k', e, h1, h2⟩
  have := (nI_eq (by omega) (by have := h2.1; omega)).mp e
  subst this
  exact h ⟨h1, h2⟩
theorem rej_n {cd : Nat → Nat} {n : Nat} {c0 : Int32} (h : c0 < 0 ∨ nI 15 < c0) : ¬ ∃ k', c0 = nI k' ∧ n < 40 ∧ ac1 cd n k' := by
  intro ⟨k', e, h1, h2⟩
  subst e
  have h3 := h2.1
  rcases h with q | q
  · exact nI_pos (by omega) q
  · have := (nI_ltI (by decide) (by omega)).mp q
    omega
theorem code_of {c0 : Int32} (h1 : ¬ c0 < 0) (h2 : ¬ nI 15 < c0) : ∃ k : Nat, k ≤ 15 ∧ c0 = nI k := by
  obtain ⟨k, hk, e⟩ := nI_of h1
  refine ⟨k, ?_, e⟩
  rw [e] at h2
  exact Nat.le_of_not_lt (fun q => h2 ((nI_ltI (by decide) hk).mpr q))
theorem bt1 (b : Bool) : b.toNat ≤ 1 := by cases b <;> decide
set_option maxHeartbeats 4000000 in
/-- add(code, a, b): the statement is added, or refused -/
theorem cX_add (l : Launch) (D : va_G) (h : Nat) (ad : Nat → Nat) (ca : Nat → ClassId) (sz : Nat) (st pa : Nat) (ac : Int64) (so kc : Nat) (he : Nat → Nat) (pl wk ar ot : Nat → Int64) (cn : Nat → Nat) (tr : Nat → Int64) (ld mb : Nat → Nat) (tb : Nat → Int32) (mt : Nat → Nat) (cd : Nat → Nat) (lf rt : Nat → Int32) (n : Nat) (c0 a0 b0 : Int32) (hX : XR cd lf rt n st pa ac so kc he pl ar ot cn tr ld mb) (hV : VP cd n) (hn40 : n ≤ 40) : cMi l yX0_add cX0_add 4 .int 3 81 D (tX ca) (wX h ad ca st pa ac so kc he pl wk ar ot cn tr ld mb tb mt) sz [.ref h, .int c0, .int a0, .int b0] (fun (r : Int32) (u : XS) => (∃ k, c0 = nI k ∧ n < 40 ∧ ac1 cd n k ∧ r = nI (n + 1) ∧ XRu (va_up cd n k) (upd lf n a0) (upd rt n b0) (n + 1) u) ∨ ((¬ ∃ k, c0 = nI k ∧ n < 40 ∧ ac1 cd n k) ∧ r = -1 ∧ XRu cd lf rt n u)) (fun (u : XS) => (wX h ad ca u.1 u.2.1 u.2.2.1 u.2.2.2.1 u.2.2.2.2.1 u.2.2.2.2.2.1 u.2.2.2.2.2.2.1 u.2.2.2.2.2.2.2.1 u.2.2.2.2.2.2.2.2.1 u.2.2.2.2.2.2.2.2.2.1 u.2.2.2.2.2.2.2.2.2.2.1 u.2.2.2.2.2.2.2.2.2.2.2.1 u.2.2.2.2.2.2.2.2.2.2.2.2.1 u.2.2.2.2.2.2.2.2.2.2.2.2.2.1 u.2.2.2.2.2.2.2.2.2.2.2.2.2.2.1 u.2.2.2.2.2.2.2.2.2.2.2.2.2.2.2)) := by
  refine cMi.of (by decide) (Nat.le_of_ble_eq_true rfl) ?_
  intro p e R s m args below meth c A Q ls H locs ⟨hx, hb, hml, hown, hts, hR, hK, hA⟩ hP hD hS hl hret
  have hown : s.vm.findClass RX0 = some m.cls := hown
  have hl : lv_has ls 4 [(0, .ref h), (1, .int c0), (2, .int a0), (3, .int b0)] := hl
  have hst := hX.1
  have hpa := hX.2.1
  have hd4 := dp_le hV
  have ha4 : ub a0 % 4 < 4 := Nat.mod_lt _ (by decide)
  refine lv_iload_n hx hb dX0_add_0 rfl (lv_at hl 1 rfl) ?_
  refine lv_if_lt (tgt := 19) hx hb dX0_add_1 (by decide) (fun k1 => ?_) (fun k1 => ?_)
  · refine lv_iconst (v := (-1)) hx hb dX0_add_19 (by decide) ?_
    exact hret 20 ls H locs (-1) (st, pa, ac, so, kc, he, pl, wk, ar, ot, cn, tr, ld, mb, tb, mt) dX0_add_20 rfl (Or.inr ⟨by first | exact rej_n (Or.inl k1) | exact rej_n (Or.inr k2) | exact rej hk (fun q => absurd q.1 (by omega)), rfl, hX⟩) hP hD hS
  · refine lv_iload_n hx hb dX0_add_4 rfl (lv_at hl 1 rfl) ?_
    refine lv_bipush (v := nI 15) hx hb dX0_add_5 (by decide) ?_
    refine lv_icmp_gt (tgt := 19) hx hb dX0_add_7 (by decide) (fun k2 => ?_) (fun k2 => ?_)
    · refine lv_iconst (v := (-1)) hx hb dX0_add_19 (by decide) ?_
      exact hret 20 ls H locs (-1) (st, pa, ac, so, kc, he, pl, wk, ar, ot, cn, tr, ld, mb, tb, mt) dX0_add_20 rfl (Or.inr ⟨by first | exact rej_n (Or.inl k1) | exact rej_n (Or.inr k2) | exact rej hk (fun q => absurd q.1 (by omega)), rfl, hX⟩) hP hD hS
    · obtain ⟨k, hk, ek⟩ := code_of k1 k2
      subst ek
      refine lv_aload_n hx hb dX0_add_10 rfl (lv_at hl 0 rfl) ?_
      refine va_get (ci := 0) (v := .int (nI st)) (C := RX0) (T := TX0) (N := 16) hx hb hts in_X0 hown hK hP 0 rfl rfl 0 (by decide) (hts _ q38) (fun _ h9 => h9) rfl dX0_add_11 ?_
      refine lv_bipush (v := nI 40) hx hb dX0_add_14 (by decide) ?_
      refine xn_lt_b (tgt := 21) hx hb dX0_add_16 (by decide) (by omega) (by omega) (fun k3 => ?_) (fun k3 => ?_)
      · refine lv_iload_n hx hb dX0_add_21 rfl (lv_at hl 1 rfl) ?_
        refine lv_bipush (v := nI 13) hx hb dX0_add_22 (by decide) ?_
        refine xn_ne_b (tgt := 37) hx hb dX0_add_24 (by decide) (by omega) (by omega) (fun k13 => ?_) (fun k13 => ?_)
        · refine lv_iload_n hx hb dX0_add_37 rfl (lv_at hl 1 rfl) ?_
          refine lv_bipush (v := nI 14) hx hb dX0_add_38 (by decide) ?_
          refine xn_eq_b (tgt := 49) hx hb dX0_add_40 (by decide) (by omega) (by omega) (fun k14 => ?_) (fun k14 => ?_)
          · subst k14
            refine lv_aload_n hx hb dX0_add_49 rfl (lv_at hl 0 rfl) ?_
            refine va_get (ci := 0) (v := .int (nI pa)) (C := RX0) (T := TX0) (N := 16) hx hb hts in_X0 hown hK hP 0 rfl rfl 1 (by decide) (hts _ q39) (fun _ h9 => h9) rfl dX0_add_50 ?_
            refine xn_ifne_b (tgt := 58) hx hb dX0_add_53 (by decide) (by omega) (fun kp => ?_) (fun kp => ?_)
            · have hhe := hX.2.2.2.2.2.2.2.1 (pa - 1) (by omega)
              have hb1 := bt1 (hE cd n (pa - 1))
              refine lv_iload_n hx hb dX0_add_58 rfl (lv_at hl 1 rfl) ?_
              refine lv_bipush (v := nI 14) hx hb dX0_add_59 (by decide) ?_
              refine xn_ne_b (tgt := 80) hx hb dX0_add_61 (by decide) (by omega) (by omega) (fun c61 => absurd c61 (fun h => h rfl)) (fun c61 => ?_)
              refine lv_aload_n hx hb dX0_add_64 rfl (lv_at hl 0 rfl) ?_
              refine va_get (ci := 0) (v := .ref (ad 0)) (C := RX0) (T := TX0) (N := 16) hx hb hts in_X0 hown hK hP 0 rfl rfl 2 (by decide) (hts _ q40) (fun _ h9 => h9) rfl dX0_add_65 ?_
              refine lv_aload_n hx hb dX0_add_68 rfl (lv_at hl 0 rfl) ?_
              refine va_get (ci := 0) (v := .int (nI pa)) (C := RX0) (T := TX0) (N := 16) hx hb hts in_X0 hown hK hP 0 rfl rfl 1 (by decide) (hts _ q39) (fun _ h9 => h9) rfl dX0_add_69 ?_
              refine lv_iconst (v := nI 1) hx hb dX0_add_72 (by decide) ?_
              refine xi_sub hx hb dX0_add_73 (by omega) ?_
              refine xz_ald (k := (pa - 1)) hx hb hK hP 1 0 rfl rfl (by omega) (by decide) dX0_add_74 ?_
              refine xn_ifeq_b (tgt := 80) hx hb dX0_add_75 (by decide) (by omega) (fun ke => ?_) (fun ke => ?_)
              · have hac : ac1 cd n 14 := ⟨by omega, fun q => by omega, fun _ => by omega, fun _ => by rw [← hpa]; exact tn0 (by omega)⟩
                refine lv_aload_n hx hb dX0_add_80 rfl (lv_at hl 0 rfl) ?_
                refine lv_dup hx hb dX0_add_81 rfl ?_
                refine va_get (ci := 0) (v := .int (nI st)) (C := RX0) (T := TX0) (N := 16) hx hb hts in_X0 hown hK hP 0 rfl rfl 0 (by decide) (hts _ q38) (fun _ h9 => h9) rfl dX0_add_82 ?_
                refine lv_iconst (v := nI 1) hx hb dX0_add_85 (by decide) ?_
                refine xi_add hx hb dX0_add_86 ?_
                refine va_put (ci := 0) (v := .int (nI (st + 1))) (ty := .int) (C := RX0) (T := TX0) (N := 16) hx hb hts in_X0 tyX0 tyX0_ok nmX0 hown hK hP hD hS 0 rfl rfl 0 (by decide) (hts _ q38) (fun _ h9 => h9) rfl (by decide +kernel) rfl rfl (Nat.le_of_ble_eq_true rfl) dX0_add_87 (fun H locs hP hD hS => ?_)
                have hP : va_P D vwCl (wX h ad ca (st + 1) pa ac so kc he pl wk ar ot cn tr ld mb tb mt) H := hP
                have hD : va_D A (wX h ad ca (st + 1) pa ac so kc he pl wk ar ot cn tr ld mb tb mt) := hD
                refine lv_iload_n hx hb dX0_add_90 rfl (lv_at hl 1 rfl) ?_
                refine lv_bipush (v := nI 13) hx hb dX0_add_91 (by decide) ?_
                refine xn_lt_b (tgt := 107) hx hb dX0_add_93 (by decide) (by omega) (by omega) (fun c93 => absurd c93 (by decide)) (fun c93 => ?_)
                refine lv_aload_n hx hb dX0_add_96 rfl (lv_at hl 0 rfl) ?_
                refine lv_iload_n hx hb dX0_add_97 rfl (lv_at hl 1 rfl) ?_
                refine lv_iload_n hx hb dX0_add_98 rfl (lv_at hl 2 rfl) ?_
                refine lv_iconst (v := nI 3) hx hb dX0_add_99 (by decide) ?_
                refine xi_and 3 4 2 (by decide) (by decide) hx hb dX0_add_100 ?_
                refine kv_v (n := 2) (As := [.int (nI 14), .int (nI (ub a0 % 4))]) (rest := []) ⟨hx, hb, hml, hown, hts⟩ (cX_branch14 l D h ad ca H.size (st + 1) pa ac so kc he pl wk ar ot cn tr ld mb tb mt (ub a0 % 4) ha4 (by omega) (by omega)) (lw_V q94 q96 qs0 q23 q97) (by decide +kernel) ⟨by rw [hR.1]; decide, by rw [hR.2]; decide⟩ ⟨Nat.zero_le _, Nat.zero_le _⟩ hK hP hD hS hA (ci := 0) rfl rfl rfl rfl hl.1 rfl (Nat.le_of_ble_eq_true rfl) dX0_add_101 (fun _u H locs hw hP hD hS => ?_)
                have hP : va_P D vwCl (wX h ad ca (st + 1) pa (ot (pa - 1)) so kc (va_up he (pa - 1) 1) pl wk ar ot cn tr ld mb tb mt) H := hP
                have hD : va_D A (wX h ad ca (st + 1) pa (ot (pa - 1)) so kc (va_up he (pa - 1) 1) pl wk ar ot cn tr ld mb tb mt) := hD
                refine lv_goto (tgt := 139) hx hb dX0_add_104 (by decide) ?_
                refine lv_aload_n hx hb dX0_add_139 rfl (lv_at hl 0 rfl) ?_
                refine va_get (ci := 0) (v := .int (nI (st + 1))) (C := RX0) (T := TX0) (N := 16) hx hb hts in_X0 hown hK hP 0 rfl rfl 0 (by decide) (hts _ q38) (fun _ h9 => h9) rfl dX0_add_140 ?_
                exact hret 143 ls H locs (nI (st + 1)) (st + 1, pa, ot (pa - 1), so, kc, va_up he (pa - 1) 1, pl, wk, ar, ot, cn, tr, ld, mb, tb, mt) dX0_add_143 rfl (Or.inl ⟨14, rfl, by omega, hac, by rw [hst], XR_14 hX (by omega)⟩) hP hD hS
              · refine lv_iconst (v := (-1)) hx hb dX0_add_78 (by decide) ?_
                exact hret 79 ls H locs (-1) (st, pa, ac, so, kc, he, pl, wk, ar, ot, cn, tr, ld, mb, tb, mt) dX0_add_79 rfl (Or.inr ⟨rej hk (fun q => by have h9 := q.2.2.2.2 rfl; rw [← hpa] at h9; rw [h9] at hhe; exact ke hhe), rfl, hX⟩) hP hD hS
            · refine lv_iconst (v := (-1)) hx hb dX0_add_56 (by decide) ?_
              exact hret 57 ls H locs (-1) (st, pa, ac, so, kc, he, pl, wk, ar, ot, cn, tr, ld, mb, tb, mt) dX0_add_57 rfl (Or.inr ⟨rej hk (fun q => by have := q.2.2.2.1 (by omega); omega), rfl, hX⟩) hP hD hS
          · refine lv_iload_n hx hb dX0_add_43 rfl (lv_at hl 1 rfl) ?_
            refine lv_bipush (v := nI 15) hx hb dX0_add_44 (by decide) ?_
            refine xn_ne_b (tgt := 58) hx hb dX0_add_46 (by decide) (by omega) (by omega) (fun k15 => ?_) (fun k15 => ?_)
            · have hlt : k ≤ 12 := by omega
              have hac : ac1 cd n k := ⟨hk, fun q => by omega, fun q => by omega, fun q => by omega⟩
              refine lv_iload_n hx hb dX0_add_58 rfl (lv_at hl 1 rfl) ?_
              refine lv_bipush (v := nI 14) hx hb dX0_add_59 (by decide) ?_
              refine xn_ne_b (tgt := 80) hx hb dX0_add_61 (by decide) (by omega) (by omega) (fun c61 => ?_) (fun c61 => absurd c61 (by omega))
              refine lv_aload_n hx hb dX0_add_80 rfl (lv_at hl 0 rfl) ?_
              refine lv_dup hx hb dX0_add_81 rfl ?_
              refine va_get (ci := 0) (v := .int (nI st)) (C := RX0) (T := TX0) (N := 16) hx hb hts in_X0 hown hK hP 0 rfl rfl 0 (by decide) (hts _ q38) (fun _ h9 => h9) rfl dX0_add_82 ?_
              refine lv_iconst (v := nI 1) hx hb dX0_add_85 (by decide) ?_
              refine xi_add hx hb dX0_add_86 ?_
              refine va_put (ci := 0) (v := .int (nI (st + 1))) (ty := .int) (C := RX0) (T := TX0) (N := 16) hx hb hts in_X0 tyX0 tyX0_ok nmX0 hown hK hP hD hS 0 rfl rfl 0 (by decide) (hts _ q38) (fun _ h9 => h9) rfl (by decide +kernel) rfl rfl (Nat.le_of_ble_eq_true rfl) dX0_add_87 (fun H locs hP hD hS => ?_)
              have hP : va_P D vwCl (wX h ad ca (st + 1) pa ac so kc he pl wk ar ot cn tr ld mb tb mt) H := hP
              have hD : va_D A (wX h ad ca (st + 1) pa ac so kc he pl wk ar ot cn tr ld mb tb mt) := hD
              refine lv_iload_n hx hb dX0_add_90 rfl (lv_at hl 1 rfl) ?_
              refine lv_bipush (v := nI 13) hx hb dX0_add_91 (by decide) ?_
              refine xn_lt_b (tgt := 107) hx hb dX0_add_93 (by decide) (by omega) (by omega) (fun c93 => ?_) (fun c93 => absurd c93 (by omega))
              refine lv_iload_n hx hb dX0_add_107 rfl (lv_at hl 1 rfl) ?_
              refine lv_bipush (v := nI 12) hx hb dX0_add_108 (by decide) ?_
              refine xn_ne_b (tgt := 123) hx hb dX0_add_110 (by decide) (by omega) (by omega) (fun k12 => ?_) (fun k12 => ?_)
              · refine lv_aload_n hx hb dX0_add_123 rfl (lv_at hl 0 rfl) ?_
                refine lv_iload_n hx hb dX0_add_124 rfl (lv_at hl 1 rfl) ?_
                refine lv_iload_n hx hb dX0_add_125 rfl (lv_at hl 2 rfl) ?_
                refine lv_iconst (v := nI 3) hx hb dX0_add_126 (by decide) ?_
                refine xi_and 3 4 2 (by decide) (by decide) hx hb dX0_add_127 ?_
                refine lv_iload_n hx hb dX0_add_128 rfl (lv_at hl 3 rfl) ?_
                refine kv_v (n := 3) (As := [.int (nI k), .int (nI (ub a0 % 4)), .int b0]) (rest := []) ⟨hx, hb, hml, hown, hts⟩ (cX_compute l D h ad ca H.size (st + 1) pa ac so kc he pl wk ar ot cn tr ld mb tb mt k (ub a0 % 4) b0 (by omega) ha4) (lw_V q110 q112 qs4 q23 q113) (by decide +kernel) ⟨by rw [hR.1]; decide, by rw [hR.2]; decide⟩ ⟨Nat.zero_le _, Nat.zero_le _⟩ hK hP hD hS hA (ci := 0) rfl rfl rfl rfl hl.1 rfl (Nat.le_of_ble_eq_true rfl) dX0_add_129 (fun wx H locs hw hP hD hS => ?_)
                have hP : va_P D vwCl (wX h ad ca (st + 1) pa ac so kc he pl wx ar ot cn tr ld mb tb mt) H := hP
                have hD : va_D A (wX h ad ca (st + 1) pa ac so kc he pl wx ar ot cn tr ld mb tb mt) := hD
                have hw1 := hw
                refine lv_aload_n hx hb dX0_add_132 rfl (lv_at hl 0 rfl) ?_
                refine lv_iload_n hx hb dX0_add_133 rfl (lv_at hl 2 rfl) ?_
                refine lv_iconst (v := nI 3) hx hb dX0_add_134 (by decide) ?_
                refine xi_and 3 4 2 (by decide) (by decide) hx hb dX0_add_135 ?_
                refine kv_v (n := 1) (As := [.int (nI (ub a0 % 4))]) (rest := []) ⟨hx, hb, hml, hown, hts⟩ (cX_keepResult l D h ad ca H.size (st + 1) pa ac so kc he pl wx ar ot cn tr ld mb tb mt (ub a0 % 4) ha4) (lw_V q142 q144 qs12 q23 q145) (by decide +kernel) ⟨by rw [hR.1]; decide, by rw [hR.2]; decide⟩ ⟨Nat.zero_le _, Nat.zero_le _⟩ hK hP hD hS hA (ci := 0) rfl rfl rfl rfl hl.1 rfl (Nat.le_of_ble_eq_true rfl) dX0_add_136 (fun px H locs hw hP hD hS => ?_)
                have hP : va_P D vwCl (wX h ad ca (st + 1) pa ac so kc he px wx ar ot cn tr ld mb tb mt) H := hP
                have hD : va_D A (wX h ad ca (st + 1) pa ac so kc he px wx ar ot cn tr ld mb tb mt) := hD
                refine lv_aload_n hx hb dX0_add_139 rfl (lv_at hl 0 rfl) ?_
                refine va_get (ci := 0) (v := .int (nI (st + 1))) (C := RX0) (T := TX0) (N := 16) hx hb hts in_X0 hown hK hP 0 rfl rfl 0 (by decide) (hts _ q38) (fun _ h9 => h9) rfl dX0_add_140 ?_
                exact hret 143 ls H locs (nI (st + 1)) (st + 1, pa, ac, so, kc, he, px, wx, ar, ot, cn, tr, ld, mb, tb, mt) dX0_add_143 rfl (Or.inl ⟨k, rfl, by omega, hac, by rw [hst], XR_comp hX (by omega) hw1 hw⟩) hP hD hS
              · subst k12
                refine lv_aload_n hx hb dX0_add_113 rfl (lv_at hl 0 rfl) ?_
                refine lv_iload_n hx hb dX0_add_114 rfl (lv_at hl 2 rfl) ?_
                refine lv_iconst (v := nI 3) hx hb dX0_add_115 (by decide) ?_
                refine xi_and 3 4 2 (by decide) (by decide) hx hb dX0_add_116 ?_
                refine kv_v (n := 1) (As := [.int (nI (ub a0 % 4))]) (rest := []) ⟨hx, hb, hml, hown, hts⟩ (cX_putOut l D h ad ca H.size (st + 1) pa ac so kc he pl wk ar ot cn tr ld mb tb mt (ub a0 % 4) ha4 hX.cn7) (lw_V q102 q104 qs2 q23 q105) (by decide +kernel) ⟨by rw [hR.1]; decide, by rw [hR.2]; decide⟩ ⟨Nat.zero_le _, Nat.zero_le _⟩ hK hP hD hS hA (ci := 0) rfl rfl rfl rfl hl.1 rfl (Nat.le_of_ble_eq_true rfl) dX0_add_117 (fun ⟨cx, tx⟩ H locs hw hP hD hS => ?_)
                have hP : va_P D vwCl (wX h ad ca (st + 1) pa ac 0 kc he pl wk ar ot cx tx ld mb tb mt) H := hP
                have hD : va_D A (wX h ad ca (st + 1) pa ac 0 kc he pl wk ar ot cx tx ld mb tb mt) := hD
                have hw : (∀ j, j < 64 → cx j = poC ac cn j) ∧ (∀ j, j < 64 → tx j = poT ac cn tr pl (ub a0 % 4) j) := hw
                refine lv_goto (tgt := 139) hx hb dX0_add_120 (by decide) ?_
                refine lv_aload_n hx hb dX0_add_139 rfl (lv_at hl 0 rfl) ?_
                refine va_get (ci := 0) (v := .int (nI (st + 1))) (C := RX0) (T := TX0) (N := 16) hx hb hts in_X0 hown hK hP 0 rfl rfl 0 (by decide) (hts _ q38) (fun _ h9 => h9) rfl dX0_add_140 ?_
                exact hret 143 ls H locs (nI (st + 1)) (st + 1, pa, ac, 0, kc, he, pl, wk, ar, ot, cx, tx, ld, mb, tb, mt) dX0_add_143 rfl (Or.inl ⟨12, rfl, by omega, hac, by rw [hst], XR_put hX hw.1 hw.2⟩) hP hD hS
            · subst k15
              refine lv_aload_n hx hb dX0_add_49 rfl (lv_at hl 0 rfl) ?_
              refine va_get (ci := 0) (v := .int (nI pa)) (C := RX0) (T := TX0) (N := 16) hx hb hts in_X0 hown hK hP 0 rfl rfl 1 (by decide) (hts _ q39) (fun _ h9 => h9) rfl dX0_add_50 ?_
              refine xn_ifne_b (tgt := 58) hx hb dX0_add_53 (by decide) (by omega) (fun kp => ?_) (fun kp => ?_)
              · have hac : ac1 cd n 15 := ⟨by omega, fun q => by omega, fun _ => by omega, fun q => by omega⟩
                refine lv_iload_n hx hb dX0_add_58 rfl (lv_at hl 1 rfl) ?_
                refine lv_bipush (v := nI 14) hx hb dX0_add_59 (by decide) ?_
                refine xn_ne_b (tgt := 80) hx hb dX0_add_61 (by decide) (by omega) (by omega) (fun c61 => ?_) (fun c61 => absurd c61 (by decide))
                refine lv_aload_n hx hb dX0_add_80 rfl (lv_at hl 0 rfl) ?_
                refine lv_dup hx hb dX0_add_81 rfl ?_
                refine va_get (ci := 0) (v := .int (nI st)) (C := RX0) (T := TX0) (N := 16) hx hb hts in_X0 hown hK hP 0 rfl rfl 0 (by decide) (hts _ q38) (fun _ h9 => h9) rfl dX0_add_82 ?_
                refine lv_iconst (v := nI 1) hx hb dX0_add_85 (by decide) ?_
                refine xi_add hx hb dX0_add_86 ?_
                refine va_put (ci := 0) (v := .int (nI (st + 1))) (ty := .int) (C := RX0) (T := TX0) (N := 16) hx hb hts in_X0 tyX0 tyX0_ok nmX0 hown hK hP hD hS 0 rfl rfl 0 (by decide) (hts _ q38) (fun _ h9 => h9) rfl (by decide +kernel) rfl rfl (Nat.le_of_ble_eq_true rfl) dX0_add_87 (fun H locs hP hD hS => ?_)
                have hP : va_P D vwCl (wX h ad ca (st + 1) pa ac so kc he pl wk ar ot cn tr ld mb tb mt) H := hP
                have hD : va_D A (wX h ad ca (st + 1) pa ac so kc he pl wk ar ot cn tr ld mb tb mt) := hD
                refine lv_iload_n hx hb dX0_add_90 rfl (lv_at hl 1 rfl) ?_
                refine lv_bipush (v := nI 13) hx hb dX0_add_91 (by decide) ?_
                refine xn_lt_b (tgt := 107) hx hb dX0_add_93 (by decide) (by omega) (by omega) (fun c93 => absurd c93 (by decide)) (fun c93 => ?_)
                refine lv_aload_n hx hb dX0_add_96 rfl (lv_at hl 0 rfl) ?_
                refine lv_iload_n hx hb dX0_add_97 rfl (lv_at hl 1 rfl) ?_
                refine lv_iload_n hx hb dX0_add_98 rfl (lv_at hl 2 rfl) ?_
                refine lv_iconst (v := nI 3) hx hb dX0_add_99 (by decide) ?_
                refine xi_and 3 4 2 (by decide) (by decide) hx hb dX0_add_100 ?_
                refine kv_v (n := 2) (As := [.int (nI 15), .int (nI (ub a0 % 4))]) (rest := []) ⟨hx, hb, hml, hown, hts⟩ (cX_branch15 l D h ad ca H.size (st + 1) pa ac so kc he pl wk ar ot cn tr ld mb tb mt (ub a0 % 4) ha4 (by omega) (by omega)) (lw_V q94 q96 qs0 q23 q97) (by decide +kernel) ⟨by rw [hR.1]; decide, by rw [hR.2]; decide⟩ ⟨Nat.zero_le _, Nat.zero_le _⟩ hK hP hD hS hA (ci := 0) rfl rfl rfl rfl hl.1 rfl (Nat.le_of_ble_eq_true rfl) dX0_add_101 (fun _u H locs hw hP hD hS => ?_)
                have hP : va_P D vwCl (wX h ad ca (st + 1) (pa - 1) (ar (pa - 1)) so kc he pl wk ar ot cn tr ld mb tb mt) H := hP
                have hD : va_D A (wX h ad ca (st + 1) (pa - 1) (ar (pa - 1)) so kc he pl wk ar ot cn tr ld mb tb mt) := hD
                refine lv_goto (tgt := 139) hx hb dX0_add_104 (by decide) ?_
                refine lv_aload_n hx hb dX0_add_139 rfl (lv_at hl 0 rfl) ?_
                refine va_get (ci := 0) (v := .int (nI (st + 1))) (C := RX0) (T := TX0) (N := 16) hx hb hts in_X0 hown hK hP 0 rfl rfl 0 (by decide) (hts _ q38) (fun _ h9 => h9) rfl dX0_add_140 ?_
                exact hret 143 ls H locs (nI (st + 1)) (st + 1, pa - 1, ar (pa - 1), so, kc, he, pl, wk, ar, ot, cn, tr, ld, mb, tb, mt) dX0_add_143 rfl (Or.inl ⟨15, rfl, by omega, hac, by rw [hst], XR_15 hX (by omega)⟩) hP hD hS
              · refine lv_iconst (v := (-1)) hx hb dX0_add_56 (by decide) ?_
                exact hret 57 ls H locs (-1) (st, pa, ac, so, kc, he, pl, wk, ar, ot, cn, tr, ld, mb, tb, mt) dX0_add_57 rfl (Or.inr ⟨rej hk (fun q => by have := q.2.2.2.1 (by omega); omega), rfl, hX⟩) hP hD hS
        · refine lv_aload_n hx hb dX0_add_27 rfl (lv_at hl 0 rfl) ?_
          refine va_get (ci := 0) (v := .int (nI pa)) (C := RX0) (T := TX0) (N := 16) hx hb hts in_X0 hown hK hP 0 rfl rfl 1 (by decide) (hts _ q39) (fun _ h9 => h9) rfl dX0_add_28 ?_
          refine lv_iconst (v := nI 4) hx hb dX0_add_31 (by decide) ?_
          refine xn_lt_b (tgt := 37) hx hb dX0_add_32 (by decide) (by omega) (by omega) (fun k4 => ?_) (fun k4 => ?_)
          · subst k13
            have hac : ac1 cd n 13 := ⟨by omega, fun _ => by omega, fun q => by omega, fun q => by omega⟩
            refine lv_iload_n hx hb dX0_add_37 rfl (lv_at hl 1 rfl) ?_
            refine lv_bipush (v := nI 14) hx hb dX0_add_38 (by decide) ?_
            refine xn_eq_b (tgt := 49) hx hb dX0_add_40 (by decide) (by omega) (by omega) (fun c40 => absurd c40 (by decide)) (fun c40 => ?_)
            refine lv_iload_n hx hb dX0_add_43 rfl (lv_at hl 1 rfl) ?_
            refine lv_bipush (v := nI 15) hx hb dX0_add_44 (by decide) ?_
            refine xn_ne_b (tgt := 58) hx hb dX0_add_46 (by decide) (by omega) (by omega) (fun c46 => ?_) (fun c46 => absurd c46 (by decide))
            refine lv_iload_n hx hb dX0_add_58 rfl (lv_at hl 1 rfl) ?_
            refine lv_bipush (v := nI 14) hx hb dX0_add_59 (by decide) ?_
            refine xn_ne_b (tgt := 80) hx hb dX0_add_61 (by decide) (by omega) (by omega) (fun c61 => ?_) (fun c61 => absurd c61 (by decide))
            refine lv_aload_n hx hb dX0_add_80 rfl (lv_at hl 0 rfl) ?_
            refine lv_dup hx hb dX0_add_81 rfl ?_
            refine va_get (ci := 0) (v := .int (nI st)) (C := RX0) (T := TX0) (N := 16) hx hb hts in_X0 hown hK hP 0 rfl rfl 0 (by decide) (hts _ q38) (fun _ h9 => h9) rfl dX0_add_82 ?_
            refine lv_iconst (v := nI 1) hx hb dX0_add_85 (by decide) ?_
            refine xi_add hx hb dX0_add_86 ?_
            refine va_put (ci := 0) (v := .int (nI (st + 1))) (ty := .int) (C := RX0) (T := TX0) (N := 16) hx hb hts in_X0 tyX0 tyX0_ok nmX0 hown hK hP hD hS 0 rfl rfl 0 (by decide) (hts _ q38) (fun _ h9 => h9) rfl (by decide +kernel) rfl rfl (Nat.le_of_ble_eq_true rfl) dX0_add_87 (fun H locs hP hD hS => ?_)
            have hP : va_P D vwCl (wX h ad ca (st + 1) pa ac so kc he pl wk ar ot cn tr ld mb tb mt) H := hP
            have hD : va_D A (wX h ad ca (st + 1) pa ac so kc he pl wk ar ot cn tr ld mb tb mt) := hD
            refine lv_iload_n hx hb dX0_add_90 rfl (lv_at hl 1 rfl) ?_
            refine lv_bipush (v := nI 13) hx hb dX0_add_91 (by decide) ?_
            refine xn_lt_b (tgt := 107) hx hb dX0_add_93 (by decide) (by omega) (by omega) (fun c93 => absurd c93 (by decide)) (fun c93 => ?_)
            refine lv_aload_n hx hb dX0_add_96 rfl (lv_at hl 0 rfl) ?_
            refine lv_iload_n hx hb dX0_add_97 rfl (lv_at hl 1 rfl) ?_
            refine lv_iload_n hx hb dX0_add_98 rfl (lv_at hl 2 rfl) ?_
            refine lv_iconst (v := nI 3) hx hb dX0_add_99 (by decide) ?_
            refine xi_and 3 4 2 (by decide) (by decide) hx hb dX0_add_100 ?_
            refine kv_v (n := 2) (As := [.int (nI 13), .int (nI (ub a0 % 4))]) (rest := []) ⟨hx, hb, hml, hown, hts⟩ (cX_branch13 l D h ad ca H.size (st + 1) pa ac so kc he pl wk ar ot cn tr ld mb tb mt (ub a0 % 4) ha4 (by omega)) (lw_V q94 q96 qs0 q23 q97) (by decide +kernel) ⟨by rw [hR.1]; decide, by rw [hR.2]; decide⟩ ⟨Nat.zero_le _, Nat.zero_le _⟩ hK hP hD hS hA (ci := 0) rfl rfl rfl rfl hl.1 rfl (Nat.le_of_ble_eq_true rfl) dX0_add_101 (fun _u H locs hw hP hD hS => ?_)
            have hP : va_P D vwCl (wX h ad ca (st + 1) (pa + 1) (ac &&& anyp pl (8 * (ub a0 % 4)) 8) so kc (va_up he pa 0) pl wk (vp_updL ar pa ac) (vp_updL ot pa (ac &&& ((anyp pl (8 * (ub a0 % 4)) 8) ^^^ (-1)))) cn tr ld mb tb mt) H := hP
            have hD : va_D A (wX h ad ca (st + 1) (pa + 1) (ac &&& anyp pl (8 * (ub a0 % 4)) 8) so kc (va_up he pa 0) pl wk (vp_updL ar pa ac) (vp_updL ot pa (ac &&& ((anyp pl (8 * (ub a0 % 4)) 8) ^^^ (-1)))) cn tr ld mb tb mt) := hD
            refine lv_goto (tgt := 139) hx hb dX0_add_104 (by decide) ?_
            refine lv_aload_n hx hb dX0_add_139 rfl (lv_at hl 0 rfl) ?_
            refine va_get (ci := 0) (v := .int (nI (st + 1))) (C := RX0) (T := TX0) (N := 16) hx hb hts in_X0 hown hK hP 0 rfl rfl 0 (by decide) (hts _ q38) (fun _ h9 => h9) rfl dX0_add_140 ?_
            exact hret 143 ls H locs (nI (st + 1)) (st + 1, pa + 1, ac &&& anyp pl (8 * (ub a0 % 4)) 8, so, kc, va_up he pa 0, pl, wk, vp_updL ar pa ac, vp_updL ot pa (ac &&& ((anyp pl (8 * (ub a0 % 4)) 8) ^^^ (-1))), cn, tr, ld, mb, tb, mt) dX0_add_143 rfl (Or.inl ⟨13, rfl, by omega, hac, by rw [hst], XR_13 hX⟩) hP hD hS
          · refine lv_iconst (v := (-1)) hx hb dX0_add_35 (by decide) ?_
            exact hret 36 ls H locs (-1) (st, pa, ac, so, kc, he, pl, wk, ar, ot, cn, tr, ld, mb, tb, mt) dX0_add_36 rfl (Or.inr ⟨rej hk (fun q => by have := q.2.2.1 k13; omega), rfl, hX⟩) hP hD hS
      · refine lv_iconst (v := (-1)) hx hb dX0_add_19 (by decide) ?_
        exact hret 20 ls H locs (-1) (st, pa, ac, so, kc, he, pl, wk, ar, ot, cn, tr, ld, mb, tb, mt) dX0_add_20 rfl (Or.inr ⟨by first | exact rej_n (Or.inl k1) | exact rej_n (Or.inr k2) | exact rej hk (fun q => absurd q.1 (by omega)), rfl, hX⟩) hP hD hS
end
section
/-! LeakageMeterModel: rows for its arithmetic; jumps against the statement-by-statement meaning -/
theorem nz_and (a b : Nat) : nI a &&& nI b = nI (a &&& b) := by
  apply Int32.toBitVec_inj.1
  show BitVec.ofNat 32 a &&& BitVec.ofNat 32 b = BitVec.ofNat 32 (a &&& b)
  apply BitVec.eq_of_getLsbD_eq
  intro i hi
  simp [hi, Nat.testBit_and]
theorem nz_or (a b : Nat) : nI a ||| nI b = nI (a ||| b) := by
  apply Int32.toBitVec_inj.1
  show BitVec.ofNat 32 a ||| BitVec.ofNat 32 b = BitVec.ofNat 32 (a ||| b)
  apply BitVec.eq_of_getLsbD_eq
  intro i hi
  simp [hi, Nat.testBit_or]
theorem nz_xor (a b : Nat) : nI a ^^^ nI b = nI (a ^^^ b) := by
  apply Int32.toBitVec_inj.1
  show BitVec.ofNat 32 a ^^^ BitVec.ofNat 32 b = BitVec.ofNat 32 (a ^^^ b)
  apply BitVec.eq_of_getLsbD_eq
  intro i hi
  simp [hi, Nat.testBit_xor]
section RM_
variable {p : Program} {l : Launch} {e : Env} {R : Room} {s : State} {m : MethodId} {args : Array Value} {below : List Frame} {meth : Method} {c : Code} {H : Heap} {locs : List Loc} {cells slots : Nat} {Q : State → Prop}
variable {cc : ByteArray} {pc : Nat} {ls : Array Slot} {rest : List Value}
theorem xi_rem {x y : Nat} (hx : p.tables.exec = Jvm.exec) (hb : c.code = cc) (hdg : decode cc pc = .ok (.irem, 1)) (h0 : 0 < y) (h1 : x < 2 ^ 31) (h2 : y < 2 ^ 31) (k : W p l e R s m args below meth c H locs cells slots Q (F0 m (pc + 1) ls (.int (nI (x % y)) :: rest))) : W p l e R s m args below meth c H locs cells slots Q (F0 m pc ls (.int (nI y) :: .int (nI x) :: rest)) :=
  lv_irem hx hb hdg (nI_ne0 h0 h2) (by rw [pk_rem h1 h0 h2]; exact k)
theorem xi_div {x y : Nat} (hx : p.tables.exec = Jvm.exec) (hb : c.code = cc) (hdg : decode cc pc = .ok (.idiv, 1)) (h0 : 0 < y) (h1 : x < 2 ^ 31) (h2 : y < 2 ^ 31) (k : W p l e R s m args below meth c H locs cells slots Q (F0 m (pc + 1) ls (.int (nI (x / y)) :: rest))) : W p l e R s m args below meth c H locs cells slots Q (F0 m pc ls (.int (nI y) :: .int (nI x) :: rest)) :=
  lv_idiv hx hb hdg (nI_ne0 h0 h2) (by rw [pk_div h1 h0 h2]; exact k)
theorem xi_iand2 {x y : Nat} (hx : p.tables.exec = Jvm.exec) (hb : c.code = cc) (hdg : decode cc pc = .ok (.iand, 1)) (k : W p l e R s m args below meth c H locs cells slots Q (F0 m (pc + 1) ls (.int (nI (x &&& y)) :: rest))) : W p l e R s m args below meth c H locs cells slots Q (F0 m pc ls (.int (nI y) :: .int (nI x) :: rest)) :=
  lv_iand hx hb hdg (by rw [nz_and]; exact k)
theorem xi_ior2 {x y : Nat} (hx : p.tables.exec = Jvm.exec) (hb : c.code = cc) (hdg : decode cc pc = .ok (.ior, 1)) (k : W p l e R s m args below meth c H locs cells slots Q (F0 m (pc + 1) ls (.int (nI (x ||| y)) :: rest))) : W p l e R s m args below meth c H locs cells slots Q (F0 m pc ls (.int (nI y) :: .int (nI x) :: rest)) :=
  lv_ior hx hb hdg (by rw [nz_or]; exact k)
theorem xi_ixor2 {x y : Nat} (hx : p.tables.exec = Jvm.exec) (hb : c.code = cc) (hdg : decode cc pc = .ok (.ixor, 1)) (k : W p l e R s m args below meth c H locs cells slots Q (F0 m (pc + 1) ls (.int (nI (x ^^^ y)) :: rest))) : W p l e R s m args below meth c H locs cells slots Q (F0 m pc ls (.int (nI y) :: .int (nI x) :: rest)) :=
  lv_ixor hx hb hdg (by rw [nz_xor]; exact k)
theorem xn_ifle_f {x tgt : Nat} {off : Int} (hx : p.tables.exec = Jvm.exec) (hb : c.code = cc) (hdg : decode cc pc = .ok (.ifCond .le off, 3)) (ht : (pc : Int) + off = (tgt : Int)) (h0 : 0 < x) (h1 : x < 2 ^ 31) (k : W p l e R s m args below meth c H locs cells slots Q (F0 m (pc + 3) ls rest)) : W p l e R s m args below meth c H locs cells slots Q (F0 m pc ls (.int (nI x) :: rest)) :=
  lv_if_le hx hb hdg ht (fun q => absurd q (nI_nle h0 h1)) (fun _ => k)
end RM_
theorem sub256 {x y : Nat} (hx : x < 256) (hy : y < 256) : nI x - nI y + nI 256 = nI (x + 256 - y) := by
  have e : nI (x + 256 - y) = nI (x + 256) - nI y := (pk_sub (by omega)).symm
  rw [e, ← nI_add]
  grind
/-- a counter from n - 1 down to -1 -/
def zc (n k : Nat) : Int32 := nI (n - k) + (-1)
theorem zc_in {n k q : Nat} (h : n - k = q + 1) : zc n k = nI q := by
  unfold zc
  rw [h]
  exact pk_m1 _
theorem zc_next {n k q : Nat} (h : n - k = q + 1) : nI q + Int32.ofInt (-1) = zc n (k + 1) := by
  unfold zc
  rw [show n - (k + 1) = q by omega]
  rfl
theorem zc_end (n : Nat) : zc n n < 0 := by
  unfold zc
  rw [Nat.sub_self]
  decide
theorem ic_succ (cd : Nat → Nat) (lf rt : Nat → Int32) (s n : Nat) : ic cd lf rt s (n + 1) = icS (cd n) (lf n) (rt n) (dp cd n) (ic cd lf rt s n) := rfl
section DP
variable {cd : Nat → Nat} {i : Nat}
theorem dp_13 (h : cd i = 13) : dp cd (i + 1) = dp cd i + 1 := by simp only [dp]; rw [if_pos h]
theorem dp_15 (h : cd i = 15) : dp cd (i + 1) = dp cd i - 1 := by simp only [dp]; rw [if_neg (by omega), if_pos h]
theorem dp_o (h1 : cd i ≠ 13) (h2 : cd i ≠ 15) : dp cd (i + 1) = dp cd i := by simp only [dp]; rw [if_neg h1, if_neg h2]
theorem hE_13 (h : cd i = 13) : hE cd (i + 1) (dp cd i) = false := by simp [hE, h]
theorem hE_14 (h : cd i = 14) : hE cd (i + 1) (dp cd i - 1) = true := by simp [hE, h]
theorem hE_o {j : Nat} (h1 : cd i = 13 → j ≠ dp cd i) (h2 : cd i = 14 → j ≠ dp cd i - 1) : hE cd (i + 1) j = hE cd i j := by
  simp only [hE]
  by_cases q : cd i = 13
  · rw [if_pos q, if_neg (h1 q)]
  · rw [if_neg q]
    by_cases q2 : cd i = 14
    · rw [if_pos q2, if_neg (h2 q2)]
    · rw [if_neg q2]
end DP
theorem VP.pre {cd : Nat → Nat} {n k : Nat} (h : VP cd n) (hk : k ≤ n) : VP cd k := fun j hj => h j (by omega)
/-- hasElse() on its way down: cl parts are closed behind q -/
def heJ (cd : Nat → Nat) (n q cl : Nat) : Prop := q ≤ n ∧ dp cd q = dp cd n + cl ∧ hE cd n (dp cd n - 1) = hE cd q (dp cd n - 1)
section HE
variable {cd : Nat → Nat} {n q cl : Nat}
theorem he_true (hJ : heJ cd n (q + 1) 0) (h : cd q = 14) : hE cd n (dp cd n - 1) = true := by
  obtain ⟨h1, h2, h3⟩ := hJ
  rw [h3]
  rw [dp_o (by omega) (by omega)] at h2
  have := hE_14 h
  rw [h2] at this
  exact this
theorem he_false (hJ : heJ cd n (q + 1) 0) (h : cd q = 13) : hE cd n (dp cd n - 1) = false := by
  obtain ⟨h1, h2, h3⟩ := hJ
  rw [h3]
  rw [dp_13 h] at h2
  have := hE_13 h
  rw [show dp cd q = dp cd n - 1 by omega] at this
  exact this
theorem he_15 (hJ : heJ cd n (q + 1) cl) (hV : VP cd n) (h : cd q = 15) : heJ cd n q (cl + 1) := by
  obtain ⟨h1, h2, h3⟩ := hJ
  have := (hV q (by omega)).2.2.1 (Or.inr h)
  rw [dp_15 h] at h2
  exact ⟨by omega, by omega, by rw [h3, hE_o (fun z => by omega) (fun z => by omega)]⟩
theorem he_13 (hJ : heJ cd n (q + 1) cl) (hd : 0 < dp cd n) (hc : cl ≠ 0) (h : cd q = 13) : heJ cd n q (cl - 1) := by
  obtain ⟨h1, h2, h3⟩ := hJ
  rw [dp_13 h] at h2
  exact ⟨by omega, by omega, by rw [h3, hE_o (fun z => by omega) (fun z => by omega)]⟩
theorem he_o (hJ : heJ cd n (q + 1) cl) (hd : 0 < dp cd n) (h13 : cd q ≠ 13) (h15 : cd q ≠ 15) (h14 : cd q = 14 → cl ≠ 0) : heJ cd n q cl := by
  obtain ⟨h1, h2, h3⟩ := hJ
  rw [dp_o h13 h15] at h2
  exact ⟨by omega, h2, by rw [h3, hE_o (fun z => absurd z h13) (fun z => by have := h14 z; omega)]⟩
end HE
/-- where behind(p, oe) stops -/
def hit (cd : Nat → Nat) (p oe j : Nat) : Prop := dp cd j = dp cd (p + 1) ∧ (cd j = 15 ∨ oe = 1 ∧ cd j = 14)
def pas (cd : Nat → Nat) (p oe i : Nat) : Prop := ∀ j, p < j → j < i → dp cd (p + 1) ≤ dp cd j ∧ ¬ hit cd p oe j
def Bh (cd : Nat → Nat) (n p oe r0 : Nat) : Prop := (∃ q, p < q ∧ q < n ∧ r0 = q + 1 ∧ hit cd p oe q ∧ pas cd p oe q) ∨ (r0 = n ∧ pas cd p oe n)
theorem pas_next {cd : Nat → Nat} {p oe i : Nat} (h : pas cd p oe i) (h1 : dp cd (p + 1) ≤ dp cd i) (h2 : ¬ hit cd p oe i) : pas cd p oe (i + 1) := by
  intro j hj hj2
  by_cases q : j = i
  · subst q; exact ⟨h1, h2⟩
  · exact h j hj (by omega)
/-- the secret isn't active while behind passes by -/
theorem skip {cd : Nat → Nat} {lf rt : Nat → Int32} {s p oe q : Nat} (hV : VP cd q) (hD : 0 < dp cd (p + 1)) (ha : (ic cd lf rt s (p + 1)).2.2.2.1 = false) (hot : oe = 1 ∨ (ic cd lf rt s (p + 1)).2.2.2.2.2 (dp cd (p + 1) - 1) = false) (hp : pas cd p oe q) :
    ∀ j, p < j → j ≤ q → (ic cd lf rt s j).1 = (ic cd lf rt s (p + 1)).1 ∧ (ic cd lf rt s j).2.1 = (ic cd lf rt s (p + 1)).2.1 ∧ (ic cd lf rt s j).2.2.1 = (ic cd lf rt s (p + 1)).2.2.1 ∧ (ic cd lf rt s j).2.2.2.1 = false ∧
      (∀ k, k < dp cd (p + 1) → (ic cd lf rt s j).2.2.2.2.1 k = (ic cd lf rt s (p + 1)).2.2.2.2.1 k ∧ (ic cd lf rt s j).2.2.2.2.2 k = (ic cd lf rt s (p + 1)).2.2.2.2.2 k) ∧
      (∀ k, dp cd (p + 1) ≤ k → k < dp cd j → (ic cd lf rt s j).2.2.2.2.1 k = false ∧ (ic cd lf rt s j).2.2.2.2.2 k = false) := by
  have key : ∀ d, p + 1 + d ≤ q → (ic cd lf rt s (p + 1 + d)).1 = (ic cd lf rt s (p + 1)).1 ∧ (ic cd lf rt s (p + 1 + d)).2.1 = (ic cd lf rt s (p + 1)).2.1 ∧ (ic cd lf rt s (p + 1 + d)).2.2.1 = (ic cd lf rt s (p + 1)).2.2.1 ∧ (ic cd lf rt s (p + 1 + d)).2.2.2.1 = false ∧
      (∀ k, k < dp cd (p + 1) → (ic cd lf rt s (p + 1 + d)).2.2.2.2.1 k = (ic cd lf rt s (p + 1)).2.2.2.2.1 k ∧ (ic cd lf rt s (p + 1 + d)).2.2.2.2.2 k = (ic cd lf rt s (p + 1)).2.2.2.2.2 k) ∧
      (∀ k, dp cd (p + 1) ≤ k → k < dp cd (p + 1 + d) → (ic cd lf rt s (p + 1 + d)).2.2.2.2.1 k = false ∧ (ic cd lf rt s (p + 1 + d)).2.2.2.2.2 k = false) := by
    intro d
    induction d with
    | zero =>
      intro _
      exact ⟨rfl, rfl, rfl, ha, fun k _ => ⟨rfl, rfl⟩, fun k h1 h2 => absurd h2 (by rw [Nat.add_zero]; omega)⟩
    | succ d ih =>
      intro hd
      obtain ⟨i1, i2, i3, i4, i5, i6⟩ := ih (by omega)
      obtain ⟨g1, g2⟩ := hp (p + 1 + d) (by omega) (by omega)
      have hv := hV (p + 1 + d) (by omega)
      rw [show p + 1 + (d + 1) = (p + 1 + d) + 1 by omega]
      generalize p + 1 + d = j at *
      rw [ic_succ cd lf rt s j]
      generalize hu : ic cd lf rt s j = u at *
      generalize ic cd lf rt s (p + 1) = u0 at *
      unfold icS
      by_cases c1 : cd j ≤ 11
      · rw [if_pos c1, dp_o (i := j) (by omega) (by omega)]
        rw [if_neg (by rw [i4]; decide)]
        exact ⟨i1, i2, i3, i4, i5, i6⟩
      · rw [if_neg c1]
        by_cases c2 : cd j = 12
        · rw [if_pos c2, dp_o (i := j) (by omega) (by omega), if_neg (by rw [i4]; intro z; exact absurd z.1 (by decide))]
          exact ⟨i1, i2, i3, i4, i5, i6⟩
        · rw [if_neg c2]
          by_cases c3 : cd j = 13
          · rw [if_pos c3, dp_13 c3]
            refine ⟨i1, i2, i3, by rw [i4]; rfl, fun k hk => ?_, fun k h1 h2 => ?_⟩
            · show va_up _ _ _ k = _ ∧ va_up _ _ _ k = _
              rw [va_up_ne _ _ (by omega), va_up_ne _ _ (by omega)]
              exact i5 k hk
            · show va_up _ _ _ k = _ ∧ va_up _ _ _ k = _
              by_cases z : k = dp cd j
              · rw [z, va_up_self, va_up_self, i4]
                exact ⟨rfl, rfl⟩
              · rw [va_up_ne _ _ z, va_up_ne _ _ z]
                exact i6 k h1 (by omega)
          · rw [if_neg c3]
            by_cases c4 : cd j = 14
            · rw [if_pos c4, dp_o (i := j) (by omega) (by omega)]
              refine ⟨i1, i2, i3, ?_, i5, i6⟩
              show u.2.2.2.2.2 (dp cd j - 1) = false
              by_cases z : dp cd j = dp cd (p + 1)
              · rw [z, (i5 _ (by omega)).2]
                rcases hot with y | y
                · exact absurd ⟨z, Or.inr ⟨y, c4⟩⟩ g2
                · exact y
              · exact (i6 _ (by omega) (by omega)).2
            · have c5 : cd j = 15 := by have := hv.1; omega
              rw [if_neg c4, dp_15 c5]
              have z : dp cd j ≠ dp cd (p + 1) := fun y => g2 ⟨y, Or.inl c5⟩
              refine ⟨i1, i2, i3, ?_, i5, fun k h1 h2 => i6 k h1 (by omega)⟩
              show u.2.2.2.2.1 (dp cd j - 1) = false
              exact (i6 _ (by omega) (by omega)).1
  intro j h1 h2
  have := key (j - (p + 1)) (by omega)
  rw [show p + 1 + (j - (p + 1)) = j by omega] at this
  exact this
/-- the parts around an active secret are active; no ELSE is owed to it -/
def inn (cd : Nat → Nat) (lf rt : Nat → Int32) (s n k : Nat) : Bool := if k + 1 < dp cd n then (ic cd lf rt s n).2.2.2.2.1 (k + 1) else (ic cd lf rt s n).2.2.2.1
def CI (cd : Nat → Nat) (lf rt : Nat → Int32) (s n : Nat) : Prop := ∀ k, k < dp cd n → (inn cd lf rt s n k = true → (ic cd lf rt s n).2.2.2.2.1 k = true) ∧ ((ic cd lf rt s n).2.2.2.2.2 k = true → (ic cd lf rt s n).2.2.2.2.1 k = true) ∧ (hE cd n k = false → inn cd lf rt s n k = true → (ic cd lf rt s n).2.2.2.2.2 k = false)
theorem CI_all {cd : Nat → Nat} {lf rt : Nat → Int32} (s : Nat) {n : Nat} (hV : VP cd n) : CI cd lf rt s n := by
  induction n with
  | zero => intro k hk; exact absurd hk (by simp [dp])
  | succ n ih =>
    have hI := ih (hV.pre (by omega))
    have hv := hV n (by omega)
    intro k hk
    unfold inn
    simp only [ic]
    unfold CI inn at hI
    generalize hu : ic cd lf rt s n = u at *
    unfold icS
    by_cases c1 : cd n ≤ 11
    · rw [if_pos c1]
      rw [dp_o (by omega) (by omega)] at hk ⊢
      rw [hE_o (fun z => by omega) (fun z => by omega)]
      exact hI k hk
    · rw [if_neg c1]
      by_cases c2 : cd n = 12
      · rw [if_pos c2]
        rw [dp_o (by omega) (by omega)] at hk ⊢
        rw [hE_o (fun z => by omega) (fun z => by omega)]
        have h := hI k hk
        have e9 : (if u.2.2.2.1 = true ∧ u.2.1 < 7 then (u.1, u.2.1 + 1, u.2.2.1 * 256 + u.1 (ub (lf n) % 4), u.2.2.2) else u).2.2.2 = u.2.2.2 := by split <;> rfl
        rw [e9]
        exact h
      · rw [if_neg c2]
        by_cases c3 : cd n = 13
        · rw [if_pos c3]
          rw [dp_13 c3] at hk ⊢
          by_cases z : k = dp cd n
          · subst z
            rw [if_neg (by omega), hE_13 c3]
            show (_ → va_up _ _ _ (dp cd n) = true) ∧ (va_up _ _ _ (dp cd n) = true → va_up _ _ _ (dp cd n) = true) ∧ (_ → _ → va_up _ _ _ (dp cd n) = false)
            rw [va_up_self, va_up_self]
            cases u.2.2.2.1 <;> simp
          · rw [hE_o (fun _ => z) (fun y => by omega)]
            have h := hI k (by omega)
            show ((if k + 1 < dp cd n + 1 then va_up _ _ _ (k + 1) else _) = true → va_up _ _ _ k = true) ∧ (va_up _ _ _ k = true → va_up _ _ _ k = true) ∧ (_ → (if k + 1 < dp cd n + 1 then va_up _ _ _ (k + 1) else _) = true → va_up _ _ _ k = false)
            rw [va_up_ne _ _ z, va_up_ne _ _ z, if_pos (by omega)]
            by_cases y : k + 1 = dp cd n
            · rw [y, va_up_self]
              rw [if_neg (by omega)] at h
              exact h
            · rw [va_up_ne _ _ y]
              rw [if_pos (by omega)] at h
              exact h
        · rw [if_neg c3]
          by_cases c4 : cd n = 14
          · rw [if_pos c4]
            have hd := hv.2.2.1 (Or.inl c4)
            rw [dp_o (by omega) (by omega)] at hk ⊢
            have h := hI k hk
            by_cases z : k = dp cd n - 1
            · subst z
              rw [if_neg (by omega), hE_14 c4]
              refine ⟨h.2.1, h.2.1, fun y => by cases y⟩
            · rw [hE_o (fun y => by omega) (fun _ => z), if_pos (by omega)]
              rw [if_pos (by omega)] at h
              exact h
          · rw [if_neg c4]
            have c5 : cd n = 15 := by have := hv.1; omega
            rw [dp_15 c5] at hk ⊢
            have h := hI k (by omega)
            rw [hE_o (fun y => by omega) (fun y => by omega)]
            rw [if_pos (by omega)] at h
            by_cases z : k + 1 = dp cd n - 1
            · rw [if_neg (by omega)]
              show (u.2.2.2.2.1 (dp cd n - 1) = true → _) ∧ _ ∧ (_ → u.2.2.2.2.1 (dp cd n - 1) = true → _)
              rw [← z]
              exact h
            · rw [if_pos (by omega)]
              exact h
/-- output k of c outputs in the number t -/
def dg (c t k : Nat) : Nat := t / 256 ^ (c - 1 - k) % 256
theorem dg_last {c t x : Nat} (hx : x < 256) : dg (c + 1) (t * 256 + x) c = x := by
  unfold dg
  rw [show c + 1 - 1 - c = 0 by omega, Nat.pow_zero, Nat.div_one]
  omega
theorem dg_old {c t x k : Nat} (hx : x < 256) (hk : k < c) : dg (c + 1) (t * 256 + x) k = dg c t k := by
  unfold dg
  rw [show c + 1 - 1 - k = (c - 1 - k) + 1 by omega, Nat.pow_succ, Nat.mul_comm (256 ^ (c - 1 - k)) 256, ← Nat.div_div_eq_div_mul]
  rw [show (t * 256 + x) / 256 = t by omega]
theorem dg_inj {c : Nat} : ∀ {t t' : Nat}, t < 256 ^ c → t' < 256 ^ c → (∀ k, k < c → dg c t k = dg c t' k) → t = t' := by
  induction c with
  | zero => intro t t' h1 h2 _; rw [Nat.pow_zero] at h1 h2; omega
  | succ c ih =>
    intro t t' h1 h2 h
    rw [Nat.pow_succ] at h1 h2
    have e : ∀ u : Nat, u = (u / 256) * 256 + u % 256 := fun u => by omega
    have b1 : t / 256 < 256 ^ c := by omega
    have b2 : t' / 256 < 256 ^ c := by omega
    have q := ih b1 b2 (fun k hk => by
      have := h k (by omega)
      rw [e t, e t', dg_old (by omega) hk, dg_old (by omega) hk] at this
      exact this)
    have q2 := h c (by omega)
    rw [e t, e t', dg_last (by omega), dg_last (by omega)] at q2
    omega
/-- run(s0) has come to statement a: variables, number of outputs, outputs -/
def RM (cd : Nat → Nat) (lf rt : Nat → Int32) (s0 a : Nat) (vw vx : Nat → Nat) (px : Nat) (vy : Nat → Nat) : Prop :=
  (∀ v, v < 4 → vx v = (ic cd lf rt s0 a).1 v) ∧ px = (ic cd lf rt s0 a).2.1 ∧ (∀ j, (j < 7 * s0 ∨ 7 * s0 + 7 ≤ j) → vy j = vw j) ∧ ∀ k, k < px → vy (7 * s0 + k) = dg px (ic cd lf rt s0 a).2.2.1 k
def RI (cd : Nat → Nat) (lf rt : Nat → Int32) (n s0 i a : Nat) (vw vx : Nat → Nat) (px : Nat) (vy : Nat → Nat) : Prop := i ≤ a ∧ a ≤ n ∧ (a < n → (ic cd lf rt s0 a).2.2.2.1 = true) ∧ RM cd lf rt s0 a vw vx px vy
section RUN
variable {cd : Nat → Nat} {lf rt : Nat → Int32} {n s0 i a : Nat} {vw vx : Nat → Nat} {px : Nat} {vy : Nat → Nat}
theorem RI_0 (h0 : vx 0 = s0) (h1 : ∀ v, 1 ≤ v → v < 4 → vx v = 0) : RI cd lf rt n s0 0 0 vw vx 0 vw := by
  refine ⟨Nat.le_refl _, Nat.zero_le _, fun _ => rfl, fun v hv => ?_, rfl, fun j _ => rfl, fun k hk => absurd hk (by omega)⟩
  show _ = if v = 0 then s0 else 0
  by_cases q : v = 0
  · rw [if_pos q, q]; exact h0
  · rw [if_neg q]; exact h1 v (by omega) hv
theorem RM_lt (h : RM cd lf rt s0 a vw vx px vy) (hs : s0 < 64) : (∀ v, v < 4 → vx v < 256) ∧ px ≤ 7 := by
  have q := ic_lt cd lf rt hs a
  exact ⟨fun v hv => by rw [h.1 v hv]; exact q.1 v, by rw [h.2.1]; exact q.2.1⟩
/-- a jump over what isn't active -/
theorem RM_jump {r0 : Nat} (h : RM cd lf rt s0 a vw vx px vy) (h1 : (ic cd lf rt s0 r0).1 = (ic cd lf rt s0 a).1) (h2 : (ic cd lf rt s0 r0).2.1 = (ic cd lf rt s0 a).2.1) (h3 : (ic cd lf rt s0 r0).2.2.1 = (ic cd lf rt s0 a).2.2.1) : RM cd lf rt s0 r0 vw vx px vy := by
  unfold RM
  rw [h1, h2, h3]
  exact h
theorem RI_comp (h : RI cd lf rt n s0 i a vw vx px vy) (ha : a < n) (hc : cd a ≤ 11) : RI cd lf rt n s0 (i + 1) (a + 1) vw (va_up vx (ub (lf a) % 4) (wrk (cd a) (vx (ub (lf a) % 4)) (vx (ub (rt a) % 4)) (rt a))) px vy := by
  obtain ⟨h1, h2, h3, g1, g2, g3, g4⟩ := h
  have m1 : ub (lf a) % 4 < 4 := Nat.mod_lt _ (by decide)
  have m2 : ub (rt a) % 4 < 4 := Nat.mod_lt _ (by decide)
  have e : ic cd lf rt s0 (a + 1) = (va_up (ic cd lf rt s0 a).1 (ub (lf a) % 4) (wrk (cd a) ((ic cd lf rt s0 a).1 (ub (lf a) % 4)) ((ic cd lf rt s0 a).1 (ub (rt a) % 4)) (rt a)), (ic cd lf rt s0 a).2) := by
    simp only [ic]
    unfold icS
    rw [if_pos hc, if_pos (h3 ha)]
  refine ⟨by omega, by omega, fun _ => by rw [e]; exact h3 ha, fun v hv => ?_, by rw [e]; exact g2, g3, by rw [e]; exact g4⟩
  rw [e]
  show _ = va_up _ _ _ v
  by_cases q : v = ub (lf a) % 4
  · rw [q, va_up_self, va_up_self, g1 _ m1, g1 _ m2]
  · rw [va_up_ne _ _ q, va_up_ne _ _ q]
    exact g1 v hv
theorem RI_show {p' : Nat} {v' : Nat → Nat} (h : RI cd lf rt n s0 i a vw vx px vy) (hs : s0 < 64) (ha : a < n) (hc : cd a = 12) (hw : (px < 7 → p' = px + 1 ∧ v' = va_up vy (7 * s0 + px) (vx (ub (lf a) % 4))) ∧ (¬ px < 7 → p' = px ∧ v' = vy)) : RI cd lf rt n s0 (i + 1) (a + 1) vw vx p' v' := by
  have hl := ic_lt cd lf rt hs a
  obtain ⟨h1, h2, h3, g1, g2, g3, g4⟩ := h
  have m1 : ub (lf a) % 4 < 4 := Nat.mod_lt _ (by decide)
  have e : ic cd lf rt s0 (a + 1) = if (ic cd lf rt s0 a).2.2.2.1 = true ∧ (ic cd lf rt s0 a).2.1 < 7 then ((ic cd lf rt s0 a).1, (ic cd lf rt s0 a).2.1 + 1, (ic cd lf rt s0 a).2.2.1 * 256 + (ic cd lf rt s0 a).1 (ub (lf a) % 4), (ic cd lf rt s0 a).2.2.2) else ic cd lf rt s0 a := by
    simp only [ic]
    unfold icS
    rw [if_neg (by omega), if_pos hc]
  by_cases q : px < 7
  · obtain ⟨rfl, rfl⟩ := hw.1 q
    rw [if_pos ⟨h3 ha, by rw [← g2]; exact q⟩] at e
    refine ⟨by omega, by omega, fun _ => by rw [e]; exact h3 ha, fun v hv => by rw [e]; exact g1 v hv, by rw [e, g2], fun j hj => ?_, fun k hk => ?_⟩
    · rw [va_up_ne _ _ (by omega)]
      exact g3 j hj
    · rw [e]
      show _ = dg (px + 1) (_ * 256 + _) k
      by_cases z : k = px
      · rw [z, va_up_self, dg_last (hl.1 _), g1 _ m1]
      · rw [va_up_ne _ _ (by omega), dg_old (hl.1 _) (by omega)]
        exact g4 k (by omega)
  · obtain ⟨rfl, rfl⟩ := hw.2 q
    rw [if_neg (fun z => q (by rw [g2]; exact z.2))] at e
    refine ⟨by omega, by omega, fun _ => by rw [e]; exact h3 ha, fun v hv => by rw [e]; exact g1 v hv, by rw [e]; exact g2, g3, fun k hk => by rw [e]; exact g4 k hk⟩
theorem ic_13 (hc : cd a = 13) : ic cd lf rt s0 (a + 1) = ((ic cd lf rt s0 a).1, (ic cd lf rt s0 a).2.1, (ic cd lf rt s0 a).2.2.1, (ic cd lf rt s0 a).2.2.2.1 && decide ((ic cd lf rt s0 a).1 (ub (lf a) % 4) ≠ 0), va_up (ic cd lf rt s0 a).2.2.2.2.1 (dp cd a) (ic cd lf rt s0 a).2.2.2.1, va_up (ic cd lf rt s0 a).2.2.2.2.2 (dp cd a) ((ic cd lf rt s0 a).2.2.2.1 && decide ((ic cd lf rt s0 a).1 (ub (lf a) % 4) = 0))) := by
  simp only [ic]
  unfold icS
  rw [if_neg (by omega), if_neg (by omega), if_pos hc]
theorem ic_14 (hc : cd a = 14) : ic cd lf rt s0 (a + 1) = ((ic cd lf rt s0 a).1, (ic cd lf rt s0 a).2.1, (ic cd lf rt s0 a).2.2.1, (ic cd lf rt s0 a).2.2.2.2.2 (dp cd a - 1), (ic cd lf rt s0 a).2.2.2.2.1, (ic cd lf rt s0 a).2.2.2.2.2) := by
  simp only [ic]
  unfold icS
  rw [if_neg (by omega), if_neg (by omega), if_neg (by omega), if_pos hc]
theorem ic_15 (hc : cd a = 15) : ic cd lf rt s0 (a + 1) = ((ic cd lf rt s0 a).1, (ic cd lf rt s0 a).2.1, (ic cd lf rt s0 a).2.2.1, (ic cd lf rt s0 a).2.2.2.2.1 (dp cd a - 1), (ic cd lf rt s0 a).2.2.2.2.1, (ic cd lf rt s0 a).2.2.2.2.2) := by
  simp only [ic]
  unfold icS
  rw [if_neg (by omega), if_neg (by omega), if_neg (by omega), if_neg (by omega)]
theorem RI_13y (h : RI cd lf rt n s0 i a vw vx px vy) (ha : a < n) (hc : cd a = 13) (hx : vx (ub (lf a) % 4) ≠ 0) : RI cd lf rt n s0 (i + 1) (a + 1) vw vx px vy := by
  obtain ⟨h1, h2, h3, hR⟩ := h
  have m1 : ub (lf a) % 4 < 4 := Nat.mod_lt _ (by decide)
  rw [hR.1 _ m1] at hx
  refine ⟨by omega, by omega, fun _ => ?_, RM_jump hR (by rw [ic_13 hc]) (by rw [ic_13 hc]) (by rw [ic_13 hc])⟩
  rw [ic_13 hc]
  show (_ && _) = true
  rw [h3 ha]
  simp [hx]
theorem RI_15 (h : RI cd lf rt n s0 i a vw vx px vy) (hV : VP cd n) (ha : a < n) (hc : cd a = 15) : RI cd lf rt n s0 (i + 1) (a + 1) vw vx px vy := by
  obtain ⟨h1, h2, h3, hR⟩ := h
  have hd := (hV a ha).2.2.1 (Or.inr hc)
  refine ⟨by omega, by omega, fun _ => ?_, RM_jump hR (by rw [ic_15 hc]) (by rw [ic_15 hc]) (by rw [ic_15 hc])⟩
  rw [ic_15 hc]
  have q := (CI_all (lf := lf) (rt := rt) s0 (hV.pre (k := a) (by omega)) (dp cd a - 1) (by omega)).1
  unfold inn at q
  rw [if_neg (by omega)] at q
  exact q (h3 ha)
theorem RI_beh {oe r0 : Nat} (h : RI cd lf rt n s0 i a vw vx px vy) (hV : VP cd n) (ha : a < n) (hB : Bh cd n a oe r0) (hD : 0 < dp cd (a + 1)) (hf : (ic cd lf rt s0 (a + 1)).2.2.2.1 = false) (hot : oe = 1 ∨ (ic cd lf rt s0 (a + 1)).2.2.2.2.2 (dp cd (a + 1) - 1) = false)
    (hy : (ic cd lf rt s0 (a + 1)).2.2.2.2.1 (dp cd (a + 1) - 1) = true) (hz : oe = 1 → (ic cd lf rt s0 (a + 1)).2.2.2.2.2 (dp cd (a + 1) - 1) = true)
    (e1 : (ic cd lf rt s0 (a + 1)).1 = (ic cd lf rt s0 a).1) (e2 : (ic cd lf rt s0 (a + 1)).2.1 = (ic cd lf rt s0 a).2.1) (e3 : (ic cd lf rt s0 (a + 1)).2.2.1 = (ic cd lf rt s0 a).2.2.1) : RI cd lf rt n s0 (i + 1) r0 vw vx px vy := by
  obtain ⟨h1, h2, h3, hR⟩ := h
  rcases hB with ⟨q, q1, q2, rfl, q3, q4⟩ | ⟨rfl, q4⟩
  · obtain ⟨s1, s2, s3, s4, s5, s6⟩ := skip (lf := lf) (rt := rt) (s := s0) (hV.pre (by omega)) hD hf hot q4 q q1 (Nat.le_refl _)
    have s7 := s5 (dp cd (a + 1) - 1) (by omega)
    obtain ⟨q5, q6⟩ := q3
    rcases q6 with c | ⟨oe1, c⟩
    · refine ⟨by omega, by omega, fun _ => ?_, RM_jump hR (by rw [ic_15 c, ← e1, ← s1]) (by rw [ic_15 c, ← e2, ← s2]) (by rw [ic_15 c, ← e3, ← s3])⟩
      rw [ic_15 c, q5]
      exact s7.1.trans hy
    · refine ⟨by omega, by omega, fun _ => ?_, RM_jump hR (by rw [ic_14 c, ← e1, ← s1]) (by rw [ic_14 c, ← e2, ← s2]) (by rw [ic_14 c, ← e3, ← s3])⟩
      rw [ic_14 c, q5]
      exact s7.2.trans (hz oe1)
  · obtain ⟨s1, s2, s3, -⟩ := skip (lf := lf) (rt := rt) (s := s0) hV hD hf hot q4 r0 (by omega) (Nat.le_refl _)
    exact ⟨by omega, by omega, fun z => absurd z (by omega), RM_jump hR (s1.trans e1) (s2.trans e2) (s3.trans e3)⟩
theorem RI_13n {r0 : Nat} (h : RI cd lf rt n s0 i a vw vx px vy) (hV : VP cd n) (ha : a < n) (hc : cd a = 13) (hx : vx (ub (lf a) % 4) = 0) (hB : Bh cd n a 1 r0) : RI cd lf rt n s0 (i + 1) r0 vw vx px vy := by
  have m1 : ub (lf a) % 4 < 4 := Nat.mod_lt _ (by decide)
  have hx2 := hx
  rw [h.2.2.2.1 _ m1] at hx2
  have hact := h.2.2.1 ha
  have ed : dp cd (a + 1) - 1 = dp cd a := by rw [dp_13 hc]; omega
  refine RI_beh h hV ha hB (by rw [dp_13 hc]; omega) ?_ (Or.inl rfl) ?_ (fun _ => ?_) (by rw [ic_13 hc]) (by rw [ic_13 hc]) (by rw [ic_13 hc])
  · rw [ic_13 hc]
    show (_ && _) = false
    rw [hx2]
    simp
  · rw [ed, ic_13 hc]
    show va_up _ _ _ _ = true
    rw [va_up_self]
    exact hact
  · rw [ed, ic_13 hc]
    show va_up _ _ _ _ = true
    rw [va_up_self, hact, hx2]
    rfl
theorem RI_14 {r0 : Nat} (h : RI cd lf rt n s0 i a vw vx px vy) (hV : VP cd n) (ha : a < n) (hc : cd a = 14) (hB : Bh cd n a 0 r0) : RI cd lf rt n s0 (i + 1) r0 vw vx px vy := by
  have hact := h.2.2.1 ha
  have hv := hV a ha
  have hd := hv.2.2.1 (Or.inl hc)
  have he := hv.2.2.2 hc
  have ed : dp cd (a + 1) = dp cd a := dp_o (by omega) (by omega)
  have q := CI_all (lf := lf) (rt := rt) s0 (hV.pre (k := a) (by omega)) (dp cd a - 1) (by omega)
  unfold inn at q
  rw [if_neg (by omega)] at q
  have hot := q.2.2 he hact
  refine RI_beh h hV ha hB (by omega) ?_ (Or.inr ?_) ?_ (fun z => absurd z (by decide)) (by rw [ic_14 hc]) (by rw [ic_14 hc]) (by rw [ic_14 hc])
  · rw [ic_14 hc]; exact hot
  · rw [ed, ic_14 hc]; exact hot
  · rw [ed, ic_14 hc]; exact q.1 hact
end RUN
/-- the views of all secrets below i are in place -/
def AM (cd : Nat → Nat) (lf rt : Nat → Int32) (n i : Nat) (ou vw : Nat → Nat) : Prop := ∀ s, s < i → ou s = (ic cd lf rt s n).2.1 ∧ ∀ k, k < (ic cd lf rt s n).2.1 → vw (7 * s + k) = dg (ic cd lf rt s n).2.1 (ic cd lf rt s n).2.2.1 k
theorem AM_next {cd : Nat → Nat} {lf rt : Nat → Int32} {n i : Nat} {ou vw vw' : Nat → Nat} (hi : i < 64) (h : AM cd lf rt n i ou vw) (h2 : ∀ j, (j < 7 * i ∨ 7 * i + 7 ≤ j) → vw' j = vw j) (h3 : ∀ k, k < (ic cd lf rt i n).2.1 → vw' (7 * i + k) = dg (ic cd lf rt i n).2.1 (ic cd lf rt i n).2.2.1 k) : AM cd lf rt n (i + 1) (va_up ou i (ic cd lf rt i n).2.1) vw' := by
  intro s hs
  by_cases q : s = i
  · subst q
    exact ⟨va_up_self _ _ _, h3⟩
  · have hc := (ic_lt cd lf rt (show s < 64 by omega) n).2.1
    rw [va_up_ne _ _ q]
    refine ⟨(h s (by omega)).1, fun k hk => ?_⟩
    rw [h2 _ (by omega)]
    exact (h s (by omega)).2 k hk
/-- the views are alike: the numbers of outputs and all outputs are -/
theorem AM_kI {cd : Nat → Nat} {lf rt : Nat → Int32} {n s t : Nat} (hs : s < 64) (ht : t < 64) (h1 : (ic cd lf rt s n).2.1 = (ic cd lf rt t n).2.1) (h2 : ∀ k, k < (ic cd lf rt s n).2.1 → dg (ic cd lf rt s n).2.1 (ic cd lf rt s n).2.2.1 k = dg (ic cd lf rt t n).2.1 (ic cd lf rt t n).2.2.1 k) : kI cd lf rt n s t = true := by
  unfold kI
  rw [decide_eq_true h1, Bool.true_and, decide_eq_true_iff]
  have a1 := (ic_lt cd lf rt hs n).2.2
  have a2 := (ic_lt cd lf rt ht n).2.2
  rw [← h1] at a2 h2
  exact dg_inj a1 a2 h2
end
section
set_option maxRecDepth 100000
/-! LeakageMeterModel's cells, and the contracts of its methods -/
def tM (cb : Nat → ClassId) : zt_T := [(cb 0, .int), (cb 1, .int), (cb 2, .int), (cb 3, .int), (cb 4, .int), (cb 5, .int)]
def wM (g : Nat) (bd : Nat → Nat) (cb : Nat → ClassId) (n : Nat) (cd : Nat → Nat) (lf rt : Nat → Int32) (vr : Nat → Nat) (pu : Nat) (ou vw : Nat → Nat) : va_W :=
  [(g, .inr (1, [.int (nI n), .ref (bd 0), .ref (bd 1), .ref (bd 2), .ref (bd 3), .int (nI pu), .ref (bd 4), .ref (bd 5)])),
   (bd 0, .inl (cb 0, 40, .inl (nA cd))), (bd 1, .inl (cb 1, 40, .inl lf)), (bd 2, .inl (cb 2, 40, .inl rt)), (bd 3, .inl (cb 3, 4, .inl (nA vr))), (bd 4, .inl (cb 4, 64, .inl (nA ou))), (bd 5, .inl (cb 5, 448, .inl (nA vw)))]
set_option maxHeartbeats 4000000 in
/-- power(n): two to the n -/
theorem cM_power (l : Launch) (D : va_G) (sz : Nat) (m0 : Nat) (hm : m0 ≤ 7) : cMi l yX1_power cX1_power 3 .int 0 0 D [] [] sz [.int (nI m0)] (fun (r : Int32) (u : Unit) => r = nI (2 ^ m0)) (fun (u : Unit) => []) := by
  refine cMi.of (by decide) (Nat.le_of_ble_eq_true rfl) ?_
  intro p e R s m args below meth c A Q ls H locs ⟨hx, hb, hml, hown, hts, hR, hK, hA⟩ hP hD hS hl hret
  have hown : s.vm.findClass RX1 = some m.cls := hown
  have hl : lv_has ls 3 [(0, .int (nI m0))] := hl
  refine lv_iconst (v := nI 1) hx hb dX1_power_0 (by decide) ?_
  refine xt_i (y := nI (2 ^ 0)) rfl ?_
  refine lv_istore_n (lv' := [(1, .int (nI (2 ^ 0))), (0, .int (nI m0))]) hx hb dX1_power_1 rfl hl (by decide) rfl (fun ls hl => ?_)
  refine lv_iconst (v := nI 0) hx hb dX1_power_2 (by decide) ?_
  refine lv_istore_n (lv' := [(2, .int (nI 0)), (1, .int (nI (2 ^ 0))), (0, .int (nI m0))]) hx hb dX1_power_3 rfl hl (by decide) rfl (fun ls hl => ?_)
  refine lp_w (nL := 3) (pc := 4) m0 (fun (u : Unit) => []) (fun (i : Nat) (u : Unit) => [(0, .int (nI m0)), (1, .int (nI (2 ^ i))), (2, .int (nI i))]) (fun (i : Nat) (u : Unit) => True) ?_ ?_ 0 (()) _ _ _ (by omega) trivial hP hD hS (lv_sub hl [2, 1, 0] rfl)
  · rintro _ H locs ls hJ hP hD hS hl
    have hJ : True := hJ
    have hP : va_P D vwCl [] H := hP
    have hD : va_D A [] := hD
    have hl : lv_has ls 3 [(0, .int (nI m0)), (1, .int (nI (2 ^ m0))), (2, .int (nI m0))] := hl
    refine lv_iload_n hx hb dX1_power_4 rfl (lv_at hl 2 rfl) ?_
    refine lv_iload_n hx hb dX1_power_5 rfl (lv_at hl 0 rfl) ?_
    refine xn_ge_t (tgt := 25) hx hb dX1_power_6 (by decide) (by omega) (by omega) ?_
    refine lv_iload_n hx hb dX1_power_25 rfl (lv_at hl 1 rfl) ?_
    exact hret 26 ls H locs (nI (2 ^ m0)) () dX1_power_26 rfl rfl hP hD hS
  · rintro i _ H locs ls hi hJ hP hD hS hl ih
    have hJ : True := hJ
    have hP : va_P D vwCl [] H := hP
    have hD : va_D A [] := hD
    have hl : lv_has ls 3 [(0, .int (nI m0)), (1, .int (nI (2 ^ i))), (2, .int (nI i))] := hl
    refine lv_iload_n hx hb dX1_power_4 rfl (lv_at hl 2 rfl) ?_
    refine lv_iload_n hx hb dX1_power_5 rfl (lv_at hl 0 rfl) ?_
    refine xn_ge_f (tgt := 25) hx hb dX1_power_6 (by decide) hi (by omega) ?_
    refine lv_iload_n hx hb dX1_power_9 rfl (lv_at hl 2 rfl) ?_
    refine lv_bipush (v := nI 7) hx hb dX1_power_10 (by decide) ?_
    refine xn_ge_f (tgt := 25) hx hb dX1_power_12 (by decide) (by omega) (by omega) ?_
    refine lv_iload_n hx hb dX1_power_15 rfl (lv_at hl 1 rfl) ?_
    refine lv_iconst (v := nI 2) hx hb dX1_power_16 (by decide) ?_
    refine xi_mul hx hb dX1_power_17 ?_
    refine xt_i (y := nI (2 ^ (i + 1))) rfl ?_
    refine lv_istore_n (lv' := [(1, .int (nI (2 ^ (i + 1)))), (0, .int (nI m0)), (2, .int (nI i))]) hx hb dX1_power_18 rfl hl (by decide) rfl (fun ls hl => ?_)
    refine lv_iinc (v := nI (i + 1)) (lv' := [(2, .int (nI (i + 1))), (1, .int (nI (2 ^ (i + 1)))), (0, .int (nI m0))]) hx hb dX1_power_19 hl (k := 2) rfl (xi_inc1 _) (by decide) rfl (fun ls hl => ?_)
    refine lv_goto (tgt := 4) hx hb dX1_power_22 (by decide) ?_
    exact ih (()) _ _ _ trivial hP hD hS (lv_sub hl [2, 1, 0] rfl)
set_option maxHeartbeats 4000000 in
/-- worked(c, x, y, b) -/
theorem cM_worked (l : Launch) (D : va_G) (sz : Nat) (c0 x0 y0 : Nat) (b0 : Int32) (hc0 : c0 ≤ 11) (hx0 : x0 < 256) (hy0 : y0 < 256) : cMi l yX1_worked cX1_worked 5 .int 1 22 D [] [] sz [.int (nI c0), .int (nI x0), .int (nI y0), .int b0] (fun (r : Int32) (u : Unit) => r = nI (wrk c0 x0 y0 b0)) (fun (u : Unit) => []) := by
  refine cMi.of (by decide) (Nat.le_of_ble_eq_true rfl) ?_
  intro p e R s m args below meth c A Q ls H locs ⟨hx, hb, hml, hown, hts, hR, hK, hA⟩ hP hD hS hl hret
  have hown : s.vm.findClass RX1 = some m.cls := hown
  have hl : lv_has ls 5 [(0, .int (nI c0)), (1, .int (nI x0)), (2, .int (nI y0)), (3, .int b0)] := hl
  have hm8 : ub b0 % 8 ≤ 7 := by omega
  have hp0 : 0 < 2 ^ (ub b0 % 8) := Nat.two_pow_pos _
  have hp1 : 2 ^ (ub b0 % 8) ≤ 2 ^ 7 := Nat.pow_le_pow_right (by decide) hm8
  refine lv_iload_n hx hb dX1_worked_0 rfl (lv_at hl 3 rfl) ?_
  refine lv_bipush (v := nI 7) hx hb dX1_worked_1 (by decide) ?_
  refine xi_and 7 8 3 (by decide) (by decide) hx hb dX1_worked_3 ?_
  refine ks_i (n := 1) (As := [.int (nI (ub b0 % 8))]) (rest := []) ⟨hx, hb, hml, hown, hts⟩ (cM_power l D H.size (ub b0 % 8) hm8) (lw_S q251 q252 q24 q253) (by decide +kernel) ⟨by rw [hR.1]; decide, by rw [hR.2]; decide⟩ ⟨Nat.zero_le _, Nat.zero_le _⟩ hK hP hD hS hA rfl hl.1 rfl (Nat.le_of_ble_eq_true rfl) dX1_worked_4 (fun r H locs hw hP hD hS => ?_)
  have hw : r = nI (2 ^ (ub b0 % 8)) := hw
  subst hw
  refine lv_istore (lv' := [(4, .int (nI (2 ^ (ub b0 % 8)))), (0, .int (nI c0)), (1, .int (nI x0)), (2, .int (nI y0)), (3, .int b0)]) hx hb dX1_worked_7 hl (by decide) rfl (fun ls hl => ?_)
  refine lv_iload_n hx hb dX1_worked_9 rfl (lv_at hl 1 rfl) ?_
  refine xn_ifne_b (tgt := 19) hx hb dX1_worked_10 (by decide) (by omega) (fun k0 => ?_) (fun k0 => ?_)
  · refine lv_iload_n hx hb dX1_worked_19 rfl (lv_at hl 1 rfl) ?_
    refine lv_iconst (v := nI 1) hx hb dX1_worked_20 (by decide) ?_
    refine xn_ne_b (tgt := 26) hx hb dX1_worked_21 (by decide) (by omega) (by omega) (fun k1 => ?_) (fun k1 => ?_)
    · refine lv_iload_n hx hb dX1_worked_26 rfl (lv_at hl 1 rfl) ?_
      refine lv_iconst (v := nI 2) hx hb dX1_worked_27 (by decide) ?_
      refine xn_ne_b (tgt := 39) hx hb dX1_worked_28 (by decide) (by omega) (by omega) (fun k2 => ?_) (fun k2 => ?_)
      · refine lv_iload_n hx hb dX1_worked_39 rfl (lv_at hl 1 rfl) ?_
        refine lv_iconst (v := nI 3) hx hb dX1_worked_40 (by decide) ?_
        refine xn_ne_b (tgt := 56) hx hb dX1_worked_41 (by decide) (by omega) (by omega) (fun k3 => ?_) (fun k3 => ?_)
        · refine lv_iload_n hx hb dX1_worked_56 rfl (lv_at hl 1 rfl) ?_
          refine lv_iconst (v := nI 4) hx hb dX1_worked_57 (by decide) ?_
          refine xn_ne_b (tgt := 69) hx hb dX1_worked_58 (by decide) (by omega) (by omega) (fun k4 => ?_) (fun k4 => ?_)
          · refine lv_iload_n hx hb dX1_worked_69 rfl (lv_at hl 1 rfl) ?_
            refine lv_iconst (v := nI 5) hx hb dX1_worked_70 (by decide) ?_
            refine xn_ne_b (tgt := 78) hx hb dX1_worked_71 (by decide) (by omega) (by omega) (fun k5 => ?_) (fun k5 => ?_)
            · refine lv_iload_n hx hb dX1_worked_78 rfl (lv_at hl 1 rfl) ?_
              refine lv_bipush (v := nI 6) hx hb dX1_worked_79 (by decide) ?_
              refine xn_ne_b (tgt := 88) hx hb dX1_worked_81 (by decide) (by omega) (by omega) (fun k6 => ?_) (fun k6 => ?_)
              · refine lv_iload_n hx hb dX1_worked_88 rfl (lv_at hl 1 rfl) ?_
                refine lv_bipush (v := nI 7) hx hb dX1_worked_89 (by decide) ?_
                refine xn_ne_b (tgt := 98) hx hb dX1_worked_91 (by decide) (by omega) (by omega) (fun k7 => ?_) (fun k7 => ?_)
                · refine lv_iload_n hx hb dX1_worked_98 rfl (lv_at hl 1 rfl) ?_
                  refine lv_bipush (v := nI 8) hx hb dX1_worked_99 (by decide) ?_
                  refine xn_ne_b (tgt := 113) hx hb dX1_worked_101 (by decide) (by omega) (by omega) (fun k8 => ?_) (fun k8 => ?_)
                  · refine lv_iload_n hx hb dX1_worked_113 rfl (lv_at hl 1 rfl) ?_
                    refine lv_bipush (v := nI 9) hx hb dX1_worked_114 (by decide) ?_
                    refine xn_ne_b (tgt := 133) hx hb dX1_worked_116 (by decide) (by omega) (by omega) (fun k9 => ?_) (fun k9 => ?_)
                    · refine lv_iload_n hx hb dX1_worked_133 rfl (lv_at hl 1 rfl) ?_
                      refine lv_bipush (v := nI 10) hx hb dX1_worked_134 (by decide) ?_
                      refine xn_ne_b (tgt := 150) hx hb dX1_worked_136 (by decide) (by omega) (by omega) (fun k10 => ?_) (fun k10 => ?_)
                      · refine lv_iload_n hx hb dX1_worked_150 rfl (lv_at hl 2 rfl) ?_
                        refine lv_iload_n hx hb dX1_worked_151 rfl (lv_at hl 3 rfl) ?_
                        refine xn_ne_b (tgt := 159) hx hb dX1_worked_152 (by decide) (by omega) (by omega) (fun q11 => ?_) (fun q11 => ?_)
                        · refine lv_iconst (v := nI 0) hx hb dX1_worked_159 (by decide) ?_
                          exact hret 160 ls H locs (nI 0) () dX1_worked_160 rfl (by rw [show c0 = 11 by omega]; show _ = nI (if x0 = y0 then 1 else 0); rw [if_neg q11]) hP hD hS
                        · refine lv_iconst (v := nI 1) hx hb dX1_worked_155 (by decide) ?_
                          refine lv_goto (tgt := 160) hx hb dX1_worked_156 (by decide) ?_
                          exact hret 160 ls H locs (nI 1) () dX1_worked_160 rfl (by rw [show c0 = 11 by omega]; show _ = nI (if x0 = y0 then 1 else 0); rw [if_pos q11]) hP hD hS
                      · refine lv_iload_n hx hb dX1_worked_139 rfl (lv_at hl 2 rfl) ?_
                        refine lv_iload_n hx hb dX1_worked_140 rfl (lv_at hl 3 rfl) ?_
                        refine xn_ge_b (tgt := 148) hx hb dX1_worked_141 (by decide) (by omega) (by omega) (fun q10 => ?_) (fun q10 => ?_)
                        · refine lv_iconst (v := nI 0) hx hb dX1_worked_148 (by decide) ?_
                          exact hret 149 ls H locs (nI 0) () dX1_worked_149 rfl (by rw [k10]; show _ = nI (if x0 < y0 then 1 else 0); rw [if_neg (by omega)]) hP hD hS
                        · refine lv_iconst (v := nI 1) hx hb dX1_worked_144 (by decide) ?_
                          refine lv_goto (tgt := 149) hx hb dX1_worked_145 (by decide) ?_
                          exact hret 149 ls H locs (nI 1) () dX1_worked_149 rfl (by rw [k10]; show _ = nI (if x0 < y0 then 1 else 0); rw [if_pos q10]) hP hD hS
                    · refine lv_iload hx hb dX1_worked_119 (lv_at hl 0 rfl) ?_
                      refine xn_ifle_f (tgt := 131) hx hb dX1_worked_121 (by decide) hp0 (by omega) ?_
                      refine lv_iload_n hx hb dX1_worked_124 rfl (lv_at hl 2 rfl) ?_
                      refine lv_iload hx hb dX1_worked_125 (lv_at hl 0 rfl) ?_
                      refine xi_div hx hb dX1_worked_127 hp0 (by omega) (by omega) ?_
                      refine lv_goto (tgt := 132) hx hb dX1_worked_128 (by decide) ?_
                      exact hret 132 ls H locs (nI (x0 / (2 ^ (ub b0 % 8)))) () dX1_worked_132 rfl (by rw [k9]; rfl) hP hD hS
                  · refine lv_iload_n hx hb dX1_worked_104 rfl (lv_at hl 2 rfl) ?_
                    refine lv_iload hx hb dX1_worked_105 (lv_at hl 0 rfl) ?_
                    refine xi_mul hx hb dX1_worked_107 ?_
                    refine lv_sipush (v := nI 256) hx hb dX1_worked_108 (by decide) ?_
                    refine xi_rem hx hb dX1_worked_111 (by omega) (Nat.lt_of_le_of_lt (Nat.mul_le_mul (Nat.le_of_lt hx0) hp1) (by decide)) (by omega) ?_
                    exact hret 112 ls H locs (nI ((x0 * (2 ^ (ub b0 % 8))) % 256)) () dX1_worked_112 rfl (by rw [k8]; rfl) hP hD hS
                · refine lv_iload_n hx hb dX1_worked_94 rfl (lv_at hl 2 rfl) ?_
                  refine lv_iload_n hx hb dX1_worked_95 rfl (lv_at hl 3 rfl) ?_
                  refine xi_ixor2 hx hb dX1_worked_96 ?_
                  exact hret 97 ls H locs (nI (x0 ^^^ y0)) () dX1_worked_97 rfl (by rw [k7]; rfl) hP hD hS
              · refine lv_iload_n hx hb dX1_worked_84 rfl (lv_at hl 2 rfl) ?_
                refine lv_iload_n hx hb dX1_worked_85 rfl (lv_at hl 3 rfl) ?_
                refine xi_ior2 hx hb dX1_worked_86 ?_
                exact hret 87 ls H locs (nI (x0 ||| y0)) () dX1_worked_87 rfl (by rw [k6]; rfl) hP hD hS
            · refine lv_iload_n hx hb dX1_worked_74 rfl (lv_at hl 2 rfl) ?_
              refine lv_iload_n hx hb dX1_worked_75 rfl (lv_at hl 3 rfl) ?_
              refine xi_iand2 hx hb dX1_worked_76 ?_
              exact hret 77 ls H locs (nI (x0 &&& y0)) () dX1_worked_77 rfl (by rw [k5]; rfl) hP hD hS
          · refine lv_iload_n hx hb dX1_worked_61 rfl (lv_at hl 2 rfl) ?_
            refine lv_iload_n hx hb dX1_worked_62 rfl (lv_at hl 3 rfl) ?_
            refine xi_mul hx hb dX1_worked_63 ?_
            refine lv_sipush (v := nI 256) hx hb dX1_worked_64 (by decide) ?_
            refine xi_rem hx hb dX1_worked_67 (by omega) (Nat.lt_of_le_of_lt (Nat.mul_le_mul (Nat.le_of_lt hx0) (Nat.le_of_lt hy0)) (by decide)) (by omega) ?_
            exact hret 68 ls H locs (nI ((x0 * y0) % 256)) () dX1_worked_68 rfl (by rw [k4]; rfl) hP hD hS
        · refine lv_iload_n hx hb dX1_worked_44 rfl (lv_at hl 2 rfl) ?_
          refine lv_iload_n hx hb dX1_worked_45 rfl (lv_at hl 3 rfl) ?_
          refine lv_isub hx hb dX1_worked_46 ?_
          refine lv_sipush (v := nI 256) hx hb dX1_worked_47 (by decide) ?_
          refine lv_iadd hx hb dX1_worked_50 ?_
          refine xt_i (y := nI (x0 + 256 - y0)) (sub256 hx0 hy0) ?_
          refine lv_sipush (v := nI 256) hx hb dX1_worked_51 (by decide) ?_
          refine xi_rem hx hb dX1_worked_54 (by omega) (by omega) (by omega) ?_
          exact hret 55 ls H locs (nI ((x0 + 256 - y0) % 256)) () dX1_worked_55 rfl (by rw [k3]; rfl) hP hD hS
      · refine lv_iload_n hx hb dX1_worked_31 rfl (lv_at hl 2 rfl) ?_
        refine lv_iload_n hx hb dX1_worked_32 rfl (lv_at hl 3 rfl) ?_
        refine xi_add hx hb dX1_worked_33 ?_
        refine lv_sipush (v := nI 256) hx hb dX1_worked_34 (by decide) ?_
        refine xi_rem hx hb dX1_worked_37 (by omega) (by omega) (by omega) ?_
        exact hret 38 ls H locs (nI ((x0 + y0) % 256)) () dX1_worked_38 rfl (by rw [k2]; rfl) hP hD hS
    · refine lv_iload_n hx hb dX1_worked_24 rfl (lv_at hl 3 rfl) ?_
      exact hret 25 ls H locs (nI y0) () dX1_worked_25 rfl (by rw [k1]; rfl) hP hD hS
  · refine lv_iload_n hx hb dX1_worked_13 rfl (lv_at hl 4 rfl) ?_
    refine lv_sipush (v := nI 255) hx hb dX1_worked_14 (by decide) ?_
    refine xi_and 255 256 8 (by decide) (by decide) hx hb dX1_worked_17 ?_
    exact hret 18 ls H locs (nI (ub b0 % 256)) () dX1_worked_18 rfl (by rw [k0]; rfl) hP hD hS
set_option maxHeartbeats 4000000 in
/-- open(): how many parts are open -/
theorem cM_open (l : Launch) (D : va_G) (g : Nat) (bd : Nat → Nat) (cb : Nat → ClassId) (sz : Nat) (n : Nat) (cd : Nat → Nat) (lf rt : Nat → Int32) (vr : Nat → Nat) (pu : Nat) (ou vw : Nat → Nat)  (hV : VP cd n) (hn40 : n ≤ 40) : cMi l yX1_open cX1_open 3 .int 0 0 D (tM cb) (wM g bd cb n cd lf rt vr pu ou vw) sz [.ref g] (fun (r : Int32) (u : Unit) => r = nI (dp cd n)) (fun (u : Unit) => (wM g bd cb n cd lf rt vr pu ou vw)) := by
  refine cMi.of (by decide) (Nat.le_of_ble_eq_true rfl) ?_
  intro p e R s m args below meth c A Q ls H locs ⟨hx, hb, hml, hown, hts, hR, hK, hA⟩ hP hD hS hl hret
  have hown : s.vm.findClass RX1 = some m.cls := hown
  have hl : lv_has ls 3 [(0, .ref g)] := hl
  refine lv_iconst (v := nI 0) hx hb dX1_open_0 (by decide) ?_
  refine xt_i (y := nI (dp cd 0)) rfl ?_
  refine lv_istore_n (lv' := [(1, .int (nI (dp cd 0))), (0, .ref g)]) hx hb dX1_open_1 rfl hl (by decide) rfl (fun ls hl => ?_)
  refine lv_iconst (v := nI 0) hx hb dX1_open_2 (by decide) ?_
  refine lv_istore_n (lv' := [(2, .int (nI 0)), (1, .int (nI (dp cd 0))), (0, .ref g)]) hx hb dX1_open_3 rfl hl (by decide) rfl (fun ls hl => ?_)
  refine lp_w (nL := 3) (pc := 4) n (fun (u : Unit) => (wM g bd cb n cd lf rt vr pu ou vw)) (fun (i : Nat) (u : Unit) => [(0, .ref g), (1, .int (nI (dp cd i))), (2, .int (nI i))]) (fun (i : Nat) (u : Unit) => True) ?_ ?_ 0 (()) _ _ _ (by omega) trivial hP hD hS (lv_sub hl [2, 1, 0] rfl)
  · rintro _ H locs ls hJ hP hD hS hl
    have hJ : True := hJ
    have hP : va_P D vwCl (wM g bd cb n cd lf rt vr pu ou vw) H := hP
    have hD : va_D A (wM g bd cb n cd lf rt vr pu ou vw) := hD
    have hl : lv_has ls 3 [(0, .ref g), (1, .int (nI (dp cd n))), (2, .int (nI n))] := hl
    refine lv_iload_n hx hb dX1_open_4 rfl (lv_at hl 2 rfl) ?_
    refine lv_aload_n hx hb dX1_open_5 rfl (lv_at hl 0 rfl) ?_
    refine va_get (ci := 1) (v := .int (nI n)) (C := RX1) (T := TX1) (N := 8) hx hb hts in_X1 hown hK hP 0 rfl rfl 0 (by decide) (hts _ q194) (fun _ h9 => h9) rfl dX1_open_6 ?_
    refine xn_ge_t (tgt := 46) hx hb dX1_open_9 (by decide) (by omega) (by omega) ?_
    refine lv_iload_n hx hb dX1_open_46 rfl (lv_at hl 1 rfl) ?_
    exact hret 47 ls H locs (nI (dp cd n)) () dX1_open_47 rfl rfl hP hD hS
  · rintro i _ H locs ls hi hJ hP hD hS hl ih
    have hJ : True := hJ
    have hP : va_P D vwCl (wM g bd cb n cd lf rt vr pu ou vw) H := hP
    have hD : va_D A (wM g bd cb n cd lf rt vr pu ou vw) := hD
    have hl : lv_has ls 3 [(0, .ref g), (1, .int (nI (dp cd i))), (2, .int (nI i))] := hl
    have hv := hV i hi
    have hv1 := hv.1
    have hv3 := hv.2.2.1
    refine lv_iload_n hx hb dX1_open_4 rfl (lv_at hl 2 rfl) ?_
    refine lv_aload_n hx hb dX1_open_5 rfl (lv_at hl 0 rfl) ?_
    refine va_get (ci := 1) (v := .int (nI n)) (C := RX1) (T := TX1) (N := 8) hx hb hts in_X1 hown hK hP 0 rfl rfl 0 (by decide) (hts _ q194) (fun _ h9 => h9) rfl dX1_open_6 ?_
    refine xn_ge_f (tgt := 46) hx hb dX1_open_9 (by decide) hi (by omega) ?_
    refine lv_aload_n hx hb dX1_open_12 rfl (lv_at hl 0 rfl) ?_
    refine va_get (ci := 1) (v := .ref (bd 0)) (C := RX1) (T := TX1) (N := 8) hx hb hts in_X1 hown hK hP 0 rfl rfl 1 (by decide) (hts _ q195) (fun _ h9 => h9) rfl dX1_open_13 ?_
    refine lv_iload_n hx hb dX1_open_16 rfl (lv_at hl 2 rfl) ?_
    refine xn_ald (k := i) hx hb hK hP 1 0 rfl rfl (by omega) (by decide) dX1_open_17 ?_
    refine lv_bipush (v := nI 13) hx hb dX1_open_18 (by decide) ?_
    refine xn_ne_b (tgt := 26) hx hb dX1_open_20 (by decide) (by omega) (by omega) (fun k13 => ?_) (fun k13 => ?_)
    · refine lv_aload_n hx hb dX1_open_26 rfl (lv_at hl 0 rfl) ?_
      refine va_get (ci := 1) (v := .ref (bd 0)) (C := RX1) (T := TX1) (N := 8) hx hb hts in_X1 hown hK hP 0 rfl rfl 1 (by decide) (hts _ q195) (fun _ h9 => h9) rfl dX1_open_27 ?_
      refine lv_iload_n hx hb dX1_open_30 rfl (lv_at hl 2 rfl) ?_
      refine xn_ald (k := i) hx hb hK hP 1 0 rfl rfl (by omega) (by decide) dX1_open_31 ?_
      refine lv_bipush (v := nI 15) hx hb dX1_open_32 (by decide) ?_
      refine xn_ne_b (tgt := 40) hx hb dX1_open_34 (by decide) (by omega) (by omega) (fun k15 => ?_) (fun k15 => ?_)
      · rw [← dp_o k13 k15] at hl
        refine lv_iinc (v := nI (i + 1)) (lv' := [(2, .int (nI (i + 1))), (0, .ref g), (1, .int (nI (dp cd (i + 1))))]) hx hb dX1_open_40 hl (k := 2) rfl (xi_inc1 _) (by decide) rfl (fun ls hl => ?_)
        refine lv_goto (tgt := 4) hx hb dX1_open_43 (by decide) ?_
        exact ih (()) _ _ _ trivial hP hD hS (lv_sub hl [1, 2, 0] rfl)
      · refine lv_iinc (v := nI (dp cd i - 1)) (lv' := [(1, .int (nI (dp cd i - 1))), (0, .ref g), (2, .int (nI i))]) hx hb dX1_open_37 hl (k := 1) rfl (xi_dec1' (hv3 (Or.inr k15))) (by decide) rfl (fun ls hl => ?_)
        rw [← dp_15 k15] at hl
        refine lv_iinc (v := nI (i + 1)) (lv' := [(2, .int (nI (i + 1))), (1, .int (nI (dp cd (i + 1)))), (0, .ref g)]) hx hb dX1_open_40 hl (k := 2) rfl (xi_inc1 _) (by decide) rfl (fun ls hl => ?_)
        refine lv_goto (tgt := 4) hx hb dX1_open_43 (by decide) ?_
        exact ih (()) _ _ _ trivial hP hD hS (lv_sub hl [2, 1, 0] rfl)
    · refine lv_iinc (v := nI (dp cd i + 1)) (lv' := [(1, .int (nI (dp cd i + 1))), (0, .ref g), (2, .int (nI i))]) hx hb dX1_open_23 hl (k := 1) rfl (xi_inc1 _) (by decide) rfl (fun ls hl => ?_)
      refine lv_aload_n hx hb dX1_open_26 rfl (lv_at hl 1 rfl) ?_
      refine va_get (ci := 1) (v := .ref (bd 0)) (C := RX1) (T := TX1) (N := 8) hx hb hts in_X1 hown hK hP 0 rfl rfl 1 (by decide) (hts _ q195) (fun _ h9 => h9) rfl dX1_open_27 ?_
      refine lv_iload_n hx hb dX1_open_30 rfl (lv_at hl 2 rfl) ?_
      refine xn_ald (k := i) hx hb hK hP 1 0 rfl rfl (by omega) (by decide) dX1_open_31 ?_
      refine lv_bipush (v := nI 15) hx hb dX1_open_32 (by decide) ?_
      refine xn_ne_b (tgt := 40) hx hb dX1_open_34 (by decide) (by omega) (by omega) (fun c34 => ?_) (fun c34 => absurd c34 (by omega))
      rw [← dp_13 k13] at hl
      refine lv_iinc (v := nI (i + 1)) (lv' := [(2, .int (nI (i + 1))), (1, .int (nI (dp cd (i + 1)))), (0, .ref g)]) hx hb dX1_open_40 hl (k := 2) rfl (xi_inc1 _) (by decide) rfl (fun ls hl => ?_)
      refine lv_goto (tgt := 4) hx hb dX1_open_43 (by decide) ?_
      exact ih (()) _ _ _ trivial hP hD hS (lv_sub hl [2, 1, 0] rfl)
set_option maxHeartbeats 4000000 in
/-- hasElse(): whether the last open part has an ELSE -/
theorem cM_hasElse (l : Launch) (D : va_G) (g : Nat) (bd : Nat → Nat) (cb : Nat → ClassId) (sz : Nat) (n : Nat) (cd : Nat → Nat) (lf rt : Nat → Int32) (vr : Nat → Nat) (pu : Nat) (ou vw : Nat → Nat)  (hV : VP cd n) (hn40 : n ≤ 40) (hd : 0 < dp cd n) : cMi l yX1_hasElse cX1_hasElse 3 .boolean 0 0 D (tM cb) (wM g bd cb n cd lf rt vr pu ou vw) sz [.ref g] (fun (r : Int32) (u : Unit) => r = nI (hE cd n (dp cd n - 1)).toNat) (fun (u : Unit) => (wM g bd cb n cd lf rt vr pu ou vw)) := by
  refine cMi.of (by decide) (Nat.le_of_ble_eq_true rfl) ?_
  intro p e R s m args below meth c A Q ls H locs ⟨hx, hb, hml, hown, hts, hR, hK, hA⟩ hP hD hS hl hret
  have hown : s.vm.findClass RX1 = some m.cls := hown
  have hl : lv_has ls 3 [(0, .ref g)] := hl
  have hn0 : 0 < n := by cases n with | zero => exact absurd hd (by simp [dp]) | succ k => omega
  refine lv_iconst (v := nI 0) hx hb dX1_hasElse_0 (by decide) ?_
  refine lv_istore_n (lv' := [(1, .int (nI 0)), (0, .ref g)]) hx hb dX1_hasElse_1 rfl hl (by decide) rfl (fun ls hl => ?_)
  refine lv_aload_n hx hb dX1_hasElse_2 rfl (lv_at hl 1 rfl) ?_
  refine va_get (ci := 1) (v := .int (nI n)) (C := RX1) (T := TX1) (N := 8) hx hb hts in_X1 hown hK hP 0 rfl rfl 0 (by decide) (hts _ q194) (fun _ h9 => h9) rfl dX1_hasElse_3 ?_
  refine lv_iconst (v := nI 1) hx hb dX1_hasElse_6 (by decide) ?_
  refine xi_sub hx hb dX1_hasElse_7 (by omega) ?_
  refine xt_i (y := (zc n 0)) ((zc_in (by omega)).symm) ?_
  refine lv_istore_n (lv' := [(2, .int (zc n 0)), (1, .int (nI 0)), (0, .ref g)]) hx hb dX1_hasElse_8 rfl hl (by decide) rfl (fun ls hl => ?_)
  refine lp_w (nL := 3) (pc := 9) n (fun (u : Nat) => (wM g bd cb n cd lf rt vr pu ou vw)) (fun (i : Nat) (u : Nat) => [(0, .ref g), (1, .int (nI u)), (2, .int (zc n i))]) (fun (i : Nat) (u : Nat) => heJ cd n (n - i) u) ?_ ?_ 0 (0) _ _ _ (by omega) ⟨by omega, rfl, rfl⟩ hP hD hS (lv_sub hl [2, 1, 0] rfl)
  · rintro cl H locs ls hJ hP hD hS hl
    have hJ : heJ cd n (n - n) cl := hJ
    have hP : va_P D vwCl (wM g bd cb n cd lf rt vr pu ou vw) H := hP
    have hD : va_D A (wM g bd cb n cd lf rt vr pu ou vw) := hD
    have hl : lv_has ls 3 [(0, .ref g), (1, .int (nI cl)), (2, .int (zc n n))] := hl
    exfalso
    have h9 := hJ.2.1
    rw [Nat.sub_self] at h9
    simp [dp] at h9
    omega
  · rintro i cl H locs ls hi hJ hP hD hS hl ih
    have hJ : heJ cd n (n - i) cl := hJ
    have hP : va_P D vwCl (wM g bd cb n cd lf rt vr pu ou vw) H := hP
    have hD : va_D A (wM g bd cb n cd lf rt vr pu ou vw) := hD
    have hl : lv_has ls 3 [(0, .ref g), (1, .int (nI cl)), (2, .int (zc n i))] := hl
    obtain ⟨q, hq⟩ : ∃ q, n - i = q + 1 := ⟨n - i - 1, by omega⟩
    rw [zc_in hq] at hl
    rw [hq] at hJ
    have hv1 := (hV q (by omega)).1
    have hc4 : cl ≤ 4 := by have h8 := dp_le (hV.pre (k := q + 1) (by omega)); have h9 := hJ.2.1; omega
    have hnx : n - (i + 1) = q := by omega
    refine lv_iload_n hx hb dX1_hasElse_9 rfl (lv_at hl 2 rfl) ?_
    refine xn_iflt_f (tgt := 81) hx hb dX1_hasElse_10 (by decide) (by omega) ?_
    refine lv_iload_n hx hb dX1_hasElse_13 rfl (lv_at hl 1 rfl) ?_
    refine xn_ifne_b (tgt := 30) hx hb dX1_hasElse_14 (by decide) (by omega) (fun c0 => ?_) (fun c0 => ?_)
    · refine lv_iload_n hx hb dX1_hasElse_30 rfl (lv_at hl 1 rfl) ?_
      refine xn_ifne_b (tgt := 47) hx hb dX1_hasElse_31 (by decide) (by omega) (fun c31 => ?_) (fun c31 => absurd c31 c0)
      refine lv_aload_n hx hb dX1_hasElse_47 rfl (lv_at hl 0 rfl) ?_
      refine va_get (ci := 1) (v := .ref (bd 0)) (C := RX1) (T := TX1) (N := 8) hx hb hts in_X1 hown hK hP 0 rfl rfl 1 (by decide) (hts _ q195) (fun _ h9 => h9) rfl dX1_hasElse_48 ?_
      refine lv_iload_n hx hb dX1_hasElse_51 rfl (lv_at hl 2 rfl) ?_
      refine xn_ald (k := q) hx hb hK hP 1 0 rfl rfl (by omega) (by decide) dX1_hasElse_52 ?_
      refine lv_bipush (v := nI 15) hx hb dX1_hasElse_53 (by decide) ?_
      refine xn_ne_b (tgt := 61) hx hb dX1_hasElse_55 (by decide) (by omega) (by omega) (fun k15 => ?_) (fun k15 => ?_)
      · refine lv_aload_n hx hb dX1_hasElse_61 rfl (lv_at hl 0 rfl) ?_
        refine va_get (ci := 1) (v := .ref (bd 0)) (C := RX1) (T := TX1) (N := 8) hx hb hts in_X1 hown hK hP 0 rfl rfl 1 (by decide) (hts _ q195) (fun _ h9 => h9) rfl dX1_hasElse_62 ?_
        refine lv_iload_n hx hb dX1_hasElse_65 rfl (lv_at hl 2 rfl) ?_
        refine xn_ald (k := q) hx hb hK hP 1 0 rfl rfl (by omega) (by decide) dX1_hasElse_66 ?_
        refine lv_bipush (v := nI 13) hx hb dX1_hasElse_67 (by decide) ?_
        refine xn_ne_b (tgt := 75) hx hb dX1_hasElse_69 (by decide) (by omega) (by omega) (fun k13 => ?_) (fun k13 => ?_)
        · refine lv_iinc (v := (zc n (i + 1))) (lv' := [(2, .int (zc n (i + 1))), (0, .ref g), (1, .int (nI cl))]) hx hb dX1_hasElse_75 hl (k := 2) rfl (zc_next hq) (by decide) rfl (fun ls hl => ?_)
          refine lv_goto (tgt := 9) hx hb dX1_hasElse_78 (by decide) ?_
          exact ih (cl) _ _ _ (by rw [hnx]; exact he_o hJ hd k13 k15 (fun _ => c0)) hP hD hS (lv_sub hl [1, 2, 0] rfl)
        · refine lv_iinc (v := nI (cl - 1)) (lv' := [(1, .int (nI (cl - 1))), (0, .ref g), (2, .int (nI q))]) hx hb dX1_hasElse_72 hl (k := 1) rfl (xi_dec1' (by omega)) (by decide) rfl (fun ls hl => ?_)
          refine lv_iinc (v := (zc n (i + 1))) (lv' := [(2, .int (zc n (i + 1))), (1, .int (nI (cl - 1))), (0, .ref g)]) hx hb dX1_hasElse_75 hl (k := 2) rfl (zc_next hq) (by decide) rfl (fun ls hl => ?_)
          refine lv_goto (tgt := 9) hx hb dX1_hasElse_78 (by decide) ?_
          exact ih (cl - 1) _ _ _ (by rw [hnx]; exact he_13 hJ hd c0 k13) hP hD hS (lv_sub hl [2, 1, 0] rfl)
      · refine lv_iinc (v := nI (cl + 1)) (lv' := [(1, .int (nI (cl + 1))), (0, .ref g), (2, .int (nI q))]) hx hb dX1_hasElse_58 hl (k := 1) rfl (xi_inc1 _) (by decide) rfl (fun ls hl => ?_)
        refine lv_aload_n hx hb dX1_hasElse_61 rfl (lv_at hl 1 rfl) ?_
        refine va_get (ci := 1) (v := .ref (bd 0)) (C := RX1) (T := TX1) (N := 8) hx hb hts in_X1 hown hK hP 0 rfl rfl 1 (by decide) (hts _ q195) (fun _ h9 => h9) rfl dX1_hasElse_62 ?_
        refine lv_iload_n hx hb dX1_hasElse_65 rfl (lv_at hl 2 rfl) ?_
        refine xn_ald (k := q) hx hb hK hP 1 0 rfl rfl (by omega) (by decide) dX1_hasElse_66 ?_
        refine lv_bipush (v := nI 13) hx hb dX1_hasElse_67 (by decide) ?_
        refine xn_ne_b (tgt := 75) hx hb dX1_hasElse_69 (by decide) (by omega) (by omega) (fun c69 => ?_) (fun c69 => absurd c69 (by omega))
        refine lv_iinc (v := (zc n (i + 1))) (lv' := [(2, .int (zc n (i + 1))), (1, .int (nI (cl + 1))), (0, .ref g)]) hx hb dX1_hasElse_75 hl (k := 2) rfl (zc_next hq) (by decide) rfl (fun ls hl => ?_)
        refine lv_goto (tgt := 9) hx hb dX1_hasElse_78 (by decide) ?_
        exact ih (cl + 1) _ _ _ (by rw [hnx]; exact he_15 hJ hV k15) hP hD hS (lv_sub hl [2, 1, 0] rfl)
    · subst c0
      refine lv_aload_n hx hb dX1_hasElse_17 rfl (lv_at hl 0 rfl) ?_
      refine va_get (ci := 1) (v := .ref (bd 0)) (C := RX1) (T := TX1) (N := 8) hx hb hts in_X1 hown hK hP 0 rfl rfl 1 (by decide) (hts _ q195) (fun _ h9 => h9) rfl dX1_hasElse_18 ?_
      refine lv_iload_n hx hb dX1_hasElse_21 rfl (lv_at hl 2 rfl) ?_
      refine xn_ald (k := q) hx hb hK hP 1 0 rfl rfl (by omega) (by decide) dX1_hasElse_22 ?_
      refine lv_bipush (v := nI 14) hx hb dX1_hasElse_23 (by decide) ?_
      refine xn_ne_b (tgt := 30) hx hb dX1_hasElse_25 (by decide) (by omega) (by omega) (fun k14 => ?_) (fun k14 => ?_)
      · refine lv_iload_n hx hb dX1_hasElse_30 rfl (lv_at hl 1 rfl) ?_
        refine xn_ifne_b (tgt := 47) hx hb dX1_hasElse_31 (by decide) (by omega) (fun c31 => absurd c31 (fun h => h rfl)) (fun c31 => ?_)
        refine lv_aload_n hx hb dX1_hasElse_34 rfl (lv_at hl 0 rfl) ?_
        refine va_get (ci := 1) (v := .ref (bd 0)) (C := RX1) (T := TX1) (N := 8) hx hb hts in_X1 hown hK hP 0 rfl rfl 1 (by decide) (hts _ q195) (fun _ h9 => h9) rfl dX1_hasElse_35 ?_
        refine lv_iload_n hx hb dX1_hasElse_38 rfl (lv_at hl 2 rfl) ?_
        refine xn_ald (k := q) hx hb hK hP 1 0 rfl rfl (by omega) (by decide) dX1_hasElse_39 ?_
        refine lv_bipush (v := nI 13) hx hb dX1_hasElse_40 (by decide) ?_
        refine xn_ne_b (tgt := 47) hx hb dX1_hasElse_42 (by decide) (by omega) (by omega) (fun k13 => ?_) (fun k13 => ?_)
        · refine lv_aload_n hx hb dX1_hasElse_47 rfl (lv_at hl 0 rfl) ?_
          refine va_get (ci := 1) (v := .ref (bd 0)) (C := RX1) (T := TX1) (N := 8) hx hb hts in_X1 hown hK hP 0 rfl rfl 1 (by decide) (hts _ q195) (fun _ h9 => h9) rfl dX1_hasElse_48 ?_
          refine lv_iload_n hx hb dX1_hasElse_51 rfl (lv_at hl 2 rfl) ?_
          refine xn_ald (k := q) hx hb hK hP 1 0 rfl rfl (by omega) (by decide) dX1_hasElse_52 ?_
          refine lv_bipush (v := nI 15) hx hb dX1_hasElse_53 (by decide) ?_
          refine xn_ne_b (tgt := 61) hx hb dX1_hasElse_55 (by decide) (by omega) (by omega) (fun k15 => ?_) (fun k15 => ?_)
          · refine lv_aload_n hx hb dX1_hasElse_61 rfl (lv_at hl 0 rfl) ?_
            refine va_get (ci := 1) (v := .ref (bd 0)) (C := RX1) (T := TX1) (N := 8) hx hb hts in_X1 hown hK hP 0 rfl rfl 1 (by decide) (hts _ q195) (fun _ h9 => h9) rfl dX1_hasElse_62 ?_
            refine lv_iload_n hx hb dX1_hasElse_65 rfl (lv_at hl 2 rfl) ?_
            refine xn_ald (k := q) hx hb hK hP 1 0 rfl rfl (by omega) (by decide) dX1_hasElse_66 ?_
            refine lv_bipush (v := nI 13) hx hb dX1_hasElse_67 (by decide) ?_
            refine xn_ne_b (tgt := 75) hx hb dX1_hasElse_69 (by decide) (by omega) (by omega) (fun c69 => ?_) (fun c69 => absurd c69 (by omega))
            refine lv_iinc (v := (zc n (i + 1))) (lv' := [(2, .int (zc n (i + 1))), (0, .ref g), (1, .int (nI 0))]) hx hb dX1_hasElse_75 hl (k := 2) rfl (zc_next hq) (by decide) rfl (fun ls hl => ?_)
            refine lv_goto (tgt := 9) hx hb dX1_hasElse_78 (by decide) ?_
            exact ih (0) _ _ _ (by rw [hnx]; exact he_o hJ hd k13 k15 (fun z => absurd z k14)) hP hD hS (lv_sub hl [1, 2, 0] rfl)
          · refine lv_iinc (v := nI (0 + 1)) (lv' := [(1, .int (nI (0 + 1))), (0, .ref g), (2, .int (nI q))]) hx hb dX1_hasElse_58 hl (k := 1) rfl (xi_inc1 _) (by decide) rfl (fun ls hl => ?_)
            refine lv_aload_n hx hb dX1_hasElse_61 rfl (lv_at hl 1 rfl) ?_
            refine va_get (ci := 1) (v := .ref (bd 0)) (C := RX1) (T := TX1) (N := 8) hx hb hts in_X1 hown hK hP 0 rfl rfl 1 (by decide) (hts _ q195) (fun _ h9 => h9) rfl dX1_hasElse_62 ?_
            refine lv_iload_n hx hb dX1_hasElse_65 rfl (lv_at hl 2 rfl) ?_
            refine xn_ald (k := q) hx hb hK hP 1 0 rfl rfl (by omega) (by decide) dX1_hasElse_66 ?_
            refine lv_bipush (v := nI 13) hx hb dX1_hasElse_67 (by decide) ?_
            refine xn_ne_b (tgt := 75) hx hb dX1_hasElse_69 (by decide) (by omega) (by omega) (fun c69 => ?_) (fun c69 => absurd c69 (by omega))
            refine lv_iinc (v := (zc n (i + 1))) (lv' := [(2, .int (zc n (i + 1))), (1, .int (nI (0 + 1))), (0, .ref g)]) hx hb dX1_hasElse_75 hl (k := 2) rfl (zc_next hq) (by decide) rfl (fun ls hl => ?_)
            refine lv_goto (tgt := 9) hx hb dX1_hasElse_78 (by decide) ?_
            exact ih (0 + 1) _ _ _ (by rw [hnx]; exact he_15 hJ hV k15) hP hD hS (lv_sub hl [2, 1, 0] rfl)
        · refine lv_iconst (v := nI 0) hx hb dX1_hasElse_45 (by decide) ?_
          exact hret 46 ls H locs (nI 0) () dX1_hasElse_46 rfl (by rw [he_false hJ k13]; rfl) hP hD hS
      · refine lv_iconst (v := nI 1) hx hb dX1_hasElse_28 (by decide) ?_
        exact hret 29 ls H locs (nI 1) () dX1_hasElse_29 rfl (by rw [he_true hJ k14]; rfl) hP hD hS
set_option maxHeartbeats 4000000 in
/-- behind(p, orElse) -/
theorem cM_behind (l : Launch) (D : va_G) (g : Nat) (bd : Nat → Nat) (cb : Nat → ClassId) (sz : Nat) (n : Nat) (cd : Nat → Nat) (lf rt : Nat → Int32) (vr : Nat → Nat) (pu : Nat) (ou vw : Nat → Nat) (p0 oe : Nat) (hV : VP cd n) (hn40 : n ≤ 40) (hp0 : p0 < n) (hoe : oe ≤ 1) : cMi l yX1_behind cX1_behind 5 .int 0 0 D (tM cb) (wM g bd cb n cd lf rt vr pu ou vw) sz [.ref g, .int (nI p0), .int (nI oe)] (fun (r : Int32) (u : Unit) => ∃ r0, r = nI r0 ∧ Bh cd n p0 oe r0) (fun (u : Unit) => (wM g bd cb n cd lf rt vr pu ou vw)) := by
  refine cMi.of (by decide) (Nat.le_of_ble_eq_true rfl) ?_
  intro p e R s m args below meth c A Q ls H locs ⟨hx, hb, hml, hown, hts, hR, hK, hA⟩ hP hD hS hl hret
  have hown : s.vm.findClass RX1 = some m.cls := hown
  have hl : lv_has ls 5 [(0, .ref g), (1, .int (nI p0)), (2, .int (nI oe))] := hl
  refine lv_iconst (v := nI 0) hx hb dX1_behind_0 (by decide) ?_
  refine xt_i (y := nI (dp cd (p0 + 1) - dp cd (p0 + 1))) (by rw [Nat.sub_self]) ?_
  refine lv_istore_n (lv' := [(3, .int (nI (dp cd (p0 + 1) - dp cd (p0 + 1)))), (0, .ref g), (1, .int (nI p0)), (2, .int (nI oe))]) hx hb dX1_behind_1 rfl hl (by decide) rfl (fun ls hl => ?_)
  refine lv_iload_n hx hb dX1_behind_2 rfl (lv_at hl 2 rfl) ?_
  refine lv_iconst (v := nI 1) hx hb dX1_behind_3 (by decide) ?_
  refine xi_add hx hb dX1_behind_4 ?_
  refine lv_istore (lv' := [(4, .int (nI (p0 + 1))), (3, .int (nI (dp cd (p0 + 1) - dp cd (p0 + 1)))), (0, .ref g), (1, .int (nI p0)), (2, .int (nI oe))]) hx hb dX1_behind_5 hl (by decide) rfl (fun ls hl => ?_)
  refine lp_w (nL := 5) (pc := 7) n (fun (u : Unit) => (wM g bd cb n cd lf rt vr pu ou vw)) (fun (i : Nat) (u : Unit) => [(0, .ref g), (2, .int (nI oe)), (3, .int (nI (dp cd i - dp cd (p0 + 1)))), (4, .int (nI i))]) (fun (i : Nat) (u : Unit) => p0 < i ∧ dp cd (p0 + 1) ≤ dp cd i ∧ pas cd p0 oe i) ?_ ?_ (p0 + 1) (()) _ _ _ (by omega) ⟨by omega, Nat.le_refl _, fun j h1 h2 => absurd h2 (by omega)⟩ hP hD hS (lv_sub hl [2, 4, 1, 0] rfl)
  · rintro _ H locs ls hJ hP hD hS hl
    have hJ : p0 < n ∧ dp cd (p0 + 1) ≤ dp cd n ∧ pas cd p0 oe n := hJ
    have hP : va_P D vwCl (wM g bd cb n cd lf rt vr pu ou vw) H := hP
    have hD : va_D A (wM g bd cb n cd lf rt vr pu ou vw) := hD
    have hl : lv_has ls 5 [(0, .ref g), (2, .int (nI oe)), (3, .int (nI (dp cd n - dp cd (p0 + 1)))), (4, .int (nI n))] := hl
    refine lv_iload hx hb dX1_behind_7 (lv_at hl 3 rfl) ?_
    refine lv_aload_n hx hb dX1_behind_9 rfl (lv_at hl 0 rfl) ?_
    refine va_get (ci := 1) (v := .int (nI n)) (C := RX1) (T := TX1) (N := 8) hx hb hts in_X1 hown hK hP 0 rfl rfl 0 (by decide) (hts _ q194) (fun _ h9 => h9) rfl dX1_behind_10 ?_
    refine xn_ge_t (tgt := 89) hx hb dX1_behind_13 (by decide) (by omega) (by omega) ?_
    refine lv_aload_n hx hb dX1_behind_89 rfl (lv_at hl 0 rfl) ?_
    refine va_get (ci := 1) (v := .int (nI n)) (C := RX1) (T := TX1) (N := 8) hx hb hts in_X1 hown hK hP 0 rfl rfl 0 (by decide) (hts _ q194) (fun _ h9 => h9) rfl dX1_behind_90 ?_
    exact hret 93 ls H locs (nI n) () dX1_behind_93 rfl ⟨n, rfl, Or.inr ⟨rfl, hJ.2.2⟩⟩ hP hD hS
  · rintro i _ H locs ls hi hJ hP hD hS hl ih
    have hJ : p0 < i ∧ dp cd (p0 + 1) ≤ dp cd i ∧ pas cd p0 oe i := hJ
    have hP : va_P D vwCl (wM g bd cb n cd lf rt vr pu ou vw) H := hP
    have hD : va_D A (wM g bd cb n cd lf rt vr pu ou vw) := hD
    have hl : lv_has ls 5 [(0, .ref g), (2, .int (nI oe)), (3, .int (nI (dp cd i - dp cd (p0 + 1)))), (4, .int (nI i))] := hl
    have hv := hV i hi
    have hv1 := hv.1
    have hJ2 := hJ.2.1
    have hJ1 := hJ.1
    have hd4 := dp_le (hV.pre (k := i) (by omega))
    refine lv_iload hx hb dX1_behind_7 (lv_at hl 3 rfl) ?_
    refine lv_aload_n hx hb dX1_behind_9 rfl (lv_at hl 0 rfl) ?_
    refine va_get (ci := 1) (v := .int (nI n)) (C := RX1) (T := TX1) (N := 8) hx hb hts in_X1 hown hK hP 0 rfl rfl 0 (by decide) (hts _ q194) (fun _ h9 => h9) rfl dX1_behind_10 ?_
    refine xn_ge_f (tgt := 89) hx hb dX1_behind_13 (by decide) hi (by omega) ?_
    refine lv_iload_n hx hb dX1_behind_16 rfl (lv_at hl 2 rfl) ?_
    refine xn_ifne_b (tgt := 53) hx hb dX1_behind_17 (by decide) (by omega) (fun o0 => ?_) (fun o0 => ?_)
    · have hnh : ¬ hit cd p0 oe i := fun z => o0 (by rw [z.1]; omega)
      refine lv_aload_n hx hb dX1_behind_53 rfl (lv_at hl 0 rfl) ?_
      refine va_get (ci := 1) (v := .ref (bd 0)) (C := RX1) (T := TX1) (N := 8) hx hb hts in_X1 hown hK hP 0 rfl rfl 1 (by decide) (hts _ q195) (fun _ h9 => h9) rfl dX1_behind_54 ?_
      refine lv_iload hx hb dX1_behind_57 (lv_at hl 3 rfl) ?_
      refine xn_ald (k := i) hx hb hK hP 1 0 rfl rfl (by omega) (by decide) dX1_behind_59 ?_
      refine lv_bipush (v := nI 13) hx hb dX1_behind_60 (by decide) ?_
      refine xn_ne_b (tgt := 68) hx hb dX1_behind_62 (by decide) (by omega) (by omega) (fun k13 => ?_) (fun k13 => ?_)
      · refine lv_aload_n hx hb dX1_behind_68 rfl (lv_at hl 0 rfl) ?_
        refine va_get (ci := 1) (v := .ref (bd 0)) (C := RX1) (T := TX1) (N := 8) hx hb hts in_X1 hown hK hP 0 rfl rfl 1 (by decide) (hts _ q195) (fun _ h9 => h9) rfl dX1_behind_69 ?_
        refine lv_iload hx hb dX1_behind_72 (lv_at hl 3 rfl) ?_
        refine xn_ald (k := i) hx hb hK hP 1 0 rfl rfl (by omega) (by decide) dX1_behind_74 ?_
        refine lv_bipush (v := nI 15) hx hb dX1_behind_75 (by decide) ?_
        refine xn_ne_b (tgt := 83) hx hb dX1_behind_77 (by decide) (by omega) (by omega) (fun k15 => ?_) (fun k15 => ?_)
        · have hdn := dp_o k13 k15
          rw [show dp cd i - dp cd (p0 + 1) = dp cd (i + 1) - dp cd (p0 + 1) by omega] at hl
          refine lv_iinc (v := nI (i + 1)) (lv' := [(4, .int (nI (i + 1))), (0, .ref g), (2, .int (nI oe)), (3, .int (nI (dp cd (i + 1) - dp cd (p0 + 1))))]) hx hb dX1_behind_83 hl (k := 3) rfl (xi_inc1 _) (by decide) rfl (fun ls hl => ?_)
          refine lv_goto (tgt := 7) hx hb dX1_behind_86 (by decide) ?_
          exact ih (()) _ _ _ ⟨by omega, by rw [hdn]; omega, pas_next hJ.2.2 hJ2 hnh⟩ hP hD hS (lv_sub hl [1, 2, 3, 0] rfl)
        · refine lv_iinc (v := nI (dp cd i - dp cd (p0 + 1) - 1)) (lv' := [(3, .int (nI (dp cd i - dp cd (p0 + 1) - 1))), (0, .ref g), (2, .int (nI oe)), (4, .int (nI i))]) hx hb dX1_behind_80 hl (k := 2) rfl (xi_dec1' (by omega)) (by decide) rfl (fun ls hl => ?_)
          have hdn := dp_15 k15
          rw [show dp cd i - dp cd (p0 + 1) - 1 = dp cd (i + 1) - dp cd (p0 + 1) by omega] at hl
          refine lv_iinc (v := nI (i + 1)) (lv' := [(4, .int (nI (i + 1))), (3, .int (nI (dp cd (i + 1) - dp cd (p0 + 1)))), (0, .ref g), (2, .int (nI oe))]) hx hb dX1_behind_83 hl (k := 3) rfl (xi_inc1 _) (by decide) rfl (fun ls hl => ?_)
          refine lv_goto (tgt := 7) hx hb dX1_behind_86 (by decide) ?_
          exact ih (()) _ _ _ ⟨by omega, by rw [hdn]; omega, pas_next hJ.2.2 hJ2 hnh⟩ hP hD hS (lv_sub hl [2, 3, 1, 0] rfl)
      · refine lv_iinc (v := nI (dp cd i - dp cd (p0 + 1) + 1)) (lv' := [(3, .int (nI (dp cd i - dp cd (p0 + 1) + 1))), (0, .ref g), (2, .int (nI oe)), (4, .int (nI i))]) hx hb dX1_behind_65 hl (k := 2) rfl (xi_inc1 _) (by decide) rfl (fun ls hl => ?_)
        refine lv_aload_n hx hb dX1_behind_68 rfl (lv_at hl 1 rfl) ?_
        refine va_get (ci := 1) (v := .ref (bd 0)) (C := RX1) (T := TX1) (N := 8) hx hb hts in_X1 hown hK hP 0 rfl rfl 1 (by decide) (hts _ q195) (fun _ h9 => h9) rfl dX1_behind_69 ?_
        refine lv_iload hx hb dX1_behind_72 (lv_at hl 3 rfl) ?_
        refine xn_ald (k := i) hx hb hK hP 1 0 rfl rfl (by omega) (by decide) dX1_behind_74 ?_
        refine lv_bipush (v := nI 15) hx hb dX1_behind_75 (by decide) ?_
        refine xn_ne_b (tgt := 83) hx hb dX1_behind_77 (by decide) (by omega) (by omega) (fun c77 => ?_) (fun c77 => absurd c77 (by omega))
        have hdn := dp_13 k13
        rw [show dp cd i - dp cd (p0 + 1) + 1 = dp cd (i + 1) - dp cd (p0 + 1) by omega] at hl
        refine lv_iinc (v := nI (i + 1)) (lv' := [(4, .int (nI (i + 1))), (3, .int (nI (dp cd (i + 1) - dp cd (p0 + 1)))), (0, .ref g), (2, .int (nI oe))]) hx hb dX1_behind_83 hl (k := 3) rfl (xi_inc1 _) (by decide) rfl (fun ls hl => ?_)
        refine lv_goto (tgt := 7) hx hb dX1_behind_86 (by decide) ?_
        exact ih (()) _ _ _ ⟨by omega, by rw [hdn]; omega, pas_next hJ.2.2 hJ2 hnh⟩ hP hD hS (lv_sub hl [2, 3, 1, 0] rfl)
    · refine lv_aload_n hx hb dX1_behind_20 rfl (lv_at hl 0 rfl) ?_
      refine va_get (ci := 1) (v := .ref (bd 0)) (C := RX1) (T := TX1) (N := 8) hx hb hts in_X1 hown hK hP 0 rfl rfl 1 (by decide) (hts _ q195) (fun _ h9 => h9) rfl dX1_behind_21 ?_
      refine lv_iload hx hb dX1_behind_24 (lv_at hl 3 rfl) ?_
      refine xn_ald (k := i) hx hb hK hP 1 0 rfl rfl (by omega) (by decide) dX1_behind_26 ?_
      refine lv_bipush (v := nI 15) hx hb dX1_behind_27 (by decide) ?_
      refine xn_eq_b (tgt := 48) hx hb dX1_behind_29 (by decide) (by omega) (by omega) (fun k15 => ?_) (fun k15 => ?_)
      · refine lv_iload hx hb dX1_behind_48 (lv_at hl 3 rfl) ?_
        refine lv_iconst (v := nI 1) hx hb dX1_behind_50 (by decide) ?_
        refine xi_add hx hb dX1_behind_51 ?_
        exact hret 52 ls H locs (nI (i + 1)) () dX1_behind_52 rfl ⟨i + 1, rfl, Or.inl ⟨i, hJ1, hi, rfl, ⟨by omega, Or.inl k15⟩, hJ.2.2⟩⟩ hP hD hS
      · refine lv_iload_n hx hb dX1_behind_32 rfl (lv_at hl 1 rfl) ?_
        refine xn_ifeq_b (tgt := 53) hx hb dX1_behind_33 (by decide) (by omega) (fun e0 => ?_) (fun e0 => ?_)
        · have hnh : ¬ hit cd p0 oe i := fun z => z.2.elim k15 (fun y => absurd y.1 (by omega))
          refine lv_aload_n hx hb dX1_behind_53 rfl (lv_at hl 0 rfl) ?_
          refine va_get (ci := 1) (v := .ref (bd 0)) (C := RX1) (T := TX1) (N := 8) hx hb hts in_X1 hown hK hP 0 rfl rfl 1 (by decide) (hts _ q195) (fun _ h9 => h9) rfl dX1_behind_54 ?_
          refine lv_iload hx hb dX1_behind_57 (lv_at hl 3 rfl) ?_
          refine xn_ald (k := i) hx hb hK hP 1 0 rfl rfl (by omega) (by decide) dX1_behind_59 ?_
          refine lv_bipush (v := nI 13) hx hb dX1_behind_60 (by decide) ?_
          refine xn_ne_b (tgt := 68) hx hb dX1_behind_62 (by decide) (by omega) (by omega) (fun k13 => ?_) (fun k13 => ?_)
          · refine lv_aload_n hx hb dX1_behind_68 rfl (lv_at hl 0 rfl) ?_
            refine va_get (ci := 1) (v := .ref (bd 0)) (C := RX1) (T := TX1) (N := 8) hx hb hts in_X1 hown hK hP 0 rfl rfl 1 (by decide) (hts _ q195) (fun _ h9 => h9) rfl dX1_behind_69 ?_
            refine lv_iload hx hb dX1_behind_72 (lv_at hl 3 rfl) ?_
            refine xn_ald (k := i) hx hb hK hP 1 0 rfl rfl (by omega) (by decide) dX1_behind_74 ?_
            refine lv_bipush (v := nI 15) hx hb dX1_behind_75 (by decide) ?_
            refine xn_ne_b (tgt := 83) hx hb dX1_behind_77 (by decide) (by omega) (by omega) (fun c77 => ?_) (fun c77 => absurd c77 k15)
            have hdn := dp_o k13 k15
            rw [show dp cd i - dp cd (p0 + 1) = dp cd (i + 1) - dp cd (p0 + 1) by omega] at hl
            refine lv_iinc (v := nI (i + 1)) (lv' := [(4, .int (nI (i + 1))), (0, .ref g), (2, .int (nI oe)), (3, .int (nI (dp cd (i + 1) - dp cd (p0 + 1))))]) hx hb dX1_behind_83 hl (k := 3) rfl (xi_inc1 _) (by decide) rfl (fun ls hl => ?_)
            refine lv_goto (tgt := 7) hx hb dX1_behind_86 (by decide) ?_
            exact ih (()) _ _ _ ⟨by omega, by rw [hdn]; omega, pas_next hJ.2.2 hJ2 hnh⟩ hP hD hS (lv_sub hl [1, 2, 3, 0] rfl)
          · refine lv_iinc (v := nI (dp cd i - dp cd (p0 + 1) + 1)) (lv' := [(3, .int (nI (dp cd i - dp cd (p0 + 1) + 1))), (0, .ref g), (2, .int (nI oe)), (4, .int (nI i))]) hx hb dX1_behind_65 hl (k := 2) rfl (xi_inc1 _) (by decide) rfl (fun ls hl => ?_)
            refine lv_aload_n hx hb dX1_behind_68 rfl (lv_at hl 1 rfl) ?_
            refine va_get (ci := 1) (v := .ref (bd 0)) (C := RX1) (T := TX1) (N := 8) hx hb hts in_X1 hown hK hP 0 rfl rfl 1 (by decide) (hts _ q195) (fun _ h9 => h9) rfl dX1_behind_69 ?_
            refine lv_iload hx hb dX1_behind_72 (lv_at hl 3 rfl) ?_
            refine xn_ald (k := i) hx hb hK hP 1 0 rfl rfl (by omega) (by decide) dX1_behind_74 ?_
            refine lv_bipush (v := nI 15) hx hb dX1_behind_75 (by decide) ?_
            refine xn_ne_b (tgt := 83) hx hb dX1_behind_77 (by decide) (by omega) (by omega) (fun c77 => ?_) (fun c77 => absurd c77 (by omega))
            have hdn := dp_13 k13
            rw [show dp cd i - dp cd (p0 + 1) + 1 = dp cd (i + 1) - dp cd (p0 + 1) by omega] at hl
            refine lv_iinc (v := nI (i + 1)) (lv' := [(4, .int (nI (i + 1))), (3, .int (nI (dp cd (i + 1) - dp cd (p0 + 1)))), (0, .ref g), (2, .int (nI oe))]) hx hb dX1_behind_83 hl (k := 3) rfl (xi_inc1 _) (by decide) rfl (fun ls hl => ?_)
            refine lv_goto (tgt := 7) hx hb dX1_behind_86 (by decide) ?_
            exact ih (()) _ _ _ ⟨by omega, by rw [hdn]; omega, pas_next hJ.2.2 hJ2 hnh⟩ hP hD hS (lv_sub hl [2, 3, 1, 0] rfl)
        · refine lv_aload_n hx hb dX1_behind_36 rfl (lv_at hl 0 rfl) ?_
          refine va_get (ci := 1) (v := .ref (bd 0)) (C := RX1) (T := TX1) (N := 8) hx hb hts in_X1 hown hK hP 0 rfl rfl 1 (by decide) (hts _ q195) (fun _ h9 => h9) rfl dX1_behind_37 ?_
          refine lv_iload hx hb dX1_behind_40 (lv_at hl 3 rfl) ?_
          refine xn_ald (k := i) hx hb hK hP 1 0 rfl rfl (by omega) (by decide) dX1_behind_42 ?_
          refine lv_bipush (v := nI 14) hx hb dX1_behind_43 (by decide) ?_
          refine xn_ne_b (tgt := 53) hx hb dX1_behind_45 (by decide) (by omega) (by omega) (fun k14 => ?_) (fun k14 => ?_)
          · have hnh : ¬ hit cd p0 oe i := fun z => z.2.elim k15 (fun y => k14 y.2)
            refine lv_aload_n hx hb dX1_behind_53 rfl (lv_at hl 0 rfl) ?_
            refine va_get (ci := 1) (v := .ref (bd 0)) (C := RX1) (T := TX1) (N := 8) hx hb hts in_X1 hown hK hP 0 rfl rfl 1 (by decide) (hts _ q195) (fun _ h9 => h9) rfl dX1_behind_54 ?_
            refine lv_iload hx hb dX1_behind_57 (lv_at hl 3 rfl) ?_
            refine xn_ald (k := i) hx hb hK hP 1 0 rfl rfl (by omega) (by decide) dX1_behind_59 ?_
            refine lv_bipush (v := nI 13) hx hb dX1_behind_60 (by decide) ?_
            refine xn_ne_b (tgt := 68) hx hb dX1_behind_62 (by decide) (by omega) (by omega) (fun k13 => ?_) (fun k13 => ?_)
            · refine lv_aload_n hx hb dX1_behind_68 rfl (lv_at hl 0 rfl) ?_
              refine va_get (ci := 1) (v := .ref (bd 0)) (C := RX1) (T := TX1) (N := 8) hx hb hts in_X1 hown hK hP 0 rfl rfl 1 (by decide) (hts _ q195) (fun _ h9 => h9) rfl dX1_behind_69 ?_
              refine lv_iload hx hb dX1_behind_72 (lv_at hl 3 rfl) ?_
              refine xn_ald (k := i) hx hb hK hP 1 0 rfl rfl (by omega) (by decide) dX1_behind_74 ?_
              refine lv_bipush (v := nI 15) hx hb dX1_behind_75 (by decide) ?_
              refine xn_ne_b (tgt := 83) hx hb dX1_behind_77 (by decide) (by omega) (by omega) (fun c77 => ?_) (fun c77 => absurd c77 k15)
              have hdn := dp_o k13 k15
              rw [show dp cd i - dp cd (p0 + 1) = dp cd (i + 1) - dp cd (p0 + 1) by omega] at hl
              refine lv_iinc (v := nI (i + 1)) (lv' := [(4, .int (nI (i + 1))), (0, .ref g), (2, .int (nI oe)), (3, .int (nI (dp cd (i + 1) - dp cd (p0 + 1))))]) hx hb dX1_behind_83 hl (k := 3) rfl (xi_inc1 _) (by decide) rfl (fun ls hl => ?_)
              refine lv_goto (tgt := 7) hx hb dX1_behind_86 (by decide) ?_
              exact ih (()) _ _ _ ⟨by omega, by rw [hdn]; omega, pas_next hJ.2.2 hJ2 hnh⟩ hP hD hS (lv_sub hl [1, 2, 3, 0] rfl)
            · refine lv_iinc (v := nI (dp cd i - dp cd (p0 + 1) + 1)) (lv' := [(3, .int (nI (dp cd i - dp cd (p0 + 1) + 1))), (0, .ref g), (2, .int (nI oe)), (4, .int (nI i))]) hx hb dX1_behind_65 hl (k := 2) rfl (xi_inc1 _) (by decide) rfl (fun ls hl => ?_)
              refine lv_aload_n hx hb dX1_behind_68 rfl (lv_at hl 1 rfl) ?_
              refine va_get (ci := 1) (v := .ref (bd 0)) (C := RX1) (T := TX1) (N := 8) hx hb hts in_X1 hown hK hP 0 rfl rfl 1 (by decide) (hts _ q195) (fun _ h9 => h9) rfl dX1_behind_69 ?_
              refine lv_iload hx hb dX1_behind_72 (lv_at hl 3 rfl) ?_
              refine xn_ald (k := i) hx hb hK hP 1 0 rfl rfl (by omega) (by decide) dX1_behind_74 ?_
              refine lv_bipush (v := nI 15) hx hb dX1_behind_75 (by decide) ?_
              refine xn_ne_b (tgt := 83) hx hb dX1_behind_77 (by decide) (by omega) (by omega) (fun c77 => ?_) (fun c77 => absurd c77 (by omega))
              have hdn := dp_13 k13
              rw [show dp cd i - dp cd (p0 + 1) + 1 = dp cd (i + 1) - dp cd (p0 + 1) by omega] at hl
              refine lv_iinc (v := nI (i + 1)) (lv' := [(4, .int (nI (i + 1))), (3, .int (nI (dp cd (i + 1) - dp cd (p0 + 1)))), (0, .ref g), (2, .int (nI oe))]) hx hb dX1_behind_83 hl (k := 3) rfl (xi_inc1 _) (by decide) rfl (fun ls hl => ?_)
              refine lv_goto (tgt := 7) hx hb dX1_behind_86 (by decide) ?_
              exact ih (()) _ _ _ ⟨by omega, by rw [hdn]; omega, pas_next hJ.2.2 hJ2 hnh⟩ hP hD hS (lv_sub hl [2, 3, 1, 0] rfl)
          · refine lv_iload hx hb dX1_behind_48 (lv_at hl 3 rfl) ?_
            refine lv_iconst (v := nI 1) hx hb dX1_behind_50 (by decide) ?_
            refine xi_add hx hb dX1_behind_51 ?_
            exact hret 52 ls H locs (nI (i + 1)) () dX1_behind_52 rfl ⟨i + 1, rfl, Or.inl ⟨i, hJ1, hi, rfl, ⟨by omega, Or.inr ⟨by omega, k14⟩⟩, hJ.2.2⟩⟩ hP hD hS
set_option maxHeartbeats 4000000 in
/-- show(secret, x) -/
theorem cM_show (l : Launch) (D : va_G) (g : Nat) (bd : Nat → Nat) (cb : Nat → ClassId) (sz : Nat) (n : Nat) (cd : Nat → Nat) (lf rt : Nat → Int32) (vr : Nat → Nat) (pu : Nat) (ou vw : Nat → Nat) (s0 x0 : Nat) (hs : s0 < 64) (hpu : pu ≤ 7) : cMv l yX1_show cX1_show 3 0 0 D (tM cb) (wM g bd cb n cd lf rt vr pu ou vw) sz [.ref g, .int (nI s0), .int (nI x0)] (fun (u : Nat × (Nat → Nat)) => (pu < 7 → u.1 = pu + 1 ∧ u.2 = va_up vw (7 * s0 + pu) x0) ∧ (¬ pu < 7 → u.1 = pu ∧ u.2 = vw)) (fun (u : Nat × (Nat → Nat)) => (wM g bd cb n cd lf rt vr u.1 ou u.2)) := by
  refine cMv.of (by decide) (Nat.le_of_ble_eq_true rfl) ?_
  intro p e R s m args below meth c A Q ls H locs ⟨hx, hb, hml, hown, hts, hR, hK, hA⟩ hP hD hS hl hret
  have hown : s.vm.findClass RX1 = some m.cls := hown
  have hl : lv_has ls 3 [(0, .ref g), (1, .int (nI s0)), (2, .int (nI x0))] := hl
  refine lv_aload_n hx hb dX1_show_0 rfl (lv_at hl 0 rfl) ?_
  refine va_get (ci := 1) (v := .int (nI pu)) (C := RX1) (T := TX1) (N := 8) hx hb hts in_X1 hown hK hP 0 rfl rfl 5 (by decide) (hts _ q199) (fun _ h9 => h9) rfl dX1_show_1 ?_
  refine lv_bipush (v := nI 7) hx hb dX1_show_4 (by decide) ?_
  refine xn_ge_b (tgt := 34) hx hb dX1_show_6 (by decide) (by omega) (by omega) (fun h7 => ?_) (fun h7 => ?_)
  · exact hret 34 ls H locs (pu, vw) dX1_show_34 ⟨fun z => absurd z (by omega), fun _ => ⟨rfl, rfl⟩⟩ hP hD hS
  · refine lv_aload_n hx hb dX1_show_9 rfl (lv_at hl 0 rfl) ?_
    refine va_get (ci := 1) (v := .ref (bd 5)) (C := RX1) (T := TX1) (N := 8) hx hb hts in_X1 hown hK hP 0 rfl rfl 7 (by decide) (hts _ q201) (fun _ h9 => h9) rfl dX1_show_10 ?_
    refine lv_bipush (v := nI 7) hx hb dX1_show_13 (by decide) ?_
    refine lv_iload_n hx hb dX1_show_15 rfl (lv_at hl 1 rfl) ?_
    refine xi_mul hx hb dX1_show_16 ?_
    refine lv_aload_n hx hb dX1_show_17 rfl (lv_at hl 0 rfl) ?_
    refine va_get (ci := 1) (v := .int (nI pu)) (C := RX1) (T := TX1) (N := 8) hx hb hts in_X1 hown hK hP 0 rfl rfl 5 (by decide) (hts _ q199) (fun _ h9 => h9) rfl dX1_show_18 ?_
    refine xi_add hx hb dX1_show_21 ?_
    refine lv_iload_n hx hb dX1_show_22 rfl (lv_at hl 2 rfl) ?_
    refine xn_ast (k := (7 * s0 + pu)) hx hb hK hP hD hS 6 5 rfl rfl (by omega) (by decide) dX1_show_23 (fun H locs hP hD hS => ?_)
    have hP : va_P D vwCl (wM g bd cb n cd lf rt vr pu ou (va_up vw (7 * s0 + pu) x0)) H := hP
    have hD : va_D A (wM g bd cb n cd lf rt vr pu ou (va_up vw (7 * s0 + pu) x0)) := hD
    refine lv_aload_n hx hb dX1_show_24 rfl (lv_at hl 0 rfl) ?_
    refine lv_dup hx hb dX1_show_25 rfl ?_
    refine va_get (ci := 1) (v := .int (nI pu)) (C := RX1) (T := TX1) (N := 8) hx hb hts in_X1 hown hK hP 0 rfl rfl 5 (by decide) (hts _ q199) (fun _ h9 => h9) rfl dX1_show_26 ?_
    refine lv_iconst (v := nI 1) hx hb dX1_show_29 (by decide) ?_
    refine xi_add hx hb dX1_show_30 ?_
    refine va_put (ci := 1) (v := .int (nI (pu + 1))) (ty := .int) (C := RX1) (T := TX1) (N := 8) hx hb hts in_X1 tyX1 tyX1_ok nmX1 hown hK hP hD hS 0 rfl rfl 5 (by decide) (hts _ q199) (fun _ h9 => h9) rfl (by decide +kernel) rfl rfl (Nat.le_of_ble_eq_true rfl) dX1_show_31 (fun H locs hP hD hS => ?_)
    have hP : va_P D vwCl (wM g bd cb n cd lf rt vr (pu + 1) ou (va_up vw (7 * s0 + pu) x0)) H := hP
    have hD : va_D A (wM g bd cb n cd lf rt vr (pu + 1) ou (va_up vw (7 * s0 + pu) x0)) := hD
    exact hret 34 ls H locs (pu + 1, va_up vw (7 * s0 + pu) x0) dX1_show_34 ⟨fun _ => ⟨rfl, rfl⟩, fun z => absurd h7 z⟩ hP hD hS
end
section
set_option maxRecDepth 100000
theorem var_J {v1 : Nat → Nat} {s0 i : Nat} (hJ : 1 ≤ i ∧ v1 0 = s0 ∧ ∀ v, 1 ≤ v → v < i → v1 v = 0) : 1 ≤ i + 1 ∧ (va_up v1 i 0) 0 = s0 ∧ ∀ v, 1 ≤ v → v < i + 1 → (va_up v1 i 0) v = 0 := by
  obtain ⟨h1, h2, h3⟩ := hJ
  refine ⟨by omega, by rw [va_up_ne _ _ (by omega)]; exact h2, fun v hv hv2 => ?_⟩
  by_cases q : v = i
  · subst q; rw [va_up_self]
  · rw [va_up_ne _ _ q]; exact h3 v hv (by omega)
set_option maxHeartbeats 4000000 in
/-- run(secret): its variables and its view are the program's -/
theorem cM_run (l : Launch) (D : va_G) (g : Nat) (bd : Nat → Nat) (cb : Nat → ClassId) (sz : Nat) (n : Nat) (cd : Nat → Nat) (lf rt : Nat → Int32) (vr : Nat → Nat) (pu : Nat) (ou vw : Nat → Nat) (s0 : Nat) (hV : VP cd n) (hn40 : n ≤ 40) (hs : s0 < 64) : cMv l yX1_run cX1_run 8 2 46 D (tM cb) (wM g bd cb n cd lf rt vr pu ou vw) sz [.ref g, .int (nI s0)] (fun (u : (Nat → Nat) × Nat × (Nat → Nat) × (Nat → Nat)) => (∀ v, v < 4 → u.1 v = (ic cd lf rt s0 n).1 v) ∧ u.2.2.1 = va_up ou s0 (ic cd lf rt s0 n).2.1 ∧ (∀ j, (j < 7 * s0 ∨ 7 * s0 + 7 ≤ j) → u.2.2.2 j = vw j) ∧ (∀ k, k < (ic cd lf rt s0 n).2.1 → u.2.2.2 (7 * s0 + k) = dg (ic cd lf rt s0 n).2.1 (ic cd lf rt s0 n).2.2.1 k)) (fun (u : (Nat → Nat) × Nat × (Nat → Nat) × (Nat → Nat)) => (wM g bd cb n cd lf rt u.1 u.2.1 u.2.2.1 u.2.2.2)) := by
  refine cMv.of (by decide) (Nat.le_of_ble_eq_true rfl) ?_
  intro p e R s m args below meth c A Q ls H locs ⟨hx, hb, hml, hown, hts, hR, hK, hA⟩ hP hD hS hl hret
  have hown : s.vm.findClass RX1 = some m.cls := hown
  have hl : lv_has ls 8 [(0, .ref g), (1, .int (nI s0))] := hl
  refine lv_aload_n hx hb dX1_run_0 rfl (lv_at hl 0 rfl) ?_
  refine va_get (ci := 1) (v := .ref (bd 3)) (C := RX1) (T := TX1) (N := 8) hx hb hts in_X1 hown hK hP 0 rfl rfl 4 (by decide) (hts _ q198) (fun _ h9 => h9) rfl dX1_run_1 ?_
  refine lv_iconst (v := nI 0) hx hb dX1_run_4 (by decide) ?_
  refine lv_iload_n hx hb dX1_run_5 rfl (lv_at hl 1 rfl) ?_
  refine xn_ast (k := 0) hx hb hK hP hD hS 4 3 rfl rfl (by decide) (by decide) dX1_run_6 (fun H locs hP hD hS => ?_)
  have hP : va_P D vwCl (wM g bd cb n cd lf rt (va_up vr 0 s0) pu ou vw) H := hP
  have hD : va_D A (wM g bd cb n cd lf rt (va_up vr 0 s0) pu ou vw) := hD
  refine lv_iconst (v := nI 1) hx hb dX1_run_7 (by decide) ?_
  refine lv_istore_n (lv' := [(2, .int (nI 1)), (0, .ref g), (1, .int (nI s0))]) hx hb dX1_run_8 rfl hl (by decide) rfl (fun ls hl => ?_)
  refine lp_w (nL := 8) (pc := 9) 4 (fun (u : (Nat → Nat)) => (wM g bd cb n cd lf rt u pu ou vw)) (fun (i : Nat) (u : (Nat → Nat)) => [(0, .ref g), (1, .int (nI s0)), (2, .int (nI i))]) (fun (i : Nat) (u : (Nat → Nat)) => 1 ≤ i ∧ u 0 = s0 ∧ ∀ v, 1 ≤ v → v < i → u v = 0) ?_ ?_ 1 (va_up vr 0 s0) _ _ _ (by omega) ⟨Nat.le_refl _, va_up_self _ _ _, fun v h1 h2 => absurd h2 (by omega)⟩ hP hD hS (lv_sub hl [1, 2, 0] rfl)
  · rintro v1 H locs ls hJ hP hD hS hl
    have hJ : 1 ≤ 4 ∧ v1 0 = s0 ∧ ∀ v, 1 ≤ v → v < 4 → v1 v = 0 := hJ
    have hP : va_P D vwCl (wM g bd cb n cd lf rt v1 pu ou vw) H := hP
    have hD : va_D A (wM g bd cb n cd lf rt v1 pu ou vw) := hD
    have hl : lv_has ls 8 [(0, .ref g), (1, .int (nI s0)), (2, .int (nI 4))] := hl
    refine lv_iload_n hx hb dX1_run_9 rfl (lv_at hl 2 rfl) ?_
    refine lv_iconst (v := nI 4) hx hb dX1_run_10 (by decide) ?_
    refine xn_ge_t (tgt := 27) hx hb dX1_run_11 (by decide) (by omega) (by omega) ?_
    refine lv_aload_n hx hb dX1_run_27 rfl (lv_at hl 0 rfl) ?_
    refine lv_iconst (v := nI 0) hx hb dX1_run_28 (by decide) ?_
    refine va_put (ci := 1) (v := .int (nI 0)) (ty := .int) (C := RX1) (T := TX1) (N := 8) hx hb hts in_X1 tyX1 tyX1_ok nmX1 hown hK hP hD hS 0 rfl rfl 5 (by decide) (hts _ q199) (fun _ h9 => h9) rfl (by decide +kernel) rfl rfl (Nat.le_of_ble_eq_true rfl) dX1_run_29 (fun H locs hP hD hS => ?_)
    have hP : va_P D vwCl (wM g bd cb n cd lf rt v1 0 ou vw) H := hP
    have hD : va_D A (wM g bd cb n cd lf rt v1 0 ou vw) := hD
    refine lv_iconst (v := nI 0) hx hb dX1_run_32 (by decide) ?_
    refine lv_istore_n (lv' := [(2, .int (nI 0)), (0, .ref g), (1, .int (nI s0))]) hx hb dX1_run_33 rfl hl (by decide) rfl (fun ls hl => ?_)
    refine lv_iconst (v := nI 0) hx hb dX1_run_34 (by decide) ?_
    refine lv_istore_n (lv' := [(3, .int (nI 0)), (2, .int (nI 0)), (0, .ref g), (1, .int (nI s0))]) hx hb dX1_run_35 rfl hl (by decide) rfl (fun ls hl => ?_)
    refine lp_w (nL := 8) (pc := 36) 40 (fun (u : Nat × (Nat → Nat) × Nat × (Nat → Nat)) => (wM g bd cb n cd lf rt u.2.1 u.2.2.1 ou u.2.2.2)) (fun (i : Nat) (u : Nat × (Nat → Nat) × Nat × (Nat → Nat)) => [(0, .ref g), (1, .int (nI s0)), (2, .int (nI u.1)), (3, .int (nI i))]) (fun (i : Nat) (u : Nat × (Nat → Nat) × Nat × (Nat → Nat)) => RI cd lf rt n s0 i u.1 vw u.2.1 u.2.2.1 u.2.2.2) ?_ ?_ 0 (0, v1, 0, vw) _ _ _ (by omega) (RI_0 hJ.2.1 hJ.2.2) hP hD hS (lv_sub hl [2, 3, 1, 0] rfl)
    · rintro ⟨a, vx, px, vy⟩ H locs ls hJ hP hD hS hl
      have hJ : RI cd lf rt n s0 40 a vw vx px vy := hJ
      have hP : va_P D vwCl (wM g bd cb n cd lf rt vx px ou vy) H := hP
      have hD : va_D A (wM g bd cb n cd lf rt vx px ou vy) := hD
      have hl : lv_has ls 8 [(0, .ref g), (1, .int (nI s0)), (2, .int (nI a)), (3, .int (nI 40))] := hl
      have han : a = n := by have h1 := hJ.1; have h2 := hJ.2.1; omega
      refine lv_iload_n hx hb dX1_run_36 rfl (lv_at hl 3 rfl) ?_
      refine lv_bipush (v := nI 40) hx hb dX1_run_37 (by decide) ?_
      refine xn_ge_t (tgt := 186) hx hb dX1_run_39 (by decide) (by omega) (by omega) ?_
      refine lv_aload_n hx hb dX1_run_186 rfl (lv_at hl 0 rfl) ?_
      refine va_get (ci := 1) (v := .ref (bd 4)) (C := RX1) (T := TX1) (N := 8) hx hb hts in_X1 hown hK hP 0 rfl rfl 6 (by decide) (hts _ q200) (fun _ h9 => h9) rfl dX1_run_187 ?_
      refine lv_iload_n hx hb dX1_run_190 rfl (lv_at hl 1 rfl) ?_
      refine lv_aload_n hx hb dX1_run_191 rfl (lv_at hl 0 rfl) ?_
      refine va_get (ci := 1) (v := .int (nI px)) (C := RX1) (T := TX1) (N := 8) hx hb hts in_X1 hown hK hP 0 rfl rfl 5 (by decide) (hts _ q199) (fun _ h9 => h9) rfl dX1_run_192 ?_
      refine xn_ast (k := s0) hx hb hK hP hD hS 5 4 rfl rfl hs (by decide) dX1_run_195 (fun H locs hP hD hS => ?_)
      have hP : va_P D vwCl (wM g bd cb n cd lf rt vx px (va_up ou s0 px) vy) H := hP
      have hD : va_D A (wM g bd cb n cd lf rt vx px (va_up ou s0 px) vy) := hD
      exact hret 196 ls H locs (vx, px, va_up ou s0 px, vy) dX1_run_196 (by obtain ⟨g1, g2, g3, g4⟩ := hJ.2.2.2; rw [han] at g1 g2 g4; exact ⟨g1, by rw [← g2], g3, by rw [← g2]; exact g4⟩) hP hD hS
    · rintro i ⟨a, vx, px, vy⟩ H locs ls hi hJ hP hD hS hl ih
      have hJ : RI cd lf rt n s0 i a vw vx px vy := hJ
      have hP : va_P D vwCl (wM g bd cb n cd lf rt vx px ou vy) H := hP
      have hD : va_D A (wM g bd cb n cd lf rt vx px ou vy) := hD
      have hl : lv_has ls 8 [(0, .ref g), (1, .int (nI s0)), (2, .int (nI a)), (3, .int (nI i))] := hl
      obtain ⟨hvx, hpx⟩ := RM_lt hJ.2.2.2 hs
      have ha1 := hJ.2.1
      have hml4 : ub (lf a) % 4 < 4 := Nat.mod_lt _ (by decide)
      have hmr4 : ub (rt a) % 4 < 4 := Nat.mod_lt _ (by decide)
      have hxl := hvx _ hml4
      have hyl := hvx _ hmr4
      refine lv_iload_n hx hb dX1_run_36 rfl (lv_at hl 3 rfl) ?_
      refine lv_bipush (v := nI 40) hx hb dX1_run_37 (by decide) ?_
      refine xn_ge_f (tgt := 186) hx hb dX1_run_39 (by decide) hi (by omega) ?_
      refine lv_iload_n hx hb dX1_run_42 rfl (lv_at hl 2 rfl) ?_
      refine lv_aload_n hx hb dX1_run_43 rfl (lv_at hl 0 rfl) ?_
      refine va_get (ci := 1) (v := .int (nI n)) (C := RX1) (T := TX1) (N := 8) hx hb hts in_X1 hown hK hP 0 rfl rfl 0 (by decide) (hts _ q194) (fun _ h9 => h9) rfl dX1_run_44 ?_
      refine xn_ge_b (tgt := 186) hx hb dX1_run_47 (by decide) (by omega) (by omega) (fun ha => ?_) (fun ha => ?_)
      · have han : a = n := by omega
        refine lv_aload_n hx hb dX1_run_186 rfl (lv_at hl 0 rfl) ?_
        refine va_get (ci := 1) (v := .ref (bd 4)) (C := RX1) (T := TX1) (N := 8) hx hb hts in_X1 hown hK hP 0 rfl rfl 6 (by decide) (hts _ q200) (fun _ h9 => h9) rfl dX1_run_187 ?_
        refine lv_iload_n hx hb dX1_run_190 rfl (lv_at hl 1 rfl) ?_
        refine lv_aload_n hx hb dX1_run_191 rfl (lv_at hl 0 rfl) ?_
        refine va_get (ci := 1) (v := .int (nI px)) (C := RX1) (T := TX1) (N := 8) hx hb hts in_X1 hown hK hP 0 rfl rfl 5 (by decide) (hts _ q199) (fun _ h9 => h9) rfl dX1_run_192 ?_
        refine xn_ast (k := s0) hx hb hK hP hD hS 5 4 rfl rfl hs (by decide) dX1_run_195 (fun H locs hP hD hS => ?_)
        have hP : va_P D vwCl (wM g bd cb n cd lf rt vx px (va_up ou s0 px) vy) H := hP
        have hD : va_D A (wM g bd cb n cd lf rt vx px (va_up ou s0 px) vy) := hD
        exact hret 196 ls H locs (vx, px, va_up ou s0 px, vy) dX1_run_196 (by obtain ⟨g1, g2, g3, g4⟩ := hJ.2.2.2; rw [han] at g1 g2 g4; exact ⟨g1, by rw [← g2], g3, by rw [← g2]; exact g4⟩) hP hD hS
      · have hv1 := (hV a ha).1
        refine lv_aload_n hx hb dX1_run_50 rfl (lv_at hl 0 rfl) ?_
        refine va_get (ci := 1) (v := .ref (bd 0)) (C := RX1) (T := TX1) (N := 8) hx hb hts in_X1 hown hK hP 0 rfl rfl 1 (by decide) (hts _ q195) (fun _ h9 => h9) rfl dX1_run_51 ?_
        refine lv_iload_n hx hb dX1_run_54 rfl (lv_at hl 2 rfl) ?_
        refine xn_ald (k := a) hx hb hK hP 1 0 rfl rfl (by omega) (by decide) dX1_run_55 ?_
        refine lv_istore (lv' := [(4, .int (nI (cd a))), (0, .ref g), (1, .int (nI s0)), (2, .int (nI a)), (3, .int (nI i))]) hx hb dX1_run_56 hl (by decide) rfl (fun ls hl => ?_)
        refine lv_aload_n hx hb dX1_run_58 rfl (lv_at hl 1 rfl) ?_
        refine va_get (ci := 1) (v := .ref (bd 3)) (C := RX1) (T := TX1) (N := 8) hx hb hts in_X1 hown hK hP 0 rfl rfl 4 (by decide) (hts _ q198) (fun _ h9 => h9) rfl dX1_run_59 ?_
        refine lv_aload_n hx hb dX1_run_62 rfl (lv_at hl 1 rfl) ?_
        refine va_get (ci := 1) (v := .ref (bd 1)) (C := RX1) (T := TX1) (N := 8) hx hb hts in_X1 hown hK hP 0 rfl rfl 2 (by decide) (hts _ q196) (fun _ h9 => h9) rfl dX1_run_63 ?_
        refine lv_iload_n hx hb dX1_run_66 rfl (lv_at hl 3 rfl) ?_
        refine xi_ald (k := a) hx hb hK hP 2 1 rfl rfl (by omega) (by decide) dX1_run_67 ?_
        refine lv_iconst (v := nI 3) hx hb dX1_run_68 (by decide) ?_
        refine xi_and 3 4 2 (by decide) (by decide) hx hb dX1_run_69 ?_
        refine xn_ald (k := (ub (lf a) % 4)) hx hb hK hP 4 3 rfl rfl (by omega) (by decide) dX1_run_70 ?_
        refine lv_istore (lv' := [(5, .int (nI (vx (ub (lf a) % 4)))), (4, .int (nI (cd a))), (0, .ref g), (1, .int (nI s0)), (2, .int (nI a)), (3, .int (nI i))]) hx hb dX1_run_71 hl (by decide) rfl (fun ls hl => ?_)
        refine lv_aload_n hx hb dX1_run_73 rfl (lv_at hl 2 rfl) ?_
        refine va_get (ci := 1) (v := .ref (bd 3)) (C := RX1) (T := TX1) (N := 8) hx hb hts in_X1 hown hK hP 0 rfl rfl 4 (by decide) (hts _ q198) (fun _ h9 => h9) rfl dX1_run_74 ?_
        refine lv_aload_n hx hb dX1_run_77 rfl (lv_at hl 2 rfl) ?_
        refine va_get (ci := 1) (v := .ref (bd 2)) (C := RX1) (T := TX1) (N := 8) hx hb hts in_X1 hown hK hP 0 rfl rfl 3 (by decide) (hts _ q197) (fun _ h9 => h9) rfl dX1_run_78 ?_
        refine lv_iload_n hx hb dX1_run_81 rfl (lv_at hl 4 rfl) ?_
        refine xi_ald (k := a) hx hb hK hP 3 2 rfl rfl (by omega) (by decide) dX1_run_82 ?_
        refine lv_iconst (v := nI 3) hx hb dX1_run_83 (by decide) ?_
        refine xi_and 3 4 2 (by decide) (by decide) hx hb dX1_run_84 ?_
        refine xn_ald (k := (ub (rt a) % 4)) hx hb hK hP 4 3 rfl rfl (by omega) (by decide) dX1_run_85 ?_
        refine lv_istore (lv' := [(6, .int (nI (vx (ub (rt a) % 4)))), (5, .int (nI (vx (ub (lf a) % 4)))), (4, .int (nI (cd a))), (0, .ref g), (1, .int (nI s0)), (2, .int (nI a)), (3, .int (nI i))]) hx hb dX1_run_86 hl (by decide) rfl (fun ls hl => ?_)
        refine lv_iload_n hx hb dX1_run_88 rfl (lv_at hl 5 rfl) ?_
        refine lv_iconst (v := nI 1) hx hb dX1_run_89 (by decide) ?_
        refine xi_add hx hb dX1_run_90 ?_
        refine lv_istore (lv' := [(7, .int (nI (a + 1))), (6, .int (nI (vx (ub (rt a) % 4)))), (5, .int (nI (vx (ub (lf a) % 4)))), (4, .int (nI (cd a))), (0, .ref g), (1, .int (nI s0)), (2, .int (nI a)), (3, .int (nI i))]) hx hb dX1_run_91 hl (by decide) rfl (fun ls hl => ?_)
        refine lv_iload hx hb dX1_run_93 (lv_at hl 3 rfl) ?_
        refine lv_bipush (v := nI 11) hx hb dX1_run_95 (by decide) ?_
        refine xn_gt_b (tgt := 128) hx hb dX1_run_97 (by decide) (by omega) (by omega) (fun k11 => ?_) (fun k11 => ?_)
        · refine lv_iload hx hb dX1_run_128 (lv_at hl 3 rfl) ?_
          refine lv_bipush (v := nI 12) hx hb dX1_run_130 (by decide) ?_
          refine xn_ne_b (tgt := 142) hx hb dX1_run_132 (by decide) (by omega) (by omega) (fun k12 => ?_) (fun k12 => ?_)
          · refine lv_iload hx hb dX1_run_142 (lv_at hl 3 rfl) ?_
            refine lv_bipush (v := nI 13) hx hb dX1_run_144 (by decide) ?_
            refine xn_ne_b (tgt := 162) hx hb dX1_run_146 (by decide) (by omega) (by omega) (fun k13 => ?_) (fun k13 => ?_)
            · refine lv_iload hx hb dX1_run_162 (lv_at hl 3 rfl) ?_
              refine lv_bipush (v := nI 14) hx hb dX1_run_164 (by decide) ?_
              refine xn_ne_b (tgt := 177) hx hb dX1_run_166 (by decide) (by omega) (by omega) (fun k14 => ?_) (fun k14 => ?_)
              · refine lv_iload hx hb dX1_run_177 (lv_at hl 0 rfl) ?_
                refine lv_istore_n (lv' := [(2, .int (nI (a + 1))), (7, .int (nI (a + 1))), (6, .int (nI (vx (ub (rt a) % 4)))), (5, .int (nI (vx (ub (lf a) % 4)))), (4, .int (nI (cd a))), (0, .ref g), (1, .int (nI s0)), (3, .int (nI i))]) hx hb dX1_run_179 rfl hl (by decide) rfl (fun ls hl => ?_)
                refine lv_iinc (v := nI (i + 1)) (lv' := [(3, .int (nI (i + 1))), (2, .int (nI (a + 1))), (7, .int (nI (a + 1))), (6, .int (nI (vx (ub (rt a) % 4)))), (5, .int (nI (vx (ub (lf a) % 4)))), (4, .int (nI (cd a))), (0, .ref g), (1, .int (nI s0))]) hx hb dX1_run_180 hl (k := 7) rfl (xi_inc1 _) (by decide) rfl (fun ls hl => ?_)
                refine lv_goto (tgt := 36) hx hb dX1_run_183 (by decide) ?_
                exact ih (a + 1, vx, px, vy) _ _ _ (RI_15 hJ hV ha (by omega)) hP hD hS (lv_sub hl [6, 7, 1, 0] rfl)
              · refine lv_aload_n hx hb dX1_run_169 rfl (lv_at hl 4 rfl) ?_
                refine lv_iload_n hx hb dX1_run_170 rfl (lv_at hl 6 rfl) ?_
                refine lv_iconst (v := nI 0) hx hb dX1_run_171 (by decide) ?_
                refine kv_i (n := 2) (As := [.int (nI a), .int (nI 0)]) (rest := []) ⟨hx, hb, hml, hown, hts⟩ (cM_behind l D g bd cb H.size n cd lf rt vx px ou vy a 0 hV hn40 ha (by decide)) (lw_V q258 q260 qs19 q24 q261) (by decide +kernel) ⟨by rw [hR.1]; decide, by rw [hR.2]; decide⟩ ⟨Nat.zero_le _, Nat.zero_le _⟩ hK hP hD hS hA (ci := 1) rfl rfl rfl rfl hl.1 rfl (Nat.le_of_ble_eq_true rfl) dX1_run_172 (fun r _u H locs hw hP hD hS => ?_)
                have hP : va_P D vwCl (wM g bd cb n cd lf rt vx px ou vy) H := hP
                have hD : va_D A (wM g bd cb n cd lf rt vx px ou vy) := hD
                obtain ⟨r0, rfl, hB⟩ := hw
                refine lv_istore (lv' := [(7, .int (nI r0)), (6, .int (nI (vx (ub (rt a) % 4)))), (5, .int (nI (vx (ub (lf a) % 4)))), (4, .int (nI (cd a))), (0, .ref g), (1, .int (nI s0)), (2, .int (nI a)), (3, .int (nI i))]) hx hb dX1_run_175 hl (by decide) rfl (fun ls hl => ?_)
                refine lv_iload hx hb dX1_run_177 (lv_at hl 0 rfl) ?_
                refine lv_istore_n (lv' := [(2, .int (nI r0)), (7, .int (nI r0)), (6, .int (nI (vx (ub (rt a) % 4)))), (5, .int (nI (vx (ub (lf a) % 4)))), (4, .int (nI (cd a))), (0, .ref g), (1, .int (nI s0)), (3, .int (nI i))]) hx hb dX1_run_179 rfl hl (by decide) rfl (fun ls hl => ?_)
                refine lv_iinc (v := nI (i + 1)) (lv' := [(3, .int (nI (i + 1))), (2, .int (nI r0)), (7, .int (nI r0)), (6, .int (nI (vx (ub (rt a) % 4)))), (5, .int (nI (vx (ub (lf a) % 4)))), (4, .int (nI (cd a))), (0, .ref g), (1, .int (nI s0))]) hx hb dX1_run_180 hl (k := 7) rfl (xi_inc1 _) (by decide) rfl (fun ls hl => ?_)
                refine lv_goto (tgt := 36) hx hb dX1_run_183 (by decide) ?_
                exact ih (r0, vx, px, vy) _ _ _ (RI_14 hJ hV ha k14 hB) hP hD hS (lv_sub hl [6, 7, 1, 0] rfl)
            · refine lv_iload hx hb dX1_run_149 (lv_at hl 2 rfl) ?_
              refine xn_ifne_b (tgt := 162) hx hb dX1_run_151 (by decide) (by omega) (fun x0 => ?_) (fun x0 => ?_)
              · refine lv_iload hx hb dX1_run_162 (lv_at hl 3 rfl) ?_
                refine lv_bipush (v := nI 14) hx hb dX1_run_164 (by decide) ?_
                refine xn_ne_b (tgt := 177) hx hb dX1_run_166 (by decide) (by omega) (by omega) (fun c166 => ?_) (fun c166 => absurd c166 (by omega))
                refine lv_iload hx hb dX1_run_177 (lv_at hl 0 rfl) ?_
                refine lv_istore_n (lv' := [(2, .int (nI (a + 1))), (7, .int (nI (a + 1))), (6, .int (nI (vx (ub (rt a) % 4)))), (5, .int (nI (vx (ub (lf a) % 4)))), (4, .int (nI (cd a))), (0, .ref g), (1, .int (nI s0)), (3, .int (nI i))]) hx hb dX1_run_179 rfl hl (by decide) rfl (fun ls hl => ?_)
                refine lv_iinc (v := nI (i + 1)) (lv' := [(3, .int (nI (i + 1))), (2, .int (nI (a + 1))), (7, .int (nI (a + 1))), (6, .int (nI (vx (ub (rt a) % 4)))), (5, .int (nI (vx (ub (lf a) % 4)))), (4, .int (nI (cd a))), (0, .ref g), (1, .int (nI s0))]) hx hb dX1_run_180 hl (k := 7) rfl (xi_inc1 _) (by decide) rfl (fun ls hl => ?_)
                refine lv_goto (tgt := 36) hx hb dX1_run_183 (by decide) ?_
                exact ih (a + 1, vx, px, vy) _ _ _ (RI_13y hJ ha k13 x0) hP hD hS (lv_sub hl [6, 7, 1, 0] rfl)
              · refine lv_aload_n hx hb dX1_run_154 rfl (lv_at hl 4 rfl) ?_
                refine lv_iload_n hx hb dX1_run_155 rfl (lv_at hl 6 rfl) ?_
                refine lv_iconst (v := nI 1) hx hb dX1_run_156 (by decide) ?_
                refine kv_i (n := 2) (As := [.int (nI a), .int (nI 1)]) (rest := []) ⟨hx, hb, hml, hown, hts⟩ (cM_behind l D g bd cb H.size n cd lf rt vx px ou vy a 1 hV hn40 ha (by decide)) (lw_V q258 q260 qs19 q24 q261) (by decide +kernel) ⟨by rw [hR.1]; decide, by rw [hR.2]; decide⟩ ⟨Nat.zero_le _, Nat.zero_le _⟩ hK hP hD hS hA (ci := 1) rfl rfl rfl rfl hl.1 rfl (Nat.le_of_ble_eq_true rfl) dX1_run_157 (fun r _u H locs hw hP hD hS => ?_)
                have hP : va_P D vwCl (wM g bd cb n cd lf rt vx px ou vy) H := hP
                have hD : va_D A (wM g bd cb n cd lf rt vx px ou vy) := hD
                obtain ⟨r0, rfl, hB⟩ := hw
                refine lv_istore (lv' := [(7, .int (nI r0)), (6, .int (nI (vx (ub (rt a) % 4)))), (5, .int (nI (vx (ub (lf a) % 4)))), (4, .int (nI (cd a))), (0, .ref g), (1, .int (nI s0)), (2, .int (nI a)), (3, .int (nI i))]) hx hb dX1_run_160 hl (by decide) rfl (fun ls hl => ?_)
                refine lv_iload hx hb dX1_run_162 (lv_at hl 3 rfl) ?_
                refine lv_bipush (v := nI 14) hx hb dX1_run_164 (by decide) ?_
                refine xn_ne_b (tgt := 177) hx hb dX1_run_166 (by decide) (by omega) (by omega) (fun c166 => ?_) (fun c166 => absurd c166 (by omega))
                refine lv_iload hx hb dX1_run_177 (lv_at hl 0 rfl) ?_
                refine lv_istore_n (lv' := [(2, .int (nI r0)), (7, .int (nI r0)), (6, .int (nI (vx (ub (rt a) % 4)))), (5, .int (nI (vx (ub (lf a) % 4)))), (4, .int (nI (cd a))), (0, .ref g), (1, .int (nI s0)), (3, .int (nI i))]) hx hb dX1_run_179 rfl hl (by decide) rfl (fun ls hl => ?_)
                refine lv_iinc (v := nI (i + 1)) (lv' := [(3, .int (nI (i + 1))), (2, .int (nI r0)), (7, .int (nI r0)), (6, .int (nI (vx (ub (rt a) % 4)))), (5, .int (nI (vx (ub (lf a) % 4)))), (4, .int (nI (cd a))), (0, .ref g), (1, .int (nI s0))]) hx hb dX1_run_180 hl (k := 7) rfl (xi_inc1 _) (by decide) rfl (fun ls hl => ?_)
                refine lv_goto (tgt := 36) hx hb dX1_run_183 (by decide) ?_
                exact ih (r0, vx, px, vy) _ _ _ (RI_13n hJ hV ha k13 x0 hB) hP hD hS (lv_sub hl [6, 7, 1, 0] rfl)
          · refine lv_aload_n hx hb dX1_run_135 rfl (lv_at hl 4 rfl) ?_
            refine lv_iload_n hx hb dX1_run_136 rfl (lv_at hl 5 rfl) ?_
            refine lv_iload hx hb dX1_run_137 (lv_at hl 2 rfl) ?_
            refine kv_v (n := 2) (As := [.int (nI s0), .int (nI (vx (ub (lf a) % 4)))]) (rest := []) ⟨hx, hb, hml, hown, hts⟩ (cM_show l D g bd cb H.size n cd lf rt vx px ou vy s0 (vx (ub (lf a) % 4)) hs hpx) (lw_V q254 q256 qs18 q24 q257) (by decide +kernel) ⟨by rw [hR.1]; decide, by rw [hR.2]; decide⟩ ⟨Nat.zero_le _, Nat.zero_le _⟩ hK hP hD hS hA (ci := 1) rfl rfl rfl rfl hl.1 rfl (Nat.le_of_ble_eq_true rfl) dX1_run_139 (fun ⟨p2, v2⟩ H locs hw hP hD hS => ?_)
            have hP : va_P D vwCl (wM g bd cb n cd lf rt vx p2 ou v2) H := hP
            have hD : va_D A (wM g bd cb n cd lf rt vx p2 ou v2) := hD
            refine lv_iload hx hb dX1_run_142 (lv_at hl 3 rfl) ?_
            refine lv_bipush (v := nI 13) hx hb dX1_run_144 (by decide) ?_
            refine xn_ne_b (tgt := 162) hx hb dX1_run_146 (by decide) (by omega) (by omega) (fun c146 => ?_) (fun c146 => absurd c146 (by omega))
            refine lv_iload hx hb dX1_run_162 (lv_at hl 3 rfl) ?_
            refine lv_bipush (v := nI 14) hx hb dX1_run_164 (by decide) ?_
            refine xn_ne_b (tgt := 177) hx hb dX1_run_166 (by decide) (by omega) (by omega) (fun c166 => ?_) (fun c166 => absurd c166 (by omega))
            refine lv_iload hx hb dX1_run_177 (lv_at hl 0 rfl) ?_
            refine lv_istore_n (lv' := [(2, .int (nI (a + 1))), (7, .int (nI (a + 1))), (6, .int (nI (vx (ub (rt a) % 4)))), (5, .int (nI (vx (ub (lf a) % 4)))), (4, .int (nI (cd a))), (0, .ref g), (1, .int (nI s0)), (3, .int (nI i))]) hx hb dX1_run_179 rfl hl (by decide) rfl (fun ls hl => ?_)
            refine lv_iinc (v := nI (i + 1)) (lv' := [(3, .int (nI (i + 1))), (2, .int (nI (a + 1))), (7, .int (nI (a + 1))), (6, .int (nI (vx (ub (rt a) % 4)))), (5, .int (nI (vx (ub (lf a) % 4)))), (4, .int (nI (cd a))), (0, .ref g), (1, .int (nI s0))]) hx hb dX1_run_180 hl (k := 7) rfl (xi_inc1 _) (by decide) rfl (fun ls hl => ?_)
            refine lv_goto (tgt := 36) hx hb dX1_run_183 (by decide) ?_
            exact ih (a + 1, vx, p2, v2) _ _ _ (RI_show hJ hs ha k12 hw) hP hD hS (lv_sub hl [6, 7, 1, 0] rfl)
        · refine lv_aload_n hx hb dX1_run_100 rfl (lv_at hl 4 rfl) ?_
          refine va_get (ci := 1) (v := .ref (bd 3)) (C := RX1) (T := TX1) (N := 8) hx hb hts in_X1 hown hK hP 0 rfl rfl 4 (by decide) (hts _ q198) (fun _ h9 => h9) rfl dX1_run_101 ?_
          refine lv_aload_n hx hb dX1_run_104 rfl (lv_at hl 4 rfl) ?_
          refine va_get (ci := 1) (v := .ref (bd 1)) (C := RX1) (T := TX1) (N := 8) hx hb hts in_X1 hown hK hP 0 rfl rfl 2 (by decide) (hts _ q196) (fun _ h9 => h9) rfl dX1_run_105 ?_
          refine lv_iload_n hx hb dX1_run_108 rfl (lv_at hl 6 rfl) ?_
          refine xi_ald (k := a) hx hb hK hP 2 1 rfl rfl (by omega) (by decide) dX1_run_109 ?_
          refine lv_iconst (v := nI 3) hx hb dX1_run_110 (by decide) ?_
          refine xi_and 3 4 2 (by decide) (by decide) hx hb dX1_run_111 ?_
          refine lv_iload hx hb dX1_run_112 (lv_at hl 3 rfl) ?_
          refine lv_iload hx hb dX1_run_114 (lv_at hl 2 rfl) ?_
          refine lv_iload hx hb dX1_run_116 (lv_at hl 1 rfl) ?_
          refine lv_aload_n hx hb dX1_run_118 rfl (lv_at hl 4 rfl) ?_
          refine va_get (ci := 1) (v := .ref (bd 2)) (C := RX1) (T := TX1) (N := 8) hx hb hts in_X1 hown hK hP 0 rfl rfl 3 (by decide) (hts _ q197) (fun _ h9 => h9) rfl dX1_run_119 ?_
          refine lv_iload_n hx hb dX1_run_122 rfl (lv_at hl 6 rfl) ?_
          refine xi_ald (k := a) hx hb hK hP 3 2 rfl rfl (by omega) (by decide) dX1_run_123 ?_
          refine ks_i (n := 4) (As := [.int (nI (cd a)), .int (nI (vx (ub (lf a) % 4))), .int (nI (vx (ub (rt a) % 4))), .int (rt a)]) (rest := [.int (nI (ub (lf a) % 4)), .ref (bd 3)]) ⟨hx, hb, hml, hown, hts⟩ (cM_worked l D H.size (cd a) (vx (ub (lf a) % 4)) (vx (ub (rt a) % 4)) (rt a) k11 hxl hyl) (lw_S q248 q249 q24 q250) (by decide +kernel) ⟨by rw [hR.1]; decide, by rw [hR.2]; decide⟩ ⟨Nat.zero_le _, Nat.zero_le _⟩ hK hP hD hS hA rfl hl.1 rfl (Nat.le_of_ble_eq_true rfl) dX1_run_124 (fun r H locs hw hP hD hS => ?_)
          have hw : r = nI (wrk (cd a) (vx (ub (lf a) % 4)) (vx (ub (rt a) % 4)) (rt a)) := hw
          subst hw
          refine xn_ast (k := (ub (lf a) % 4)) hx hb hK hP hD hS 4 3 rfl rfl (by omega) (by decide) dX1_run_127 (fun H locs hP hD hS => ?_)
          have hP : va_P D vwCl (wM g bd cb n cd lf rt (va_up vx (ub (lf a) % 4) (wrk (cd a) (vx (ub (lf a) % 4)) (vx (ub (rt a) % 4)) (rt a))) px ou vy) H := hP
          have hD : va_D A (wM g bd cb n cd lf rt (va_up vx (ub (lf a) % 4) (wrk (cd a) (vx (ub (lf a) % 4)) (vx (ub (rt a) % 4)) (rt a))) px ou vy) := hD
          refine lv_iload hx hb dX1_run_128 (lv_at hl 3 rfl) ?_
          refine lv_bipush (v := nI 12) hx hb dX1_run_130 (by decide) ?_
          refine xn_ne_b (tgt := 142) hx hb dX1_run_132 (by decide) (by omega) (by omega) (fun c132 => ?_) (fun c132 => absurd c132 (by omega))
          refine lv_iload hx hb dX1_run_142 (lv_at hl 3 rfl) ?_
          refine lv_bipush (v := nI 13) hx hb dX1_run_144 (by decide) ?_
          refine xn_ne_b (tgt := 162) hx hb dX1_run_146 (by decide) (by omega) (by omega) (fun c146 => ?_) (fun c146 => absurd c146 (by omega))
          refine lv_iload hx hb dX1_run_162 (lv_at hl 3 rfl) ?_
          refine lv_bipush (v := nI 14) hx hb dX1_run_164 (by decide) ?_
          refine xn_ne_b (tgt := 177) hx hb dX1_run_166 (by decide) (by omega) (by omega) (fun c166 => ?_) (fun c166 => absurd c166 (by omega))
          refine lv_iload hx hb dX1_run_177 (lv_at hl 0 rfl) ?_
          refine lv_istore_n (lv' := [(2, .int (nI (a + 1))), (7, .int (nI (a + 1))), (6, .int (nI (vx (ub (rt a) % 4)))), (5, .int (nI (vx (ub (lf a) % 4)))), (4, .int (nI (cd a))), (0, .ref g), (1, .int (nI s0)), (3, .int (nI i))]) hx hb dX1_run_179 rfl hl (by decide) rfl (fun ls hl => ?_)
          refine lv_iinc (v := nI (i + 1)) (lv' := [(3, .int (nI (i + 1))), (2, .int (nI (a + 1))), (7, .int (nI (a + 1))), (6, .int (nI (vx (ub (rt a) % 4)))), (5, .int (nI (vx (ub (lf a) % 4)))), (4, .int (nI (cd a))), (0, .ref g), (1, .int (nI s0))]) hx hb dX1_run_180 hl (k := 7) rfl (xi_inc1 _) (by decide) rfl (fun ls hl => ?_)
          refine lv_goto (tgt := 36) hx hb dX1_run_183 (by decide) ?_
          exact ih (a + 1, va_up vx (ub (lf a) % 4) (wrk (cd a) (vx (ub (lf a) % 4)) (vx (ub (rt a) % 4)) (rt a)), px, vy) _ _ _ (RI_comp hJ ha k11) hP hD hS (lv_sub hl [6, 7, 1, 0] rfl)
  · rintro i v1 H locs ls hi hJ hP hD hS hl ih
    have hJ : 1 ≤ i ∧ v1 0 = s0 ∧ ∀ v, 1 ≤ v → v < i → v1 v = 0 := hJ
    have hP : va_P D vwCl (wM g bd cb n cd lf rt v1 pu ou vw) H := hP
    have hD : va_D A (wM g bd cb n cd lf rt v1 pu ou vw) := hD
    have hl : lv_has ls 8 [(0, .ref g), (1, .int (nI s0)), (2, .int (nI i))] := hl
    refine lv_iload_n hx hb dX1_run_9 rfl (lv_at hl 2 rfl) ?_
    refine lv_iconst (v := nI 4) hx hb dX1_run_10 (by decide) ?_
    refine xn_ge_f (tgt := 27) hx hb dX1_run_11 (by decide) hi (by omega) ?_
    refine lv_aload_n hx hb dX1_run_14 rfl (lv_at hl 0 rfl) ?_
    refine va_get (ci := 1) (v := .ref (bd 3)) (C := RX1) (T := TX1) (N := 8) hx hb hts in_X1 hown hK hP 0 rfl rfl 4 (by decide) (hts _ q198) (fun _ h9 => h9) rfl dX1_run_15 ?_
    refine lv_iload_n hx hb dX1_run_18 rfl (lv_at hl 2 rfl) ?_
    refine lv_iconst (v := nI 0) hx hb dX1_run_19 (by decide) ?_
    refine xn_ast (k := i) hx hb hK hP hD hS 4 3 rfl rfl (by omega) (by decide) dX1_run_20 (fun H locs hP hD hS => ?_)
    have hP : va_P D vwCl (wM g bd cb n cd lf rt (va_up v1 i 0) pu ou vw) H := hP
    have hD : va_D A (wM g bd cb n cd lf rt (va_up v1 i 0) pu ou vw) := hD
    refine lv_iinc (v := nI (i + 1)) (lv' := [(2, .int (nI (i + 1))), (0, .ref g), (1, .int (nI s0))]) hx hb dX1_run_21 hl (k := 2) rfl (xi_inc1 _) (by decide) rfl (fun ls hl => ?_)
    refine lv_goto (tgt := 9) hx hb dX1_run_24 (by decide) ?_
    exact ih (va_up v1 i 0) _ _ _ (var_J hJ) hP hD hS (lv_sub hl [1, 2, 0] rfl)
set_option maxHeartbeats 4000000 in
/-- runAll() -/
theorem cM_runAll (l : Launch) (D : va_G) (g : Nat) (bd : Nat → Nat) (cb : Nat → ClassId) (sz : Nat) (n : Nat) (cd : Nat → Nat) (lf rt : Nat → Int32) (vr : Nat → Nat) (pu : Nat) (ou vw : Nat → Nat)  (hV : VP cd n) (hn40 : n ≤ 40) : cMv l yX1_runAll cX1_runAll 2 3 73 D (tM cb) (wM g bd cb n cd lf rt vr pu ou vw) sz [.ref g] (fun (u : (Nat → Nat) × Nat × (Nat → Nat) × (Nat → Nat)) => AM cd lf rt n 64 u.2.2.1 u.2.2.2) (fun (u : (Nat → Nat) × Nat × (Nat → Nat) × (Nat → Nat)) => (wM g bd cb n cd lf rt u.1 u.2.1 u.2.2.1 u.2.2.2)) := by
  refine cMv.of (by decide) (Nat.le_of_ble_eq_true rfl) ?_
  intro p e R s m args below meth c A Q ls H locs ⟨hx, hb, hml, hown, hts, hR, hK, hA⟩ hP hD hS hl hret
  have hown : s.vm.findClass RX1 = some m.cls := hown
  have hl : lv_has ls 2 [(0, .ref g)] := hl
  refine lv_iconst (v := nI 0) hx hb dX1_runAll_0 (by decide) ?_
  refine lv_istore_n (lv' := [(1, .int (nI 0)), (0, .ref g)]) hx hb dX1_runAll_1 rfl hl (by decide) rfl (fun ls hl => ?_)
  refine lp_w (nL := 2) (pc := 2) 64 (fun (u : (Nat → Nat) × Nat × (Nat → Nat) × (Nat → Nat)) => (wM g bd cb n cd lf rt u.1 u.2.1 u.2.2.1 u.2.2.2)) (fun (i : Nat) (u : (Nat → Nat) × Nat × (Nat → Nat) × (Nat → Nat)) => [(0, .ref g), (1, .int (nI i))]) (fun (i : Nat) (u : (Nat → Nat) × Nat × (Nat → Nat) × (Nat → Nat)) => AM cd lf rt n i u.2.2.1 u.2.2.2) ?_ ?_ 0 (vr, pu, ou, vw) _ _ _ (by omega) (fun s1 h1 => absurd h1 (by omega)) hP hD hS (lv_sub hl [1, 0] rfl)
  · rintro ⟨vx, px, ox, vy⟩ H locs ls hJ hP hD hS hl
    have hJ : AM cd lf rt n 64 ox vy := hJ
    have hP : va_P D vwCl (wM g bd cb n cd lf rt vx px ox vy) H := hP
    have hD : va_D A (wM g bd cb n cd lf rt vx px ox vy) := hD
    have hl : lv_has ls 2 [(0, .ref g), (1, .int (nI 64))] := hl
    refine lv_iload_n hx hb dX1_runAll_2 rfl (lv_at hl 1 rfl) ?_
    refine lv_bipush (v := nI 64) hx hb dX1_runAll_3 (by decide) ?_
    refine xn_ge_t (tgt := 19) hx hb dX1_runAll_5 (by decide) (by omega) (by omega) ?_
    exact hret 19 ls H locs (vx, px, ox, vy) dX1_runAll_19 hJ hP hD hS
  · rintro i ⟨vx, px, ox, vy⟩ H locs ls hi hJ hP hD hS hl ih
    have hJ : AM cd lf rt n i ox vy := hJ
    have hP : va_P D vwCl (wM g bd cb n cd lf rt vx px ox vy) H := hP
    have hD : va_D A (wM g bd cb n cd lf rt vx px ox vy) := hD
    have hl : lv_has ls 2 [(0, .ref g), (1, .int (nI i))] := hl
    refine lv_iload_n hx hb dX1_runAll_2 rfl (lv_at hl 1 rfl) ?_
    refine lv_bipush (v := nI 64) hx hb dX1_runAll_3 (by decide) ?_
    refine xn_ge_f (tgt := 19) hx hb dX1_runAll_5 (by decide) hi (by omega) ?_
    refine lv_aload_n hx hb dX1_runAll_8 rfl (lv_at hl 0 rfl) ?_
    refine lv_iload_n hx hb dX1_runAll_9 rfl (lv_at hl 1 rfl) ?_
    refine kv_v (n := 1) (As := [.int (nI i)]) (rest := []) ⟨hx, hb, hml, hown, hts⟩ (cM_run l D g bd cb H.size n cd lf rt vx px ox vy i hV hn40 hi) (lw_V q244 q246 qs17 q24 q247) (by decide +kernel) ⟨by rw [hR.1]; decide, by rw [hR.2]; decide⟩ ⟨Nat.zero_le _, Nat.zero_le _⟩ hK hP hD hS hA (ci := 1) rfl rfl rfl rfl hl.1 rfl (Nat.le_of_ble_eq_true rfl) dX1_runAll_10 (fun ⟨v2, p2, o2, y2⟩ H locs hw hP hD hS => ?_)
    have hP : va_P D vwCl (wM g bd cb n cd lf rt v2 p2 o2 y2) H := hP
    have hD : va_D A (wM g bd cb n cd lf rt v2 p2 o2 y2) := hD
    obtain ⟨-, e2, e3, e4⟩ := hw
    have e2 : o2 = va_up ox i (ic cd lf rt i n).2.1 := e2
    refine lv_iinc (v := nI (i + 1)) (lv' := [(1, .int (nI (i + 1))), (0, .ref g)]) hx hb dX1_runAll_13 hl (k := 1) rfl (xi_inc1 _) (by decide) rfl (fun ls hl => ?_)
    refine lv_goto (tgt := 2) hx hb dX1_runAll_16 (by decide) ?_
    exact ih (v2, p2, o2, y2) _ _ _ (by rw [e2]; exact AM_next hi hJ e3 e4) hP hD hS (lv_sub hl [1, 0] rfl)
theorem kI_ne {cd : Nat → Nat} {lf rt : Nat → Int32} {n s0 t0 : Nat} (hc : (ic cd lf rt s0 n).2.1 = (ic cd lf rt t0 n).2.1) (h : ¬ (ic cd lf rt s0 n).2.2.1 = (ic cd lf rt t0 n).2.2.1) : kI cd lf rt n s0 t0 = false := by
  unfold kI
  rw [decide_eq_false h, Bool.and_false]
set_option maxHeartbeats 4000000 in
/-- same(s, t) -/
theorem cM_same (l : Launch) (D : va_G) (g : Nat) (bd : Nat → Nat) (cb : Nat → ClassId) (sz : Nat) (n : Nat) (cd : Nat → Nat) (lf rt : Nat → Int32) (vr : Nat → Nat) (pu : Nat) (ou vw : Nat → Nat) (s0 t0 : Nat) (hA2 : AM cd lf rt n 64 ou vw) (hs : s0 < 64) (ht : t0 < 64) : cMi l yX1_same cX1_same 4 .boolean 0 0 D (tM cb) (wM g bd cb n cd lf rt vr pu ou vw) sz [.ref g, .int (nI s0), .int (nI t0)] (fun (r : Int32) (u : Unit) => r = nI (kI cd lf rt n s0 t0).toNat) (fun (u : Unit) => (wM g bd cb n cd lf rt vr pu ou vw)) := by
  refine cMi.of (by decide) (Nat.le_of_ble_eq_true rfl) ?_
  intro p e R s m args below meth c A Q ls H locs ⟨hx, hb, hml, hown, hts, hR, hK, hA⟩ hP hD hS hl hret
  have hown : s.vm.findClass RX1 = some m.cls := hown
  have hl : lv_has ls 4 [(0, .ref g), (1, .int (nI s0)), (2, .int (nI t0))] := hl
  obtain ⟨hos, hvs⟩ := hA2 s0 hs
  obtain ⟨hot, hvt⟩ := hA2 t0 ht
  have hcs := (ic_lt cd lf rt hs n).2.1
  have hct := (ic_lt cd lf rt ht n).2.1
  have hsv : ∀ k, k < (ic cd lf rt s0 n).2.1 → vw (7 * s0 + k) < 256 := fun k hk => by rw [hvs k hk]; exact Nat.mod_lt _ (by decide)
  have htv : ∀ k, k < (ic cd lf rt t0 n).2.1 → vw (7 * t0 + k) < 256 := fun k hk => by rw [hvt k hk]; exact Nat.mod_lt _ (by decide)
  refine lv_aload_n hx hb dX1_same_0 rfl (lv_at hl 0 rfl) ?_
  refine va_get (ci := 1) (v := .ref (bd 4)) (C := RX1) (T := TX1) (N := 8) hx hb hts in_X1 hown hK hP 0 rfl rfl 6 (by decide) (hts _ q200) (fun _ h9 => h9) rfl dX1_same_1 ?_
  refine lv_iload_n hx hb dX1_same_4 rfl (lv_at hl 1 rfl) ?_
  refine xn_ald (k := s0) hx hb hK hP 5 4 rfl rfl (by omega) (by decide) dX1_same_5 ?_
  refine lv_aload_n hx hb dX1_same_6 rfl (lv_at hl 0 rfl) ?_
  refine va_get (ci := 1) (v := .ref (bd 4)) (C := RX1) (T := TX1) (N := 8) hx hb hts in_X1 hown hK hP 0 rfl rfl 6 (by decide) (hts _ q200) (fun _ h9 => h9) rfl dX1_same_7 ?_
  refine lv_iload_n hx hb dX1_same_10 rfl (lv_at hl 2 rfl) ?_
  refine xn_ald (k := t0) hx hb hK hP 5 4 rfl rfl (by omega) (by decide) dX1_same_11 ?_
  refine xn_eq_b (tgt := 17) hx hb dX1_same_12 (by decide) (by omega) (by omega) (fun h1 => ?_) (fun h1 => ?_)
  · refine lv_iconst (v := nI 0) hx hb dX1_same_17 (by decide) ?_
    refine lv_istore_n (lv' := [(3, .int (nI 0)), (0, .ref g), (1, .int (nI s0)), (2, .int (nI t0))]) hx hb dX1_same_18 rfl hl (by decide) rfl (fun ls hl => ?_)
    have hce : (ic cd lf rt s0 n).2.1 = (ic cd lf rt t0 n).2.1 := by omega
    refine lp_w (nL := 4) (pc := 19) (ic cd lf rt s0 n).2.1 (fun (u : Unit) => (wM g bd cb n cd lf rt vr pu ou vw)) (fun (i : Nat) (u : Unit) => [(0, .ref g), (1, .int (nI s0)), (2, .int (nI t0)), (3, .int (nI i))]) (fun (i : Nat) (u : Unit) => ∀ k, k < i → vw (7 * s0 + k) = vw (7 * t0 + k)) ?_ ?_ 0 (()) _ _ _ (by omega) (fun k hk => absurd hk (by omega)) hP hD hS (lv_sub hl [1, 2, 3, 0] rfl)
    · rintro _ H locs ls hJ hP hD hS hl
      have hJ : ∀ k, k < (ic cd lf rt s0 n).2.1 → vw (7 * s0 + k) = vw (7 * t0 + k) := hJ
      have hP : va_P D vwCl (wM g bd cb n cd lf rt vr pu ou vw) H := hP
      have hD : va_D A (wM g bd cb n cd lf rt vr pu ou vw) := hD
      have hl : lv_has ls 4 [(0, .ref g), (1, .int (nI s0)), (2, .int (nI t0)), (3, .int (nI ((ic cd lf rt s0 n).2.1)))] := hl
      refine lv_iload_n hx hb dX1_same_19 rfl (lv_at hl 3 rfl) ?_
      refine lv_aload_n hx hb dX1_same_20 rfl (lv_at hl 0 rfl) ?_
      refine va_get (ci := 1) (v := .ref (bd 4)) (C := RX1) (T := TX1) (N := 8) hx hb hts in_X1 hown hK hP 0 rfl rfl 6 (by decide) (hts _ q200) (fun _ h9 => h9) rfl dX1_same_21 ?_
      refine lv_iload_n hx hb dX1_same_24 rfl (lv_at hl 1 rfl) ?_
      refine xn_ald (k := s0) hx hb hK hP 5 4 rfl rfl (by omega) (by decide) dX1_same_25 ?_
      refine xn_ge_t (tgt := 62) hx hb dX1_same_26 (by decide) (by omega) (by omega) ?_
      refine lv_iconst (v := nI 1) hx hb dX1_same_62 (by decide) ?_
      exact hret 63 ls H locs (nI 1) () dX1_same_63 rfl (by rw [AM_kI hs ht hce (fun k hk => by rw [← hvs k hk, ← hvt k (by omega)]; exact hJ k hk)]; rfl) hP hD hS
    · rintro i _ H locs ls hi hJ hP hD hS hl ih
      have hJ : ∀ k, k < i → vw (7 * s0 + k) = vw (7 * t0 + k) := hJ
      have hP : va_P D vwCl (wM g bd cb n cd lf rt vr pu ou vw) H := hP
      have hD : va_D A (wM g bd cb n cd lf rt vr pu ou vw) := hD
      have hl : lv_has ls 4 [(0, .ref g), (1, .int (nI s0)), (2, .int (nI t0)), (3, .int (nI i))] := hl
      have hl1 := hsv i hi
      have hl2 := htv i (by omega)
      refine lv_iload_n hx hb dX1_same_19 rfl (lv_at hl 3 rfl) ?_
      refine lv_aload_n hx hb dX1_same_20 rfl (lv_at hl 0 rfl) ?_
      refine va_get (ci := 1) (v := .ref (bd 4)) (C := RX1) (T := TX1) (N := 8) hx hb hts in_X1 hown hK hP 0 rfl rfl 6 (by decide) (hts _ q200) (fun _ h9 => h9) rfl dX1_same_21 ?_
      refine lv_iload_n hx hb dX1_same_24 rfl (lv_at hl 1 rfl) ?_
      refine xn_ald (k := s0) hx hb hK hP 5 4 rfl rfl (by omega) (by decide) dX1_same_25 ?_
      refine xn_ge_f (tgt := 62) hx hb dX1_same_26 (by decide) (by omega) (by omega) ?_
      refine lv_aload_n hx hb dX1_same_29 rfl (lv_at hl 0 rfl) ?_
      refine va_get (ci := 1) (v := .ref (bd 5)) (C := RX1) (T := TX1) (N := 8) hx hb hts in_X1 hown hK hP 0 rfl rfl 7 (by decide) (hts _ q201) (fun _ h9 => h9) rfl dX1_same_30 ?_
      refine lv_bipush (v := nI 7) hx hb dX1_same_33 (by decide) ?_
      refine lv_iload_n hx hb dX1_same_35 rfl (lv_at hl 1 rfl) ?_
      refine xi_mul hx hb dX1_same_36 ?_
      refine lv_iload_n hx hb dX1_same_37 rfl (lv_at hl 3 rfl) ?_
      refine xi_add hx hb dX1_same_38 ?_
      refine xn_ald (k := (7 * s0 + i)) hx hb hK hP 6 5 rfl rfl (by omega) (by decide) dX1_same_39 ?_
      refine lv_aload_n hx hb dX1_same_40 rfl (lv_at hl 0 rfl) ?_
      refine va_get (ci := 1) (v := .ref (bd 5)) (C := RX1) (T := TX1) (N := 8) hx hb hts in_X1 hown hK hP 0 rfl rfl 7 (by decide) (hts _ q201) (fun _ h9 => h9) rfl dX1_same_41 ?_
      refine lv_bipush (v := nI 7) hx hb dX1_same_44 (by decide) ?_
      refine lv_iload_n hx hb dX1_same_46 rfl (lv_at hl 2 rfl) ?_
      refine xi_mul hx hb dX1_same_47 ?_
      refine lv_iload_n hx hb dX1_same_48 rfl (lv_at hl 3 rfl) ?_
      refine xi_add hx hb dX1_same_49 ?_
      refine xn_ald (k := (7 * t0 + i)) hx hb hK hP 6 5 rfl rfl (by omega) (by decide) dX1_same_50 ?_
      refine xn_eq_b (tgt := 56) hx hb dX1_same_51 (by decide) (by omega) (by omega) (fun h2 => ?_) (fun h2 => ?_)
      · refine lv_iinc (v := nI (i + 1)) (lv' := [(3, .int (nI (i + 1))), (0, .ref g), (1, .int (nI s0)), (2, .int (nI t0))]) hx hb dX1_same_56 hl (k := 3) rfl (xi_inc1 _) (by decide) rfl (fun ls hl => ?_)
        refine lv_goto (tgt := 19) hx hb dX1_same_59 (by decide) ?_
        exact ih (()) _ _ _ (lt_s (p := fun k => vw (7 * s0 + k) = vw (7 * t0 + k)) hJ h2) hP hD hS (lv_sub hl [1, 2, 3, 0] rfl)
      · refine lv_iconst (v := nI 0) hx hb dX1_same_54 (by decide) ?_
        exact hret 55 ls H locs (nI 0) () dX1_same_55 rfl (by rw [show kI cd lf rt n s0 t0 = false from kI_ne hce (fun z => h2 (by rw [hvs i hi, hvt i (by omega), z, hce]))]; rfl) hP hD hS
  · refine lv_iconst (v := nI 0) hx hb dX1_same_15 (by decide) ?_
    exact hret 16 ls H locs (nI 0) () dX1_same_16 rfl (by rw [show kI cd lf rt n s0 t0 = false by unfold kI; rw [decide_eq_false (by rw [← hos, ← hot]; exact h1)]; rfl]; rfl) hP hD hS
set_option maxHeartbeats 4000000 in
/-- different(from, to) -/
theorem cM_different (l : Launch) (D : va_G) (g : Nat) (bd : Nat → Nat) (cb : Nat → ClassId) (sz : Nat) (n : Nat) (cd : Nat → Nat) (lf rt : Nat → Int32) (vr : Nat → Nat) (pu : Nat) (ou vw : Nat → Nat) (lo up : Nat) (hA2 : AM cd lf rt n 64 ou vw) (hlh : lo ≤ up) (hh : up < 64) : cMi l yX1_different cX1_different 7 .int 1 23 D (tM cb) (wM g bd cb n cd lf rt vr pu ou vw) sz [.ref g, .int (nI lo), .int (nI up)] (fun (r : Int32) (u : Unit) => r = nI (dif (kI cd lf rt n) lo (up + 1 - lo))) (fun (u : Unit) => (wM g bd cb n cd lf rt vr pu ou vw)) := by
  refine cMi.of (by decide) (Nat.le_of_ble_eq_true rfl) ?_
  intro p e R s m args below meth c A Q ls H locs ⟨hx, hb, hml, hown, hts, hR, hK, hA⟩ hP hD hS hl hret
  have hown : s.vm.findClass RX1 = some m.cls := hown
  have hl : lv_has ls 7 [(0, .ref g), (1, .int (nI lo)), (2, .int (nI up))] := hl
  refine lv_iconst (v := nI 0) hx hb dX1_different_0 (by decide) ?_
  refine xt_i (y := nI (dif (kI cd lf rt n) lo (lo - lo))) (by rw [Nat.sub_self]; rfl) ?_
  refine lv_istore_n (lv' := [(3, .int (nI (dif (kI cd lf rt n) lo (lo - lo)))), (0, .ref g), (1, .int (nI lo)), (2, .int (nI up))]) hx hb dX1_different_1 rfl hl (by decide) rfl (fun ls hl => ?_)
  refine lv_iload_n hx hb dX1_different_2 rfl (lv_at hl 2 rfl) ?_
  refine lv_istore (lv' := [(4, .int (nI lo)), (3, .int (nI (dif (kI cd lf rt n) lo (lo - lo)))), (0, .ref g), (1, .int (nI lo)), (2, .int (nI up))]) hx hb dX1_different_3 hl (by decide) rfl (fun ls hl => ?_)
  refine lp_w (nL := 7) (pc := 5) (up + 1) (fun (u : Unit) => (wM g bd cb n cd lf rt vr pu ou vw)) (fun (i : Nat) (u : Unit) => [(0, .ref g), (1, .int (nI lo)), (2, .int (nI up)), (3, .int (nI (dif (kI cd lf rt n) lo (i - lo)))), (4, .int (nI i))]) (fun (i : Nat) (u : Unit) => lo ≤ i) ?_ ?_ lo (()) _ _ _ (by omega) (Nat.le_refl _) hP hD hS (lv_sub hl [2, 3, 4, 1, 0] rfl)
  · rintro _ H locs ls hJ hP hD hS hl
    have hJ : lo ≤ (up + 1) := hJ
    have hP : va_P D vwCl (wM g bd cb n cd lf rt vr pu ou vw) H := hP
    have hD : va_D A (wM g bd cb n cd lf rt vr pu ou vw) := hD
    have hl : lv_has ls 7 [(0, .ref g), (1, .int (nI lo)), (2, .int (nI up)), (3, .int (nI (dif (kI cd lf rt n) lo ((up + 1) - lo)))), (4, .int (nI (up + 1)))] := hl
    have hdl := dif_le (kI cd lf rt n) lo (up + 1 - lo)
    refine lv_iload hx hb dX1_different_5 (lv_at hl 4 rfl) ?_
    refine lv_iload_n hx hb dX1_different_7 rfl (lv_at hl 2 rfl) ?_
    refine xn_gt_b (tgt := 58) hx hb dX1_different_8 (by decide) (by omega) (by omega) (fun c8 => ?_) (fun c8 => absurd c8 (by omega))
    refine lv_iload_n hx hb dX1_different_58 rfl (lv_at hl 3 rfl) ?_
    exact hret 59 ls H locs (nI (dif (kI cd lf rt n) lo ((up + 1) - lo))) () dX1_different_59 rfl rfl hP hD hS
  · rintro i _ H locs ls hi hJ hP hD hS hl ih
    have hJ : lo ≤ i := hJ
    have hP : va_P D vwCl (wM g bd cb n cd lf rt vr pu ou vw) H := hP
    have hD : va_D A (wM g bd cb n cd lf rt vr pu ou vw) := hD
    have hl : lv_has ls 7 [(0, .ref g), (1, .int (nI lo)), (2, .int (nI up)), (3, .int (nI (dif (kI cd lf rt n) lo (i - lo)))), (4, .int (nI i))] := hl
    refine lv_iload hx hb dX1_different_5 (lv_at hl 4 rfl) ?_
    refine lv_iload_n hx hb dX1_different_7 rfl (lv_at hl 2 rfl) ?_
    refine xn_gt_b (tgt := 58) hx hb dX1_different_8 (by decide) (by omega) (by omega) (fun c8 => absurd c8 (by omega)) (fun c8 => ?_)
    refine lv_iconst (v := nI 1) hx hb dX1_different_11 (by decide) ?_
    refine xt_i (y := nI ((nwk (kI cd lf rt n) lo i (lo - lo)).toNat)) (by rw [Nat.sub_self]; rfl) ?_
    refine lv_istore (lv' := [(5, .int (nI ((nwk (kI cd lf rt n) lo i (lo - lo)).toNat))), (0, .ref g), (1, .int (nI lo)), (2, .int (nI up)), (3, .int (nI (dif (kI cd lf rt n) lo (i - lo)))), (4, .int (nI i))]) hx hb dX1_different_12 hl (by decide) rfl (fun ls hl => ?_)
    refine lv_iload_n hx hb dX1_different_14 rfl (lv_at hl 2 rfl) ?_
    refine lv_istore (lv' := [(6, .int (nI lo)), (5, .int (nI ((nwk (kI cd lf rt n) lo i (lo - lo)).toNat))), (0, .ref g), (1, .int (nI lo)), (2, .int (nI up)), (3, .int (nI (dif (kI cd lf rt n) lo (i - lo)))), (4, .int (nI i))]) hx hb dX1_different_15 hl (by decide) rfl (fun ls hl => ?_)
    refine lp_w (nL := 7) (pc := 17) i (fun (u : Unit) => (wM g bd cb n cd lf rt vr pu ou vw)) (fun (j : Nat) (u : Unit) => [(0, .ref g), (1, .int (nI lo)), (2, .int (nI up)), (3, .int (nI (dif (kI cd lf rt n) lo (i - lo)))), (4, .int (nI i)), (5, .int (nI ((nwk (kI cd lf rt n) lo i (j - lo)).toNat))), (6, .int (nI j))]) (fun (j : Nat) (u : Unit) => lo ≤ j) ?_ ?_ lo (()) _ _ _ (by omega) (Nat.le_refl _) hP hD hS (lv_sub hl [2, 3, 4, 5, 6, 1, 0] rfl)
    · rintro _ H locs ls hJ2 hP hD hS hl
      have hJ2 : lo ≤ i := hJ2
      have hP : va_P D vwCl (wM g bd cb n cd lf rt vr pu ou vw) H := hP
      have hD : va_D A (wM g bd cb n cd lf rt vr pu ou vw) := hD
      have hl : lv_has ls 7 [(0, .ref g), (1, .int (nI lo)), (2, .int (nI up)), (3, .int (nI (dif (kI cd lf rt n) lo (i - lo)))), (4, .int (nI i)), (5, .int (nI ((nwk (kI cd lf rt n) lo i (i - lo)).toNat))), (6, .int (nI i))] := hl
      have hb1 := bt1 (nwk (kI cd lf rt n) lo i (i - lo))
      refine lv_iload hx hb dX1_different_17 (lv_at hl 6 rfl) ?_
      refine lv_iload hx hb dX1_different_19 (lv_at hl 4 rfl) ?_
      refine xn_ge_t (tgt := 44) hx hb dX1_different_21 (by decide) (by omega) (by omega) ?_
      refine lv_iload hx hb dX1_different_44 (lv_at hl 5 rfl) ?_
      refine xn_ifeq_b (tgt := 52) hx hb dX1_different_46 (by decide) (by omega) (fun f0 => ?_) (fun f0 => ?_)
      · rw [show dif (kI cd lf rt n) lo (i - lo) = dif (kI cd lf rt n) lo (i + 1 - lo) by rw [show i + 1 - lo = (i - lo) + 1 by omega]; simp only [dif]; rw [show lo + (i - lo) = i by omega]; unfold nw; rw [tn0 f0]; rfl] at hl
        refine lv_iinc (v := nI (i + 1)) (lv' := [(4, .int (nI (i + 1))), (0, .ref g), (1, .int (nI lo)), (2, .int (nI up)), (3, .int (nI (dif (kI cd lf rt n) lo (i + 1 - lo)))), (5, .int (nI ((nwk (kI cd lf rt n) lo i (i - lo)).toNat))), (6, .int (nI i))]) hx hb dX1_different_52 hl (k := 4) rfl (xi_inc1 _) (by decide) rfl (fun ls hl => ?_)
        refine lv_goto (tgt := 5) hx hb dX1_different_55 (by decide) ?_
        exact ih (()) _ _ _ (by omega) hP hD hS (lv_sub hl [1, 2, 3, 4, 0] rfl)
      · refine lv_iinc (v := nI (dif (kI cd lf rt n) lo (i - lo) + 1)) (lv' := [(3, .int (nI (dif (kI cd lf rt n) lo (i - lo) + 1))), (0, .ref g), (1, .int (nI lo)), (2, .int (nI up)), (4, .int (nI i)), (5, .int (nI ((nwk (kI cd lf rt n) lo i (i - lo)).toNat))), (6, .int (nI i))]) hx hb dX1_different_49 hl (k := 3) rfl (xi_inc1 _) (by decide) rfl (fun ls hl => ?_)
        rw [show dif (kI cd lf rt n) lo (i - lo) + 1 = dif (kI cd lf rt n) lo (i + 1 - lo) by rw [show i + 1 - lo = (i - lo) + 1 by omega]; simp only [dif]; rw [show lo + (i - lo) = i by omega]; unfold nw; rw [tn1 f0]; rfl] at hl
        refine lv_iinc (v := nI (i + 1)) (lv' := [(4, .int (nI (i + 1))), (3, .int (nI (dif (kI cd lf rt n) lo (i + 1 - lo)))), (0, .ref g), (1, .int (nI lo)), (2, .int (nI up)), (5, .int (nI ((nwk (kI cd lf rt n) lo i (i - lo)).toNat))), (6, .int (nI i))]) hx hb dX1_different_52 hl (k := 4) rfl (xi_inc1 _) (by decide) rfl (fun ls hl => ?_)
        refine lv_goto (tgt := 5) hx hb dX1_different_55 (by decide) ?_
        exact ih (()) _ _ _ (by omega) hP hD hS (lv_sub hl [2, 3, 4, 1, 0] rfl)
    · rintro j _ H locs ls hj hJ2 hP hD hS hl ih2
      have hJ2 : lo ≤ j := hJ2
      have hP : va_P D vwCl (wM g bd cb n cd lf rt vr pu ou vw) H := hP
      have hD : va_D A (wM g bd cb n cd lf rt vr pu ou vw) := hD
      have hl : lv_has ls 7 [(0, .ref g), (1, .int (nI lo)), (2, .int (nI up)), (3, .int (nI (dif (kI cd lf rt n) lo (i - lo)))), (4, .int (nI i)), (5, .int (nI ((nwk (kI cd lf rt n) lo i (j - lo)).toNat))), (6, .int (nI j))] := hl
      refine lv_iload hx hb dX1_different_17 (lv_at hl 6 rfl) ?_
      refine lv_iload hx hb dX1_different_19 (lv_at hl 4 rfl) ?_
      refine xn_ge_f (tgt := 44) hx hb dX1_different_21 (by decide) hj (by omega) ?_
      refine lv_aload_n hx hb dX1_different_24 rfl (lv_at hl 0 rfl) ?_
      refine lv_iload hx hb dX1_different_25 (lv_at hl 4 rfl) ?_
      refine lv_iload hx hb dX1_different_27 (lv_at hl 6 rfl) ?_
      refine kv_i (n := 2) (As := [.int (nI i), .int (nI j)]) (rest := []) ⟨hx, hb, hml, hown, hts⟩ (cM_same l D g bd cb H.size n cd lf rt vr pu ou vw i j hA2 (by omega) (by omega)) (lw_V q266 q268 qs21 q24 q269) (by decide +kernel) ⟨by rw [hR.1]; decide, by rw [hR.2]; decide⟩ ⟨Nat.zero_le _, Nat.zero_le _⟩ hK hP hD hS hA (ci := 1) rfl rfl rfl rfl hl.1 rfl (Nat.le_of_ble_eq_true rfl) dX1_different_29 (fun r _u H locs hw hP hD hS => ?_)
      have hP : va_P D vwCl (wM g bd cb n cd lf rt vr pu ou vw) H := hP
      have hD : va_D A (wM g bd cb n cd lf rt vr pu ou vw) := hD
      have hw : r = nI (kI cd lf rt n i j).toNat := hw
      subst hw
      have hb2 := bt1 (kI cd lf rt n i j)
      have hnx : nwk (kI cd lf rt n) lo i (j + 1 - lo) = (nwk (kI cd lf rt n) lo i (j - lo) && !(kI cd lf rt n i j)) := by rw [show j + 1 - lo = (j - lo) + 1 by omega]; simp only [nwk]; rw [show lo + (j - lo) = j by omega]
      refine xn_ifeq_b (tgt := 38) hx hb dX1_different_32 (by decide) (by omega) (fun e0 => ?_) (fun e0 => ?_)
      · rw [show (nwk (kI cd lf rt n) lo i (j - lo)).toNat = (nwk (kI cd lf rt n) lo i (j + 1 - lo)).toNat by rw [hnx, tn0 e0, Bool.not_false, Bool.and_true]] at hl
        refine lv_iinc (v := nI (j + 1)) (lv' := [(6, .int (nI (j + 1))), (0, .ref g), (1, .int (nI lo)), (2, .int (nI up)), (3, .int (nI (dif (kI cd lf rt n) lo (i - lo)))), (4, .int (nI i)), (5, .int (nI ((nwk (kI cd lf rt n) lo i (j + 1 - lo)).toNat)))]) hx hb dX1_different_38 hl (k := 6) rfl (xi_inc1 _) (by decide) rfl (fun ls hl => ?_)
        refine lv_goto (tgt := 17) hx hb dX1_different_41 (by decide) ?_
        exact ih2 (()) _ _ _ (by omega) hP hD hS (lv_sub hl [1, 2, 3, 4, 5, 6, 0] rfl)
      · refine lv_iconst (v := nI 0) hx hb dX1_different_35 (by decide) ?_
        refine lv_istore (lv' := [(5, .int (nI 0)), (0, .ref g), (1, .int (nI lo)), (2, .int (nI up)), (3, .int (nI (dif (kI cd lf rt n) lo (i - lo)))), (4, .int (nI i)), (6, .int (nI j))]) hx hb dX1_different_36 hl (by decide) rfl (fun ls hl => ?_)
        rw [show nI 0 = nI (nwk (kI cd lf rt n) lo i (j + 1 - lo)).toNat by rw [hnx, tn1 e0, Bool.not_true, Bool.and_false]; rfl] at hl
        refine lv_iinc (v := nI (j + 1)) (lv' := [(6, .int (nI (j + 1))), (5, .int (nI ((nwk (kI cd lf rt n) lo i (j + 1 - lo)).toNat))), (0, .ref g), (1, .int (nI lo)), (2, .int (nI up)), (3, .int (nI (dif (kI cd lf rt n) lo (i - lo)))), (4, .int (nI i))]) hx hb dX1_different_38 hl (k := 6) rfl (xi_inc1 _) (by decide) rfl (fun ls hl => ?_)
        refine lv_goto (tgt := 17) hx hb dX1_different_41 (by decide) ?_
        exact ih2 (()) _ _ _ (by omega) hP hD hS (lv_sub hl [2, 3, 4, 5, 6, 1, 0] rfl)
end
section
set_option maxRecDepth 100000
/-! LeakageMeterModel's public methods -/
theorem kI_sym {cd : Nat → Nat} {lf rt : Nat → Int32} {n : Nat} (s t : Nat) : kI cd lf rt n s t = kI cd lf rt n t s := by
  rw [Bool.eq_iff_iff]
  unfold kI
  simp only [Bool.and_eq_true, decide_eq_true_eq]
  exact ⟨fun h => ⟨h.1.symm, h.2.symm⟩, fun h => ⟨h.1.symm, h.2.symm⟩⟩
theorem kI_self {cd : Nat → Nat} {lf rt : Nat → Int32} {n : Nat} (s : Nat) : kI cd lf rt n s s = true := by simp [kI]
set_option maxHeartbeats 4000000 in
/-- classes() -/
theorem cM_classes (l : Launch) (D : va_G) (g : Nat) (bd : Nat → Nat) (cb : Nat → ClassId) (sz : Nat) (n : Nat) (cd : Nat → Nat) (lf rt : Nat → Int32) (vr : Nat → Nat) (pu : Nat) (ou vw : Nat → Nat)  (hV : VP cd n) (hn40 : n ≤ 40) : cMi l yX1_classes cX1_classes 1 .int 4 94 D (tM cb) (wM g bd cb n cd lf rt vr pu ou vw) sz [.ref g] (fun (r : Int32) (u : (Nat → Nat) × Nat × (Nat → Nat) × (Nat → Nat)) => r = nI (dif (kI cd lf rt n) 0 64)) (fun (u : (Nat → Nat) × Nat × (Nat → Nat) × (Nat → Nat)) => (wM g bd cb n cd lf rt u.1 u.2.1 u.2.2.1 u.2.2.2)) := by
  refine cMi.of (by decide) (Nat.le_of_ble_eq_true rfl) ?_
  intro p e R s m args below meth c A Q ls H locs ⟨hx, hb, hml, hown, hts, hR, hK, hA⟩ hP hD hS hl hret
  have hown : s.vm.findClass RX1 = some m.cls := hown
  have hl : lv_has ls 1 [(0, .ref g)] := hl
  refine lv_aload_n hx hb dX1_classes_0 rfl (lv_at hl 0 rfl) ?_
  refine kv_v (n := 0) (As := []) (rest := []) ⟨hx, hb, hml, hown, hts⟩ (cM_runAll l D g bd cb H.size n cd lf rt vr pu ou vw hV hn40) (lw_V q240 q242 qs16 q24 q243) (by decide +kernel) ⟨by rw [hR.1]; decide, by rw [hR.2]; decide⟩ ⟨Nat.zero_le _, Nat.zero_le _⟩ hK hP hD hS hA (ci := 1) rfl rfl rfl rfl hl.1 rfl (Nat.le_of_ble_eq_true rfl) dX1_classes_1 (fun ⟨v2, p2, o2, y2⟩ H locs hw hP hD hS => ?_)
  have hP : va_P D vwCl (wM g bd cb n cd lf rt v2 p2 o2 y2) H := hP
  have hD : va_D A (wM g bd cb n cd lf rt v2 p2 o2 y2) := hD
  have hw : AM cd lf rt n 64 o2 y2 := hw
  have hA2 := hw
  refine lv_aload_n hx hb dX1_classes_4 rfl (lv_at hl 0 rfl) ?_
  refine lv_iconst (v := nI 0) hx hb dX1_classes_5 (by decide) ?_
  refine lv_bipush (v := nI 63) hx hb dX1_classes_6 (by decide) ?_
  refine kv_i (n := 2) (As := [.int (nI 0), .int (nI 63)]) (rest := []) ⟨hx, hb, hml, hown, hts⟩ (cM_different l D g bd cb H.size n cd lf rt v2 p2 o2 y2 0 63 hA2 (by decide) (by decide)) (lw_V q262 q264 qs20 q24 q265) (by decide +kernel) ⟨by rw [hR.1]; decide, by rw [hR.2]; decide⟩ ⟨Nat.zero_le _, Nat.zero_le _⟩ hK hP hD hS hA (ci := 1) rfl rfl rfl rfl hl.1 rfl (Nat.le_of_ble_eq_true rfl) dX1_classes_8 (fun r _u H locs hw hP hD hS => ?_)
  have hP : va_P D vwCl (wM g bd cb n cd lf rt v2 p2 o2 y2) H := hP
  have hD : va_D A (wM g bd cb n cd lf rt v2 p2 o2 y2) := hD
  have hw : r = nI (dif (kI cd lf rt n) 0 64) := hw
  exact hret 11 ls H locs r (v2, p2, o2, y2) dX1_classes_11 rfl hw hP hD hS
set_option maxHeartbeats 4000000 in
/-- least(secret) -/
theorem cM_least (l : Launch) (D : va_G) (g : Nat) (bd : Nat → Nat) (cb : Nat → ClassId) (sz : Nat) (n : Nat) (cd : Nat → Nat) (lf rt : Nat → Int32) (vr : Nat → Nat) (pu : Nat) (ou vw : Nat → Nat) (x0 : Int32) (hV : VP cd n) (hn40 : n ≤ 40) : cMi l yX1_least cX1_least 3 .int 4 94 D (tM cb) (wM g bd cb n cd lf rt vr pu ou vw) sz [.ref g, .int x0] (fun (r : Int32) (u : (Nat → Nat) × Nat × (Nat → Nat) × (Nat → Nat)) => ∃ k, r = nI k ∧ k < 64 ∧ kI cd lf rt n (ub x0 % 64) k = true ∧ ∀ t, t < k → kI cd lf rt n (ub x0 % 64) t = false) (fun (u : (Nat → Nat) × Nat × (Nat → Nat) × (Nat → Nat)) => (wM g bd cb n cd lf rt u.1 u.2.1 u.2.2.1 u.2.2.2)) := by
  refine cMi.of (by decide) (Nat.le_of_ble_eq_true rfl) ?_
  intro p e R s m args below meth c A Q ls H locs ⟨hx, hb, hml, hown, hts, hR, hK, hA⟩ hP hD hS hl hret
  have hown : s.vm.findClass RX1 = some m.cls := hown
  have hl : lv_has ls 3 [(0, .ref g), (1, .int x0)] := hl
  have hx64 : ub x0 % 64 < 64 := Nat.mod_lt _ (by decide)
  refine lv_aload_n hx hb dX1_least_0 rfl (lv_at hl 0 rfl) ?_
  refine kv_v (n := 0) (As := []) (rest := []) ⟨hx, hb, hml, hown, hts⟩ (cM_runAll l D g bd cb H.size n cd lf rt vr pu ou vw hV hn40) (lw_V q240 q242 qs16 q24 q243) (by decide +kernel) ⟨by rw [hR.1]; decide, by rw [hR.2]; decide⟩ ⟨Nat.zero_le _, Nat.zero_le _⟩ hK hP hD hS hA (ci := 1) rfl rfl rfl rfl hl.1 rfl (Nat.le_of_ble_eq_true rfl) dX1_least_1 (fun ⟨v2, p2, o2, y2⟩ H locs hw hP hD hS => ?_)
  have hP : va_P D vwCl (wM g bd cb n cd lf rt v2 p2 o2 y2) H := hP
  have hD : va_D A (wM g bd cb n cd lf rt v2 p2 o2 y2) := hD
  have hw : AM cd lf rt n 64 o2 y2 := hw
  have hA2 := hw
  refine lv_iconst (v := nI 0) hx hb dX1_least_4 (by decide) ?_
  refine lv_istore_n (lv' := [(2, .int (nI 0)), (0, .ref g), (1, .int x0)]) hx hb dX1_least_5 rfl hl (by decide) rfl (fun ls hl => ?_)
  refine lp_w (nL := 3) (pc := 6) 64 (fun (u : Unit) => (wM g bd cb n cd lf rt v2 p2 o2 y2)) (fun (i : Nat) (u : Unit) => [(0, .ref g), (1, .int x0), (2, .int (nI i))]) (fun (i : Nat) (u : Unit) => ∀ t, t < i → kI cd lf rt n (ub x0 % 64) t = false) ?_ ?_ 0 (()) _ _ _ (by omega) (fun t ht => absurd ht (by omega)) hP hD hS (lv_sub hl [1, 2, 0] rfl)
  · rintro _ H locs ls hJ hP hD hS hl
    have hJ : ∀ t, t < 64 → kI cd lf rt n (ub x0 % 64) t = false := hJ
    have hP : va_P D vwCl (wM g bd cb n cd lf rt v2 p2 o2 y2) H := hP
    have hD : va_D A (wM g bd cb n cd lf rt v2 p2 o2 y2) := hD
    have hl : lv_has ls 3 [(0, .ref g), (1, .int x0), (2, .int (nI 64))] := hl
    exact absurd (hJ (ub x0 % 64) hx64) (by rw [kI_self]; decide)
  · rintro i _ H locs ls hi hJ hP hD hS hl ih
    have hJ : ∀ t, t < i → kI cd lf rt n (ub x0 % 64) t = false := hJ
    have hP : va_P D vwCl (wM g bd cb n cd lf rt v2 p2 o2 y2) H := hP
    have hD : va_D A (wM g bd cb n cd lf rt v2 p2 o2 y2) := hD
    have hl : lv_has ls 3 [(0, .ref g), (1, .int x0), (2, .int (nI i))] := hl
    refine lv_iload_n hx hb dX1_least_6 rfl (lv_at hl 2 rfl) ?_
    refine lv_bipush (v := nI 64) hx hb dX1_least_7 (by decide) ?_
    refine xn_ge_f (tgt := 32) hx hb dX1_least_9 (by decide) hi (by omega) ?_
    refine lv_aload_n hx hb dX1_least_12 rfl (lv_at hl 0 rfl) ?_
    refine lv_iload_n hx hb dX1_least_13 rfl (lv_at hl 2 rfl) ?_
    refine lv_iload_n hx hb dX1_least_14 rfl (lv_at hl 1 rfl) ?_
    refine lv_bipush (v := nI 63) hx hb dX1_least_15 (by decide) ?_
    refine xi_and 63 64 6 (by decide) (by decide) hx hb dX1_least_17 ?_
    refine kv_i (n := 2) (As := [.int (nI i), .int (nI (ub x0 % 64))]) (rest := []) ⟨hx, hb, hml, hown, hts⟩ (cM_same l D g bd cb H.size n cd lf rt v2 p2 o2 y2 i (ub x0 % 64) hA2 hi hx64) (lw_V q266 q268 qs21 q24 q269) (by decide +kernel) ⟨by rw [hR.1]; decide, by rw [hR.2]; decide⟩ ⟨Nat.zero_le _, Nat.zero_le _⟩ hK hP hD hS hA (ci := 1) rfl rfl rfl rfl hl.1 rfl (Nat.le_of_ble_eq_true rfl) dX1_least_18 (fun r _u H locs hw hP hD hS => ?_)
    have hP : va_P D vwCl (wM g bd cb n cd lf rt v2 p2 o2 y2) H := hP
    have hD : va_D A (wM g bd cb n cd lf rt v2 p2 o2 y2) := hD
    have hw : r = nI (kI cd lf rt n i (ub x0 % 64)).toNat := hw
    subst hw
    have hb2 := bt1 (kI cd lf rt n i (ub x0 % 64))
    refine xn_ifeq_b (tgt := 26) hx hb dX1_least_21 (by decide) (by omega) (fun e0 => ?_) (fun e0 => ?_)
    · refine lv_iinc (v := nI (i + 1)) (lv' := [(2, .int (nI (i + 1))), (0, .ref g), (1, .int x0)]) hx hb dX1_least_26 hl (k := 2) rfl (xi_inc1 _) (by decide) rfl (fun ls hl => ?_)
      refine lv_goto (tgt := 6) hx hb dX1_least_29 (by decide) ?_
      exact ih (()) _ _ _ (lt_s (p := fun t => kI cd lf rt n (ub x0 % 64) t = false) hJ (by rw [kI_sym]; exact tn0 e0)) hP hD hS (lv_sub hl [1, 2, 0] rfl)
    · refine lv_iload_n hx hb dX1_least_24 rfl (lv_at hl 2 rfl) ?_
      exact hret 25 ls H locs (nI i) (v2, p2, o2, y2) dX1_least_25 rfl ⟨i, rfl, hi, by rw [kI_sym]; exact tn1 e0, hJ⟩ hP hD hS
set_option maxHeartbeats 4000000 in
/-- alike(secret) -/
theorem cM_alike (l : Launch) (D : va_G) (g : Nat) (bd : Nat → Nat) (cb : Nat → ClassId) (sz : Nat) (n : Nat) (cd : Nat → Nat) (lf rt : Nat → Int32) (vr : Nat → Nat) (pu : Nat) (ou vw : Nat → Nat) (x0 : Int32) (hV : VP cd n) (hn40 : n ≤ 40) : cMi l yX1_alike cX1_alike 4 .int 4 94 D (tM cb) (wM g bd cb n cd lf rt vr pu ou vw) sz [.ref g, .int x0] (fun (r : Int32) (u : (Nat → Nat) × Nat × (Nat → Nat) × (Nat → Nat)) => r = nI (ct (kI cd lf rt n (ub x0 % 64)) 64)) (fun (u : (Nat → Nat) × Nat × (Nat → Nat) × (Nat → Nat)) => (wM g bd cb n cd lf rt u.1 u.2.1 u.2.2.1 u.2.2.2)) := by
  refine cMi.of (by decide) (Nat.le_of_ble_eq_true rfl) ?_
  intro p e R s m args below meth c A Q ls H locs ⟨hx, hb, hml, hown, hts, hR, hK, hA⟩ hP hD hS hl hret
  have hown : s.vm.findClass RX1 = some m.cls := hown
  have hl : lv_has ls 4 [(0, .ref g), (1, .int x0)] := hl
  have hx64 : ub x0 % 64 < 64 := Nat.mod_lt _ (by decide)
  refine lv_aload_n hx hb dX1_alike_0 rfl (lv_at hl 0 rfl) ?_
  refine kv_v (n := 0) (As := []) (rest := []) ⟨hx, hb, hml, hown, hts⟩ (cM_runAll l D g bd cb H.size n cd lf rt vr pu ou vw hV hn40) (lw_V q240 q242 qs16 q24 q243) (by decide +kernel) ⟨by rw [hR.1]; decide, by rw [hR.2]; decide⟩ ⟨Nat.zero_le _, Nat.zero_le _⟩ hK hP hD hS hA (ci := 1) rfl rfl rfl rfl hl.1 rfl (Nat.le_of_ble_eq_true rfl) dX1_alike_1 (fun ⟨v2, p2, o2, y2⟩ H locs hw hP hD hS => ?_)
  have hP : va_P D vwCl (wM g bd cb n cd lf rt v2 p2 o2 y2) H := hP
  have hD : va_D A (wM g bd cb n cd lf rt v2 p2 o2 y2) := hD
  have hw : AM cd lf rt n 64 o2 y2 := hw
  have hA2 := hw
  refine lv_iconst (v := nI 0) hx hb dX1_alike_4 (by decide) ?_
  refine xt_i (y := nI (ct (kI cd lf rt n (ub x0 % 64)) 0)) rfl ?_
  refine lv_istore_n (lv' := [(2, .int (nI (ct (kI cd lf rt n (ub x0 % 64)) 0))), (0, .ref g), (1, .int x0)]) hx hb dX1_alike_5 rfl hl (by decide) rfl (fun ls hl => ?_)
  refine lv_iconst (v := nI 0) hx hb dX1_alike_6 (by decide) ?_
  refine lv_istore_n (lv' := [(3, .int (nI 0)), (2, .int (nI (ct (kI cd lf rt n (ub x0 % 64)) 0))), (0, .ref g), (1, .int x0)]) hx hb dX1_alike_7 rfl hl (by decide) rfl (fun ls hl => ?_)
  refine lp_w (nL := 4) (pc := 8) 64 (fun (u : Unit) => (wM g bd cb n cd lf rt v2 p2 o2 y2)) (fun (i : Nat) (u : Unit) => [(0, .ref g), (1, .int x0), (2, .int (nI (ct (kI cd lf rt n (ub x0 % 64)) i))), (3, .int (nI i))]) (fun (i : Nat) (u : Unit) => True) ?_ ?_ 0 (()) _ _ _ (by omega) trivial hP hD hS (lv_sub hl [2, 3, 1, 0] rfl)
  · rintro _ H locs ls hJ hP hD hS hl
    have hJ : True := hJ
    have hP : va_P D vwCl (wM g bd cb n cd lf rt v2 p2 o2 y2) H := hP
    have hD : va_D A (wM g bd cb n cd lf rt v2 p2 o2 y2) := hD
    have hl : lv_has ls 4 [(0, .ref g), (1, .int x0), (2, .int (nI (ct (kI cd lf rt n (ub x0 % 64)) 64))), (3, .int (nI 64))] := hl
    refine lv_iload_n hx hb dX1_alike_8 rfl (lv_at hl 3 rfl) ?_
    refine lv_bipush (v := nI 64) hx hb dX1_alike_9 (by decide) ?_
    refine xn_ge_t (tgt := 35) hx hb dX1_alike_11 (by decide) (by omega) (by omega) ?_
    refine lv_iload_n hx hb dX1_alike_35 rfl (lv_at hl 2 rfl) ?_
    exact hret 36 ls H locs (nI (ct (kI cd lf rt n (ub x0 % 64)) 64)) (v2, p2, o2, y2) dX1_alike_36 rfl rfl hP hD hS
  · rintro i _ H locs ls hi hJ hP hD hS hl ih
    have hJ : True := hJ
    have hP : va_P D vwCl (wM g bd cb n cd lf rt v2 p2 o2 y2) H := hP
    have hD : va_D A (wM g bd cb n cd lf rt v2 p2 o2 y2) := hD
    have hl : lv_has ls 4 [(0, .ref g), (1, .int x0), (2, .int (nI (ct (kI cd lf rt n (ub x0 % 64)) i))), (3, .int (nI i))] := hl
    refine lv_iload_n hx hb dX1_alike_8 rfl (lv_at hl 3 rfl) ?_
    refine lv_bipush (v := nI 64) hx hb dX1_alike_9 (by decide) ?_
    refine xn_ge_f (tgt := 35) hx hb dX1_alike_11 (by decide) hi (by omega) ?_
    refine lv_aload_n hx hb dX1_alike_14 rfl (lv_at hl 0 rfl) ?_
    refine lv_iload_n hx hb dX1_alike_15 rfl (lv_at hl 3 rfl) ?_
    refine lv_iload_n hx hb dX1_alike_16 rfl (lv_at hl 1 rfl) ?_
    refine lv_bipush (v := nI 63) hx hb dX1_alike_17 (by decide) ?_
    refine xi_and 63 64 6 (by decide) (by decide) hx hb dX1_alike_19 ?_
    refine kv_i (n := 2) (As := [.int (nI i), .int (nI (ub x0 % 64))]) (rest := []) ⟨hx, hb, hml, hown, hts⟩ (cM_same l D g bd cb H.size n cd lf rt v2 p2 o2 y2 i (ub x0 % 64) hA2 hi hx64) (lw_V q266 q268 qs21 q24 q269) (by decide +kernel) ⟨by rw [hR.1]; decide, by rw [hR.2]; decide⟩ ⟨Nat.zero_le _, Nat.zero_le _⟩ hK hP hD hS hA (ci := 1) rfl rfl rfl rfl hl.1 rfl (Nat.le_of_ble_eq_true rfl) dX1_alike_20 (fun r _u H locs hw hP hD hS => ?_)
    have hP : va_P D vwCl (wM g bd cb n cd lf rt v2 p2 o2 y2) H := hP
    have hD : va_D A (wM g bd cb n cd lf rt v2 p2 o2 y2) := hD
    have hw : r = nI (kI cd lf rt n i (ub x0 % 64)).toNat := hw
    subst hw
    have hb2 := bt1 (kI cd lf rt n i (ub x0 % 64))
    refine xn_ifeq_b (tgt := 29) hx hb dX1_alike_23 (by decide) (by omega) (fun e0 => ?_) (fun e0 => ?_)
    · rw [show ct (kI cd lf rt n (ub x0 % 64)) i = ct (kI cd lf rt n (ub x0 % 64)) (i + 1) by simp only [ct]; rw [kI_sym (ub x0 % 64) i, tn0 e0]; rfl] at hl
      refine lv_iinc (v := nI (i + 1)) (lv' := [(3, .int (nI (i + 1))), (0, .ref g), (1, .int x0), (2, .int (nI (ct (kI cd lf rt n (ub x0 % 64)) (i + 1))))]) hx hb dX1_alike_29 hl (k := 3) rfl (xi_inc1 _) (by decide) rfl (fun ls hl => ?_)
      refine lv_goto (tgt := 8) hx hb dX1_alike_32 (by decide) ?_
      exact ih (()) _ _ _ trivial hP hD hS (lv_sub hl [1, 2, 3, 0] rfl)
    · refine lv_iinc (v := nI (ct (kI cd lf rt n (ub x0 % 64)) i + 1)) (lv' := [(2, .int (nI (ct (kI cd lf rt n (ub x0 % 64)) i + 1))), (0, .ref g), (1, .int x0), (3, .int (nI i))]) hx hb dX1_alike_26 hl (k := 2) rfl (xi_inc1 _) (by decide) rfl (fun ls hl => ?_)
      rw [show ct (kI cd lf rt n (ub x0 % 64)) i + 1 = ct (kI cd lf rt n (ub x0 % 64)) (i + 1) by simp only [ct]; rw [kI_sym (ub x0 % 64) i, tn1 e0]; rfl] at hl
      refine lv_iinc (v := nI (i + 1)) (lv' := [(3, .int (nI (i + 1))), (2, .int (nI (ct (kI cd lf rt n (ub x0 % 64)) (i + 1)))), (0, .ref g), (1, .int x0)]) hx hb dX1_alike_29 hl (k := 3) rfl (xi_inc1 _) (by decide) rfl (fun ls hl => ?_)
      refine lv_goto (tgt := 8) hx hb dX1_alike_32 (by decide) ?_
      exact ih (()) _ _ _ trivial hP hD hS (lv_sub hl [2, 3, 1, 0] rfl)
set_option maxHeartbeats 4000000 in
/-- outputs(secret) -/
theorem cM_outputs (l : Launch) (D : va_G) (g : Nat) (bd : Nat → Nat) (cb : Nat → ClassId) (sz : Nat) (n : Nat) (cd : Nat → Nat) (lf rt : Nat → Int32) (vr : Nat → Nat) (pu : Nat) (ou vw : Nat → Nat) (x0 : Int32) (hV : VP cd n) (hn40 : n ≤ 40) : cMi l yX1_outputs cX1_outputs 2 .int 3 73 D (tM cb) (wM g bd cb n cd lf rt vr pu ou vw) sz [.ref g, .int x0] (fun (r : Int32) (u : (Nat → Nat) × Nat × (Nat → Nat) × (Nat → Nat)) => r = nI (ic cd lf rt (ub x0 % 64) n).2.1) (fun (u : (Nat → Nat) × Nat × (Nat → Nat) × (Nat → Nat)) => (wM g bd cb n cd lf rt u.1 u.2.1 u.2.2.1 u.2.2.2)) := by
  refine cMi.of (by decide) (Nat.le_of_ble_eq_true rfl) ?_
  intro p e R s m args below meth c A Q ls H locs ⟨hx, hb, hml, hown, hts, hR, hK, hA⟩ hP hD hS hl hret
  have hown : s.vm.findClass RX1 = some m.cls := hown
  have hl : lv_has ls 2 [(0, .ref g), (1, .int x0)] := hl
  have hx64 : ub x0 % 64 < 64 := Nat.mod_lt _ (by decide)
  refine lv_aload_n hx hb dX1_outputs_0 rfl (lv_at hl 0 rfl) ?_
  refine lv_iload_n hx hb dX1_outputs_1 rfl (lv_at hl 1 rfl) ?_
  refine lv_bipush (v := nI 63) hx hb dX1_outputs_2 (by decide) ?_
  refine xi_and 63 64 6 (by decide) (by decide) hx hb dX1_outputs_4 ?_
  refine kv_v (n := 1) (As := [.int (nI (ub x0 % 64))]) (rest := []) ⟨hx, hb, hml, hown, hts⟩ (cM_run l D g bd cb H.size n cd lf rt vr pu ou vw (ub x0 % 64) hV hn40 hx64) (lw_V q244 q246 qs17 q24 q247) (by decide +kernel) ⟨by rw [hR.1]; decide, by rw [hR.2]; decide⟩ ⟨Nat.zero_le _, Nat.zero_le _⟩ hK hP hD hS hA (ci := 1) rfl rfl rfl rfl hl.1 rfl (Nat.le_of_ble_eq_true rfl) dX1_outputs_5 (fun ⟨v2, p2, o2, y2⟩ H locs hw hP hD hS => ?_)
  have hP : va_P D vwCl (wM g bd cb n cd lf rt v2 p2 o2 y2) H := hP
  have hD : va_D A (wM g bd cb n cd lf rt v2 p2 o2 y2) := hD
  obtain ⟨e1, e2, e3, e4⟩ := hw
  have e2 : o2 = va_up ou (ub x0 % 64) (ic cd lf rt (ub x0 % 64) n).2.1 := e2
  have e5 : o2 (ub x0 % 64) = (ic cd lf rt (ub x0 % 64) n).2.1 := by rw [e2, va_up_self]
  have hc7 := (ic_lt cd lf rt hx64 n).2.1
  refine lv_aload_n hx hb dX1_outputs_8 rfl (lv_at hl 0 rfl) ?_
  refine va_get (ci := 1) (v := .ref (bd 4)) (C := RX1) (T := TX1) (N := 8) hx hb hts in_X1 hown hK hP 0 rfl rfl 6 (by decide) (hts _ q200) (fun _ h9 => h9) rfl dX1_outputs_9 ?_
  refine lv_iload_n hx hb dX1_outputs_12 rfl (lv_at hl 1 rfl) ?_
  refine lv_bipush (v := nI 63) hx hb dX1_outputs_13 (by decide) ?_
  refine xi_and 63 64 6 (by decide) (by decide) hx hb dX1_outputs_15 ?_
  refine xn_ald (k := (ub x0 % 64)) hx hb hK hP 5 4 rfl rfl (by omega) (by decide) dX1_outputs_16 ?_
  exact hret 17 ls H locs (nI (o2 (ub x0 % 64))) (v2, p2, o2, y2) dX1_outputs_17 rfl (by rw [e5]) hP hD hS
set_option maxHeartbeats 4000000 in
/-- end(secret, a) -/
theorem cM_end (l : Launch) (D : va_G) (g : Nat) (bd : Nat → Nat) (cb : Nat → ClassId) (sz : Nat) (n : Nat) (cd : Nat → Nat) (lf rt : Nat → Int32) (vr : Nat → Nat) (pu : Nat) (ou vw : Nat → Nat) (x0 a0 : Int32) (hV : VP cd n) (hn40 : n ≤ 40) : cMi l yX1_end cX1_end 3 .int 3 73 D (tM cb) (wM g bd cb n cd lf rt vr pu ou vw) sz [.ref g, .int x0, .int a0] (fun (r : Int32) (u : (Nat → Nat) × Nat × (Nat → Nat) × (Nat → Nat)) => r = nI ((ic cd lf rt (ub x0 % 64) n).1 (ub a0 % 4))) (fun (u : (Nat → Nat) × Nat × (Nat → Nat) × (Nat → Nat)) => (wM g bd cb n cd lf rt u.1 u.2.1 u.2.2.1 u.2.2.2)) := by
  refine cMi.of (by decide) (Nat.le_of_ble_eq_true rfl) ?_
  intro p e R s m args below meth c A Q ls H locs ⟨hx, hb, hml, hown, hts, hR, hK, hA⟩ hP hD hS hl hret
  have hown : s.vm.findClass RX1 = some m.cls := hown
  have hl : lv_has ls 3 [(0, .ref g), (1, .int x0), (2, .int a0)] := hl
  have hx64 : ub x0 % 64 < 64 := Nat.mod_lt _ (by decide)
  refine lv_aload_n hx hb dX1_end_0 rfl (lv_at hl 0 rfl) ?_
  refine lv_iload_n hx hb dX1_end_1 rfl (lv_at hl 1 rfl) ?_
  refine lv_bipush (v := nI 63) hx hb dX1_end_2 (by decide) ?_
  refine xi_and 63 64 6 (by decide) (by decide) hx hb dX1_end_4 ?_
  refine kv_v (n := 1) (As := [.int (nI (ub x0 % 64))]) (rest := []) ⟨hx, hb, hml, hown, hts⟩ (cM_run l D g bd cb H.size n cd lf rt vr pu ou vw (ub x0 % 64) hV hn40 hx64) (lw_V q244 q246 qs17 q24 q247) (by decide +kernel) ⟨by rw [hR.1]; decide, by rw [hR.2]; decide⟩ ⟨Nat.zero_le _, Nat.zero_le _⟩ hK hP hD hS hA (ci := 1) rfl rfl rfl rfl hl.1 rfl (Nat.le_of_ble_eq_true rfl) dX1_end_5 (fun ⟨v2, p2, o2, y2⟩ H locs hw hP hD hS => ?_)
  have hP : va_P D vwCl (wM g bd cb n cd lf rt v2 p2 o2 y2) H := hP
  have hD : va_D A (wM g bd cb n cd lf rt v2 p2 o2 y2) := hD
  obtain ⟨e1, e2, e3, e4⟩ := hw
  have e2 : o2 = va_up ou (ub x0 % 64) (ic cd lf rt (ub x0 % 64) n).2.1 := e2
  have e5 : o2 (ub x0 % 64) = (ic cd lf rt (ub x0 % 64) n).2.1 := by rw [e2, va_up_self]
  have hc7 := (ic_lt cd lf rt hx64 n).2.1
  have e6 : v2 (ub a0 % 4) = (ic cd lf rt (ub x0 % 64) n).1 (ub a0 % 4) := e1 _ (Nat.mod_lt _ (by decide))
  refine lv_aload_n hx hb dX1_end_8 rfl (lv_at hl 0 rfl) ?_
  refine va_get (ci := 1) (v := .ref (bd 3)) (C := RX1) (T := TX1) (N := 8) hx hb hts in_X1 hown hK hP 0 rfl rfl 4 (by decide) (hts _ q198) (fun _ h9 => h9) rfl dX1_end_9 ?_
  refine lv_iload_n hx hb dX1_end_12 rfl (lv_at hl 2 rfl) ?_
  refine lv_iconst (v := nI 3) hx hb dX1_end_13 (by decide) ?_
  refine xi_and 3 4 2 (by decide) (by decide) hx hb dX1_end_14 ?_
  refine xn_ald (k := (ub a0 % 4)) hx hb hK hP 4 3 rfl rfl (by omega) (by decide) dX1_end_15 ?_
  exact hret 16 ls H locs (nI (v2 (ub a0 % 4))) (v2, p2, o2, y2) dX1_end_16 rfl (by rw [e6]) hP hD hS
set_option maxHeartbeats 4000000 in
/-- output(secret, place) -/
theorem cM_output (l : Launch) (D : va_G) (g : Nat) (bd : Nat → Nat) (cb : Nat → ClassId) (sz : Nat) (n : Nat) (cd : Nat → Nat) (lf rt : Nat → Int32) (vr : Nat → Nat) (pu : Nat) (ou vw : Nat → Nat) (x0 p0 : Int32) (hV : VP cd n) (hn40 : n ≤ 40) : cMi l yX1_output cX1_output 3 .int 3 73 D (tM cb) (wM g bd cb n cd lf rt vr pu ou vw) sz [.ref g, .int x0, .int p0] (fun (r : Int32) (u : (Nat → Nat) × Nat × (Nat → Nat) × (Nat → Nat)) => r = outv (ic cd lf rt (ub x0 % 64) n).2.1 (ic cd lf rt (ub x0 % 64) n).2.2.1 p0) (fun (u : (Nat → Nat) × Nat × (Nat → Nat) × (Nat → Nat)) => (wM g bd cb n cd lf rt u.1 u.2.1 u.2.2.1 u.2.2.2)) := by
  refine cMi.of (by decide) (Nat.le_of_ble_eq_true rfl) ?_
  intro p e R s m args below meth c A Q ls H locs ⟨hx, hb, hml, hown, hts, hR, hK, hA⟩ hP hD hS hl hret
  have hown : s.vm.findClass RX1 = some m.cls := hown
  have hl : lv_has ls 3 [(0, .ref g), (1, .int x0), (2, .int p0)] := hl
  have hx64 : ub x0 % 64 < 64 := Nat.mod_lt _ (by decide)
  refine lv_aload_n hx hb dX1_output_0 rfl (lv_at hl 0 rfl) ?_
  refine lv_iload_n hx hb dX1_output_1 rfl (lv_at hl 1 rfl) ?_
  refine lv_bipush (v := nI 63) hx hb dX1_output_2 (by decide) ?_
  refine xi_and 63 64 6 (by decide) (by decide) hx hb dX1_output_4 ?_
  refine kv_v (n := 1) (As := [.int (nI (ub x0 % 64))]) (rest := []) ⟨hx, hb, hml, hown, hts⟩ (cM_run l D g bd cb H.size n cd lf rt vr pu ou vw (ub x0 % 64) hV hn40 hx64) (lw_V q244 q246 qs17 q24 q247) (by decide +kernel) ⟨by rw [hR.1]; decide, by rw [hR.2]; decide⟩ ⟨Nat.zero_le _, Nat.zero_le _⟩ hK hP hD hS hA (ci := 1) rfl rfl rfl rfl hl.1 rfl (Nat.le_of_ble_eq_true rfl) dX1_output_5 (fun ⟨v2, p2, o2, y2⟩ H locs hw hP hD hS => ?_)
  have hP : va_P D vwCl (wM g bd cb n cd lf rt v2 p2 o2 y2) H := hP
  have hD : va_D A (wM g bd cb n cd lf rt v2 p2 o2 y2) := hD
  obtain ⟨e1, e2, e3, e4⟩ := hw
  have e2 : o2 = va_up ou (ub x0 % 64) (ic cd lf rt (ub x0 % 64) n).2.1 := e2
  have e5 : o2 (ub x0 % 64) = (ic cd lf rt (ub x0 % 64) n).2.1 := by rw [e2, va_up_self]
  have hc7 := (ic_lt cd lf rt hx64 n).2.1
  refine lv_iload_n hx hb dX1_output_8 rfl (lv_at hl 2 rfl) ?_
  refine lv_if_lt (tgt := 25) hx hb dX1_output_9 (by decide) (fun h1 => ?_) (fun h1 => ?_)
  · refine lv_iconst (v := (-1)) hx hb dX1_output_25 (by decide) ?_
    exact hret 26 ls H locs (-1) (v2, p2, o2, y2) dX1_output_26 rfl (by unfold outv; rw [if_pos (Or.inl h1)]) hP hD hS
  · refine lv_iload_n hx hb dX1_output_12 rfl (lv_at hl 2 rfl) ?_
    refine lv_aload_n hx hb dX1_output_13 rfl (lv_at hl 0 rfl) ?_
    refine va_get (ci := 1) (v := .ref (bd 4)) (C := RX1) (T := TX1) (N := 8) hx hb hts in_X1 hown hK hP 0 rfl rfl 6 (by decide) (hts _ q200) (fun _ h9 => h9) rfl dX1_output_14 ?_
    refine lv_iload_n hx hb dX1_output_17 rfl (lv_at hl 1 rfl) ?_
    refine lv_bipush (v := nI 63) hx hb dX1_output_18 (by decide) ?_
    refine xi_and 63 64 6 (by decide) (by decide) hx hb dX1_output_20 ?_
    refine xn_ald (k := (ub x0 % 64)) hx hb hK hP 5 4 rfl rfl (by omega) (by decide) dX1_output_21 ?_
    refine lv_icmp_lt (tgt := 27) hx hb dX1_output_22 (by decide) (fun h2 => ?_) (fun h2 => ?_)
    · obtain ⟨j, hj, ej⟩ := nI_of h1
      subst ej
      have h2 : j < o2 (ub x0 % 64) := (nI_ltI hj (by omega)).mp h2
      refine lv_aload_n hx hb dX1_output_27 rfl (lv_at hl 0 rfl) ?_
      refine va_get (ci := 1) (v := .ref (bd 5)) (C := RX1) (T := TX1) (N := 8) hx hb hts in_X1 hown hK hP 0 rfl rfl 7 (by decide) (hts _ q201) (fun _ h9 => h9) rfl dX1_output_28 ?_
      refine lv_bipush (v := nI 7) hx hb dX1_output_31 (by decide) ?_
      refine lv_iload_n hx hb dX1_output_33 rfl (lv_at hl 1 rfl) ?_
      refine lv_bipush (v := nI 63) hx hb dX1_output_34 (by decide) ?_
      refine xi_and 63 64 6 (by decide) (by decide) hx hb dX1_output_36 ?_
      refine xi_mul hx hb dX1_output_37 ?_
      refine lv_iload_n hx hb dX1_output_38 rfl (lv_at hl 2 rfl) ?_
      refine xi_add hx hb dX1_output_39 ?_
      refine xn_ald (k := (7 * (ub x0 % 64) + j)) hx hb hK hP 6 5 rfl rfl (by omega) (by decide) dX1_output_40 ?_
      exact hret 41 ls H locs (nI (y2 (7 * (ub x0 % 64) + j))) (v2, p2, o2, y2) dX1_output_41 rfl (by unfold outv; rw [if_neg (fun q => q.elim h1 (fun z => absurd ((nI_leI (by omega) hj).mp z) (by omega))), nI_clamp hj]; exact congrArg nI (e4 j (by omega))) hP hD hS
    · obtain ⟨j, hj, ej⟩ := nI_of h1
      subst ej
      have h2 : o2 (ub x0 % 64) ≤ j := Nat.le_of_not_lt (fun q => h2 ((nI_ltI hj (by omega)).mpr q))
      refine lv_iconst (v := (-1)) hx hb dX1_output_25 (by decide) ?_
      exact hret 26 ls H locs (-1) (v2, p2, o2, y2) dX1_output_26 rfl (by rw [← e5]; unfold outv; rw [if_pos (Or.inr (nI_le h2 hj))]) hP hD hS
set_option maxHeartbeats 4000000 in
/-- guessed(from, to) -/
theorem cM_guessed (l : Launch) (D : va_G) (g : Nat) (bd : Nat → Nat) (cb : Nat → ClassId) (sz : Nat) (n : Nat) (cd : Nat → Nat) (lf rt : Nat → Int32) (vr : Nat → Nat) (pu : Nat) (ou vw : Nat → Nat) (x0 y0 : Int32) (hV : VP cd n) (hn40 : n ≤ 40) : cMi l yX1_guessed cX1_guessed 5 .int 4 94 D (tM cb) (wM g bd cb n cd lf rt vr pu ou vw) sz [.ref g, .int x0, .int y0] (fun (r : Int32) (u : (Nat → Nat) × Nat × (Nat → Nat) × (Nat → Nat)) => ∃ lo hi, lo ≤ hi ∧ hi < 64 ∧ (lo = ub x0 % 64 ∧ hi = ub y0 % 64 ∨ lo = ub y0 % 64 ∧ hi = ub x0 % 64) ∧ r = nI (dif (kI cd lf rt n) lo (hi + 1 - lo))) (fun (u : (Nat → Nat) × Nat × (Nat → Nat) × (Nat → Nat)) => (wM g bd cb n cd lf rt u.1 u.2.1 u.2.2.1 u.2.2.2)) := by
  refine cMi.of (by decide) (Nat.le_of_ble_eq_true rfl) ?_
  intro p e R s m args below meth c A Q ls H locs ⟨hx, hb, hml, hown, hts, hR, hK, hA⟩ hP hD hS hl hret
  have hown : s.vm.findClass RX1 = some m.cls := hown
  have hl : lv_has ls 5 [(0, .ref g), (1, .int x0), (2, .int y0)] := hl
  have hx64 : ub x0 % 64 < 64 := Nat.mod_lt _ (by decide)
  have hy64 : ub y0 % 64 < 64 := Nat.mod_lt _ (by decide)
  refine lv_aload_n hx hb dX1_guessed_0 rfl (lv_at hl 0 rfl) ?_
  refine kv_v (n := 0) (As := []) (rest := []) ⟨hx, hb, hml, hown, hts⟩ (cM_runAll l D g bd cb H.size n cd lf rt vr pu ou vw hV hn40) (lw_V q240 q242 qs16 q24 q243) (by decide +kernel) ⟨by rw [hR.1]; decide, by rw [hR.2]; decide⟩ ⟨Nat.zero_le _, Nat.zero_le _⟩ hK hP hD hS hA (ci := 1) rfl rfl rfl rfl hl.1 rfl (Nat.le_of_ble_eq_true rfl) dX1_guessed_1 (fun ⟨v2, p2, o2, y2⟩ H locs hw hP hD hS => ?_)
  have hP : va_P D vwCl (wM g bd cb n cd lf rt v2 p2 o2 y2) H := hP
  have hD : va_D A (wM g bd cb n cd lf rt v2 p2 o2 y2) := hD
  have hw : AM cd lf rt n 64 o2 y2 := hw
  have hA2 := hw
  refine lv_iload_n hx hb dX1_guessed_4 rfl (lv_at hl 1 rfl) ?_
  refine lv_bipush (v := nI 63) hx hb dX1_guessed_5 (by decide) ?_
  refine xi_and 63 64 6 (by decide) (by decide) hx hb dX1_guessed_7 ?_
  refine lv_istore_n (lv' := [(3, .int (nI (ub x0 % 64))), (0, .ref g), (1, .int x0), (2, .int y0)]) hx hb dX1_guessed_8 rfl hl (by decide) rfl (fun ls hl => ?_)
  refine lv_iload_n hx hb dX1_guessed_9 rfl (lv_at hl 3 rfl) ?_
  refine lv_bipush (v := nI 63) hx hb dX1_guessed_10 (by decide) ?_
  refine xi_and 63 64 6 (by decide) (by decide) hx hb dX1_guessed_12 ?_
  refine lv_istore (lv' := [(4, .int (nI (ub y0 % 64))), (3, .int (nI (ub x0 % 64))), (0, .ref g), (1, .int x0), (2, .int y0)]) hx hb dX1_guessed_13 hl (by decide) rfl (fun ls hl => ?_)
  refine lv_iload_n hx hb dX1_guessed_15 rfl (lv_at hl 1 rfl) ?_
  refine lv_iload hx hb dX1_guessed_16 (lv_at hl 0 rfl) ?_
  refine xn_ge_b (tgt := 31) hx hb dX1_guessed_18 (by decide) (by omega) (by omega) (fun h1 => ?_) (fun h1 => ?_)
  · refine lv_aload_n hx hb dX1_guessed_31 rfl (lv_at hl 2 rfl) ?_
    refine lv_iload hx hb dX1_guessed_32 (lv_at hl 0 rfl) ?_
    refine lv_iload_n hx hb dX1_guessed_34 rfl (lv_at hl 1 rfl) ?_
    refine kv_i (n := 2) (As := [.int (nI (ub y0 % 64)), .int (nI (ub x0 % 64))]) (rest := []) ⟨hx, hb, hml, hown, hts⟩ (cM_different l D g bd cb H.size n cd lf rt v2 p2 o2 y2 (ub y0 % 64) (ub x0 % 64) hA2 (by omega) hx64) (lw_V q262 q264 qs20 q24 q265) (by decide +kernel) ⟨by rw [hR.1]; decide, by rw [hR.2]; decide⟩ ⟨Nat.zero_le _, Nat.zero_le _⟩ hK hP hD hS hA (ci := 1) rfl rfl rfl rfl hl.1 rfl (Nat.le_of_ble_eq_true rfl) dX1_guessed_35 (fun r _u H locs hw hP hD hS => ?_)
    have hP : va_P D vwCl (wM g bd cb n cd lf rt v2 p2 o2 y2) H := hP
    have hD : va_D A (wM g bd cb n cd lf rt v2 p2 o2 y2) := hD
    exact hret 38 ls H locs r (v2, p2, o2, y2) dX1_guessed_38 rfl ⟨ub y0 % 64, ub x0 % 64, by omega, hx64, Or.inr ⟨rfl, rfl⟩, hw⟩ hP hD hS
  · refine lv_aload_n hx hb dX1_guessed_21 rfl (lv_at hl 2 rfl) ?_
    refine lv_iload_n hx hb dX1_guessed_22 rfl (lv_at hl 1 rfl) ?_
    refine lv_iload hx hb dX1_guessed_23 (lv_at hl 0 rfl) ?_
    refine kv_i (n := 2) (As := [.int (nI (ub x0 % 64)), .int (nI (ub y0 % 64))]) (rest := []) ⟨hx, hb, hml, hown, hts⟩ (cM_different l D g bd cb H.size n cd lf rt v2 p2 o2 y2 (ub x0 % 64) (ub y0 % 64) hA2 (by omega) hy64) (lw_V q262 q264 qs20 q24 q265) (by decide +kernel) ⟨by rw [hR.1]; decide, by rw [hR.2]; decide⟩ ⟨Nat.zero_le _, Nat.zero_le _⟩ hK hP hD hS hA (ci := 1) rfl rfl rfl rfl hl.1 rfl (Nat.le_of_ble_eq_true rfl) dX1_guessed_25 (fun r _u H locs hw hP hD hS => ?_)
    have hP : va_P D vwCl (wM g bd cb n cd lf rt v2 p2 o2 y2) H := hP
    have hD : va_D A (wM g bd cb n cd lf rt v2 p2 o2 y2) := hD
    refine lv_goto (tgt := 38) hx hb dX1_guessed_28 (by decide) ?_
    exact hret 38 ls H locs r (v2, p2, o2, y2) dX1_guessed_38 rfl ⟨ub x0 % 64, ub y0 % 64, by omega, hy64, Or.inl ⟨rfl, rfl⟩, hw⟩ hP hD hS
set_option maxHeartbeats 4000000 in
/-- clear() -/
theorem cM_clear (l : Launch) (D : va_G) (g : Nat) (bd : Nat → Nat) (cb : Nat → ClassId) (sz : Nat) (n : Nat) (cd : Nat → Nat) (lf rt : Nat → Int32) (vr : Nat → Nat) (pu : Nat) (ou vw : Nat → Nat)   : cMv l yX1_clear cX1_clear 1 0 0 D (tM cb) (wM g bd cb n cd lf rt vr pu ou vw) sz [.ref g] (fun (u : Unit) => True) (fun (u : Unit) => (wM g bd cb 0 cd lf rt vr pu ou vw)) := by
  refine cMv.of (by decide) (Nat.le_of_ble_eq_true rfl) ?_
  intro p e R s m args below meth c A Q ls H locs ⟨hx, hb, hml, hown, hts, hR, hK, hA⟩ hP hD hS hl hret
  have hown : s.vm.findClass RX1 = some m.cls := hown
  have hl : lv_has ls 1 [(0, .ref g)] := hl
  refine lv_aload_n hx hb dX1_clear_0 rfl (lv_at hl 0 rfl) ?_
  refine lv_iconst (v := nI 0) hx hb dX1_clear_1 (by decide) ?_
  refine va_put (ci := 1) (v := .int (nI 0)) (ty := .int) (C := RX1) (T := TX1) (N := 8) hx hb hts in_X1 tyX1 tyX1_ok nmX1 hown hK hP hD hS 0 rfl rfl 0 (by decide) (hts _ q194) (fun _ h9 => h9) rfl (by decide +kernel) rfl rfl (Nat.le_of_ble_eq_true rfl) dX1_clear_2 (fun H locs hP hD hS => ?_)
  have hP : va_P D vwCl (wM g bd cb 0 cd lf rt vr pu ou vw) H := hP
  have hD : va_D A (wM g bd cb 0 cd lf rt vr pu ou vw) := hD
  exact hret 5 ls H locs () dX1_clear_5 trivial hP hD hS
set_option maxHeartbeats 4000000 in
/-- add(code, a, b) -/
theorem cM_add (l : Launch) (D : va_G) (g : Nat) (bd : Nat → Nat) (cb : Nat → ClassId) (sz : Nat) (n : Nat) (cd : Nat → Nat) (lf rt : Nat → Int32) (vr : Nat → Nat) (pu : Nat) (ou vw : Nat → Nat) (c0 a0 b0 : Int32) (hV : VP cd n) (hn40 : n ≤ 40) : cMi l yX1_add cX1_add 4 .int 1 22 D (tM cb) (wM g bd cb n cd lf rt vr pu ou vw) sz [.ref g, .int c0, .int a0, .int b0] (fun (r : Int32) (u : Nat × (Nat → Nat) × (Nat → Int32) × (Nat → Int32)) => (∃ k, c0 = nI k ∧ n < 40 ∧ ac1 cd n k ∧ r = nI (n + 1) ∧ u = (n + 1, va_up cd n k, upd lf n a0, upd rt n b0)) ∨ ((¬ ∃ k, c0 = nI k ∧ n < 40 ∧ ac1 cd n k) ∧ r = -1 ∧ u = (n, cd, lf, rt))) (fun (u : Nat × (Nat → Nat) × (Nat → Int32) × (Nat → Int32)) => (wM g bd cb u.1 u.2.1 u.2.2.1 u.2.2.2 vr pu ou vw)) := by
  refine cMi.of (by decide) (Nat.le_of_ble_eq_true rfl) ?_
  intro p e R s m args below meth c A Q ls H locs ⟨hx, hb, hml, hown, hts, hR, hK, hA⟩ hP hD hS hl hret
  have hown : s.vm.findClass RX1 = some m.cls := hown
  have hl : lv_has ls 4 [(0, .ref g), (1, .int c0), (2, .int a0), (3, .int b0)] := hl
  have hd4 := dp_le hV
  refine lv_iload_n hx hb dX1_add_0 rfl (lv_at hl 1 rfl) ?_
  refine lv_if_lt (tgt := 19) hx hb dX1_add_1 (by decide) (fun k1 => ?_) (fun k1 => ?_)
  · refine lv_iconst (v := (-1)) hx hb dX1_add_19 (by decide) ?_
    exact hret 20 ls H locs (-1) (n, cd, lf, rt) dX1_add_20 rfl (Or.inr ⟨by first | exact rej_n (Or.inl k1) | exact rej_n (Or.inr k2) | exact rej hk (fun q => absurd q.1 (by omega)), rfl, rfl⟩) hP hD hS
  · refine lv_iload_n hx hb dX1_add_4 rfl (lv_at hl 1 rfl) ?_
    refine lv_bipush (v := nI 15) hx hb dX1_add_5 (by decide) ?_
    refine lv_icmp_gt (tgt := 19) hx hb dX1_add_7 (by decide) (fun k2 => ?_) (fun k2 => ?_)
    · refine lv_iconst (v := (-1)) hx hb dX1_add_19 (by decide) ?_
      exact hret 20 ls H locs (-1) (n, cd, lf, rt) dX1_add_20 rfl (Or.inr ⟨by first | exact rej_n (Or.inl k1) | exact rej_n (Or.inr k2) | exact rej hk (fun q => absurd q.1 (by omega)), rfl, rfl⟩) hP hD hS
    · obtain ⟨k, hk, ek⟩ := code_of k1 k2
      subst ek
      refine lv_aload_n hx hb dX1_add_10 rfl (lv_at hl 0 rfl) ?_
      refine va_get (ci := 1) (v := .int (nI n)) (C := RX1) (T := TX1) (N := 8) hx hb hts in_X1 hown hK hP 0 rfl rfl 0 (by decide) (hts _ q194) (fun _ h9 => h9) rfl dX1_add_11 ?_
      refine lv_bipush (v := nI 40) hx hb dX1_add_14 (by decide) ?_
      refine xn_ne_b (tgt := 21) hx hb dX1_add_16 (by decide) (by omega) (by omega) (fun k3 => ?_) (fun k3 => ?_)
      · refine lv_iload_n hx hb dX1_add_21 rfl (lv_at hl 1 rfl) ?_
        refine lv_bipush (v := nI 13) hx hb dX1_add_22 (by decide) ?_
        refine xn_ne_b (tgt := 37) hx hb dX1_add_24 (by decide) (by omega) (by omega) (fun k13 => ?_) (fun k13 => ?_)
        · refine lv_iload_n hx hb dX1_add_37 rfl (lv_at hl 1 rfl) ?_
          refine lv_bipush (v := nI 14) hx hb dX1_add_38 (by decide) ?_
          refine xn_eq_b (tgt := 49) hx hb dX1_add_40 (by decide) (by omega) (by omega) (fun k14 => ?_) (fun k14 => ?_)
          · subst k14
            refine lv_aload_n hx hb dX1_add_49 rfl (lv_at hl 0 rfl) ?_
            refine kv_i (n := 0) (As := []) (rest := []) ⟨hx, hb, hml, hown, hts⟩ (cM_open l D g bd cb H.size n cd lf rt vr pu ou vw hV hn40) (lw_V q223 q224 q225 q24 q226) (by decide +kernel) ⟨by rw [hR.1]; decide, by rw [hR.2]; decide⟩ ⟨Nat.zero_le _, Nat.zero_le _⟩ hK hP hD hS hA (ci := 1) rfl rfl rfl rfl hl.1 rfl (Nat.le_of_ble_eq_true rfl) dX1_add_50 (fun r _u H locs hw hP hD hS => ?_)
            have hP : va_P D vwCl (wM g bd cb n cd lf rt vr pu ou vw) H := hP
            have hD : va_D A (wM g bd cb n cd lf rt vr pu ou vw) := hD
            have hw : r = nI (dp cd n) := hw
            subst hw
            refine xn_ifne_b (tgt := 58) hx hb dX1_add_53 (by decide) (by omega) (fun kp => ?_) (fun kp => ?_)
            · have hb1 := bt1 (hE cd n (dp cd n - 1))
              refine lv_iload_n hx hb dX1_add_58 rfl (lv_at hl 1 rfl) ?_
              refine lv_bipush (v := nI 14) hx hb dX1_add_59 (by decide) ?_
              refine xn_ne_b (tgt := 73) hx hb dX1_add_61 (by decide) (by omega) (by omega) (fun c61 => absurd c61 (fun h => h rfl)) (fun c61 => ?_)
              refine lv_aload_n hx hb dX1_add_64 rfl (lv_at hl 0 rfl) ?_
              refine kv_i (n := 0) (As := []) (rest := []) ⟨hx, hb, hml, hown, hts⟩ (cM_hasElse l D g bd cb H.size n cd lf rt vr pu ou vw hV hn40 (by omega)) (lw_V q227 q229 qs15 q24 q230) (by decide +kernel) ⟨by rw [hR.1]; decide, by rw [hR.2]; decide⟩ ⟨Nat.zero_le _, Nat.zero_le _⟩ hK hP hD hS hA (ci := 1) rfl rfl rfl rfl hl.1 rfl (Nat.le_of_ble_eq_true rfl) dX1_add_65 (fun r _u H locs hw hP hD hS => ?_)
              have hP : va_P D vwCl (wM g bd cb n cd lf rt vr pu ou vw) H := hP
              have hD : va_D A (wM g bd cb n cd lf rt vr pu ou vw) := hD
              have hw : r = nI (hE cd n (dp cd n - 1)).toNat := hw
              subst hw
              refine xn_ifeq_b (tgt := 73) hx hb dX1_add_68 (by decide) (by omega) (fun ke => ?_) (fun ke => ?_)
              · have hac : ac1 cd n 14 := ⟨by omega, fun q => by omega, fun _ => by omega, fun _ => tn0 ke⟩
                refine lv_aload_n hx hb dX1_add_73 rfl (lv_at hl 0 rfl) ?_
                refine va_get (ci := 1) (v := .ref (bd 0)) (C := RX1) (T := TX1) (N := 8) hx hb hts in_X1 hown hK hP 0 rfl rfl 1 (by decide) (hts _ q195) (fun _ h9 => h9) rfl dX1_add_74 ?_
                refine lv_aload_n hx hb dX1_add_77 rfl (lv_at hl 0 rfl) ?_
                refine va_get (ci := 1) (v := .int (nI n)) (C := RX1) (T := TX1) (N := 8) hx hb hts in_X1 hown hK hP 0 rfl rfl 0 (by decide) (hts _ q194) (fun _ h9 => h9) rfl dX1_add_78 ?_
                refine lv_iload_n hx hb dX1_add_81 rfl (lv_at hl 1 rfl) ?_
                refine xn_ast (k := n) hx hb hK hP hD hS 1 0 rfl rfl (by omega) (by decide) dX1_add_82 (fun H locs hP hD hS => ?_)
                have hP : va_P D vwCl (wM g bd cb n (va_up cd n 14) lf rt vr pu ou vw) H := hP
                have hD : va_D A (wM g bd cb n (va_up cd n 14) lf rt vr pu ou vw) := hD
                refine lv_aload_n hx hb dX1_add_83 rfl (lv_at hl 0 rfl) ?_
                refine va_get (ci := 1) (v := .ref (bd 1)) (C := RX1) (T := TX1) (N := 8) hx hb hts in_X1 hown hK hP 0 rfl rfl 2 (by decide) (hts _ q196) (fun _ h9 => h9) rfl dX1_add_84 ?_
                refine lv_aload_n hx hb dX1_add_87 rfl (lv_at hl 0 rfl) ?_
                refine va_get (ci := 1) (v := .int (nI n)) (C := RX1) (T := TX1) (N := 8) hx hb hts in_X1 hown hK hP 0 rfl rfl 0 (by decide) (hts _ q194) (fun _ h9 => h9) rfl dX1_add_88 ?_
                refine lv_iload_n hx hb dX1_add_91 rfl (lv_at hl 2 rfl) ?_
                refine xi_ast (k := n) hx hb hK hP hD hS 2 1 rfl rfl (by omega) (by decide) dX1_add_92 (fun H locs hP hD hS => ?_)
                have hP : va_P D vwCl (wM g bd cb n (va_up cd n 14) (upd lf n a0) rt vr pu ou vw) H := hP
                have hD : va_D A (wM g bd cb n (va_up cd n 14) (upd lf n a0) rt vr pu ou vw) := hD
                refine lv_aload_n hx hb dX1_add_93 rfl (lv_at hl 0 rfl) ?_
                refine va_get (ci := 1) (v := .ref (bd 2)) (C := RX1) (T := TX1) (N := 8) hx hb hts in_X1 hown hK hP 0 rfl rfl 3 (by decide) (hts _ q197) (fun _ h9 => h9) rfl dX1_add_94 ?_
                refine lv_aload_n hx hb dX1_add_97 rfl (lv_at hl 0 rfl) ?_
                refine va_get (ci := 1) (v := .int (nI n)) (C := RX1) (T := TX1) (N := 8) hx hb hts in_X1 hown hK hP 0 rfl rfl 0 (by decide) (hts _ q194) (fun _ h9 => h9) rfl dX1_add_98 ?_
                refine lv_iload_n hx hb dX1_add_101 rfl (lv_at hl 3 rfl) ?_
                refine xi_ast (k := n) hx hb hK hP hD hS 3 2 rfl rfl (by omega) (by decide) dX1_add_102 (fun H locs hP hD hS => ?_)
                have hP : va_P D vwCl (wM g bd cb n (va_up cd n 14) (upd lf n a0) (upd rt n b0) vr pu ou vw) H := hP
                have hD : va_D A (wM g bd cb n (va_up cd n 14) (upd lf n a0) (upd rt n b0) vr pu ou vw) := hD
                refine lv_aload_n hx hb dX1_add_103 rfl (lv_at hl 0 rfl) ?_
                refine lv_dup hx hb dX1_add_104 rfl ?_
                refine va_get (ci := 1) (v := .int (nI n)) (C := RX1) (T := TX1) (N := 8) hx hb hts in_X1 hown hK hP 0 rfl rfl 0 (by decide) (hts _ q194) (fun _ h9 => h9) rfl dX1_add_105 ?_
                refine lv_iconst (v := nI 1) hx hb dX1_add_108 (by decide) ?_
                refine xi_add hx hb dX1_add_109 ?_
                refine va_put (ci := 1) (v := .int (nI (n + 1))) (ty := .int) (C := RX1) (T := TX1) (N := 8) hx hb hts in_X1 tyX1 tyX1_ok nmX1 hown hK hP hD hS 0 rfl rfl 0 (by decide) (hts _ q194) (fun _ h9 => h9) rfl (by decide +kernel) rfl rfl (Nat.le_of_ble_eq_true rfl) dX1_add_110 (fun H locs hP hD hS => ?_)
                have hP : va_P D vwCl (wM g bd cb (n + 1) (va_up cd n 14) (upd lf n a0) (upd rt n b0) vr pu ou vw) H := hP
                have hD : va_D A (wM g bd cb (n + 1) (va_up cd n 14) (upd lf n a0) (upd rt n b0) vr pu ou vw) := hD
                refine lv_aload_n hx hb dX1_add_113 rfl (lv_at hl 0 rfl) ?_
                refine va_get (ci := 1) (v := .int (nI (n + 1))) (C := RX1) (T := TX1) (N := 8) hx hb hts in_X1 hown hK hP 0 rfl rfl 0 (by decide) (hts _ q194) (fun _ h9 => h9) rfl dX1_add_114 ?_
                exact hret 117 ls H locs (nI (n + 1)) (n + 1, va_up cd n 14, upd lf n a0, upd rt n b0) dX1_add_117 rfl (Or.inl ⟨14, rfl, by omega, hac, rfl, rfl⟩) hP hD hS
              · refine lv_iconst (v := (-1)) hx hb dX1_add_71 (by decide) ?_
                exact hret 72 ls H locs (-1) (n, cd, lf, rt) dX1_add_72 rfl (Or.inr ⟨rej hk (fun q => by have h9 := q.2.2.2.2 rfl; rw [h9] at ke; exact ke rfl), rfl, rfl⟩) hP hD hS
            · refine lv_iconst (v := (-1)) hx hb dX1_add_56 (by decide) ?_
              exact hret 57 ls H locs (-1) (n, cd, lf, rt) dX1_add_57 rfl (Or.inr ⟨rej hk (fun q => by have := q.2.2.2.1 (by omega); omega), rfl, rfl⟩) hP hD hS
          · refine lv_iload_n hx hb dX1_add_43 rfl (lv_at hl 1 rfl) ?_
            refine lv_bipush (v := nI 15) hx hb dX1_add_44 (by decide) ?_
            refine xn_ne_b (tgt := 58) hx hb dX1_add_46 (by decide) (by omega) (by omega) (fun k15 => ?_) (fun k15 => ?_)
            · have hac : ac1 cd n k := ⟨hk, fun q => by omega, fun q => by omega, fun q => by omega⟩
              refine lv_iload_n hx hb dX1_add_58 rfl (lv_at hl 1 rfl) ?_
              refine lv_bipush (v := nI 14) hx hb dX1_add_59 (by decide) ?_
              refine xn_ne_b (tgt := 73) hx hb dX1_add_61 (by decide) (by omega) (by omega) (fun c61 => ?_) (fun c61 => absurd c61 (by omega))
              refine lv_aload_n hx hb dX1_add_73 rfl (lv_at hl 0 rfl) ?_
              refine va_get (ci := 1) (v := .ref (bd 0)) (C := RX1) (T := TX1) (N := 8) hx hb hts in_X1 hown hK hP 0 rfl rfl 1 (by decide) (hts _ q195) (fun _ h9 => h9) rfl dX1_add_74 ?_
              refine lv_aload_n hx hb dX1_add_77 rfl (lv_at hl 0 rfl) ?_
              refine va_get (ci := 1) (v := .int (nI n)) (C := RX1) (T := TX1) (N := 8) hx hb hts in_X1 hown hK hP 0 rfl rfl 0 (by decide) (hts _ q194) (fun _ h9 => h9) rfl dX1_add_78 ?_
              refine lv_iload_n hx hb dX1_add_81 rfl (lv_at hl 1 rfl) ?_
              refine xn_ast (k := n) hx hb hK hP hD hS 1 0 rfl rfl (by omega) (by decide) dX1_add_82 (fun H locs hP hD hS => ?_)
              have hP : va_P D vwCl (wM g bd cb n (va_up cd n k) lf rt vr pu ou vw) H := hP
              have hD : va_D A (wM g bd cb n (va_up cd n k) lf rt vr pu ou vw) := hD
              refine lv_aload_n hx hb dX1_add_83 rfl (lv_at hl 0 rfl) ?_
              refine va_get (ci := 1) (v := .ref (bd 1)) (C := RX1) (T := TX1) (N := 8) hx hb hts in_X1 hown hK hP 0 rfl rfl 2 (by decide) (hts _ q196) (fun _ h9 => h9) rfl dX1_add_84 ?_
              refine lv_aload_n hx hb dX1_add_87 rfl (lv_at hl 0 rfl) ?_
              refine va_get (ci := 1) (v := .int (nI n)) (C := RX1) (T := TX1) (N := 8) hx hb hts in_X1 hown hK hP 0 rfl rfl 0 (by decide) (hts _ q194) (fun _ h9 => h9) rfl dX1_add_88 ?_
              refine lv_iload_n hx hb dX1_add_91 rfl (lv_at hl 2 rfl) ?_
              refine xi_ast (k := n) hx hb hK hP hD hS 2 1 rfl rfl (by omega) (by decide) dX1_add_92 (fun H locs hP hD hS => ?_)
              have hP : va_P D vwCl (wM g bd cb n (va_up cd n k) (upd lf n a0) rt vr pu ou vw) H := hP
              have hD : va_D A (wM g bd cb n (va_up cd n k) (upd lf n a0) rt vr pu ou vw) := hD
              refine lv_aload_n hx hb dX1_add_93 rfl (lv_at hl 0 rfl) ?_
              refine va_get (ci := 1) (v := .ref (bd 2)) (C := RX1) (T := TX1) (N := 8) hx hb hts in_X1 hown hK hP 0 rfl rfl 3 (by decide) (hts _ q197) (fun _ h9 => h9) rfl dX1_add_94 ?_
              refine lv_aload_n hx hb dX1_add_97 rfl (lv_at hl 0 rfl) ?_
              refine va_get (ci := 1) (v := .int (nI n)) (C := RX1) (T := TX1) (N := 8) hx hb hts in_X1 hown hK hP 0 rfl rfl 0 (by decide) (hts _ q194) (fun _ h9 => h9) rfl dX1_add_98 ?_
              refine lv_iload_n hx hb dX1_add_101 rfl (lv_at hl 3 rfl) ?_
              refine xi_ast (k := n) hx hb hK hP hD hS 3 2 rfl rfl (by omega) (by decide) dX1_add_102 (fun H locs hP hD hS => ?_)
              have hP : va_P D vwCl (wM g bd cb n (va_up cd n k) (upd lf n a0) (upd rt n b0) vr pu ou vw) H := hP
              have hD : va_D A (wM g bd cb n (va_up cd n k) (upd lf n a0) (upd rt n b0) vr pu ou vw) := hD
              refine lv_aload_n hx hb dX1_add_103 rfl (lv_at hl 0 rfl) ?_
              refine lv_dup hx hb dX1_add_104 rfl ?_
              refine va_get (ci := 1) (v := .int (nI n)) (C := RX1) (T := TX1) (N := 8) hx hb hts in_X1 hown hK hP 0 rfl rfl 0 (by decide) (hts _ q194) (fun _ h9 => h9) rfl dX1_add_105 ?_
              refine lv_iconst (v := nI 1) hx hb dX1_add_108 (by decide) ?_
              refine xi_add hx hb dX1_add_109 ?_
              refine va_put (ci := 1) (v := .int (nI (n + 1))) (ty := .int) (C := RX1) (T := TX1) (N := 8) hx hb hts in_X1 tyX1 tyX1_ok nmX1 hown hK hP hD hS 0 rfl rfl 0 (by decide) (hts _ q194) (fun _ h9 => h9) rfl (by decide +kernel) rfl rfl (Nat.le_of_ble_eq_true rfl) dX1_add_110 (fun H locs hP hD hS => ?_)
              have hP : va_P D vwCl (wM g bd cb (n + 1) (va_up cd n k) (upd lf n a0) (upd rt n b0) vr pu ou vw) H := hP
              have hD : va_D A (wM g bd cb (n + 1) (va_up cd n k) (upd lf n a0) (upd rt n b0) vr pu ou vw) := hD
              refine lv_aload_n hx hb dX1_add_113 rfl (lv_at hl 0 rfl) ?_
              refine va_get (ci := 1) (v := .int (nI (n + 1))) (C := RX1) (T := TX1) (N := 8) hx hb hts in_X1 hown hK hP 0 rfl rfl 0 (by decide) (hts _ q194) (fun _ h9 => h9) rfl dX1_add_114 ?_
              exact hret 117 ls H locs (nI (n + 1)) (n + 1, va_up cd n k, upd lf n a0, upd rt n b0) dX1_add_117 rfl (Or.inl ⟨k, rfl, by omega, hac, rfl, rfl⟩) hP hD hS
            · subst k15
              refine lv_aload_n hx hb dX1_add_49 rfl (lv_at hl 0 rfl) ?_
              refine kv_i (n := 0) (As := []) (rest := []) ⟨hx, hb, hml, hown, hts⟩ (cM_open l D g bd cb H.size n cd lf rt vr pu ou vw hV hn40) (lw_V q223 q224 q225 q24 q226) (by decide +kernel) ⟨by rw [hR.1]; decide, by rw [hR.2]; decide⟩ ⟨Nat.zero_le _, Nat.zero_le _⟩ hK hP hD hS hA (ci := 1) rfl rfl rfl rfl hl.1 rfl (Nat.le_of_ble_eq_true rfl) dX1_add_50 (fun r _u H locs hw hP hD hS => ?_)
              have hP : va_P D vwCl (wM g bd cb n cd lf rt vr pu ou vw) H := hP
              have hD : va_D A (wM g bd cb n cd lf rt vr pu ou vw) := hD
              have hw : r = nI (dp cd n) := hw
              subst hw
              refine xn_ifne_b (tgt := 58) hx hb dX1_add_53 (by decide) (by omega) (fun kp => ?_) (fun kp => ?_)
              · have hac : ac1 cd n 15 := ⟨by omega, fun q => by omega, fun _ => by omega, fun q => by omega⟩
                refine lv_iload_n hx hb dX1_add_58 rfl (lv_at hl 1 rfl) ?_
                refine lv_bipush (v := nI 14) hx hb dX1_add_59 (by decide) ?_
                refine xn_ne_b (tgt := 73) hx hb dX1_add_61 (by decide) (by omega) (by omega) (fun c61 => ?_) (fun c61 => absurd c61 (by decide))
                refine lv_aload_n hx hb dX1_add_73 rfl (lv_at hl 0 rfl) ?_
                refine va_get (ci := 1) (v := .ref (bd 0)) (C := RX1) (T := TX1) (N := 8) hx hb hts in_X1 hown hK hP 0 rfl rfl 1 (by decide) (hts _ q195) (fun _ h9 => h9) rfl dX1_add_74 ?_
                refine lv_aload_n hx hb dX1_add_77 rfl (lv_at hl 0 rfl) ?_
                refine va_get (ci := 1) (v := .int (nI n)) (C := RX1) (T := TX1) (N := 8) hx hb hts in_X1 hown hK hP 0 rfl rfl 0 (by decide) (hts _ q194) (fun _ h9 => h9) rfl dX1_add_78 ?_
                refine lv_iload_n hx hb dX1_add_81 rfl (lv_at hl 1 rfl) ?_
                refine xn_ast (k := n) hx hb hK hP hD hS 1 0 rfl rfl (by omega) (by decide) dX1_add_82 (fun H locs hP hD hS => ?_)
                have hP : va_P D vwCl (wM g bd cb n (va_up cd n 15) lf rt vr pu ou vw) H := hP
                have hD : va_D A (wM g bd cb n (va_up cd n 15) lf rt vr pu ou vw) := hD
                refine lv_aload_n hx hb dX1_add_83 rfl (lv_at hl 0 rfl) ?_
                refine va_get (ci := 1) (v := .ref (bd 1)) (C := RX1) (T := TX1) (N := 8) hx hb hts in_X1 hown hK hP 0 rfl rfl 2 (by decide) (hts _ q196) (fun _ h9 => h9) rfl dX1_add_84 ?_
                refine lv_aload_n hx hb dX1_add_87 rfl (lv_at hl 0 rfl) ?_
                refine va_get (ci := 1) (v := .int (nI n)) (C := RX1) (T := TX1) (N := 8) hx hb hts in_X1 hown hK hP 0 rfl rfl 0 (by decide) (hts _ q194) (fun _ h9 => h9) rfl dX1_add_88 ?_
                refine lv_iload_n hx hb dX1_add_91 rfl (lv_at hl 2 rfl) ?_
                refine xi_ast (k := n) hx hb hK hP hD hS 2 1 rfl rfl (by omega) (by decide) dX1_add_92 (fun H locs hP hD hS => ?_)
                have hP : va_P D vwCl (wM g bd cb n (va_up cd n 15) (upd lf n a0) rt vr pu ou vw) H := hP
                have hD : va_D A (wM g bd cb n (va_up cd n 15) (upd lf n a0) rt vr pu ou vw) := hD
                refine lv_aload_n hx hb dX1_add_93 rfl (lv_at hl 0 rfl) ?_
                refine va_get (ci := 1) (v := .ref (bd 2)) (C := RX1) (T := TX1) (N := 8) hx hb hts in_X1 hown hK hP 0 rfl rfl 3 (by decide) (hts _ q197) (fun _ h9 => h9) rfl dX1_add_94 ?_
                refine lv_aload_n hx hb dX1_add_97 rfl (lv_at hl 0 rfl) ?_
                refine va_get (ci := 1) (v := .int (nI n)) (C := RX1) (T := TX1) (N := 8) hx hb hts in_X1 hown hK hP 0 rfl rfl 0 (by decide) (hts _ q194) (fun _ h9 => h9) rfl dX1_add_98 ?_
                refine lv_iload_n hx hb dX1_add_101 rfl (lv_at hl 3 rfl) ?_
                refine xi_ast (k := n) hx hb hK hP hD hS 3 2 rfl rfl (by omega) (by decide) dX1_add_102 (fun H locs hP hD hS => ?_)
                have hP : va_P D vwCl (wM g bd cb n (va_up cd n 15) (upd lf n a0) (upd rt n b0) vr pu ou vw) H := hP
                have hD : va_D A (wM g bd cb n (va_up cd n 15) (upd lf n a0) (upd rt n b0) vr pu ou vw) := hD
                refine lv_aload_n hx hb dX1_add_103 rfl (lv_at hl 0 rfl) ?_
                refine lv_dup hx hb dX1_add_104 rfl ?_
                refine va_get (ci := 1) (v := .int (nI n)) (C := RX1) (T := TX1) (N := 8) hx hb hts in_X1 hown hK hP 0 rfl rfl 0 (by decide) (hts _ q194) (fun _ h9 => h9) rfl dX1_add_105 ?_
                refine lv_iconst (v := nI 1) hx hb dX1_add_108 (by decide) ?_
                refine xi_add hx hb dX1_add_109 ?_
                refine va_put (ci := 1) (v := .int (nI (n + 1))) (ty := .int) (C := RX1) (T := TX1) (N := 8) hx hb hts in_X1 tyX1 tyX1_ok nmX1 hown hK hP hD hS 0 rfl rfl 0 (by decide) (hts _ q194) (fun _ h9 => h9) rfl (by decide +kernel) rfl rfl (Nat.le_of_ble_eq_true rfl) dX1_add_110 (fun H locs hP hD hS => ?_)
                have hP : va_P D vwCl (wM g bd cb (n + 1) (va_up cd n 15) (upd lf n a0) (upd rt n b0) vr pu ou vw) H := hP
                have hD : va_D A (wM g bd cb (n + 1) (va_up cd n 15) (upd lf n a0) (upd rt n b0) vr pu ou vw) := hD
                refine lv_aload_n hx hb dX1_add_113 rfl (lv_at hl 0 rfl) ?_
                refine va_get (ci := 1) (v := .int (nI (n + 1))) (C := RX1) (T := TX1) (N := 8) hx hb hts in_X1 hown hK hP 0 rfl rfl 0 (by decide) (hts _ q194) (fun _ h9 => h9) rfl dX1_add_114 ?_
                exact hret 117 ls H locs (nI (n + 1)) (n + 1, va_up cd n 15, upd lf n a0, upd rt n b0) dX1_add_117 rfl (Or.inl ⟨15, rfl, by omega, hac, rfl, rfl⟩) hP hD hS
              · refine lv_iconst (v := (-1)) hx hb dX1_add_56 (by decide) ?_
                exact hret 57 ls H locs (-1) (n, cd, lf, rt) dX1_add_57 rfl (Or.inr ⟨rej hk (fun q => by have := q.2.2.2.1 (by omega); omega), rfl, rfl⟩) hP hD hS
        · refine lv_aload_n hx hb dX1_add_27 rfl (lv_at hl 0 rfl) ?_
          refine kv_i (n := 0) (As := []) (rest := []) ⟨hx, hb, hml, hown, hts⟩ (cM_open l D g bd cb H.size n cd lf rt vr pu ou vw hV hn40) (lw_V q223 q224 q225 q24 q226) (by decide +kernel) ⟨by rw [hR.1]; decide, by rw [hR.2]; decide⟩ ⟨Nat.zero_le _, Nat.zero_le _⟩ hK hP hD hS hA (ci := 1) rfl rfl rfl rfl hl.1 rfl (Nat.le_of_ble_eq_true rfl) dX1_add_28 (fun r _u H locs hw hP hD hS => ?_)
          have hP : va_P D vwCl (wM g bd cb n cd lf rt vr pu ou vw) H := hP
          have hD : va_D A (wM g bd cb n cd lf rt vr pu ou vw) := hD
          have hw : r = nI (dp cd n) := hw
          subst hw
          refine lv_iconst (v := nI 4) hx hb dX1_add_31 (by decide) ?_
          refine xn_ne_b (tgt := 37) hx hb dX1_add_32 (by decide) (by omega) (by omega) (fun k4 => ?_) (fun k4 => ?_)
          · subst k13
            have hac : ac1 cd n 13 := ⟨by omega, fun _ => by omega, fun q => by omega, fun q => by omega⟩
            refine lv_iload_n hx hb dX1_add_37 rfl (lv_at hl 1 rfl) ?_
            refine lv_bipush (v := nI 14) hx hb dX1_add_38 (by decide) ?_
            refine xn_eq_b (tgt := 49) hx hb dX1_add_40 (by decide) (by omega) (by omega) (fun c40 => absurd c40 (by decide)) (fun c40 => ?_)
            refine lv_iload_n hx hb dX1_add_43 rfl (lv_at hl 1 rfl) ?_
            refine lv_bipush (v := nI 15) hx hb dX1_add_44 (by decide) ?_
            refine xn_ne_b (tgt := 58) hx hb dX1_add_46 (by decide) (by omega) (by omega) (fun c46 => ?_) (fun c46 => absurd c46 (by decide))
            refine lv_iload_n hx hb dX1_add_58 rfl (lv_at hl 1 rfl) ?_
            refine lv_bipush (v := nI 14) hx hb dX1_add_59 (by decide) ?_
            refine xn_ne_b (tgt := 73) hx hb dX1_add_61 (by decide) (by omega) (by omega) (fun c61 => ?_) (fun c61 => absurd c61 (by decide))
            refine lv_aload_n hx hb dX1_add_73 rfl (lv_at hl 0 rfl) ?_
            refine va_get (ci := 1) (v := .ref (bd 0)) (C := RX1) (T := TX1) (N := 8) hx hb hts in_X1 hown hK hP 0 rfl rfl 1 (by decide) (hts _ q195) (fun _ h9 => h9) rfl dX1_add_74 ?_
            refine lv_aload_n hx hb dX1_add_77 rfl (lv_at hl 0 rfl) ?_
            refine va_get (ci := 1) (v := .int (nI n)) (C := RX1) (T := TX1) (N := 8) hx hb hts in_X1 hown hK hP 0 rfl rfl 0 (by decide) (hts _ q194) (fun _ h9 => h9) rfl dX1_add_78 ?_
            refine lv_iload_n hx hb dX1_add_81 rfl (lv_at hl 1 rfl) ?_
            refine xn_ast (k := n) hx hb hK hP hD hS 1 0 rfl rfl (by omega) (by decide) dX1_add_82 (fun H locs hP hD hS => ?_)
            have hP : va_P D vwCl (wM g bd cb n (va_up cd n 13) lf rt vr pu ou vw) H := hP
            have hD : va_D A (wM g bd cb n (va_up cd n 13) lf rt vr pu ou vw) := hD
            refine lv_aload_n hx hb dX1_add_83 rfl (lv_at hl 0 rfl) ?_
            refine va_get (ci := 1) (v := .ref (bd 1)) (C := RX1) (T := TX1) (N := 8) hx hb hts in_X1 hown hK hP 0 rfl rfl 2 (by decide) (hts _ q196) (fun _ h9 => h9) rfl dX1_add_84 ?_
            refine lv_aload_n hx hb dX1_add_87 rfl (lv_at hl 0 rfl) ?_
            refine va_get (ci := 1) (v := .int (nI n)) (C := RX1) (T := TX1) (N := 8) hx hb hts in_X1 hown hK hP 0 rfl rfl 0 (by decide) (hts _ q194) (fun _ h9 => h9) rfl dX1_add_88 ?_
            refine lv_iload_n hx hb dX1_add_91 rfl (lv_at hl 2 rfl) ?_
            refine xi_ast (k := n) hx hb hK hP hD hS 2 1 rfl rfl (by omega) (by decide) dX1_add_92 (fun H locs hP hD hS => ?_)
            have hP : va_P D vwCl (wM g bd cb n (va_up cd n 13) (upd lf n a0) rt vr pu ou vw) H := hP
            have hD : va_D A (wM g bd cb n (va_up cd n 13) (upd lf n a0) rt vr pu ou vw) := hD
            refine lv_aload_n hx hb dX1_add_93 rfl (lv_at hl 0 rfl) ?_
            refine va_get (ci := 1) (v := .ref (bd 2)) (C := RX1) (T := TX1) (N := 8) hx hb hts in_X1 hown hK hP 0 rfl rfl 3 (by decide) (hts _ q197) (fun _ h9 => h9) rfl dX1_add_94 ?_
            refine lv_aload_n hx hb dX1_add_97 rfl (lv_at hl 0 rfl) ?_
            refine va_get (ci := 1) (v := .int (nI n)) (C := RX1) (T := TX1) (N := 8) hx hb hts in_X1 hown hK hP 0 rfl rfl 0 (by decide) (hts _ q194) (fun _ h9 => h9) rfl dX1_add_98 ?_
            refine lv_iload_n hx hb dX1_add_101 rfl (lv_at hl 3 rfl) ?_
            refine xi_ast (k := n) hx hb hK hP hD hS 3 2 rfl rfl (by omega) (by decide) dX1_add_102 (fun H locs hP hD hS => ?_)
            have hP : va_P D vwCl (wM g bd cb n (va_up cd n 13) (upd lf n a0) (upd rt n b0) vr pu ou vw) H := hP
            have hD : va_D A (wM g bd cb n (va_up cd n 13) (upd lf n a0) (upd rt n b0) vr pu ou vw) := hD
            refine lv_aload_n hx hb dX1_add_103 rfl (lv_at hl 0 rfl) ?_
            refine lv_dup hx hb dX1_add_104 rfl ?_
            refine va_get (ci := 1) (v := .int (nI n)) (C := RX1) (T := TX1) (N := 8) hx hb hts in_X1 hown hK hP 0 rfl rfl 0 (by decide) (hts _ q194) (fun _ h9 => h9) rfl dX1_add_105 ?_
            refine lv_iconst (v := nI 1) hx hb dX1_add_108 (by decide) ?_
            refine xi_add hx hb dX1_add_109 ?_
            refine va_put (ci := 1) (v := .int (nI (n + 1))) (ty := .int) (C := RX1) (T := TX1) (N := 8) hx hb hts in_X1 tyX1 tyX1_ok nmX1 hown hK hP hD hS 0 rfl rfl 0 (by decide) (hts _ q194) (fun _ h9 => h9) rfl (by decide +kernel) rfl rfl (Nat.le_of_ble_eq_true rfl) dX1_add_110 (fun H locs hP hD hS => ?_)
            have hP : va_P D vwCl (wM g bd cb (n + 1) (va_up cd n 13) (upd lf n a0) (upd rt n b0) vr pu ou vw) H := hP
            have hD : va_D A (wM g bd cb (n + 1) (va_up cd n 13) (upd lf n a0) (upd rt n b0) vr pu ou vw) := hD
            refine lv_aload_n hx hb dX1_add_113 rfl (lv_at hl 0 rfl) ?_
            refine va_get (ci := 1) (v := .int (nI (n + 1))) (C := RX1) (T := TX1) (N := 8) hx hb hts in_X1 hown hK hP 0 rfl rfl 0 (by decide) (hts _ q194) (fun _ h9 => h9) rfl dX1_add_114 ?_
            exact hret 117 ls H locs (nI (n + 1)) (n + 1, va_up cd n 13, upd lf n a0, upd rt n b0) dX1_add_117 rfl (Or.inl ⟨13, rfl, by omega, hac, rfl, rfl⟩) hP hD hS
          · refine lv_iconst (v := (-1)) hx hb dX1_add_35 (by decide) ?_
            exact hret 36 ls H locs (-1) (n, cd, lf, rt) dX1_add_36 rfl (Or.inr ⟨rej hk (fun q => by have := q.2.2.1 k13; omega), rfl, rfl⟩) hP hD hS
      · refine lv_iconst (v := (-1)) hx hb dX1_add_19 (by decide) ?_
        exact hret 20 ls H locs (-1) (n, cd, lf, rt) dX1_add_20 rfl (Or.inr ⟨by first | exact rej_n (Or.inl k1) | exact rej_n (Or.inr k2) | exact rej hk (fun q => absurd q.1 (by omega)), rfl, rfl⟩) hP hD hS
end
section
set_option maxRecDepth 100000
/-! the constructors -/
abbrev wXu (h : Nat) (ad : Nat → Nat) (ca : Nat → ClassId) (u : XS) : va_W := wX h ad ca u.1 u.2.1 u.2.2.1 u.2.2.2.1 u.2.2.2.2.1 u.2.2.2.2.2.1 u.2.2.2.2.2.2.1 u.2.2.2.2.2.2.2.1 u.2.2.2.2.2.2.2.2.1 u.2.2.2.2.2.2.2.2.2.1 u.2.2.2.2.2.2.2.2.2.2.1 u.2.2.2.2.2.2.2.2.2.2.2.1 u.2.2.2.2.2.2.2.2.2.2.2.2.1 u.2.2.2.2.2.2.2.2.2.2.2.2.2.1 u.2.2.2.2.2.2.2.2.2.2.2.2.2.2.1 u.2.2.2.2.2.2.2.2.2.2.2.2.2.2.2
/-- the fields of a new object -/
abbrev dX : List Value := [.int (nI 0), .int (nI 0), .null, .null, .null, .long 0, .null, .null, .null, .null, .int (nI 0), .int (nI 0), .null, .null, .null, .null]
abbrev dM : List Value := [.int (nI 0), .null, .null, .null, .null, .int (nI 0), .null, .null]
set_option maxHeartbeats 4000000 in
/-- LeakageMeter(): eleven arrays, and clear() -/
theorem cX_init (l : Launch) (D : va_G) (h sz : Nat) : Met l yX0_init (ws_ yX0_init cX0_init 1 none) { frames := 1, cells := 11, slots := 500, locals := 22 } (cP D [] [(h, .inr (0, dX))] sz [.ref h]) (va_Qv (fun (u : (Nat → Nat) × (Nat → ClassId) × XS) => XRu (fun _ => 0) (fun _ => 0) (fun _ => 0) 0 u.2.2) (fun u t => va_P D vwCl (wXu h u.1 u.2.1 u.2.2) t.heap ∧ va_K D vwCl (tX u.2.1) t ∧ va_D (va_A [(h, .inr (0, dX))] sz) (wXu h u.1 u.2.1 u.2.2)) (va_A [(h, .inr (0, dX))] sz)) 11 500 (va_A [(h, .inr (0, dX))] sz) := by
  refine Met.ofW (cc := cX0_init) (maxL := 1) (ret := none) (by decide) rfl ?_
  intro p e s m args below meth c s₁ B hml hv
  obtain ⟨rfl, hsz, hP, hK, hD0⟩ := hv
  have hx := B.exec
  have hb := B.bytes
  have hr := B.returns
  have hts := atoms_spec (ws := ws_ yX0_init cX0_init 1 none) B.pre
  have hts : ∀ w ∈ lw_all, w.before _ s = true := fun w h => hts w (List.mem_cons_of_mem _ h)
  have hown : s.vm.findClass RX0 = some m.cls := findClass_of_methodNamed B.named
  have hlocks := B.notSynchronized
  have hin : meth.name = "<init>" := (name_of_methodNamed B.named B.method).1
  subst hsz
  have hD := hD0.self (sz := s.heap.size)
  generalize hAe : va_A [(h, .inr (0, dX))] s.heap.size = A at hD ⊢
  have hA : ∀ q : Nat, s.heap.size ≤ q → A q := fun q h => by rw [← hAe]; exact Or.inr h
  have hS : va_S A s.heap s.heap [] := va_S.rf
  have hl := lv_entry ([.ref h]) (n := 1) (Nat.le_of_ble_eq_true rfl)
  rw [lg_entry_eq]
  generalize (lg_sl ([.ref h]) ++ List.replicate (1 - (lg_sl ([.ref h])).length) Slot.unset).toArray = ls at hl ⊢
  have hl : lv_has ls 1 [(0, .ref h)] := hl
  refine lv_aload_n hx hb dX0_init_0 rfl (lv_at hl 0 rfl) ?_
  refine W.objInit hx hb hown (hts _ q30) (hts _ q31) (hts _ q32) rfl (by rw [hml]; exact hl.1) rfl dX0_init_1 (Nat.le_of_ble_eq_true rfl) (Nat.le_of_ble_eq_true rfl) ?_
  refine W.eq (g2 := F0 m 4 ls []) rfl ?_
  refine lv_aload_n hx hb dX0_init_4 rfl (lv_at hl 0 rfl) ?_
  refine lv_iconst (v := nI 4) hx hb dX0_init_5 (by decide) ?_
  refine va_newa (a0 := (4, .inl (nA (fun _ => 0)))) (N' := 4) (atype := .boolean) (ty := .boolean) hx hb (hts _ q87) rfl hK hP hD hS hA (fun _ => rfl) (by decide) (by decide) (by decide) (Nat.le_of_ble_eq_true rfl) (Nat.le_of_ble_eq_true rfl) dX0_init_6 (fun a0 c0 H hK hP hD hS => ?_)
  refine W.widen (k := 1) (n := 4) (Nat.le_of_ble_eq_true rfl) (Nat.le_of_ble_eq_true rfl) ?_
  have hP : va_P D vwCl [(h, .inr (0, [.int (nI 0), .int (nI 0), .null, .null, .null, .long 0, .null, .null, .null, .null, .int (nI 0), .int (nI 0), .null, .null, .null, .null])), (a0, .inl (c0, 4, .inl (nA (fun _ => 0))))] H := hP
  have hD : va_D A [(h, .inr (0, [.int (nI 0), .int (nI 0), .null, .null, .null, .long 0, .null, .null, .null, .null, .int (nI 0), .int (nI 0), .null, .null, .null, .null])), (a0, .inl (c0, 4, .inl (nA (fun _ => 0))))] := hD
  have hK : va_K D vwCl [(c0, .boolean)] s := hK
  refine va_putF (ci := 0) (v := .ref a0) (ty := .array .boolean) (C := RX0) (T := TX0) (N := 16) hx hb hts in_X0 tyX0 tyX0_ok nmX0 hown hK hP hD hS 0 rfl rfl 2 (by decide) (hts _ q40) (fun _ h9 => h9) rfl hin rfl (by decide +kernel) rfl rfl (Nat.le_of_ble_eq_true rfl) dX0_init_8 (fun H locs hP hD hS => ?_)
  have hP : va_P D vwCl [(h, .inr (0, [.int (nI 0), .int (nI 0), .ref a0, .null, .null, .long 0, .null, .null, .null, .null, .int (nI 0), .int (nI 0), .null, .null, .null, .null])), (a0, .inl (c0, 4, .inl (nA (fun _ => 0))))] H := hP
  have hD : va_D A [(h, .inr (0, [.int (nI 0), .int (nI 0), .ref a0, .null, .null, .long 0, .null, .null, .null, .null, .int (nI 0), .int (nI 0), .null, .null, .null, .null])), (a0, .inl (c0, 4, .inl (nA (fun _ => 0))))] := hD
  refine lv_aload_n hx hb dX0_init_11 rfl (lv_at hl 0 rfl) ?_
  refine lv_bipush (v := nI 32) hx hb dX0_init_12 (by decide) ?_
  refine va_newa (a0 := (32, .inr (.inl (fun _ => 0)))) (N' := 32) (atype := .long) (ty := .long) hx hb (hts _ q88) rfl hK hP hD hS hA (fun _ => rfl) (by decide) (by decide) (by decide) (Nat.le_of_ble_eq_true rfl) (Nat.le_of_ble_eq_true rfl) dX0_init_14 (fun a1 c1 H hK hP hD hS => ?_)
  refine W.widen (k := 2) (n := 36) (Nat.le_of_ble_eq_true rfl) (Nat.le_of_ble_eq_true rfl) ?_
  have hP : va_P D vwCl [(h, .inr (0, [.int (nI 0), .int (nI 0), .ref a0, .null, .null, .long 0, .null, .null, .null, .null, .int (nI 0), .int (nI 0), .null, .null, .null, .null])), (a0, .inl (c0, 4, .inl (nA (fun _ => 0)))), (a1, .inl (c1, 32, .inr (.inl (fun _ => 0))))] H := hP
  have hD : va_D A [(h, .inr (0, [.int (nI 0), .int (nI 0), .ref a0, .null, .null, .long 0, .null, .null, .null, .null, .int (nI 0), .int (nI 0), .null, .null, .null, .null])), (a0, .inl (c0, 4, .inl (nA (fun _ => 0)))), (a1, .inl (c1, 32, .inr (.inl (fun _ => 0))))] := hD
  have hK : va_K D vwCl [(c0, .boolean), (c1, .long)] s := hK
  refine va_putF (ci := 0) (v := .ref a1) (ty := .array .long) (C := RX0) (T := TX0) (N := 16) hx hb hts in_X0 tyX0 tyX0_ok nmX0 hown hK hP hD hS 0 rfl rfl 3 (by decide) (hts _ q41) (fun _ h9 => h9) rfl hin rfl (by decide +kernel) rfl rfl (Nat.le_of_ble_eq_true rfl) dX0_init_16 (fun H locs hP hD hS => ?_)
  have hP : va_P D vwCl [(h, .inr (0, [.int (nI 0), .int (nI 0), .ref a0, .ref a1, .null, .long 0, .null, .null, .null, .null, .int (nI 0), .int (nI 0), .null, .null, .null, .null])), (a0, .inl (c0, 4, .inl (nA (fun _ => 0)))), (a1, .inl (c1, 32, .inr (.inl (fun _ => 0))))] H := hP
  have hD : va_D A [(h, .inr (0, [.int (nI 0), .int (nI 0), .ref a0, .ref a1, .null, .long 0, .null, .null, .null, .null, .int (nI 0), .int (nI 0), .null, .null, .null, .null])), (a0, .inl (c0, 4, .inl (nA (fun _ => 0)))), (a1, .inl (c1, 32, .inr (.inl (fun _ => 0))))] := hD
  refine lv_aload_n hx hb dX0_init_19 rfl (lv_at hl 0 rfl) ?_
  refine lv_bipush (v := nI 8) hx hb dX0_init_20 (by decide) ?_
  refine va_newa (a0 := (8, .inr (.inl (fun _ => 0)))) (N' := 8) (atype := .long) (ty := .long) hx hb (hts _ q88) rfl hK hP hD hS hA (fun _ => rfl) (by decide) (by decide) (by decide) (Nat.le_of_ble_eq_true rfl) (Nat.le_of_ble_eq_true rfl) dX0_init_22 (fun a2 c2 H hK hP hD hS => ?_)
  refine W.widen (k := 3) (n := 44) (Nat.le_of_ble_eq_true rfl) (Nat.le_of_ble_eq_true rfl) ?_
  have hP : va_P D vwCl [(h, .inr (0, [.int (nI 0), .int (nI 0), .ref a0, .ref a1, .null, .long 0, .null, .null, .null, .null, .int (nI 0), .int (nI 0), .null, .null, .null, .null])), (a0, .inl (c0, 4, .inl (nA (fun _ => 0)))), (a1, .inl (c1, 32, .inr (.inl (fun _ => 0)))), (a2, .inl (c2, 8, .inr (.inl (fun _ => 0))))] H := hP
  have hD : va_D A [(h, .inr (0, [.int (nI 0), .int (nI 0), .ref a0, .ref a1, .null, .long 0, .null, .null, .null, .null, .int (nI 0), .int (nI 0), .null, .null, .null, .null])), (a0, .inl (c0, 4, .inl (nA (fun _ => 0)))), (a1, .inl (c1, 32, .inr (.inl (fun _ => 0)))), (a2, .inl (c2, 8, .inr (.inl (fun _ => 0))))] := hD
  have hK : va_K D vwCl [(c0, .boolean), (c1, .long), (c2, .long)] s := hK
  refine va_putF (ci := 0) (v := .ref a2) (ty := .array .long) (C := RX0) (T := TX0) (N := 16) hx hb hts in_X0 tyX0 tyX0_ok nmX0 hown hK hP hD hS 0 rfl rfl 4 (by decide) (hts _ q42) (fun _ h9 => h9) rfl hin rfl (by decide +kernel) rfl rfl (Nat.le_of_ble_eq_true rfl) dX0_init_24 (fun H locs hP hD hS => ?_)
  have hP : va_P D vwCl [(h, .inr (0, [.int (nI 0), .int (nI 0), .ref a0, .ref a1, .ref a2, .long 0, .null, .null, .null, .null, .int (nI 0), .int (nI 0), .null, .null, .null, .null])), (a0, .inl (c0, 4, .inl (nA (fun _ => 0)))), (a1, .inl (c1, 32, .inr (.inl (fun _ => 0)))), (a2, .inl (c2, 8, .inr (.inl (fun _ => 0))))] H := hP
  have hD : va_D A [(h, .inr (0, [.int (nI 0), .int (nI 0), .ref a0, .ref a1, .ref a2, .long 0, .null, .null, .null, .null, .int (nI 0), .int (nI 0), .null, .null, .null, .null])), (a0, .inl (c0, 4, .inl (nA (fun _ => 0)))), (a1, .inl (c1, 32, .inr (.inl (fun _ => 0)))), (a2, .inl (c2, 8, .inr (.inl (fun _ => 0))))] := hD
  refine lv_aload_n hx hb dX0_init_27 rfl (lv_at hl 0 rfl) ?_
  refine lv_iconst (v := nI 4) hx hb dX0_init_28 (by decide) ?_
  refine va_newa (a0 := (4, .inr (.inl (fun _ => 0)))) (N' := 4) (atype := .long) (ty := .long) hx hb (hts _ q88) rfl hK hP hD hS hA (fun _ => rfl) (by decide) (by decide) (by decide) (Nat.le_of_ble_eq_true rfl) (Nat.le_of_ble_eq_true rfl) dX0_init_29 (fun a3 c3 H hK hP hD hS => ?_)
  refine W.widen (k := 4) (n := 48) (Nat.le_of_ble_eq_true rfl) (Nat.le_of_ble_eq_true rfl) ?_
  have hP : va_P D vwCl [(h, .inr (0, [.int (nI 0), .int (nI 0), .ref a0, .ref a1, .ref a2, .long 0, .null, .null, .null, .null, .int (nI 0), .int (nI 0), .null, .null, .null, .null])), (a0, .inl (c0, 4, .inl (nA (fun _ => 0)))), (a1, .inl (c1, 32, .inr (.inl (fun _ => 0)))), (a2, .inl (c2, 8, .inr (.inl (fun _ => 0)))), (a3, .inl (c3, 4, .inr (.inl (fun _ => 0))))] H := hP
  have hD : va_D A [(h, .inr (0, [.int (nI 0), .int (nI 0), .ref a0, .ref a1, .ref a2, .long 0, .null, .null, .null, .null, .int (nI 0), .int (nI 0), .null, .null, .null, .null])), (a0, .inl (c0, 4, .inl (nA (fun _ => 0)))), (a1, .inl (c1, 32, .inr (.inl (fun _ => 0)))), (a2, .inl (c2, 8, .inr (.inl (fun _ => 0)))), (a3, .inl (c3, 4, .inr (.inl (fun _ => 0))))] := hD
  have hK : va_K D vwCl [(c0, .boolean), (c1, .long), (c2, .long), (c3, .long)] s := hK
  refine va_putF (ci := 0) (v := .ref a3) (ty := .array .long) (C := RX0) (T := TX0) (N := 16) hx hb hts in_X0 tyX0 tyX0_ok nmX0 hown hK hP hD hS 0 rfl rfl 6 (by decide) (hts _ q44) (fun _ h9 => h9) rfl hin rfl (by decide +kernel) rfl rfl (Nat.le_of_ble_eq_true rfl) dX0_init_31 (fun H locs hP hD hS => ?_)
  have hP : va_P D vwCl [(h, .inr (0, [.int (nI 0), .int (nI 0), .ref a0, .ref a1, .ref a2, .long 0, .ref a3, .null, .null, .null, .int (nI 0), .int (nI 0), .null, .null, .null, .null])), (a0, .inl (c0, 4, .inl (nA (fun _ => 0)))), (a1, .inl (c1, 32, .inr (.inl (fun _ => 0)))), (a2, .inl (c2, 8, .inr (.inl (fun _ => 0)))), (a3, .inl (c3, 4, .inr (.inl (fun _ => 0))))] H := hP
  have hD : va_D A [(h, .inr (0, [.int (nI 0), .int (nI 0), .ref a0, .ref a1, .ref a2, .long 0, .ref a3, .null, .null, .null, .int (nI 0), .int (nI 0), .null, .null, .null, .null])), (a0, .inl (c0, 4, .inl (nA (fun _ => 0)))), (a1, .inl (c1, 32, .inr (.inl (fun _ => 0)))), (a2, .inl (c2, 8, .inr (.inl (fun _ => 0)))), (a3, .inl (c3, 4, .inr (.inl (fun _ => 0))))] := hD
  refine lv_aload_n hx hb dX0_init_34 rfl (lv_at hl 0 rfl) ?_
  refine lv_iconst (v := nI 4) hx hb dX0_init_35 (by decide) ?_
  refine va_newa (a0 := (4, .inr (.inl (fun _ => 0)))) (N' := 4) (atype := .long) (ty := .long) hx hb (hts _ q88) rfl hK hP hD hS hA (fun _ => rfl) (by decide) (by decide) (by decide) (Nat.le_of_ble_eq_true rfl) (Nat.le_of_ble_eq_true rfl) dX0_init_36 (fun a4 c4 H hK hP hD hS => ?_)
  refine W.widen (k := 5) (n := 52) (Nat.le_of_ble_eq_true rfl) (Nat.le_of_ble_eq_true rfl) ?_
  have hP : va_P D vwCl [(h, .inr (0, [.int (nI 0), .int (nI 0), .ref a0, .ref a1, .ref a2, .long 0, .ref a3, .null, .null, .null, .int (nI 0), .int (nI 0), .null, .null, .null, .null])), (a0, .inl (c0, 4, .inl (nA (fun _ => 0)))), (a1, .inl (c1, 32, .inr (.inl (fun _ => 0)))), (a2, .inl (c2, 8, .inr (.inl (fun _ => 0)))), (a3, .inl (c3, 4, .inr (.inl (fun _ => 0)))), (a4, .inl (c4, 4, .inr (.inl (fun _ => 0))))] H := hP
  have hD : va_D A [(h, .inr (0, [.int (nI 0), .int (nI 0), .ref a0, .ref a1, .ref a2, .long 0, .ref a3, .null, .null, .null, .int (nI 0), .int (nI 0), .null, .null, .null, .null])), (a0, .inl (c0, 4, .inl (nA (fun _ => 0)))), (a1, .inl (c1, 32, .inr (.inl (fun _ => 0)))), (a2, .inl (c2, 8, .inr (.inl (fun _ => 0)))), (a3, .inl (c3, 4, .inr (.inl (fun _ => 0)))), (a4, .inl (c4, 4, .inr (.inl (fun _ => 0))))] := hD
  have hK : va_K D vwCl [(c0, .boolean), (c1, .long), (c2, .long), (c3, .long), (c4, .long)] s := hK
  refine va_putF (ci := 0) (v := .ref a4) (ty := .array .long) (C := RX0) (T := TX0) (N := 16) hx hb hts in_X0 tyX0 tyX0_ok nmX0 hown hK hP hD hS 0 rfl rfl 7 (by decide) (hts _ q45) (fun _ h9 => h9) rfl hin rfl (by decide +kernel) rfl rfl (Nat.le_of_ble_eq_true rfl) dX0_init_38 (fun H locs hP hD hS => ?_)
  have hP : va_P D vwCl [(h, .inr (0, [.int (nI 0), .int (nI 0), .ref a0, .ref a1, .ref a2, .long 0, .ref a3, .ref a4, .null, .null, .int (nI 0), .int (nI 0), .null, .null, .null, .null])), (a0, .inl (c0, 4, .inl (nA (fun _ => 0)))), (a1, .inl (c1, 32, .inr (.inl (fun _ => 0)))), (a2, .inl (c2, 8, .inr (.inl (fun _ => 0)))), (a3, .inl (c3, 4, .inr (.inl (fun _ => 0)))), (a4, .inl (c4, 4, .inr (.inl (fun _ => 0))))] H := hP
  have hD : va_D A [(h, .inr (0, [.int (nI 0), .int (nI 0), .ref a0, .ref a1, .ref a2, .long 0, .ref a3, .ref a4, .null, .null, .int (nI 0), .int (nI 0), .null, .null, .null, .null])), (a0, .inl (c0, 4, .inl (nA (fun _ => 0)))), (a1, .inl (c1, 32, .inr (.inl (fun _ => 0)))), (a2, .inl (c2, 8, .inr (.inl (fun _ => 0)))), (a3, .inl (c3, 4, .inr (.inl (fun _ => 0)))), (a4, .inl (c4, 4, .inr (.inl (fun _ => 0))))] := hD
  refine lv_aload_n hx hb dX0_init_41 rfl (lv_at hl 0 rfl) ?_
  refine lv_bipush (v := nI 64) hx hb dX0_init_42 (by decide) ?_
  refine va_newa (a0 := (64, .inl (nA (fun _ => 0)))) (N' := 64) (atype := .int) (ty := .int) hx hb (hts _ q89) rfl hK hP hD hS hA (fun _ => rfl) (by decide) (by decide) (by decide) (Nat.le_of_ble_eq_true rfl) (Nat.le_of_ble_eq_true rfl) dX0_init_44 (fun a5 c5 H hK hP hD hS => ?_)
  refine W.widen (k := 6) (n := 116) (Nat.le_of_ble_eq_true rfl) (Nat.le_of_ble_eq_true rfl) ?_
  have hP : va_P D vwCl [(h, .inr (0, [.int (nI 0), .int (nI 0), .ref a0, .ref a1, .ref a2, .long 0, .ref a3, .ref a4, .null, .null, .int (nI 0), .int (nI 0), .null, .null, .null, .null])), (a0, .inl (c0, 4, .inl (nA (fun _ => 0)))), (a1, .inl (c1, 32, .inr (.inl (fun _ => 0)))), (a2, .inl (c2, 8, .inr (.inl (fun _ => 0)))), (a3, .inl (c3, 4, .inr (.inl (fun _ => 0)))), (a4, .inl (c4, 4, .inr (.inl (fun _ => 0)))), (a5, .inl (c5, 64, .inl (nA (fun _ => 0))))] H := hP
  have hD : va_D A [(h, .inr (0, [.int (nI 0), .int (nI 0), .ref a0, .ref a1, .ref a2, .long 0, .ref a3, .ref a4, .null, .null, .int (nI 0), .int (nI 0), .null, .null, .null, .null])), (a0, .inl (c0, 4, .inl (nA (fun _ => 0)))), (a1, .inl (c1, 32, .inr (.inl (fun _ => 0)))), (a2, .inl (c2, 8, .inr (.inl (fun _ => 0)))), (a3, .inl (c3, 4, .inr (.inl (fun _ => 0)))), (a4, .inl (c4, 4, .inr (.inl (fun _ => 0)))), (a5, .inl (c5, 64, .inl (nA (fun _ => 0))))] := hD
  have hK : va_K D vwCl [(c0, .boolean), (c1, .long), (c2, .long), (c3, .long), (c4, .long), (c5, .int)] s := hK
  refine va_putF (ci := 0) (v := .ref a5) (ty := .array .int) (C := RX0) (T := TX0) (N := 16) hx hb hts in_X0 tyX0 tyX0_ok nmX0 hown hK hP hD hS 0 rfl rfl 8 (by decide) (hts _ q46) (fun _ h9 => h9) rfl hin rfl (by decide +kernel) rfl rfl (Nat.le_of_ble_eq_true rfl) dX0_init_46 (fun H locs hP hD hS => ?_)
  have hP : va_P D vwCl [(h, .inr (0, [.int (nI 0), .int (nI 0), .ref a0, .ref a1, .ref a2, .long 0, .ref a3, .ref a4, .ref a5, .null, .int (nI 0), .int (nI 0), .null, .null, .null, .null])), (a0, .inl (c0, 4, .inl (nA (fun _ => 0)))), (a1, .inl (c1, 32, .inr (.inl (fun _ => 0)))), (a2, .inl (c2, 8, .inr (.inl (fun _ => 0)))), (a3, .inl (c3, 4, .inr (.inl (fun _ => 0)))), (a4, .inl (c4, 4, .inr (.inl (fun _ => 0)))), (a5, .inl (c5, 64, .inl (nA (fun _ => 0))))] H := hP
  have hD : va_D A [(h, .inr (0, [.int (nI 0), .int (nI 0), .ref a0, .ref a1, .ref a2, .long 0, .ref a3, .ref a4, .ref a5, .null, .int (nI 0), .int (nI 0), .null, .null, .null, .null])), (a0, .inl (c0, 4, .inl (nA (fun _ => 0)))), (a1, .inl (c1, 32, .inr (.inl (fun _ => 0)))), (a2, .inl (c2, 8, .inr (.inl (fun _ => 0)))), (a3, .inl (c3, 4, .inr (.inl (fun _ => 0)))), (a4, .inl (c4, 4, .inr (.inl (fun _ => 0)))), (a5, .inl (c5, 64, .inl (nA (fun _ => 0))))] := hD
  refine lv_aload_n hx hb dX0_init_49 rfl (lv_at hl 0 rfl) ?_
  refine lv_bipush (v := nI 64) hx hb dX0_init_50 (by decide) ?_
  refine va_newa (a0 := (64, .inr (.inl (fun _ => 0)))) (N' := 64) (atype := .long) (ty := .long) hx hb (hts _ q88) rfl hK hP hD hS hA (fun _ => rfl) (by decide) (by decide) (by decide) (Nat.le_of_ble_eq_true rfl) (Nat.le_of_ble_eq_true rfl) dX0_init_52 (fun a6 c6 H hK hP hD hS => ?_)
  refine W.widen (k := 7) (n := 180) (Nat.le_of_ble_eq_true rfl) (Nat.le_of_ble_eq_true rfl) ?_
  have hP : va_P D vwCl [(h, .inr (0, [.int (nI 0), .int (nI 0), .ref a0, .ref a1, .ref a2, .long 0, .ref a3, .ref a4, .ref a5, .null, .int (nI 0), .int (nI 0), .null, .null, .null, .null])), (a0, .inl (c0, 4, .inl (nA (fun _ => 0)))), (a1, .inl (c1, 32, .inr (.inl (fun _ => 0)))), (a2, .inl (c2, 8, .inr (.inl (fun _ => 0)))), (a3, .inl (c3, 4, .inr (.inl (fun _ => 0)))), (a4, .inl (c4, 4, .inr (.inl (fun _ => 0)))), (a5, .inl (c5, 64, .inl (nA (fun _ => 0)))), (a6, .inl (c6, 64, .inr (.inl (fun _ => 0))))] H := hP
  have hD : va_D A [(h, .inr (0, [.int (nI 0), .int (nI 0), .ref a0, .ref a1, .ref a2, .long 0, .ref a3, .ref a4, .ref a5, .null, .int (nI 0), .int (nI 0), .null, .null, .null, .null])), (a0, .inl (c0, 4, .inl (nA (fun _ => 0)))), (a1, .inl (c1, 32, .inr (.inl (fun _ => 0)))), (a2, .inl (c2, 8, .inr (.inl (fun _ => 0)))), (a3, .inl (c3, 4, .inr (.inl (fun _ => 0)))), (a4, .inl (c4, 4, .inr (.inl (fun _ => 0)))), (a5, .inl (c5, 64, .inl (nA (fun _ => 0)))), (a6, .inl (c6, 64, .inr (.inl (fun _ => 0))))] := hD
  have hK : va_K D vwCl [(c0, .boolean), (c1, .long), (c2, .long), (c3, .long), (c4, .long), (c5, .int), (c6, .long)] s := hK
  refine va_putF (ci := 0) (v := .ref a6) (ty := .array .long) (C := RX0) (T := TX0) (N := 16) hx hb hts in_X0 tyX0 tyX0_ok nmX0 hown hK hP hD hS 0 rfl rfl 9 (by decide) (hts _ q47) (fun _ h9 => h9) rfl hin rfl (by decide +kernel) rfl rfl (Nat.le_of_ble_eq_true rfl) dX0_init_54 (fun H locs hP hD hS => ?_)
  have hP : va_P D vwCl [(h, .inr (0, [.int (nI 0), .int (nI 0), .ref a0, .ref a1, .ref a2, .long 0, .ref a3, .ref a4, .ref a5, .ref a6, .int (nI 0), .int (nI 0), .null, .null, .null, .null])), (a0, .inl (c0, 4, .inl (nA (fun _ => 0)))), (a1, .inl (c1, 32, .inr (.inl (fun _ => 0)))), (a2, .inl (c2, 8, .inr (.inl (fun _ => 0)))), (a3, .inl (c3, 4, .inr (.inl (fun _ => 0)))), (a4, .inl (c4, 4, .inr (.inl (fun _ => 0)))), (a5, .inl (c5, 64, .inl (nA (fun _ => 0)))), (a6, .inl (c6, 64, .inr (.inl (fun _ => 0))))] H := hP
  have hD : va_D A [(h, .inr (0, [.int (nI 0), .int (nI 0), .ref a0, .ref a1, .ref a2, .long 0, .ref a3, .ref a4, .ref a5, .ref a6, .int (nI 0), .int (nI 0), .null, .null, .null, .null])), (a0, .inl (c0, 4, .inl (nA (fun _ => 0)))), (a1, .inl (c1, 32, .inr (.inl (fun _ => 0)))), (a2, .inl (c2, 8, .inr (.inl (fun _ => 0)))), (a3, .inl (c3, 4, .inr (.inl (fun _ => 0)))), (a4, .inl (c4, 4, .inr (.inl (fun _ => 0)))), (a5, .inl (c5, 64, .inl (nA (fun _ => 0)))), (a6, .inl (c6, 64, .inr (.inl (fun _ => 0))))] := hD
  refine lv_aload_n hx hb dX0_init_57 rfl (lv_at hl 0 rfl) ?_
  refine lv_bipush (v := nI 64) hx hb dX0_init_58 (by decide) ?_
  refine va_newa (a0 := (64, .inl (nA (fun _ => 0)))) (N' := 64) (atype := .int) (ty := .int) hx hb (hts _ q89) rfl hK hP hD hS hA (fun _ => rfl) (by decide) (by decide) (by decide) (Nat.le_of_ble_eq_true rfl) (Nat.le_of_ble_eq_true rfl) dX0_init_60 (fun a7 c7 H hK hP hD hS => ?_)
  refine W.widen (k := 8) (n := 244) (Nat.le_of_ble_eq_true rfl) (Nat.le_of_ble_eq_true rfl) ?_
  have hP : va_P D vwCl [(h, .inr (0, [.int (nI 0), .int (nI 0), .ref a0, .ref a1, .ref a2, .long 0, .ref a3, .ref a4, .ref a5, .ref a6, .int (nI 0), .int (nI 0), .null, .null, .null, .null])), (a0, .inl (c0, 4, .inl (nA (fun _ => 0)))), (a1, .inl (c1, 32, .inr (.inl (fun _ => 0)))), (a2, .inl (c2, 8, .inr (.inl (fun _ => 0)))), (a3, .inl (c3, 4, .inr (.inl (fun _ => 0)))), (a4, .inl (c4, 4, .inr (.inl (fun _ => 0)))), (a5, .inl (c5, 64, .inl (nA (fun _ => 0)))), (a6, .inl (c6, 64, .inr (.inl (fun _ => 0)))), (a7, .inl (c7, 64, .inl (nA (fun _ => 0))))] H := hP
  have hD : va_D A [(h, .inr (0, [.int (nI 0), .int (nI 0), .ref a0, .ref a1, .ref a2, .long 0, .ref a3, .ref a4, .ref a5, .ref a6, .int (nI 0), .int (nI 0), .null, .null, .null, .null])), (a0, .inl (c0, 4, .inl (nA (fun _ => 0)))), (a1, .inl (c1, 32, .inr (.inl (fun _ => 0)))), (a2, .inl (c2, 8, .inr (.inl (fun _ => 0)))), (a3, .inl (c3, 4, .inr (.inl (fun _ => 0)))), (a4, .inl (c4, 4, .inr (.inl (fun _ => 0)))), (a5, .inl (c5, 64, .inl (nA (fun _ => 0)))), (a6, .inl (c6, 64, .inr (.inl (fun _ => 0)))), (a7, .inl (c7, 64, .inl (nA (fun _ => 0))))] := hD
  have hK : va_K D vwCl [(c0, .boolean), (c1, .long), (c2, .long), (c3, .long), (c4, .long), (c5, .int), (c6, .long), (c7, .int)] s := hK
  refine va_putF (ci := 0) (v := .ref a7) (ty := .array .int) (C := RX0) (T := TX0) (N := 16) hx hb hts in_X0 tyX0 tyX0_ok nmX0 hown hK hP hD hS 0 rfl rfl 12 (by decide) (hts _ q50) (fun _ h9 => h9) rfl hin rfl (by decide +kernel) rfl rfl (Nat.le_of_ble_eq_true rfl) dX0_init_62 (fun H locs hP hD hS => ?_)
  have hP : va_P D vwCl [(h, .inr (0, [.int (nI 0), .int (nI 0), .ref a0, .ref a1, .ref a2, .long 0, .ref a3, .ref a4, .ref a5, .ref a6, .int (nI 0), .int (nI 0), .ref a7, .null, .null, .null])), (a0, .inl (c0, 4, .inl (nA (fun _ => 0)))), (a1, .inl (c1, 32, .inr (.inl (fun _ => 0)))), (a2, .inl (c2, 8, .inr (.inl (fun _ => 0)))), (a3, .inl (c3, 4, .inr (.inl (fun _ => 0)))), (a4, .inl (c4, 4, .inr (.inl (fun _ => 0)))), (a5, .inl (c5, 64, .inl (nA (fun _ => 0)))), (a6, .inl (c6, 64, .inr (.inl (fun _ => 0)))), (a7, .inl (c7, 64, .inl (nA (fun _ => 0))))] H := hP
  have hD : va_D A [(h, .inr (0, [.int (nI 0), .int (nI 0), .ref a0, .ref a1, .ref a2, .long 0, .ref a3, .ref a4, .ref a5, .ref a6, .int (nI 0), .int (nI 0), .ref a7, .null, .null, .null])), (a0, .inl (c0, 4, .inl (nA (fun _ => 0)))), (a1, .inl (c1, 32, .inr (.inl (fun _ => 0)))), (a2, .inl (c2, 8, .inr (.inl (fun _ => 0)))), (a3, .inl (c3, 4, .inr (.inl (fun _ => 0)))), (a4, .inl (c4, 4, .inr (.inl (fun _ => 0)))), (a5, .inl (c5, 64, .inl (nA (fun _ => 0)))), (a6, .inl (c6, 64, .inr (.inl (fun _ => 0)))), (a7, .inl (c7, 64, .inl (nA (fun _ => 0))))] := hD
  refine lv_aload_n hx hb dX0_init_65 rfl (lv_at hl 0 rfl) ?_
  refine lv_bipush (v := nI 64) hx hb dX0_init_66 (by decide) ?_
  refine va_newa (a0 := (64, .inl (nA (fun _ => 0)))) (N' := 64) (atype := .int) (ty := .int) hx hb (hts _ q89) rfl hK hP hD hS hA (fun _ => rfl) (by decide) (by decide) (by decide) (Nat.le_of_ble_eq_true rfl) (Nat.le_of_ble_eq_true rfl) dX0_init_68 (fun a8 c8 H hK hP hD hS => ?_)
  refine W.widen (k := 9) (n := 308) (Nat.le_of_ble_eq_true rfl) (Nat.le_of_ble_eq_true rfl) ?_
  have hP : va_P D vwCl [(h, .inr (0, [.int (nI 0), .int (nI 0), .ref a0, .ref a1, .ref a2, .long 0, .ref a3, .ref a4, .ref a5, .ref a6, .int (nI 0), .int (nI 0), .ref a7, .null, .null, .null])), (a0, .inl (c0, 4, .inl (nA (fun _ => 0)))), (a1, .inl (c1, 32, .inr (.inl (fun _ => 0)))), (a2, .inl (c2, 8, .inr (.inl (fun _ => 0)))), (a3, .inl (c3, 4, .inr (.inl (fun _ => 0)))), (a4, .inl (c4, 4, .inr (.inl (fun _ => 0)))), (a5, .inl (c5, 64, .inl (nA (fun _ => 0)))), (a6, .inl (c6, 64, .inr (.inl (fun _ => 0)))), (a7, .inl (c7, 64, .inl (nA (fun _ => 0)))), (a8, .inl (c8, 64, .inl (nA (fun _ => 0))))] H := hP
  have hD : va_D A [(h, .inr (0, [.int (nI 0), .int (nI 0), .ref a0, .ref a1, .ref a2, .long 0, .ref a3, .ref a4, .ref a5, .ref a6, .int (nI 0), .int (nI 0), .ref a7, .null, .null, .null])), (a0, .inl (c0, 4, .inl (nA (fun _ => 0)))), (a1, .inl (c1, 32, .inr (.inl (fun _ => 0)))), (a2, .inl (c2, 8, .inr (.inl (fun _ => 0)))), (a3, .inl (c3, 4, .inr (.inl (fun _ => 0)))), (a4, .inl (c4, 4, .inr (.inl (fun _ => 0)))), (a5, .inl (c5, 64, .inl (nA (fun _ => 0)))), (a6, .inl (c6, 64, .inr (.inl (fun _ => 0)))), (a7, .inl (c7, 64, .inl (nA (fun _ => 0)))), (a8, .inl (c8, 64, .inl (nA (fun _ => 0))))] := hD
  have hK : va_K D vwCl [(c0, .boolean), (c1, .long), (c2, .long), (c3, .long), (c4, .long), (c5, .int), (c6, .long), (c7, .int), (c8, .int)] s := hK
  refine va_putF (ci := 0) (v := .ref a8) (ty := .array .int) (C := RX0) (T := TX0) (N := 16) hx hb hts in_X0 tyX0 tyX0_ok nmX0 hown hK hP hD hS 0 rfl rfl 13 (by decide) (hts _ q51) (fun _ h9 => h9) rfl hin rfl (by decide +kernel) rfl rfl (Nat.le_of_ble_eq_true rfl) dX0_init_70 (fun H locs hP hD hS => ?_)
  have hP : va_P D vwCl [(h, .inr (0, [.int (nI 0), .int (nI 0), .ref a0, .ref a1, .ref a2, .long 0, .ref a3, .ref a4, .ref a5, .ref a6, .int (nI 0), .int (nI 0), .ref a7, .ref a8, .null, .null])), (a0, .inl (c0, 4, .inl (nA (fun _ => 0)))), (a1, .inl (c1, 32, .inr (.inl (fun _ => 0)))), (a2, .inl (c2, 8, .inr (.inl (fun _ => 0)))), (a3, .inl (c3, 4, .inr (.inl (fun _ => 0)))), (a4, .inl (c4, 4, .inr (.inl (fun _ => 0)))), (a5, .inl (c5, 64, .inl (nA (fun _ => 0)))), (a6, .inl (c6, 64, .inr (.inl (fun _ => 0)))), (a7, .inl (c7, 64, .inl (nA (fun _ => 0)))), (a8, .inl (c8, 64, .inl (nA (fun _ => 0))))] H := hP
  have hD : va_D A [(h, .inr (0, [.int (nI 0), .int (nI 0), .ref a0, .ref a1, .ref a2, .long 0, .ref a3, .ref a4, .ref a5, .ref a6, .int (nI 0), .int (nI 0), .ref a7, .ref a8, .null, .null])), (a0, .inl (c0, 4, .inl (nA (fun _ => 0)))), (a1, .inl (c1, 32, .inr (.inl (fun _ => 0)))), (a2, .inl (c2, 8, .inr (.inl (fun _ => 0)))), (a3, .inl (c3, 4, .inr (.inl (fun _ => 0)))), (a4, .inl (c4, 4, .inr (.inl (fun _ => 0)))), (a5, .inl (c5, 64, .inl (nA (fun _ => 0)))), (a6, .inl (c6, 64, .inr (.inl (fun _ => 0)))), (a7, .inl (c7, 64, .inl (nA (fun _ => 0)))), (a8, .inl (c8, 64, .inl (nA (fun _ => 0))))] := hD
  refine lv_aload_n hx hb dX0_init_73 rfl (lv_at hl 0 rfl) ?_
  refine lv_sipush (v := nI 128) hx hb dX0_init_74 (by decide) ?_
  refine va_newa (a0 := (128, .inl (fun _ => 0))) (N' := 128) (atype := .int) (ty := .int) hx hb (hts _ q89) rfl hK hP hD hS hA (fun _ => rfl) (by decide) (by decide) (by decide) (Nat.le_of_ble_eq_true rfl) (Nat.le_of_ble_eq_true rfl) dX0_init_77 (fun a9 c9 H hK hP hD hS => ?_)
  refine W.widen (k := 10) (n := 436) (Nat.le_of_ble_eq_true rfl) (Nat.le_of_ble_eq_true rfl) ?_
  have hP : va_P D vwCl [(h, .inr (0, [.int (nI 0), .int (nI 0), .ref a0, .ref a1, .ref a2, .long 0, .ref a3, .ref a4, .ref a5, .ref a6, .int (nI 0), .int (nI 0), .ref a7, .ref a8, .null, .null])), (a0, .inl (c0, 4, .inl (nA (fun _ => 0)))), (a1, .inl (c1, 32, .inr (.inl (fun _ => 0)))), (a2, .inl (c2, 8, .inr (.inl (fun _ => 0)))), (a3, .inl (c3, 4, .inr (.inl (fun _ => 0)))), (a4, .inl (c4, 4, .inr (.inl (fun _ => 0)))), (a5, .inl (c5, 64, .inl (nA (fun _ => 0)))), (a6, .inl (c6, 64, .inr (.inl (fun _ => 0)))), (a7, .inl (c7, 64, .inl (nA (fun _ => 0)))), (a8, .inl (c8, 64, .inl (nA (fun _ => 0)))), (a9, .inl (c9, 128, .inl (fun _ => 0)))] H := hP
  have hD : va_D A [(h, .inr (0, [.int (nI 0), .int (nI 0), .ref a0, .ref a1, .ref a2, .long 0, .ref a3, .ref a4, .ref a5, .ref a6, .int (nI 0), .int (nI 0), .ref a7, .ref a8, .null, .null])), (a0, .inl (c0, 4, .inl (nA (fun _ => 0)))), (a1, .inl (c1, 32, .inr (.inl (fun _ => 0)))), (a2, .inl (c2, 8, .inr (.inl (fun _ => 0)))), (a3, .inl (c3, 4, .inr (.inl (fun _ => 0)))), (a4, .inl (c4, 4, .inr (.inl (fun _ => 0)))), (a5, .inl (c5, 64, .inl (nA (fun _ => 0)))), (a6, .inl (c6, 64, .inr (.inl (fun _ => 0)))), (a7, .inl (c7, 64, .inl (nA (fun _ => 0)))), (a8, .inl (c8, 64, .inl (nA (fun _ => 0)))), (a9, .inl (c9, 128, .inl (fun _ => 0)))] := hD
  have hK : va_K D vwCl [(c0, .boolean), (c1, .long), (c2, .long), (c3, .long), (c4, .long), (c5, .int), (c6, .long), (c7, .int), (c8, .int), (c9, .int)] s := hK
  refine va_putF (ci := 0) (v := .ref a9) (ty := .array .int) (C := RX0) (T := TX0) (N := 16) hx hb hts in_X0 tyX0 tyX0_ok nmX0 hown hK hP hD hS 0 rfl rfl 14 (by decide) (hts _ q52) (fun _ h9 => h9) rfl hin rfl (by decide +kernel) rfl rfl (Nat.le_of_ble_eq_true rfl) dX0_init_79 (fun H locs hP hD hS => ?_)
  have hP : va_P D vwCl [(h, .inr (0, [.int (nI 0), .int (nI 0), .ref a0, .ref a1, .ref a2, .long 0, .ref a3, .ref a4, .ref a5, .ref a6, .int (nI 0), .int (nI 0), .ref a7, .ref a8, .ref a9, .null])), (a0, .inl (c0, 4, .inl (nA (fun _ => 0)))), (a1, .inl (c1, 32, .inr (.inl (fun _ => 0)))), (a2, .inl (c2, 8, .inr (.inl (fun _ => 0)))), (a3, .inl (c3, 4, .inr (.inl (fun _ => 0)))), (a4, .inl (c4, 4, .inr (.inl (fun _ => 0)))), (a5, .inl (c5, 64, .inl (nA (fun _ => 0)))), (a6, .inl (c6, 64, .inr (.inl (fun _ => 0)))), (a7, .inl (c7, 64, .inl (nA (fun _ => 0)))), (a8, .inl (c8, 64, .inl (nA (fun _ => 0)))), (a9, .inl (c9, 128, .inl (fun _ => 0)))] H := hP
  have hD : va_D A [(h, .inr (0, [.int (nI 0), .int (nI 0), .ref a0, .ref a1, .ref a2, .long 0, .ref a3, .ref a4, .ref a5, .ref a6, .int (nI 0), .int (nI 0), .ref a7, .ref a8, .ref a9, .null])), (a0, .inl (c0, 4, .inl (nA (fun _ => 0)))), (a1, .inl (c1, 32, .inr (.inl (fun _ => 0)))), (a2, .inl (c2, 8, .inr (.inl (fun _ => 0)))), (a3, .inl (c3, 4, .inr (.inl (fun _ => 0)))), (a4, .inl (c4, 4, .inr (.inl (fun _ => 0)))), (a5, .inl (c5, 64, .inl (nA (fun _ => 0)))), (a6, .inl (c6, 64, .inr (.inl (fun _ => 0)))), (a7, .inl (c7, 64, .inl (nA (fun _ => 0)))), (a8, .inl (c8, 64, .inl (nA (fun _ => 0)))), (a9, .inl (c9, 128, .inl (fun _ => 0)))] := hD
  refine lv_aload_n hx hb dX0_init_82 rfl (lv_at hl 0 rfl) ?_
  refine lv_bipush (v := nI 64) hx hb dX0_init_83 (by decide) ?_
  refine va_newa (a0 := (64, .inl (nA (fun _ => 0)))) (N' := 64) (atype := .boolean) (ty := .boolean) hx hb (hts _ q87) rfl hK hP hD hS hA (fun _ => rfl) (by decide) (by decide) (by decide) (Nat.le_of_ble_eq_true rfl) (Nat.le_of_ble_eq_true rfl) dX0_init_85 (fun a10 c10 H hK hP hD hS => ?_)
  refine W.widen (k := 11) (n := 500) (Nat.le_of_ble_eq_true rfl) (Nat.le_of_ble_eq_true rfl) ?_
  have hP : va_P D vwCl [(h, .inr (0, [.int (nI 0), .int (nI 0), .ref a0, .ref a1, .ref a2, .long 0, .ref a3, .ref a4, .ref a5, .ref a6, .int (nI 0), .int (nI 0), .ref a7, .ref a8, .ref a9, .null])), (a0, .inl (c0, 4, .inl (nA (fun _ => 0)))), (a1, .inl (c1, 32, .inr (.inl (fun _ => 0)))), (a2, .inl (c2, 8, .inr (.inl (fun _ => 0)))), (a3, .inl (c3, 4, .inr (.inl (fun _ => 0)))), (a4, .inl (c4, 4, .inr (.inl (fun _ => 0)))), (a5, .inl (c5, 64, .inl (nA (fun _ => 0)))), (a6, .inl (c6, 64, .inr (.inl (fun _ => 0)))), (a7, .inl (c7, 64, .inl (nA (fun _ => 0)))), (a8, .inl (c8, 64, .inl (nA (fun _ => 0)))), (a9, .inl (c9, 128, .inl (fun _ => 0))), (a10, .inl (c10, 64, .inl (nA (fun _ => 0))))] H := hP
  have hD : va_D A [(h, .inr (0, [.int (nI 0), .int (nI 0), .ref a0, .ref a1, .ref a2, .long 0, .ref a3, .ref a4, .ref a5, .ref a6, .int (nI 0), .int (nI 0), .ref a7, .ref a8, .ref a9, .null])), (a0, .inl (c0, 4, .inl (nA (fun _ => 0)))), (a1, .inl (c1, 32, .inr (.inl (fun _ => 0)))), (a2, .inl (c2, 8, .inr (.inl (fun _ => 0)))), (a3, .inl (c3, 4, .inr (.inl (fun _ => 0)))), (a4, .inl (c4, 4, .inr (.inl (fun _ => 0)))), (a5, .inl (c5, 64, .inl (nA (fun _ => 0)))), (a6, .inl (c6, 64, .inr (.inl (fun _ => 0)))), (a7, .inl (c7, 64, .inl (nA (fun _ => 0)))), (a8, .inl (c8, 64, .inl (nA (fun _ => 0)))), (a9, .inl (c9, 128, .inl (fun _ => 0))), (a10, .inl (c10, 64, .inl (nA (fun _ => 0))))] := hD
  have hK : va_K D vwCl [(c0, .boolean), (c1, .long), (c2, .long), (c3, .long), (c4, .long), (c5, .int), (c6, .long), (c7, .int), (c8, .int), (c9, .int), (c10, .boolean)] s := hK
  refine va_putF (ci := 0) (v := .ref a10) (ty := .array .boolean) (C := RX0) (T := TX0) (N := 16) hx hb hts in_X0 tyX0 tyX0_ok nmX0 hown hK hP hD hS 0 rfl rfl 15 (by decide) (hts _ q53) (fun _ h9 => h9) rfl hin rfl (by decide +kernel) rfl rfl (Nat.le_of_ble_eq_true rfl) dX0_init_87 (fun H locs hP hD hS => ?_)
  have hP : va_P D vwCl [(h, .inr (0, [.int (nI 0), .int (nI 0), .ref a0, .ref a1, .ref a2, .long 0, .ref a3, .ref a4, .ref a5, .ref a6, .int (nI 0), .int (nI 0), .ref a7, .ref a8, .ref a9, .ref a10])), (a0, .inl (c0, 4, .inl (nA (fun _ => 0)))), (a1, .inl (c1, 32, .inr (.inl (fun _ => 0)))), (a2, .inl (c2, 8, .inr (.inl (fun _ => 0)))), (a3, .inl (c3, 4, .inr (.inl (fun _ => 0)))), (a4, .inl (c4, 4, .inr (.inl (fun _ => 0)))), (a5, .inl (c5, 64, .inl (nA (fun _ => 0)))), (a6, .inl (c6, 64, .inr (.inl (fun _ => 0)))), (a7, .inl (c7, 64, .inl (nA (fun _ => 0)))), (a8, .inl (c8, 64, .inl (nA (fun _ => 0)))), (a9, .inl (c9, 128, .inl (fun _ => 0))), (a10, .inl (c10, 64, .inl (nA (fun _ => 0))))] H := hP
  have hD : va_D A [(h, .inr (0, [.int (nI 0), .int (nI 0), .ref a0, .ref a1, .ref a2, .long 0, .ref a3, .ref a4, .ref a5, .ref a6, .int (nI 0), .int (nI 0), .ref a7, .ref a8, .ref a9, .ref a10])), (a0, .inl (c0, 4, .inl (nA (fun _ => 0)))), (a1, .inl (c1, 32, .inr (.inl (fun _ => 0)))), (a2, .inl (c2, 8, .inr (.inl (fun _ => 0)))), (a3, .inl (c3, 4, .inr (.inl (fun _ => 0)))), (a4, .inl (c4, 4, .inr (.inl (fun _ => 0)))), (a5, .inl (c5, 64, .inl (nA (fun _ => 0)))), (a6, .inl (c6, 64, .inr (.inl (fun _ => 0)))), (a7, .inl (c7, 64, .inl (nA (fun _ => 0)))), (a8, .inl (c8, 64, .inl (nA (fun _ => 0)))), (a9, .inl (c9, 128, .inl (fun _ => 0))), (a10, .inl (c10, 64, .inl (nA (fun _ => 0))))] := hD
  have hP : va_P D vwCl (wX h (fun k => [a0, a1, a2, a3, a4, a5, a6, a7, a8, a9, a10].getD k 0) (fun k => [c0, c1, c2, c3, c4, c5, c6, c7, c8, c9, c10].getD k c0) 0 0 0 0 0 (fun _ => 0) (fun _ => 0) (fun _ => 0) (fun _ => 0) (fun _ => 0) (fun _ => 0) (fun _ => 0) (fun _ => 0) (fun _ => 0) (fun _ => 0) (fun _ => 0)) H := hP
  have hD : va_D A (wX h (fun k => [a0, a1, a2, a3, a4, a5, a6, a7, a8, a9, a10].getD k 0) (fun k => [c0, c1, c2, c3, c4, c5, c6, c7, c8, c9, c10].getD k c0) 0 0 0 0 0 (fun _ => 0) (fun _ => 0) (fun _ => 0) (fun _ => 0) (fun _ => 0) (fun _ => 0) (fun _ => 0) (fun _ => 0) (fun _ => 0) (fun _ => 0) (fun _ => 0)) := hD
  have hK : va_K D vwCl (tX (fun k => [c0, c1, c2, c3, c4, c5, c6, c7, c8, c9, c10].getD k c0)) s := hK
  refine lv_aload_n hx hb dX0_init_90 rfl (lv_at hl 0 rfl) ?_
  refine kv_v (n := 0) (As := []) (rest := []) ⟨hx, hb, hml, hown, hts⟩ (cX_clear l D h (fun k => [a0, a1, a2, a3, a4, a5, a6, a7, a8, a9, a10].getD k 0) (fun k => [c0, c1, c2, c3, c4, c5, c6, c7, c8, c9, c10].getD k c0) H.size 0 0 0 0 0 (fun _ => 0) (fun _ => 0) (fun _ => 0) (fun _ => 0) (fun _ => 0) (fun _ => 0) (fun _ => 0) (fun _ => 0) (fun _ => 0) (fun _ => 0) (fun _ => 0) (fun _ => 0) (fun _ => 0) (fun _ => 0)) (lw_V q33 q34 q35 q23 q36) (by decide +kernel) ⟨Nat.le_of_ble_eq_true rfl, Nat.le_of_ble_eq_true rfl⟩ ⟨Nat.le_of_ble_eq_true rfl, Nat.le_of_ble_eq_true rfl⟩ hK hP hD hS hA (ci := 0) rfl rfl rfl rfl hl.1 rfl (Nat.le_of_ble_eq_true rfl) dX0_init_91 (fun u H locs hw hP hD hS => ?_)
  exact W.vret hx hb hr (fun t ht hW => ⟨⟨((fun k => [a0, a1, a2, a3, a4, a5, a6, a7, a8, a9, a10].getD k 0), (fun k => [c0, c1, c2, c3, c4, c5, c6, c7, c8, c9, c10].getD k c0), u), rfl, hw, by rw [ht]; exact hP, va_K.moved hW.alike hK, hD⟩, hS.F ht⟩) hS.2.2 dX0_init_94
set_option maxHeartbeats 4000000 in
/-- LeakageMeterModel(): six arrays -/
theorem cM_init (l : Launch) (D : va_G) (g sz : Nat) : Met l yX1_init (ws_ yX1_init cX1_init 1 none) { frames := 1, cells := 6, slots := 636, locals := 12 } (cP D [] [(g, .inr (1, dM))] sz [.ref g]) (va_Qv (fun (u : (Nat → Nat) × (Nat → ClassId)) => True) (fun u t => va_P D vwCl (wM g u.1 u.2 0 (fun _ => 0) (fun _ => 0) (fun _ => 0) (fun _ => 0) 0 (fun _ => 0) (fun _ => 0)) t.heap ∧ va_K D vwCl (tM u.2) t ∧ va_D (va_A [(g, .inr (1, dM))] sz) (wM g u.1 u.2 0 (fun _ => 0) (fun _ => 0) (fun _ => 0) (fun _ => 0) 0 (fun _ => 0) (fun _ => 0))) (va_A [(g, .inr (1, dM))] sz)) 6 636 (va_A [(g, .inr (1, dM))] sz) := by
  refine Met.ofW (cc := cX1_init) (maxL := 1) (ret := none) (by decide) rfl ?_
  intro p e s m args below meth c s₁ B hml hv
  obtain ⟨rfl, hsz, hP, hK, hD0⟩ := hv
  have hx := B.exec
  have hb := B.bytes
  have hr := B.returns
  have hts := atoms_spec (ws := ws_ yX1_init cX1_init 1 none) B.pre
  have hts : ∀ w ∈ lw_all, w.before _ s = true := fun w h => hts w (List.mem_cons_of_mem _ h)
  have hown : s.vm.findClass RX1 = some m.cls := findClass_of_methodNamed B.named
  have hlocks := B.notSynchronized
  have hin : meth.name = "<init>" := (name_of_methodNamed B.named B.method).1
  subst hsz
  have hD := hD0.self (sz := s.heap.size)
  generalize hAe : va_A [(g, .inr (1, dM))] s.heap.size = A at hD ⊢
  have hA : ∀ q : Nat, s.heap.size ≤ q → A q := fun q h => by rw [← hAe]; exact Or.inr h
  have hS : va_S A s.heap s.heap [] := va_S.rf
  have hl := lv_entry ([.ref g]) (n := 1) (Nat.le_of_ble_eq_true rfl)
  rw [lg_entry_eq]
  generalize (lg_sl ([.ref g]) ++ List.replicate (1 - (lg_sl ([.ref g])).length) Slot.unset).toArray = ls at hl ⊢
  have hl : lv_has ls 1 [(0, .ref g)] := hl
  refine lv_aload_n hx hb dX1_init_0 rfl (lv_at hl 0 rfl) ?_
  refine W.objInit hx hb hown (hts _ q193) (hts _ q31) (hts _ q32) rfl (by rw [hml]; exact hl.1) rfl dX1_init_1 (Nat.le_of_ble_eq_true rfl) (Nat.le_of_ble_eq_true rfl) ?_
  refine W.eq (g2 := F0 m 4 ls []) rfl ?_
  refine lv_aload_n hx hb dX1_init_4 rfl (lv_at hl 0 rfl) ?_
  refine lv_bipush (v := nI 40) hx hb dX1_init_5 (by decide) ?_
  refine va_newa (a0 := (40, .inl (nA (fun _ => 0)))) (N' := 40) (atype := .int) (ty := .int) hx hb (hts _ q89) rfl hK hP hD hS hA (fun _ => rfl) (by decide) (by decide) (by decide) (Nat.le_of_ble_eq_true rfl) (Nat.le_of_ble_eq_true rfl) dX1_init_7 (fun a0 c0 H hK hP hD hS => ?_)
  refine W.widen (k := 1) (n := 40) (Nat.le_of_ble_eq_true rfl) (Nat.le_of_ble_eq_true rfl) ?_
  have hP : va_P D vwCl [(g, .inr (1, [.int (nI 0), .null, .null, .null, .null, .int (nI 0), .null, .null])), (a0, .inl (c0, 40, .inl (nA (fun _ => 0))))] H := hP
  have hD : va_D A [(g, .inr (1, [.int (nI 0), .null, .null, .null, .null, .int (nI 0), .null, .null])), (a0, .inl (c0, 40, .inl (nA (fun _ => 0))))] := hD
  have hK : va_K D vwCl [(c0, .int)] s := hK
  refine va_putF (ci := 1) (v := .ref a0) (ty := .array .int) (C := RX1) (T := TX1) (N := 8) hx hb hts in_X1 tyX1 tyX1_ok nmX1 hown hK hP hD hS 0 rfl rfl 1 (by decide) (hts _ q195) (fun _ h9 => h9) rfl hin rfl (by decide +kernel) rfl rfl (Nat.le_of_ble_eq_true rfl) dX1_init_9 (fun H locs hP hD hS => ?_)
  have hP : va_P D vwCl [(g, .inr (1, [.int (nI 0), .ref a0, .null, .null, .null, .int (nI 0), .null, .null])), (a0, .inl (c0, 40, .inl (nA (fun _ => 0))))] H := hP
  have hD : va_D A [(g, .inr (1, [.int (nI 0), .ref a0, .null, .null, .null, .int (nI 0), .null, .null])), (a0, .inl (c0, 40, .inl (nA (fun _ => 0))))] := hD
  refine lv_aload_n hx hb dX1_init_12 rfl (lv_at hl 0 rfl) ?_
  refine lv_bipush (v := nI 40) hx hb dX1_init_13 (by decide) ?_
  refine va_newa (a0 := (40, .inl (fun _ => 0))) (N' := 40) (atype := .int) (ty := .int) hx hb (hts _ q89) rfl hK hP hD hS hA (fun _ => rfl) (by decide) (by decide) (by decide) (Nat.le_of_ble_eq_true rfl) (Nat.le_of_ble_eq_true rfl) dX1_init_15 (fun a1 c1 H hK hP hD hS => ?_)
  refine W.widen (k := 2) (n := 80) (Nat.le_of_ble_eq_true rfl) (Nat.le_of_ble_eq_true rfl) ?_
  have hP : va_P D vwCl [(g, .inr (1, [.int (nI 0), .ref a0, .null, .null, .null, .int (nI 0), .null, .null])), (a0, .inl (c0, 40, .inl (nA (fun _ => 0)))), (a1, .inl (c1, 40, .inl (fun _ => 0)))] H := hP
  have hD : va_D A [(g, .inr (1, [.int (nI 0), .ref a0, .null, .null, .null, .int (nI 0), .null, .null])), (a0, .inl (c0, 40, .inl (nA (fun _ => 0)))), (a1, .inl (c1, 40, .inl (fun _ => 0)))] := hD
  have hK : va_K D vwCl [(c0, .int), (c1, .int)] s := hK
  refine va_putF (ci := 1) (v := .ref a1) (ty := .array .int) (C := RX1) (T := TX1) (N := 8) hx hb hts in_X1 tyX1 tyX1_ok nmX1 hown hK hP hD hS 0 rfl rfl 2 (by decide) (hts _ q196) (fun _ h9 => h9) rfl hin rfl (by decide +kernel) rfl rfl (Nat.le_of_ble_eq_true rfl) dX1_init_17 (fun H locs hP hD hS => ?_)
  have hP : va_P D vwCl [(g, .inr (1, [.int (nI 0), .ref a0, .ref a1, .null, .null, .int (nI 0), .null, .null])), (a0, .inl (c0, 40, .inl (nA (fun _ => 0)))), (a1, .inl (c1, 40, .inl (fun _ => 0)))] H := hP
  have hD : va_D A [(g, .inr (1, [.int (nI 0), .ref a0, .ref a1, .null, .null, .int (nI 0), .null, .null])), (a0, .inl (c0, 40, .inl (nA (fun _ => 0)))), (a1, .inl (c1, 40, .inl (fun _ => 0)))] := hD
  refine lv_aload_n hx hb dX1_init_20 rfl (lv_at hl 0 rfl) ?_
  refine lv_bipush (v := nI 40) hx hb dX1_init_21 (by decide) ?_
  refine va_newa (a0 := (40, .inl (fun _ => 0))) (N' := 40) (atype := .int) (ty := .int) hx hb (hts _ q89) rfl hK hP hD hS hA (fun _ => rfl) (by decide) (by decide) (by decide) (Nat.le_of_ble_eq_true rfl) (Nat.le_of_ble_eq_true rfl) dX1_init_23 (fun a2 c2 H hK hP hD hS => ?_)
  refine W.widen (k := 3) (n := 120) (Nat.le_of_ble_eq_true rfl) (Nat.le_of_ble_eq_true rfl) ?_
  have hP : va_P D vwCl [(g, .inr (1, [.int (nI 0), .ref a0, .ref a1, .null, .null, .int (nI 0), .null, .null])), (a0, .inl (c0, 40, .inl (nA (fun _ => 0)))), (a1, .inl (c1, 40, .inl (fun _ => 0))), (a2, .inl (c2, 40, .inl (fun _ => 0)))] H := hP
  have hD : va_D A [(g, .inr (1, [.int (nI 0), .ref a0, .ref a1, .null, .null, .int (nI 0), .null, .null])), (a0, .inl (c0, 40, .inl (nA (fun _ => 0)))), (a1, .inl (c1, 40, .inl (fun _ => 0))), (a2, .inl (c2, 40, .inl (fun _ => 0)))] := hD
  have hK : va_K D vwCl [(c0, .int), (c1, .int), (c2, .int)] s := hK
  refine va_putF (ci := 1) (v := .ref a2) (ty := .array .int) (C := RX1) (T := TX1) (N := 8) hx hb hts in_X1 tyX1 tyX1_ok nmX1 hown hK hP hD hS 0 rfl rfl 3 (by decide) (hts _ q197) (fun _ h9 => h9) rfl hin rfl (by decide +kernel) rfl rfl (Nat.le_of_ble_eq_true rfl) dX1_init_25 (fun H locs hP hD hS => ?_)
  have hP : va_P D vwCl [(g, .inr (1, [.int (nI 0), .ref a0, .ref a1, .ref a2, .null, .int (nI 0), .null, .null])), (a0, .inl (c0, 40, .inl (nA (fun _ => 0)))), (a1, .inl (c1, 40, .inl (fun _ => 0))), (a2, .inl (c2, 40, .inl (fun _ => 0)))] H := hP
  have hD : va_D A [(g, .inr (1, [.int (nI 0), .ref a0, .ref a1, .ref a2, .null, .int (nI 0), .null, .null])), (a0, .inl (c0, 40, .inl (nA (fun _ => 0)))), (a1, .inl (c1, 40, .inl (fun _ => 0))), (a2, .inl (c2, 40, .inl (fun _ => 0)))] := hD
  refine lv_aload_n hx hb dX1_init_28 rfl (lv_at hl 0 rfl) ?_
  refine lv_iconst (v := nI 4) hx hb dX1_init_29 (by decide) ?_
  refine va_newa (a0 := (4, .inl (nA (fun _ => 0)))) (N' := 4) (atype := .int) (ty := .int) hx hb (hts _ q89) rfl hK hP hD hS hA (fun _ => rfl) (by decide) (by decide) (by decide) (Nat.le_of_ble_eq_true rfl) (Nat.le_of_ble_eq_true rfl) dX1_init_30 (fun a3 c3 H hK hP hD hS => ?_)
  refine W.widen (k := 4) (n := 124) (Nat.le_of_ble_eq_true rfl) (Nat.le_of_ble_eq_true rfl) ?_
  have hP : va_P D vwCl [(g, .inr (1, [.int (nI 0), .ref a0, .ref a1, .ref a2, .null, .int (nI 0), .null, .null])), (a0, .inl (c0, 40, .inl (nA (fun _ => 0)))), (a1, .inl (c1, 40, .inl (fun _ => 0))), (a2, .inl (c2, 40, .inl (fun _ => 0))), (a3, .inl (c3, 4, .inl (nA (fun _ => 0))))] H := hP
  have hD : va_D A [(g, .inr (1, [.int (nI 0), .ref a0, .ref a1, .ref a2, .null, .int (nI 0), .null, .null])), (a0, .inl (c0, 40, .inl (nA (fun _ => 0)))), (a1, .inl (c1, 40, .inl (fun _ => 0))), (a2, .inl (c2, 40, .inl (fun _ => 0))), (a3, .inl (c3, 4, .inl (nA (fun _ => 0))))] := hD
  have hK : va_K D vwCl [(c0, .int), (c1, .int), (c2, .int), (c3, .int)] s := hK
  refine va_putF (ci := 1) (v := .ref a3) (ty := .array .int) (C := RX1) (T := TX1) (N := 8) hx hb hts in_X1 tyX1 tyX1_ok nmX1 hown hK hP hD hS 0 rfl rfl 4 (by decide) (hts _ q198) (fun _ h9 => h9) rfl hin rfl (by decide +kernel) rfl rfl (Nat.le_of_ble_eq_true rfl) dX1_init_32 (fun H locs hP hD hS => ?_)
  have hP : va_P D vwCl [(g, .inr (1, [.int (nI 0), .ref a0, .ref a1, .ref a2, .ref a3, .int (nI 0), .null, .null])), (a0, .inl (c0, 40, .inl (nA (fun _ => 0)))), (a1, .inl (c1, 40, .inl (fun _ => 0))), (a2, .inl (c2, 40, .inl (fun _ => 0))), (a3, .inl (c3, 4, .inl (nA (fun _ => 0))))] H := hP
  have hD : va_D A [(g, .inr (1, [.int (nI 0), .ref a0, .ref a1, .ref a2, .ref a3, .int (nI 0), .null, .null])), (a0, .inl (c0, 40, .inl (nA (fun _ => 0)))), (a1, .inl (c1, 40, .inl (fun _ => 0))), (a2, .inl (c2, 40, .inl (fun _ => 0))), (a3, .inl (c3, 4, .inl (nA (fun _ => 0))))] := hD
  refine lv_aload_n hx hb dX1_init_35 rfl (lv_at hl 0 rfl) ?_
  refine lv_bipush (v := nI 64) hx hb dX1_init_36 (by decide) ?_
  refine va_newa (a0 := (64, .inl (nA (fun _ => 0)))) (N' := 64) (atype := .int) (ty := .int) hx hb (hts _ q89) rfl hK hP hD hS hA (fun _ => rfl) (by decide) (by decide) (by decide) (Nat.le_of_ble_eq_true rfl) (Nat.le_of_ble_eq_true rfl) dX1_init_38 (fun a4 c4 H hK hP hD hS => ?_)
  refine W.widen (k := 5) (n := 188) (Nat.le_of_ble_eq_true rfl) (Nat.le_of_ble_eq_true rfl) ?_
  have hP : va_P D vwCl [(g, .inr (1, [.int (nI 0), .ref a0, .ref a1, .ref a2, .ref a3, .int (nI 0), .null, .null])), (a0, .inl (c0, 40, .inl (nA (fun _ => 0)))), (a1, .inl (c1, 40, .inl (fun _ => 0))), (a2, .inl (c2, 40, .inl (fun _ => 0))), (a3, .inl (c3, 4, .inl (nA (fun _ => 0)))), (a4, .inl (c4, 64, .inl (nA (fun _ => 0))))] H := hP
  have hD : va_D A [(g, .inr (1, [.int (nI 0), .ref a0, .ref a1, .ref a2, .ref a3, .int (nI 0), .null, .null])), (a0, .inl (c0, 40, .inl (nA (fun _ => 0)))), (a1, .inl (c1, 40, .inl (fun _ => 0))), (a2, .inl (c2, 40, .inl (fun _ => 0))), (a3, .inl (c3, 4, .inl (nA (fun _ => 0)))), (a4, .inl (c4, 64, .inl (nA (fun _ => 0))))] := hD
  have hK : va_K D vwCl [(c0, .int), (c1, .int), (c2, .int), (c3, .int), (c4, .int)] s := hK
  refine va_putF (ci := 1) (v := .ref a4) (ty := .array .int) (C := RX1) (T := TX1) (N := 8) hx hb hts in_X1 tyX1 tyX1_ok nmX1 hown hK hP hD hS 0 rfl rfl 6 (by decide) (hts _ q200) (fun _ h9 => h9) rfl hin rfl (by decide +kernel) rfl rfl (Nat.le_of_ble_eq_true rfl) dX1_init_40 (fun H locs hP hD hS => ?_)
  have hP : va_P D vwCl [(g, .inr (1, [.int (nI 0), .ref a0, .ref a1, .ref a2, .ref a3, .int (nI 0), .ref a4, .null])), (a0, .inl (c0, 40, .inl (nA (fun _ => 0)))), (a1, .inl (c1, 40, .inl (fun _ => 0))), (a2, .inl (c2, 40, .inl (fun _ => 0))), (a3, .inl (c3, 4, .inl (nA (fun _ => 0)))), (a4, .inl (c4, 64, .inl (nA (fun _ => 0))))] H := hP
  have hD : va_D A [(g, .inr (1, [.int (nI 0), .ref a0, .ref a1, .ref a2, .ref a3, .int (nI 0), .ref a4, .null])), (a0, .inl (c0, 40, .inl (nA (fun _ => 0)))), (a1, .inl (c1, 40, .inl (fun _ => 0))), (a2, .inl (c2, 40, .inl (fun _ => 0))), (a3, .inl (c3, 4, .inl (nA (fun _ => 0)))), (a4, .inl (c4, 64, .inl (nA (fun _ => 0))))] := hD
  refine lv_aload_n hx hb dX1_init_43 rfl (lv_at hl 0 rfl) ?_
  refine lv_sipush (v := nI 448) hx hb dX1_init_44 (by decide) ?_
  refine va_newa (a0 := (448, .inl (nA (fun _ => 0)))) (N' := 448) (atype := .int) (ty := .int) hx hb (hts _ q89) rfl hK hP hD hS hA (fun _ => rfl) (by decide) (by decide) (by decide) (Nat.le_of_ble_eq_true rfl) (Nat.le_of_ble_eq_true rfl) dX1_init_47 (fun a5 c5 H hK hP hD hS => ?_)
  refine W.widen (k := 6) (n := 636) (Nat.le_of_ble_eq_true rfl) (Nat.le_of_ble_eq_true rfl) ?_
  have hP : va_P D vwCl [(g, .inr (1, [.int (nI 0), .ref a0, .ref a1, .ref a2, .ref a3, .int (nI 0), .ref a4, .null])), (a0, .inl (c0, 40, .inl (nA (fun _ => 0)))), (a1, .inl (c1, 40, .inl (fun _ => 0))), (a2, .inl (c2, 40, .inl (fun _ => 0))), (a3, .inl (c3, 4, .inl (nA (fun _ => 0)))), (a4, .inl (c4, 64, .inl (nA (fun _ => 0)))), (a5, .inl (c5, 448, .inl (nA (fun _ => 0))))] H := hP
  have hD : va_D A [(g, .inr (1, [.int (nI 0), .ref a0, .ref a1, .ref a2, .ref a3, .int (nI 0), .ref a4, .null])), (a0, .inl (c0, 40, .inl (nA (fun _ => 0)))), (a1, .inl (c1, 40, .inl (fun _ => 0))), (a2, .inl (c2, 40, .inl (fun _ => 0))), (a3, .inl (c3, 4, .inl (nA (fun _ => 0)))), (a4, .inl (c4, 64, .inl (nA (fun _ => 0)))), (a5, .inl (c5, 448, .inl (nA (fun _ => 0))))] := hD
  have hK : va_K D vwCl [(c0, .int), (c1, .int), (c2, .int), (c3, .int), (c4, .int), (c5, .int)] s := hK
  refine va_putF (ci := 1) (v := .ref a5) (ty := .array .int) (C := RX1) (T := TX1) (N := 8) hx hb hts in_X1 tyX1 tyX1_ok nmX1 hown hK hP hD hS 0 rfl rfl 7 (by decide) (hts _ q201) (fun _ h9 => h9) rfl hin rfl (by decide +kernel) rfl rfl (Nat.le_of_ble_eq_true rfl) dX1_init_49 (fun H locs hP hD hS => ?_)
  have hP : va_P D vwCl [(g, .inr (1, [.int (nI 0), .ref a0, .ref a1, .ref a2, .ref a3, .int (nI 0), .ref a4, .ref a5])), (a0, .inl (c0, 40, .inl (nA (fun _ => 0)))), (a1, .inl (c1, 40, .inl (fun _ => 0))), (a2, .inl (c2, 40, .inl (fun _ => 0))), (a3, .inl (c3, 4, .inl (nA (fun _ => 0)))), (a4, .inl (c4, 64, .inl (nA (fun _ => 0)))), (a5, .inl (c5, 448, .inl (nA (fun _ => 0))))] H := hP
  have hD : va_D A [(g, .inr (1, [.int (nI 0), .ref a0, .ref a1, .ref a2, .ref a3, .int (nI 0), .ref a4, .ref a5])), (a0, .inl (c0, 40, .inl (nA (fun _ => 0)))), (a1, .inl (c1, 40, .inl (fun _ => 0))), (a2, .inl (c2, 40, .inl (fun _ => 0))), (a3, .inl (c3, 4, .inl (nA (fun _ => 0)))), (a4, .inl (c4, 64, .inl (nA (fun _ => 0)))), (a5, .inl (c5, 448, .inl (nA (fun _ => 0))))] := hD
  have hP : va_P D vwCl (wM g (fun k => [a0, a1, a2, a3, a4, a5].getD k 0) (fun k => [c0, c1, c2, c3, c4, c5].getD k c0) 0 (fun _ => 0) (fun _ => 0) (fun _ => 0) (fun _ => 0) 0 (fun _ => 0) (fun _ => 0)) H := hP
  have hD : va_D A (wM g (fun k => [a0, a1, a2, a3, a4, a5].getD k 0) (fun k => [c0, c1, c2, c3, c4, c5].getD k c0) 0 (fun _ => 0) (fun _ => 0) (fun _ => 0) (fun _ => 0) 0 (fun _ => 0) (fun _ => 0)) := hD
  have hK : va_K D vwCl (tM (fun k => [c0, c1, c2, c3, c4, c5].getD k c0)) s := hK
  exact W.vret hx hb hr (fun t ht hW => ⟨⟨((fun k => [a0, a1, a2, a3, a4, a5].getD k 0), (fun k => [c0, c1, c2, c3, c4, c5].getD k c0)), rfl, trivial, by rw [ht]; exact hP, va_K.moved hW.alike hK, hD⟩, hS.F ht⟩) hS.2.2 dX1_init_52
/-- a constructor's call: its new object is w, the rest wr stays -/
theorem ki_v {p : Program} {l : Launch} {e : Env} {R : Room} {s : State} {m : MethodId} {args : Array Value} {below : List Frame} {meth : Method} {c : Code} {H : Heap} {locs : List Loc} {cells slots : Nat} {Q : State → Prop} {cc : ByteArray} {pc nL : Nat} {ls : Array Slot} {rest : List Value} {D : va_G} {A : Nat → Prop} {h index mc ms : Nat} {w wr : va_W} {own : String} {y : MethodName} {bytes : ByteArray} {maxL : Nat} {rm : Room} {S : Type} {w1 : S → va_W} {ty1 : S → zt_T} {post : S → Prop}
    (F : CallFix p m c cc nL s args lw_all own) (hM : Met l y (ws_ y bytes maxL none) rm (cP D [] w H.size [.ref h]) (va_Qv post (fun u t => va_P D vwCl (w1 u) t.heap ∧ va_K D vwCl (ty1 u) t ∧ va_D (va_A w H.size) (w1 u)) (va_A w H.size)) mc ms (va_A w H.size))
    (cw : CallB R s args own index y bytes maxL none (ws_ y bytes maxL none) rm mc ms 0 ∧ y.name = "<init>" ∧ (Cond.instanceMethod y).before args s = true) (hcs : cells + mc ≤ R.cells ∧ slots + ms ≤ R.slots) (hK : va_K D vwCl [] s) (hP : va_P D vwCl (w ++ wr) H) (hD : va_D A (w ++ wr)) (hS : va_S A s.heap H locs) (hA : ∀ q : Nat, s.heap.size ≤ q → A q) (hsize : ls.size = nL) (hrest : (rest.map fun v => v.category).sum ≤ 8) (hdg : decode cc pc = .ok (.invokespecial index, 3))
    (kk : ∀ (u : S) (H : Heap) (locs : List Loc), post u → va_P D vwCl (w1 u ++ wr) H → va_D A (w1 u ++ wr) → va_K D vwCl (ty1 u) s → va_S A s.heap H locs → W p l e R s m args below meth c H locs (cells + mc) (slots + ms) Q (F0 m (pc + 3) ls rest)) : W p l e R s m args below meth c H locs cells slots Q (F0 m pc ls (.ref h :: rest)) := by
  have hF := w_free hD hS hA
  refine va_callv (va_runI (As := []) (rest := rest) F hM cw ⟨fun a U g mk q => ?_, fun U hU hW => ?_⟩ rfl rfl hsize rfl (lv_room hrest) hdg hcs) hS (fun q _ h => hF q h) hF (fun u t H1 locs1 ht hvm hw hB hz hk hS => ?_)
  · obtain ⟨q0, q1, qP, qK, qD⟩ := q
    exact ⟨q0, q1, qP, va_K.moved (u := U) (U := U.calling g mk a) (Vm.Alike.refl U.vm) qK, qD⟩
  · exact ⟨rfl, by rw [hU], by rw [hU]; exact w_left hP, va_K.moved hW.alike hK, (w_dleft hD).weaken (fun _ _ _ _ => trivial)⟩
  · obtain ⟨hP1, hK1, hD1⟩ := hB
    rw [ht] at hP1
    obtain ⟨g1, g2⟩ := w_join hP hD hk hF hP1 hD1
    exact kk u H1 locs1 hw g1 g2 (va_K.moved hvm.symm hK1) hS
end
section
set_option maxRecDepth 100000
/-! THE CLAIM OUT OF ONE WALK OF THE LAW'S BODY. Your part is whole_start (and what it stands on); all else here is the same for every law, but numbers. -/
def R_law : String := "LeakageMeterLaw"
def lw_P (b : Addr) (xs : List Int32) (args : Array Value) (s : State) : Prop := args = #[.ref b] ∧ s.IntsAt b xs ∧ xs.length ≤ 256 ∧ (Jvm.Cond.and given_1 narrow_1).before args s = true
def lw_Q (_ : Array Value) (s : State) (o : Outcome) (t : State) : Prop := o = .returned (some (.int 1)) ∧ Framed s o t [] 600000 7290000
def lw_Z (below : List Frame) (a : Array Value) (s : State) : State → Prop := fun t => ∃ o, t.status = .running ∧ Ended t below o ∧ lw_Q a s o t
/-- the law's own end, with 1 on the stack, nothing written that was there before, its room as the claim has it -/
theorem lw_ret {p : Program} {l : Launch} {e : Env} {s : State} {m : MethodId} {below : List Frame} {meth : Method} {c : Code} {b : Nat} (hx : p.tables.exec = Jvm.exec) (hb : c.code = code) (hr : meth.sig.returnType = ret) (hlocks : meth.locks = false) {pc : Nat} {H : Heap} {ls : Array Slot} (hdg : decode code pc = .ok (.ireturn, 1)) : W p l e room_1 s m #[Value.ref b] below meth c H [] 600000 7290000 (lw_Z below #[Value.ref b] s) (F0 m pc ls [.int 1]) := by
  intro T hT X
  obtain ⟨fs, hret, hrun, hended, hW, hframe⟩ := X.leave (v := some (.int 1)) (hlocks := hlocks) (fun h => by rw [hr] at h; cases h)
  have hmeth' : T.vm.method? m = some meth := X.method'
  refine ⟨T.setFrames fs, ?_, .returned (some (.int 1)), hrun, hended, rfl, ⟨_, rfl⟩, hW, hframe⟩
  jvm_step X.here [X.here.top, hx, hb, hdg, hmeth', hr, ret, narrow_b1]
  (try refine ⟨rfl, ?_⟩); (try refine ⟨rfl, ?_⟩)
  first | (intro acts; rw [hret _ acts rfl rfl rfl]) | rw [hret _ _ rfl rfl rfl]
  exact Steps.refl _
/-- what holds at the law's entry: the machine, the code, the tables' words (any of lw_tbl by 'hts w (by decide +kernel)'), the script of L ints xs at the cell b, what the Statement gives of the start (any of its parts by flat_of_before) -/
def lw_At (p : Program) (s : State) (m : MethodId) (meth : Method) (c : Code) (b L : Nat) (xs : Nat → Int32) : Prop :=
  p.tables.exec = Jvm.exec ∧ c.code = code ∧ meth.sig.returnType = ret ∧ c.maxLocals = 4 ∧ s.vm.findClass R_law = some m.cls ∧ (∀ w ∈ lw_tbl, w.before #[Value.ref b] s = true) ∧ va_X b L xs s s.heap ∧ b < s.heap.size ∧ meth.locks = false ∧ (Jvm.Cond.and given_1 narrow_1).before #[Value.ref b] s = true
/-! rows of the law -/
section LR
variable {p : Program} {l : Launch} {e : Env} {R : Room} {s : State} {m : MethodId} {args : Array Value} {below : List Frame} {meth : Method} {c : Code} {H : Heap} {locs : List Loc} {cells slots : Nat} {Q : State → Prop}
variable {cc : ByteArray} {pc : Nat} {ls : Array Slot} {rest : List Value} {A : Nat → Prop} {H0 : Heap}
/-- an int of the script -/
theorem xs_ld {b L k : Nat} {xs : Nat → Int32} (hx : p.tables.exec = Jvm.exec) (hb : c.code = cc) (hX : va_X b L xs s H0) (hbl : b < H0.size) (hbA : ¬ A b) (hS : va_S A H0 H locs) (hk : k < L) (hL : L ≤ 256) (hdg : decode cc pc = .ok (.iaload, 1))
    (kk : W p l e R s m args below meth c H locs cells slots Q (F0 m (pc + 1) ls (.int (xs k) :: rest))) : W p l e R s m args below meth c H locs cells slots Q (F0 m pc ls (.int (nI k) :: .ref b :: rest)) :=
  va_sld hx hb hX hbl hbA hS (vp_in_nI hk (by omega)) hdg (by rw [nI_clamp (by omega)]; exact kk)
end LR
/-- the loop goes on: four more ints -/
theorem lw_lt {i L : Nat} (hi : i ≤ L) (hL : L ≤ 256) (h : ¬ Int32.ofNat L - nI 4 < nI i) : i + 4 ≤ L := by
  rcases Nat.lt_or_ge L 4 with q | q
  · exfalso
    apply h
    rcases (show L = 0 ∨ L = 1 ∨ L = 2 ∨ L = 3 by omega) with e | e | e | e <;> subst e
    · rw [show i = 0 by omega]; decide
    · rcases (show i = 0 ∨ i = 1 by omega) with e | e <;> subst e <;> decide
    · rcases (show i = 0 ∨ i = 1 ∨ i = 2 by omega) with e | e | e <;> subst e <;> decide
    · rcases (show i = 0 ∨ i = 1 ∨ i = 2 ∨ i = 3 by omega) with e | e | e | e <;> subst e <;> decide
  · rw [show Int32.ofNat L - nI 4 = nI (L - 4) from pk_sub q, nI_ltI (by omega) (by omega)] at h
    omega
/-- the least of those alike is one -/
theorem lw_least {E : Nat → Bool} {r1 r2 : Int32} (h1 : ∃ k, r1 = nI k ∧ k < 64 ∧ E k = true ∧ ∀ t, t < k → E t = false) (h2 : ∃ k, r2 = nI k ∧ k < 64 ∧ E k = true ∧ ∀ t, t < k → E t = false) : r1 = r2 := by
  obtain ⟨k, rfl, -, a1, a2⟩ := h1
  obtain ⟨j, rfl, -, b1, b2⟩ := h2
  rcases Nat.lt_trichotomy k j with q | q | q
  · rw [b2 k q] at a1; cases a1
  · rw [q]
  · rw [a2 j q] at b1; cases b1
theorem lw_guess {f : Nat → Nat → Int32} {x y : Nat} {r1 r2 : Int32} (h1 : ∃ lo hi, lo ≤ hi ∧ hi < 64 ∧ (lo = x ∧ hi = y ∨ lo = y ∧ hi = x) ∧ r1 = f lo hi) (h2 : ∃ lo hi, lo ≤ hi ∧ hi < 64 ∧ (lo = x ∧ hi = y ∨ lo = y ∧ hi = x) ∧ r2 = f lo hi) : r1 = r2 := by
  obtain ⟨lo, hi, a1, -, a3, rfl⟩ := h1
  obtain ⟨lo', hi', b1, -, b3, rfl⟩ := h2
  rw [show lo = lo' by omega, show hi = hi' by omega]
/-- what stays all through the law's loop: the machine, the script, the classes -/
abbrev lwF (p : Program) (s : State) (m : MethodId) (meth : Method) (c : Code) (b L : Nat) (xs : Nat → Int32) (D : va_G) (ca cb : Nat → ClassId) : Prop := L ≤ 256 ∧ lw_At p s m meth c b L xs ∧ va_K D vwCl (tX ca) s ∧ va_K D vwCl (tM cb) s
/-- the two objects hold one program -/
abbrev lwI (cd : Nat → Nat) (lf rt : Nat → Int32) (n : Nat) (u : XS) : Prop := XRu cd lf rt n u ∧ VP cd n ∧ n ≤ 40
/-- behind the switch -/
abbrev lwB (p : Program) (l : Launch) (e : Env) (s : State) (m : MethodId) (below : List Frame) (meth : Method) (c : Code) (b : Nat) (D : va_G) (h g : Nat) (ad bd : Nat → Nat) (ca cb : Nat → ClassId) (i : Nat) : Prop :=
  ∀ (u : XS) (n : Nat) (cd : Nat → Nat) (lf rt : Nat → Int32) (vr : Nat → Nat) (pu : Nat) (ou vw : Nat → Nat) (H : Heap) (locs : List Loc) (ls : Array Slot), lwI cd lf rt n u → va_P D vwCl (wXu h ad ca u ++ wM g bd cb n cd lf rt vr pu ou vw) H → va_D (fun q : Nat => s.heap.size ≤ q) (wXu h ad ca u ++ wM g bd cb n cd lf rt vr pu ou vw) → va_S (fun q : Nat => s.heap.size ≤ q) s.heap H locs → lv_has ls 4 [(0, .ref b), (1, .ref h), (2, .ref g), (3, .int (nI i))] → W p l e room_1 s m #[Value.ref b] below meth c H locs 600000 7290000 (lw_Z below #[Value.ref b] s) (F0 m 336 ls [])
section LC
variable {p : Program} {l : Launch} {e : Env} {s : State} {m : MethodId} {below : List Frame} {meth : Method} {c : Code} {b L : Nat} {xs : Nat → Int32} {D : va_G} {h g : Nat} {ad bd : Nat → Nat} {ca cb : Nat → ClassId} {i : Nat}
variable {u : XS} {n : Nat} {cd : Nat → Nat} {lf rt : Nat → Int32} {vr : Nat → Nat} {pu : Nat} {ou vw : Nat → Nat} {H : Heap} {locs : List Loc} {ls : Array Slot}
set_option maxHeartbeats 4000000 in
/-- case 0: add -/
theorem lw_c0 (F : lwF p s m meth c b L xs D ca cb) (hi4 : i + 4 ≤ L) (hI : lwI cd lf rt n u) (hP : va_P D vwCl (wXu h ad ca u ++ wM g bd cb n cd lf rt vr pu ou vw) H) (hD : va_D (fun q : Nat => s.heap.size ≤ q) (wXu h ad ca u ++ wM g bd cb n cd lf rt vr pu ou vw)) (hS : va_S (fun q : Nat => s.heap.size ≤ q) s.heap H locs) (hl : lv_has ls 4 [(0, .ref b), (1, .ref h), (2, .ref g), (3, .int (nI i))]) (back : lwB p l e s m below meth c b D h g ad bd ca cb i) : W p l e room_1 s m #[Value.ref b] below meth c H locs 600000 7290000 (lw_Z below #[Value.ref b] s) (F0 m 88 ls []) := by
  obtain ⟨hL, ⟨hx, hb, hr, hml, hown, hts0, hX0, hbl, hlocks, hgv⟩, hKX, hKM⟩ := F
  obtain ⟨hX, hV, hn40⟩ := hI
  have hown : s.vm.findClass "LeakageMeterLaw" = some m.cls := hown
  have hts : ∀ w ∈ lw_all, w.before #[Value.ref b] s = true := fun w q => hts0 w (lw_all_tbl q)
  have hA : ∀ q : Nat, s.heap.size ≤ q → (fun q : Nat => s.heap.size ≤ q) q := fun _ q => q
  have hbA : ¬ (fun q : Nat => s.heap.size ≤ q) b := Nat.not_le.mpr hbl
  refine lv_aload_n hx hb dL_law_88 rfl (lv_at hl 1 rfl) ?_
  refine lv_aload_n hx hb dL_law_89 rfl (lv_at hl 0 rfl) ?_
  refine lv_iload_n hx hb dL_law_90 rfl (lv_at hl 3 rfl) ?_
  refine lv_iconst (v := nI 1) hx hb dL_law_91 (by decide) ?_
  refine xi_add hx hb dL_law_92 ?_
  refine xs_ld (k := i + 1) hx hb hX0 hbl hbA hS (by omega) hL dL_law_93 ?_
  refine lv_aload_n hx hb dL_law_94 rfl (lv_at hl 0 rfl) ?_
  refine lv_iload_n hx hb dL_law_95 rfl (lv_at hl 3 rfl) ?_
  refine lv_iconst (v := nI 2) hx hb dL_law_96 (by decide) ?_
  refine xi_add hx hb dL_law_97 ?_
  refine xs_ld (k := i + 2) hx hb hX0 hbl hbA hS (by omega) hL dL_law_98 ?_
  refine lv_aload_n hx hb dL_law_99 rfl (lv_at hl 0 rfl) ?_
  refine lv_iload_n hx hb dL_law_100 rfl (lv_at hl 3 rfl) ?_
  refine lv_iconst (v := nI 3) hx hb dL_law_101 (by decide) ?_
  refine xi_add hx hb dL_law_102 ?_
  refine xs_ld (k := i + 3) hx hb hX0 hbl hbA hS (by omega) hL dL_law_103 ?_
  refine kw_i (n := 3) (As := [.int (xs (i + 1)), .int (xs (i + 2)), .int (xs (i + 3))]) (rest := []) ⟨hx, hb, hml, hown, hts⟩ (cX_add l D h ad ca H.size u.1 u.2.1 u.2.2.1 u.2.2.2.1 u.2.2.2.2.1 u.2.2.2.2.2.1 u.2.2.2.2.2.2.1 u.2.2.2.2.2.2.2.1 u.2.2.2.2.2.2.2.2.1 u.2.2.2.2.2.2.2.2.2.1 u.2.2.2.2.2.2.2.2.2.2.1 u.2.2.2.2.2.2.2.2.2.2.2.1 u.2.2.2.2.2.2.2.2.2.2.2.2.1 u.2.2.2.2.2.2.2.2.2.2.2.2.2.1 u.2.2.2.2.2.2.2.2.2.2.2.2.2.2.1 u.2.2.2.2.2.2.2.2.2.2.2.2.2.2.2 cd lf rt n (xs (i + 1)) (xs (i + 2)) (xs (i + 3)) hX hV hn40) (lw_V q90 q91 q92 q23 q93) (by decide +kernel) ⟨Nat.le_of_ble_eq_true rfl, Nat.le_of_ble_eq_true rfl⟩ ⟨Nat.le_refl 600000, Nat.le_refl 7290000⟩ hKX hP hD hS hA (ci := 0) rfl rfl rfl rfl hl.1 rfl (Nat.le_of_ble_eq_true rfl) dL_law_104 (fun r1 u1 H locs hw1 hP hD hS => ?_)
  have hP : va_P D vwCl (wM g bd cb n cd lf rt vr pu ou vw ++ wXu h ad ca u1) H := w_swap hP
  have hD : va_D (fun q : Nat => s.heap.size ≤ q) (wM g bd cb n cd lf rt vr pu ou vw ++ wXu h ad ca u1) := w_dswap hD
  refine lv_aload_n hx hb dL_law_107 rfl (lv_at hl 2 rfl) ?_
  refine lv_aload_n hx hb dL_law_108 rfl (lv_at hl 0 rfl) ?_
  refine lv_iload_n hx hb dL_law_109 rfl (lv_at hl 3 rfl) ?_
  refine lv_iconst (v := nI 1) hx hb dL_law_110 (by decide) ?_
  refine xi_add hx hb dL_law_111 ?_
  refine xs_ld (k := i + 1) hx hb hX0 hbl hbA hS (by omega) hL dL_law_112 ?_
  refine lv_aload_n hx hb dL_law_113 rfl (lv_at hl 0 rfl) ?_
  refine lv_iload_n hx hb dL_law_114 rfl (lv_at hl 3 rfl) ?_
  refine lv_iconst (v := nI 2) hx hb dL_law_115 (by decide) ?_
  refine xi_add hx hb dL_law_116 ?_
  refine xs_ld (k := i + 2) hx hb hX0 hbl hbA hS (by omega) hL dL_law_117 ?_
  refine lv_aload_n hx hb dL_law_118 rfl (lv_at hl 0 rfl) ?_
  refine lv_iload_n hx hb dL_law_119 rfl (lv_at hl 3 rfl) ?_
  refine lv_iconst (v := nI 3) hx hb dL_law_120 (by decide) ?_
  refine xi_add hx hb dL_law_121 ?_
  refine xs_ld (k := i + 3) hx hb hX0 hbl hbA hS (by omega) hL dL_law_122 ?_
  refine kw_i (n := 3) (As := [.int (xs (i + 1)), .int (xs (i + 2)), .int (xs (i + 3))]) (rest := [.int r1]) ⟨hx, hb, hml, hown, hts⟩ (cM_add l D g bd cb H.size n cd lf rt vr pu ou vw (xs (i + 1)) (xs (i + 2)) (xs (i + 3)) hV hn40) (lw_V q219 q220 q221 q24 q222) (by decide +kernel) ⟨Nat.le_of_ble_eq_true rfl, Nat.le_of_ble_eq_true rfl⟩ ⟨Nat.le_refl 600000, Nat.le_refl 7290000⟩ hKM hP hD hS hA (ci := 1) rfl rfl rfl rfl hl.1 rfl (Nat.le_of_ble_eq_true rfl) dL_law_123 (fun r2 v1 H locs hw2 hP hD hS => ?_)
  have hP : va_P D vwCl (wXu h ad ca u1 ++ wM g bd cb v1.1 v1.2.1 v1.2.2.1 v1.2.2.2 vr pu ou vw) H := w_swap hP
  have hD : va_D (fun q : Nat => s.heap.size ≤ q) (wXu h ad ca u1 ++ wM g bd cb v1.1 v1.2.1 v1.2.2.1 v1.2.2.2 vr pu ou vw) := w_dswap hD
  rcases hw1 with ⟨k, e1, e2, e3, e4, hX1⟩ | ⟨hno, e4, hX1⟩
  · rcases hw2 with ⟨k', f1, f2, f3, f4, f5⟩ | ⟨hno, f4, f5⟩
    · obtain rfl : k = k' := (nI_eq (Nat.lt_of_le_of_lt e3.1 (by decide)) (Nat.lt_of_le_of_lt f3.1 (by decide))).mp (e1.symm.trans f1)
      subst f5
      refine lv_icmp_eq (tgt := 336) hx hb dL_law_126 (by decide) (fun _ => ?_) (fun q => absurd (e4.trans f4.symm) q)
      exact back u1 (n + 1) (va_up cd n k) (upd lf n (xs (i + 2))) (upd rt n (xs (i + 3))) vr pu ou vw H locs ls ⟨hX1, VP_add hV e3, e2⟩ hP hD hS hl
    · exact absurd ⟨k, e1, e2, e3⟩ hno
  · rcases hw2 with ⟨k', f1, f2, f3, f4, f5⟩ | ⟨hno2, f4, f5⟩
    · exact absurd ⟨k', f1, f2, f3⟩ hno
    · subst f5
      refine lv_icmp_eq (tgt := 336) hx hb dL_law_126 (by decide) (fun _ => ?_) (fun q => absurd (e4.trans f4.symm) q)
      exact back u1 n cd lf rt vr pu ou vw H locs ls ⟨hX1, hV, hn40⟩ hP hD hS hl
set_option maxHeartbeats 4000000 in
/-- case 1: clear -/
theorem lw_c1 (F : lwF p s m meth c b L xs D ca cb) (hi4 : i + 4 ≤ L) (hI : lwI cd lf rt n u) (hP : va_P D vwCl (wXu h ad ca u ++ wM g bd cb n cd lf rt vr pu ou vw) H) (hD : va_D (fun q : Nat => s.heap.size ≤ q) (wXu h ad ca u ++ wM g bd cb n cd lf rt vr pu ou vw)) (hS : va_S (fun q : Nat => s.heap.size ≤ q) s.heap H locs) (hl : lv_has ls 4 [(0, .ref b), (1, .ref h), (2, .ref g), (3, .int (nI i))]) (back : lwB p l e s m below meth c b D h g ad bd ca cb i) : W p l e room_1 s m #[Value.ref b] below meth c H locs 600000 7290000 (lw_Z below #[Value.ref b] s) (F0 m 131 ls []) := by
  obtain ⟨hL, ⟨hx, hb, hr, hml, hown, hts0, hX0, hbl, hlocks, hgv⟩, hKX, hKM⟩ := F
  obtain ⟨hX, hV, hn40⟩ := hI
  have hown : s.vm.findClass "LeakageMeterLaw" = some m.cls := hown
  have hts : ∀ w ∈ lw_all, w.before #[Value.ref b] s = true := fun w q => hts0 w (lw_all_tbl q)
  have hA : ∀ q : Nat, s.heap.size ≤ q → (fun q : Nat => s.heap.size ≤ q) q := fun _ q => q
  have hbA : ¬ (fun q : Nat => s.heap.size ≤ q) b := Nat.not_le.mpr hbl
  refine lv_aload_n hx hb dL_law_131 rfl (lv_at hl 1 rfl) ?_
  refine kw_v (n := 0) (As := []) (rest := []) ⟨hx, hb, hml, hown, hts⟩ (cX_clear l D h ad ca H.size u.1 u.2.1 u.2.2.1 u.2.2.2.1 u.2.2.2.2.1 u.2.2.2.2.2.1 u.2.2.2.2.2.2.1 u.2.2.2.2.2.2.2.1 u.2.2.2.2.2.2.2.2.1 u.2.2.2.2.2.2.2.2.2.1 u.2.2.2.2.2.2.2.2.2.2.1 u.2.2.2.2.2.2.2.2.2.2.2.1 u.2.2.2.2.2.2.2.2.2.2.2.2.1 u.2.2.2.2.2.2.2.2.2.2.2.2.2.1 u.2.2.2.2.2.2.2.2.2.2.2.2.2.2.1 u.2.2.2.2.2.2.2.2.2.2.2.2.2.2.2 cd lf rt) (lw_V q146 q34 q35 q23 q36) (by decide +kernel) ⟨Nat.le_of_ble_eq_true rfl, Nat.le_of_ble_eq_true rfl⟩ ⟨Nat.le_refl 600000, Nat.le_refl 7290000⟩ hKX hP hD hS hA (ci := 0) rfl rfl rfl rfl hl.1 rfl (Nat.le_of_ble_eq_true rfl) dL_law_132 (fun u1 H locs hw1 hP hD hS => ?_)
  have hP : va_P D vwCl (wM g bd cb n cd lf rt vr pu ou vw ++ wXu h ad ca u1) H := w_swap hP
  have hD : va_D (fun q : Nat => s.heap.size ≤ q) (wM g bd cb n cd lf rt vr pu ou vw ++ wXu h ad ca u1) := w_dswap hD
  refine lv_aload_n hx hb dL_law_135 rfl (lv_at hl 2 rfl) ?_
  refine kw_v (n := 0) (As := []) (rest := []) ⟨hx, hb, hml, hown, hts⟩ (cM_clear l D g bd cb H.size n cd lf rt vr pu ou vw ) (lw_V q231 q232 q233 q24 q234) (by decide +kernel) ⟨Nat.le_of_ble_eq_true rfl, Nat.le_of_ble_eq_true rfl⟩ ⟨Nat.le_refl 600000, Nat.le_refl 7290000⟩ hKM hP hD hS hA (ci := 1) rfl rfl rfl rfl hl.1 rfl (Nat.le_of_ble_eq_true rfl) dL_law_136 (fun v1 H locs hw2 hP hD hS => ?_)
  have hP : va_P D vwCl (wXu h ad ca u1 ++ wM g bd cb 0 cd lf rt vr pu ou vw) H := w_swap hP
  have hD : va_D (fun q : Nat => s.heap.size ≤ q) (wXu h ad ca u1 ++ wM g bd cb 0 cd lf rt vr pu ou vw) := w_dswap hD
  refine lv_goto (tgt := 336) hx hb dL_law_139 (by decide) ?_
  exact back u1 0 cd lf rt vr pu ou vw H locs ls ⟨hw1, fun j hj => absurd hj (Nat.not_lt_zero j), Nat.zero_le 40⟩ hP hD hS hl
set_option maxHeartbeats 4000000 in
/-- case 2: open -/
theorem lw_c2 (F : lwF p s m meth c b L xs D ca cb) (hi4 : i + 4 ≤ L) (hI : lwI cd lf rt n u) (hP : va_P D vwCl (wXu h ad ca u ++ wM g bd cb n cd lf rt vr pu ou vw) H) (hD : va_D (fun q : Nat => s.heap.size ≤ q) (wXu h ad ca u ++ wM g bd cb n cd lf rt vr pu ou vw)) (hS : va_S (fun q : Nat => s.heap.size ≤ q) s.heap H locs) (hl : lv_has ls 4 [(0, .ref b), (1, .ref h), (2, .ref g), (3, .int (nI i))]) (back : lwB p l e s m below meth c b D h g ad bd ca cb i) : W p l e room_1 s m #[Value.ref b] below meth c H locs 600000 7290000 (lw_Z below #[Value.ref b] s) (F0 m 142 ls []) := by
  obtain ⟨hL, ⟨hx, hb, hr, hml, hown, hts0, hX0, hbl, hlocks, hgv⟩, hKX, hKM⟩ := F
  obtain ⟨hX, hV, hn40⟩ := hI
  have hown : s.vm.findClass "LeakageMeterLaw" = some m.cls := hown
  have hts : ∀ w ∈ lw_all, w.before #[Value.ref b] s = true := fun w q => hts0 w (lw_all_tbl q)
  have hA : ∀ q : Nat, s.heap.size ≤ q → (fun q : Nat => s.heap.size ≤ q) q := fun _ q => q
  have hbA : ¬ (fun q : Nat => s.heap.size ≤ q) b := Nat.not_le.mpr hbl
  refine lv_aload_n hx hb dL_law_142 rfl (lv_at hl 1 rfl) ?_
  refine kw_i (n := 0) (As := []) (rest := []) ⟨hx, hb, hml, hown, hts⟩ (cX_open l D h ad ca H.size u.1 u.2.1 u.2.2.1 u.2.2.2.1 u.2.2.2.2.1 u.2.2.2.2.2.1 u.2.2.2.2.2.2.1 u.2.2.2.2.2.2.2.1 u.2.2.2.2.2.2.2.2.1 u.2.2.2.2.2.2.2.2.2.1 u.2.2.2.2.2.2.2.2.2.2.1 u.2.2.2.2.2.2.2.2.2.2.2.1 u.2.2.2.2.2.2.2.2.2.2.2.2.1 u.2.2.2.2.2.2.2.2.2.2.2.2.2.1 u.2.2.2.2.2.2.2.2.2.2.2.2.2.2.1 u.2.2.2.2.2.2.2.2.2.2.2.2.2.2.2 cd lf rt n  hX) (lw_V q147 q148 q149 q23 q150) (by decide +kernel) ⟨Nat.le_of_ble_eq_true rfl, Nat.le_of_ble_eq_true rfl⟩ ⟨Nat.le_refl 600000, Nat.le_refl 7290000⟩ hKX hP hD hS hA (ci := 0) rfl rfl rfl rfl hl.1 rfl (Nat.le_of_ble_eq_true rfl) dL_law_143 (fun r1 u1 H locs hw1 hP hD hS => ?_)
  have hP : va_P D vwCl (wM g bd cb n cd lf rt vr pu ou vw ++ wXu h ad ca u1) H := w_swap hP
  have hD : va_D (fun q : Nat => s.heap.size ≤ q) (wM g bd cb n cd lf rt vr pu ou vw ++ wXu h ad ca u1) := w_dswap hD
  refine lv_aload_n hx hb dL_law_146 rfl (lv_at hl 2 rfl) ?_
  refine kw_i (n := 0) (As := []) (rest := [.int r1]) ⟨hx, hb, hml, hown, hts⟩ (cM_open l D g bd cb H.size n cd lf rt vr pu ou vw  hV hn40) (lw_V q235 q224 q225 q24 q226) (by decide +kernel) ⟨Nat.le_of_ble_eq_true rfl, Nat.le_of_ble_eq_true rfl⟩ ⟨Nat.le_refl 600000, Nat.le_refl 7290000⟩ hKM hP hD hS hA (ci := 1) rfl rfl rfl rfl hl.1 rfl (Nat.le_of_ble_eq_true rfl) dL_law_147 (fun r2 v1 H locs hw2 hP hD hS => ?_)
  have hP : va_P D vwCl (wXu h ad ca u1 ++ wM g bd cb n cd lf rt vr pu ou vw) H := w_swap hP
  have hD : va_D (fun q : Nat => s.heap.size ≤ q) (wXu h ad ca u1 ++ wM g bd cb n cd lf rt vr pu ou vw) := w_dswap hD
  refine lv_icmp_eq (tgt := 336) hx hb dL_law_150 (by decide) (fun _ => ?_) (fun q => absurd (hw1.1.trans hw2.symm) q)
  exact back u1 n cd lf rt vr pu ou vw H locs ls ⟨hw1.2, hV, hn40⟩ hP hD hS hl
set_option maxHeartbeats 4000000 in
/-- case 3: classes -/
theorem lw_c3 (F : lwF p s m meth c b L xs D ca cb) (hi4 : i + 4 ≤ L) (hI : lwI cd lf rt n u) (hP : va_P D vwCl (wXu h ad ca u ++ wM g bd cb n cd lf rt vr pu ou vw) H) (hD : va_D (fun q : Nat => s.heap.size ≤ q) (wXu h ad ca u ++ wM g bd cb n cd lf rt vr pu ou vw)) (hS : va_S (fun q : Nat => s.heap.size ≤ q) s.heap H locs) (hl : lv_has ls 4 [(0, .ref b), (1, .ref h), (2, .ref g), (3, .int (nI i))]) (back : lwB p l e s m below meth c b D h g ad bd ca cb i) : W p l e room_1 s m #[Value.ref b] below meth c H locs 600000 7290000 (lw_Z below #[Value.ref b] s) (F0 m 155 ls []) := by
  obtain ⟨hL, ⟨hx, hb, hr, hml, hown, hts0, hX0, hbl, hlocks, hgv⟩, hKX, hKM⟩ := F
  obtain ⟨hX, hV, hn40⟩ := hI
  have hown : s.vm.findClass "LeakageMeterLaw" = some m.cls := hown
  have hts : ∀ w ∈ lw_all, w.before #[Value.ref b] s = true := fun w q => hts0 w (lw_all_tbl q)
  have hA : ∀ q : Nat, s.heap.size ≤ q → (fun q : Nat => s.heap.size ≤ q) q := fun _ q => q
  have hbA : ¬ (fun q : Nat => s.heap.size ≤ q) b := Nat.not_le.mpr hbl
  refine lv_aload_n hx hb dL_law_155 rfl (lv_at hl 1 rfl) ?_
  refine kw_i (n := 0) (As := []) (rest := []) ⟨hx, hb, hml, hown, hts⟩ (cX_classes l D h ad ca H.size u.1 u.2.1 u.2.2.1 u.2.2.2.1 u.2.2.2.2.1 u.2.2.2.2.2.1 u.2.2.2.2.2.2.1 u.2.2.2.2.2.2.2.1 u.2.2.2.2.2.2.2.2.1 u.2.2.2.2.2.2.2.2.2.1 u.2.2.2.2.2.2.2.2.2.2.1 u.2.2.2.2.2.2.2.2.2.2.2.1 u.2.2.2.2.2.2.2.2.2.2.2.2.1 u.2.2.2.2.2.2.2.2.2.2.2.2.2.1 u.2.2.2.2.2.2.2.2.2.2.2.2.2.2.1 u.2.2.2.2.2.2.2.2.2.2.2.2.2.2.2 cd lf rt n  hX) (lw_V q151 q152 q153 q23 q154) (by decide +kernel) ⟨Nat.le_of_ble_eq_true rfl, Nat.le_of_ble_eq_true rfl⟩ ⟨Nat.le_refl 600000, Nat.le_refl 7290000⟩ hKX hP hD hS hA (ci := 0) rfl rfl rfl rfl hl.1 rfl (Nat.le_of_ble_eq_true rfl) dL_law_156 (fun r1 u1 H locs hw1 hP hD hS => ?_)
  have hP : va_P D vwCl (wM g bd cb n cd lf rt vr pu ou vw ++ wXu h ad ca u1) H := w_swap hP
  have hD : va_D (fun q : Nat => s.heap.size ≤ q) (wM g bd cb n cd lf rt vr pu ou vw ++ wXu h ad ca u1) := w_dswap hD
  refine lv_aload_n hx hb dL_law_159 rfl (lv_at hl 2 rfl) ?_
  refine kw_i (n := 0) (As := []) (rest := [.int r1]) ⟨hx, hb, hml, hown, hts⟩ (cM_classes l D g bd cb H.size n cd lf rt vr pu ou vw  hV hn40) (lw_V q236 q237 q238 q24 q239) (by decide +kernel) ⟨Nat.le_of_ble_eq_true rfl, Nat.le_of_ble_eq_true rfl⟩ ⟨Nat.le_refl 600000, Nat.le_refl 7290000⟩ hKM hP hD hS hA (ci := 1) rfl rfl rfl rfl hl.1 rfl (Nat.le_of_ble_eq_true rfl) dL_law_160 (fun r2 v1 H locs hw2 hP hD hS => ?_)
  have hP : va_P D vwCl (wXu h ad ca u1 ++ wM g bd cb n cd lf rt v1.1 v1.2.1 v1.2.2.1 v1.2.2.2) H := w_swap hP
  have hD : va_D (fun q : Nat => s.heap.size ≤ q) (wXu h ad ca u1 ++ wM g bd cb n cd lf rt v1.1 v1.2.1 v1.2.2.1 v1.2.2.2) := w_dswap hD
  refine lv_icmp_eq (tgt := 336) hx hb dL_law_163 (by decide) (fun _ => ?_) (fun q => absurd (hw1.1.trans hw2.symm) q)
  exact back u1 n cd lf rt v1.1 v1.2.1 v1.2.2.1 v1.2.2.2 H locs ls ⟨hw1.2, hV, hn40⟩ hP hD hS hl
set_option maxHeartbeats 4000000 in
/-- case 4: least -/
theorem lw_c4 (F : lwF p s m meth c b L xs D ca cb) (hi4 : i + 4 ≤ L) (hI : lwI cd lf rt n u) (hP : va_P D vwCl (wXu h ad ca u ++ wM g bd cb n cd lf rt vr pu ou vw) H) (hD : va_D (fun q : Nat => s.heap.size ≤ q) (wXu h ad ca u ++ wM g bd cb n cd lf rt vr pu ou vw)) (hS : va_S (fun q : Nat => s.heap.size ≤ q) s.heap H locs) (hl : lv_has ls 4 [(0, .ref b), (1, .ref h), (2, .ref g), (3, .int (nI i))]) (back : lwB p l e s m below meth c b D h g ad bd ca cb i) : W p l e room_1 s m #[Value.ref b] below meth c H locs 600000 7290000 (lw_Z below #[Value.ref b] s) (F0 m 168 ls []) := by
  obtain ⟨hL, ⟨hx, hb, hr, hml, hown, hts0, hX0, hbl, hlocks, hgv⟩, hKX, hKM⟩ := F
  obtain ⟨hX, hV, hn40⟩ := hI
  have hown : s.vm.findClass "LeakageMeterLaw" = some m.cls := hown
  have hts : ∀ w ∈ lw_all, w.before #[Value.ref b] s = true := fun w q => hts0 w (lw_all_tbl q)
  have hA : ∀ q : Nat, s.heap.size ≤ q → (fun q : Nat => s.heap.size ≤ q) q := fun _ q => q
  have hbA : ¬ (fun q : Nat => s.heap.size ≤ q) b := Nat.not_le.mpr hbl
  refine lv_aload_n hx hb dL_law_168 rfl (lv_at hl 1 rfl) ?_
  refine lv_aload_n hx hb dL_law_169 rfl (lv_at hl 0 rfl) ?_
  refine lv_iload_n hx hb dL_law_170 rfl (lv_at hl 3 rfl) ?_
  refine lv_iconst (v := nI 1) hx hb dL_law_171 (by decide) ?_
  refine xi_add hx hb dL_law_172 ?_
  refine xs_ld (k := i + 1) hx hb hX0 hbl hbA hS (by omega) hL dL_law_173 ?_
  refine kw_i (n := 1) (As := [.int (xs (i + 1))]) (rest := []) ⟨hx, hb, hml, hown, hts⟩ (cX_least l D h ad ca H.size u.1 u.2.1 u.2.2.1 u.2.2.2.1 u.2.2.2.2.1 u.2.2.2.2.2.1 u.2.2.2.2.2.2.1 u.2.2.2.2.2.2.2.1 u.2.2.2.2.2.2.2.2.1 u.2.2.2.2.2.2.2.2.2.1 u.2.2.2.2.2.2.2.2.2.2.1 u.2.2.2.2.2.2.2.2.2.2.2.1 u.2.2.2.2.2.2.2.2.2.2.2.2.1 u.2.2.2.2.2.2.2.2.2.2.2.2.2.1 u.2.2.2.2.2.2.2.2.2.2.2.2.2.2.1 u.2.2.2.2.2.2.2.2.2.2.2.2.2.2.2 cd lf rt n (xs (i + 1)) hX) (lw_V q164 q165 q166 q23 q167) (by decide +kernel) ⟨Nat.le_of_ble_eq_true rfl, Nat.le_of_ble_eq_true rfl⟩ ⟨Nat.le_refl 600000, Nat.le_refl 7290000⟩ hKX hP hD hS hA (ci := 0) rfl rfl rfl rfl hl.1 rfl (Nat.le_of_ble_eq_true rfl) dL_law_174 (fun r1 u1 H locs hw1 hP hD hS => ?_)
  have hP : va_P D vwCl (wM g bd cb n cd lf rt vr pu ou vw ++ wXu h ad ca u1) H := w_swap hP
  have hD : va_D (fun q : Nat => s.heap.size ≤ q) (wM g bd cb n cd lf rt vr pu ou vw ++ wXu h ad ca u1) := w_dswap hD
  refine lv_aload_n hx hb dL_law_177 rfl (lv_at hl 2 rfl) ?_
  refine lv_aload_n hx hb dL_law_178 rfl (lv_at hl 0 rfl) ?_
  refine lv_iload_n hx hb dL_law_179 rfl (lv_at hl 3 rfl) ?_
  refine lv_iconst (v := nI 1) hx hb dL_law_180 (by decide) ?_
  refine xi_add hx hb dL_law_181 ?_
  refine xs_ld (k := i + 1) hx hb hX0 hbl hbA hS (by omega) hL dL_law_182 ?_
  refine kw_i (n := 1) (As := [.int (xs (i + 1))]) (rest := [.int r1]) ⟨hx, hb, hml, hown, hts⟩ (cM_least l D g bd cb H.size n cd lf rt vr pu ou vw (xs (i + 1)) hV hn40) (lw_V q270 q271 q272 q24 q273) (by decide +kernel) ⟨Nat.le_of_ble_eq_true rfl, Nat.le_of_ble_eq_true rfl⟩ ⟨Nat.le_refl 600000, Nat.le_refl 7290000⟩ hKM hP hD hS hA (ci := 1) rfl rfl rfl rfl hl.1 rfl (Nat.le_of_ble_eq_true rfl) dL_law_183 (fun r2 v1 H locs hw2 hP hD hS => ?_)
  have hP : va_P D vwCl (wXu h ad ca u1 ++ wM g bd cb n cd lf rt v1.1 v1.2.1 v1.2.2.1 v1.2.2.2) H := w_swap hP
  have hD : va_D (fun q : Nat => s.heap.size ≤ q) (wXu h ad ca u1 ++ wM g bd cb n cd lf rt v1.1 v1.2.1 v1.2.2.1 v1.2.2.2) := w_dswap hD
  refine lv_icmp_eq (tgt := 336) hx hb dL_law_186 (by decide) (fun _ => ?_) (fun q => absurd (lw_least hw1.1 hw2) q)
  exact back u1 n cd lf rt v1.1 v1.2.1 v1.2.2.1 v1.2.2.2 H locs ls ⟨hw1.2, hV, hn40⟩ hP hD hS hl
set_option maxHeartbeats 4000000 in
/-- case 5: alike -/
theorem lw_c5 (F : lwF p s m meth c b L xs D ca cb) (hi4 : i + 4 ≤ L) (hI : lwI cd lf rt n u) (hP : va_P D vwCl (wXu h ad ca u ++ wM g bd cb n cd lf rt vr pu ou vw) H) (hD : va_D (fun q : Nat => s.heap.size ≤ q) (wXu h ad ca u ++ wM g bd cb n cd lf rt vr pu ou vw)) (hS : va_S (fun q : Nat => s.heap.size ≤ q) s.heap H locs) (hl : lv_has ls 4 [(0, .ref b), (1, .ref h), (2, .ref g), (3, .int (nI i))]) (back : lwB p l e s m below meth c b D h g ad bd ca cb i) : W p l e room_1 s m #[Value.ref b] below meth c H locs 600000 7290000 (lw_Z below #[Value.ref b] s) (F0 m 191 ls []) := by
  obtain ⟨hL, ⟨hx, hb, hr, hml, hown, hts0, hX0, hbl, hlocks, hgv⟩, hKX, hKM⟩ := F
  obtain ⟨hX, hV, hn40⟩ := hI
  have hown : s.vm.findClass "LeakageMeterLaw" = some m.cls := hown
  have hts : ∀ w ∈ lw_all, w.before #[Value.ref b] s = true := fun w q => hts0 w (lw_all_tbl q)
  have hA : ∀ q : Nat, s.heap.size ≤ q → (fun q : Nat => s.heap.size ≤ q) q := fun _ q => q
  have hbA : ¬ (fun q : Nat => s.heap.size ≤ q) b := Nat.not_le.mpr hbl
  refine lv_aload_n hx hb dL_law_191 rfl (lv_at hl 1 rfl) ?_
  refine lv_aload_n hx hb dL_law_192 rfl (lv_at hl 0 rfl) ?_
  refine lv_iload_n hx hb dL_law_193 rfl (lv_at hl 3 rfl) ?_
  refine lv_iconst (v := nI 1) hx hb dL_law_194 (by decide) ?_
  refine xi_add hx hb dL_law_195 ?_
  refine xs_ld (k := i + 1) hx hb hX0 hbl hbA hS (by omega) hL dL_law_196 ?_
  refine kw_i (n := 1) (As := [.int (xs (i + 1))]) (rest := []) ⟨hx, hb, hml, hown, hts⟩ (cX_alike l D h ad ca H.size u.1 u.2.1 u.2.2.1 u.2.2.2.1 u.2.2.2.2.1 u.2.2.2.2.2.1 u.2.2.2.2.2.2.1 u.2.2.2.2.2.2.2.1 u.2.2.2.2.2.2.2.2.1 u.2.2.2.2.2.2.2.2.2.1 u.2.2.2.2.2.2.2.2.2.2.1 u.2.2.2.2.2.2.2.2.2.2.2.1 u.2.2.2.2.2.2.2.2.2.2.2.2.1 u.2.2.2.2.2.2.2.2.2.2.2.2.2.1 u.2.2.2.2.2.2.2.2.2.2.2.2.2.2.1 u.2.2.2.2.2.2.2.2.2.2.2.2.2.2.2 cd lf rt n (xs (i + 1)) hX) (lw_V q168 q169 q170 q23 q171) (by decide +kernel) ⟨Nat.le_of_ble_eq_true rfl, Nat.le_of_ble_eq_true rfl⟩ ⟨Nat.le_refl 600000, Nat.le_refl 7290000⟩ hKX hP hD hS hA (ci := 0) rfl rfl rfl rfl hl.1 rfl (Nat.le_of_ble_eq_true rfl) dL_law_197 (fun r1 u1 H locs hw1 hP hD hS => ?_)
  have hP : va_P D vwCl (wM g bd cb n cd lf rt vr pu ou vw ++ wXu h ad ca u1) H := w_swap hP
  have hD : va_D (fun q : Nat => s.heap.size ≤ q) (wM g bd cb n cd lf rt vr pu ou vw ++ wXu h ad ca u1) := w_dswap hD
  refine lv_aload_n hx hb dL_law_200 rfl (lv_at hl 2 rfl) ?_
  refine lv_aload_n hx hb dL_law_201 rfl (lv_at hl 0 rfl) ?_
  refine lv_iload_n hx hb dL_law_202 rfl (lv_at hl 3 rfl) ?_
  refine lv_iconst (v := nI 1) hx hb dL_law_203 (by decide) ?_
  refine xi_add hx hb dL_law_204 ?_
  refine xs_ld (k := i + 1) hx hb hX0 hbl hbA hS (by omega) hL dL_law_205 ?_
  refine kw_i (n := 1) (As := [.int (xs (i + 1))]) (rest := [.int r1]) ⟨hx, hb, hml, hown, hts⟩ (cM_alike l D g bd cb H.size n cd lf rt vr pu ou vw (xs (i + 1)) hV hn40) (lw_V q274 q275 q276 q24 q277) (by decide +kernel) ⟨Nat.le_of_ble_eq_true rfl, Nat.le_of_ble_eq_true rfl⟩ ⟨Nat.le_refl 600000, Nat.le_refl 7290000⟩ hKM hP hD hS hA (ci := 1) rfl rfl rfl rfl hl.1 rfl (Nat.le_of_ble_eq_true rfl) dL_law_206 (fun r2 v1 H locs hw2 hP hD hS => ?_)
  have hP : va_P D vwCl (wXu h ad ca u1 ++ wM g bd cb n cd lf rt v1.1 v1.2.1 v1.2.2.1 v1.2.2.2) H := w_swap hP
  have hD : va_D (fun q : Nat => s.heap.size ≤ q) (wXu h ad ca u1 ++ wM g bd cb n cd lf rt v1.1 v1.2.1 v1.2.2.1 v1.2.2.2) := w_dswap hD
  refine lv_icmp_eq (tgt := 336) hx hb dL_law_209 (by decide) (fun _ => ?_) (fun q => absurd (hw1.1.trans hw2.symm) q)
  exact back u1 n cd lf rt v1.1 v1.2.1 v1.2.2.1 v1.2.2.2 H locs ls ⟨hw1.2, hV, hn40⟩ hP hD hS hl
set_option maxHeartbeats 4000000 in
/-- case 6: outputs -/
theorem lw_c6 (F : lwF p s m meth c b L xs D ca cb) (hi4 : i + 4 ≤ L) (hI : lwI cd lf rt n u) (hP : va_P D vwCl (wXu h ad ca u ++ wM g bd cb n cd lf rt vr pu ou vw) H) (hD : va_D (fun q : Nat => s.heap.size ≤ q) (wXu h ad ca u ++ wM g bd cb n cd lf rt vr pu ou vw)) (hS : va_S (fun q : Nat => s.heap.size ≤ q) s.heap H locs) (hl : lv_has ls 4 [(0, .ref b), (1, .ref h), (2, .ref g), (3, .int (nI i))]) (back : lwB p l e s m below meth c b D h g ad bd ca cb i) : W p l e room_1 s m #[Value.ref b] below meth c H locs 600000 7290000 (lw_Z below #[Value.ref b] s) (F0 m 214 ls []) := by
  obtain ⟨hL, ⟨hx, hb, hr, hml, hown, hts0, hX0, hbl, hlocks, hgv⟩, hKX, hKM⟩ := F
  obtain ⟨hX, hV, hn40⟩ := hI
  have hown : s.vm.findClass "LeakageMeterLaw" = some m.cls := hown
  have hts : ∀ w ∈ lw_all, w.before #[Value.ref b] s = true := fun w q => hts0 w (lw_all_tbl q)
  have hA : ∀ q : Nat, s.heap.size ≤ q → (fun q : Nat => s.heap.size ≤ q) q := fun _ q => q
  have hbA : ¬ (fun q : Nat => s.heap.size ≤ q) b := Nat.not_le.mpr hbl
  refine lv_aload_n hx hb dL_law_214 rfl (lv_at hl 1 rfl) ?_
  refine lv_aload_n hx hb dL_law_215 rfl (lv_at hl 0 rfl) ?_
  refine lv_iload_n hx hb dL_law_216 rfl (lv_at hl 3 rfl) ?_
  refine lv_iconst (v := nI 1) hx hb dL_law_217 (by decide) ?_
  refine xi_add hx hb dL_law_218 ?_
  refine xs_ld (k := i + 1) hx hb hX0 hbl hbA hS (by omega) hL dL_law_219 ?_
  refine kw_i (n := 1) (As := [.int (xs (i + 1))]) (rest := []) ⟨hx, hb, hml, hown, hts⟩ (cX_outputs l D h ad ca H.size u.1 u.2.1 u.2.2.1 u.2.2.2.1 u.2.2.2.2.1 u.2.2.2.2.2.1 u.2.2.2.2.2.2.1 u.2.2.2.2.2.2.2.1 u.2.2.2.2.2.2.2.2.1 u.2.2.2.2.2.2.2.2.2.1 u.2.2.2.2.2.2.2.2.2.2.1 u.2.2.2.2.2.2.2.2.2.2.2.1 u.2.2.2.2.2.2.2.2.2.2.2.2.1 u.2.2.2.2.2.2.2.2.2.2.2.2.2.1 u.2.2.2.2.2.2.2.2.2.2.2.2.2.2.1 u.2.2.2.2.2.2.2.2.2.2.2.2.2.2.2 cd lf rt n (xs (i + 1)) hX) (lw_V q172 q173 q174 q23 q175) (by decide +kernel) ⟨Nat.le_of_ble_eq_true rfl, Nat.le_of_ble_eq_true rfl⟩ ⟨Nat.le_refl 600000, Nat.le_refl 7290000⟩ hKX hP hD hS hA (ci := 0) rfl rfl rfl rfl hl.1 rfl (Nat.le_of_ble_eq_true rfl) dL_law_220 (fun r1 u1 H locs hw1 hP hD hS => ?_)
  have hP : va_P D vwCl (wM g bd cb n cd lf rt vr pu ou vw ++ wXu h ad ca u1) H := w_swap hP
  have hD : va_D (fun q : Nat => s.heap.size ≤ q) (wM g bd cb n cd lf rt vr pu ou vw ++ wXu h ad ca u1) := w_dswap hD
  refine lv_aload_n hx hb dL_law_223 rfl (lv_at hl 2 rfl) ?_
  refine lv_aload_n hx hb dL_law_224 rfl (lv_at hl 0 rfl) ?_
  refine lv_iload_n hx hb dL_law_225 rfl (lv_at hl 3 rfl) ?_
  refine lv_iconst (v := nI 1) hx hb dL_law_226 (by decide) ?_
  refine xi_add hx hb dL_law_227 ?_
  refine xs_ld (k := i + 1) hx hb hX0 hbl hbA hS (by omega) hL dL_law_228 ?_
  refine kw_i (n := 1) (As := [.int (xs (i + 1))]) (rest := [.int r1]) ⟨hx, hb, hml, hown, hts⟩ (cM_outputs l D g bd cb H.size n cd lf rt vr pu ou vw (xs (i + 1)) hV hn40) (lw_V q278 q279 q280 q24 q281) (by decide +kernel) ⟨Nat.le_of_ble_eq_true rfl, Nat.le_of_ble_eq_true rfl⟩ ⟨Nat.le_refl 600000, Nat.le_refl 7290000⟩ hKM hP hD hS hA (ci := 1) rfl rfl rfl rfl hl.1 rfl (Nat.le_of_ble_eq_true rfl) dL_law_229 (fun r2 v1 H locs hw2 hP hD hS => ?_)
  have hP : va_P D vwCl (wXu h ad ca u1 ++ wM g bd cb n cd lf rt v1.1 v1.2.1 v1.2.2.1 v1.2.2.2) H := w_swap hP
  have hD : va_D (fun q : Nat => s.heap.size ≤ q) (wXu h ad ca u1 ++ wM g bd cb n cd lf rt v1.1 v1.2.1 v1.2.2.1 v1.2.2.2) := w_dswap hD
  refine lv_icmp_eq (tgt := 336) hx hb dL_law_232 (by decide) (fun _ => ?_) (fun q => absurd (hw1.1.trans hw2.symm) q)
  exact back u1 n cd lf rt v1.1 v1.2.1 v1.2.2.1 v1.2.2.2 H locs ls ⟨hw1.2, hV, hn40⟩ hP hD hS hl
set_option maxHeartbeats 4000000 in
/-- case 7: output -/
theorem lw_c7 (F : lwF p s m meth c b L xs D ca cb) (hi4 : i + 4 ≤ L) (hI : lwI cd lf rt n u) (hP : va_P D vwCl (wXu h ad ca u ++ wM g bd cb n cd lf rt vr pu ou vw) H) (hD : va_D (fun q : Nat => s.heap.size ≤ q) (wXu h ad ca u ++ wM g bd cb n cd lf rt vr pu ou vw)) (hS : va_S (fun q : Nat => s.heap.size ≤ q) s.heap H locs) (hl : lv_has ls 4 [(0, .ref b), (1, .ref h), (2, .ref g), (3, .int (nI i))]) (back : lwB p l e s m below meth c b D h g ad bd ca cb i) : W p l e room_1 s m #[Value.ref b] below meth c H locs 600000 7290000 (lw_Z below #[Value.ref b] s) (F0 m 237 ls []) := by
  obtain ⟨hL, ⟨hx, hb, hr, hml, hown, hts0, hX0, hbl, hlocks, hgv⟩, hKX, hKM⟩ := F
  obtain ⟨hX, hV, hn40⟩ := hI
  have hown : s.vm.findClass "LeakageMeterLaw" = some m.cls := hown
  have hts : ∀ w ∈ lw_all, w.before #[Value.ref b] s = true := fun w q => hts0 w (lw_all_tbl q)
  have hA : ∀ q : Nat, s.heap.size ≤ q → (fun q : Nat => s.heap.size ≤ q) q := fun _ q => q
  have hbA : ¬ (fun q : Nat => s.heap.size ≤ q) b := Nat.not_le.mpr hbl
  refine lv_aload_n hx hb dL_law_237 rfl (lv_at hl 1 rfl) ?_
  refine lv_aload_n hx hb dL_law_238 rfl (lv_at hl 0 rfl) ?_
  refine lv_iload_n hx hb dL_law_239 rfl (lv_at hl 3 rfl) ?_
  refine lv_iconst (v := nI 1) hx hb dL_law_240 (by decide) ?_
  refine xi_add hx hb dL_law_241 ?_
  refine xs_ld (k := i + 1) hx hb hX0 hbl hbA hS (by omega) hL dL_law_242 ?_
  refine lv_aload_n hx hb dL_law_243 rfl (lv_at hl 0 rfl) ?_
  refine lv_iload_n hx hb dL_law_244 rfl (lv_at hl 3 rfl) ?_
  refine lv_iconst (v := nI 2) hx hb dL_law_245 (by decide) ?_
  refine xi_add hx hb dL_law_246 ?_
  refine xs_ld (k := i + 2) hx hb hX0 hbl hbA hS (by omega) hL dL_law_247 ?_
  refine kw_i (n := 2) (As := [.int (xs (i + 1)), .int (xs (i + 2))]) (rest := []) ⟨hx, hb, hml, hown, hts⟩ (cX_output l D h ad ca H.size u.1 u.2.1 u.2.2.1 u.2.2.2.1 u.2.2.2.2.1 u.2.2.2.2.2.1 u.2.2.2.2.2.2.1 u.2.2.2.2.2.2.2.1 u.2.2.2.2.2.2.2.2.1 u.2.2.2.2.2.2.2.2.2.1 u.2.2.2.2.2.2.2.2.2.2.1 u.2.2.2.2.2.2.2.2.2.2.2.1 u.2.2.2.2.2.2.2.2.2.2.2.2.1 u.2.2.2.2.2.2.2.2.2.2.2.2.2.1 u.2.2.2.2.2.2.2.2.2.2.2.2.2.2.1 u.2.2.2.2.2.2.2.2.2.2.2.2.2.2.2 cd lf rt n (xs (i + 1)) (xs (i + 2)) hX) (lw_V q176 q177 q178 q23 q179) (by decide +kernel) ⟨Nat.le_of_ble_eq_true rfl, Nat.le_of_ble_eq_true rfl⟩ ⟨Nat.le_refl 600000, Nat.le_refl 7290000⟩ hKX hP hD hS hA (ci := 0) rfl rfl rfl rfl hl.1 rfl (Nat.le_of_ble_eq_true rfl) dL_law_248 (fun r1 u1 H locs hw1 hP hD hS => ?_)
  have hP : va_P D vwCl (wM g bd cb n cd lf rt vr pu ou vw ++ wXu h ad ca u1) H := w_swap hP
  have hD : va_D (fun q : Nat => s.heap.size ≤ q) (wM g bd cb n cd lf rt vr pu ou vw ++ wXu h ad ca u1) := w_dswap hD
  refine lv_aload_n hx hb dL_law_251 rfl (lv_at hl 2 rfl) ?_
  refine lv_aload_n hx hb dL_law_252 rfl (lv_at hl 0 rfl) ?_
  refine lv_iload_n hx hb dL_law_253 rfl (lv_at hl 3 rfl) ?_
  refine lv_iconst (v := nI 1) hx hb dL_law_254 (by decide) ?_
  refine xi_add hx hb dL_law_255 ?_
  refine xs_ld (k := i + 1) hx hb hX0 hbl hbA hS (by omega) hL dL_law_256 ?_
  refine lv_aload_n hx hb dL_law_257 rfl (lv_at hl 0 rfl) ?_
  refine lv_iload_n hx hb dL_law_258 rfl (lv_at hl 3 rfl) ?_
  refine lv_iconst (v := nI 2) hx hb dL_law_259 (by decide) ?_
  refine xi_add hx hb dL_law_260 ?_
  refine xs_ld (k := i + 2) hx hb hX0 hbl hbA hS (by omega) hL dL_law_261 ?_
  refine kw_i (n := 2) (As := [.int (xs (i + 1)), .int (xs (i + 2))]) (rest := [.int r1]) ⟨hx, hb, hml, hown, hts⟩ (cM_output l D g bd cb H.size n cd lf rt vr pu ou vw (xs (i + 1)) (xs (i + 2)) hV hn40) (lw_V q282 q283 q284 q24 q285) (by decide +kernel) ⟨Nat.le_of_ble_eq_true rfl, Nat.le_of_ble_eq_true rfl⟩ ⟨Nat.le_refl 600000, Nat.le_refl 7290000⟩ hKM hP hD hS hA (ci := 1) rfl rfl rfl rfl hl.1 rfl (Nat.le_of_ble_eq_true rfl) dL_law_262 (fun r2 v1 H locs hw2 hP hD hS => ?_)
  have hP : va_P D vwCl (wXu h ad ca u1 ++ wM g bd cb n cd lf rt v1.1 v1.2.1 v1.2.2.1 v1.2.2.2) H := w_swap hP
  have hD : va_D (fun q : Nat => s.heap.size ≤ q) (wXu h ad ca u1 ++ wM g bd cb n cd lf rt v1.1 v1.2.1 v1.2.2.1 v1.2.2.2) := w_dswap hD
  refine lv_icmp_eq (tgt := 336) hx hb dL_law_265 (by decide) (fun _ => ?_) (fun q => absurd (hw1.1.trans hw2.symm) q)
  exact back u1 n cd lf rt v1.1 v1.2.1 v1.2.2.1 v1.2.2.2 H locs ls ⟨hw1.2, hV, hn40⟩ hP hD hS hl
set_option maxHeartbeats 4000000 in
/-- case 8: end -/
theorem lw_c8 (F : lwF p s m meth c b L xs D ca cb) (hi4 : i + 4 ≤ L) (hI : lwI cd lf rt n u) (hP : va_P D vwCl (wXu h ad ca u ++ wM g bd cb n cd lf rt vr pu ou vw) H) (hD : va_D (fun q : Nat => s.heap.size ≤ q) (wXu h ad ca u ++ wM g bd cb n cd lf rt vr pu ou vw)) (hS : va_S (fun q : Nat => s.heap.size ≤ q) s.heap H locs) (hl : lv_has ls 4 [(0, .ref b), (1, .ref h), (2, .ref g), (3, .int (nI i))]) (back : lwB p l e s m below meth c b D h g ad bd ca cb i) : W p l e room_1 s m #[Value.ref b] below meth c H locs 600000 7290000 (lw_Z below #[Value.ref b] s) (F0 m 270 ls []) := by
  obtain ⟨hL, ⟨hx, hb, hr, hml, hown, hts0, hX0, hbl, hlocks, hgv⟩, hKX, hKM⟩ := F
  obtain ⟨hX, hV, hn40⟩ := hI
  have hown : s.vm.findClass "LeakageMeterLaw" = some m.cls := hown
  have hts : ∀ w ∈ lw_all, w.before #[Value.ref b] s = true := fun w q => hts0 w (lw_all_tbl q)
  have hA : ∀ q : Nat, s.heap.size ≤ q → (fun q : Nat => s.heap.size ≤ q) q := fun _ q => q
  have hbA : ¬ (fun q : Nat => s.heap.size ≤ q) b := Nat.not_le.mpr hbl
  refine lv_aload_n hx hb dL_law_270 rfl (lv_at hl 1 rfl) ?_
  refine lv_aload_n hx hb dL_law_271 rfl (lv_at hl 0 rfl) ?_
  refine lv_iload_n hx hb dL_law_272 rfl (lv_at hl 3 rfl) ?_
  refine lv_iconst (v := nI 1) hx hb dL_law_273 (by decide) ?_
  refine xi_add hx hb dL_law_274 ?_
  refine xs_ld (k := i + 1) hx hb hX0 hbl hbA hS (by omega) hL dL_law_275 ?_
  refine lv_aload_n hx hb dL_law_276 rfl (lv_at hl 0 rfl) ?_
  refine lv_iload_n hx hb dL_law_277 rfl (lv_at hl 3 rfl) ?_
  refine lv_iconst (v := nI 2) hx hb dL_law_278 (by decide) ?_
  refine xi_add hx hb dL_law_279 ?_
  refine xs_ld (k := i + 2) hx hb hX0 hbl hbA hS (by omega) hL dL_law_280 ?_
  refine kw_i (n := 2) (As := [.int (xs (i + 1)), .int (xs (i + 2))]) (rest := []) ⟨hx, hb, hml, hown, hts⟩ (cX_end l D h ad ca H.size u.1 u.2.1 u.2.2.1 u.2.2.2.1 u.2.2.2.2.1 u.2.2.2.2.2.1 u.2.2.2.2.2.2.1 u.2.2.2.2.2.2.2.1 u.2.2.2.2.2.2.2.2.1 u.2.2.2.2.2.2.2.2.2.1 u.2.2.2.2.2.2.2.2.2.2.1 u.2.2.2.2.2.2.2.2.2.2.2.1 u.2.2.2.2.2.2.2.2.2.2.2.2.1 u.2.2.2.2.2.2.2.2.2.2.2.2.2.1 u.2.2.2.2.2.2.2.2.2.2.2.2.2.2.1 u.2.2.2.2.2.2.2.2.2.2.2.2.2.2.2 cd lf rt n (xs (i + 1)) (xs (i + 2)) hX) (lw_V q180 q181 q182 q23 q183) (by decide +kernel) ⟨Nat.le_of_ble_eq_true rfl, Nat.le_of_ble_eq_true rfl⟩ ⟨Nat.le_refl 600000, Nat.le_refl 7290000⟩ hKX hP hD hS hA (ci := 0) rfl rfl rfl rfl hl.1 rfl (Nat.le_of_ble_eq_true rfl) dL_law_281 (fun r1 u1 H locs hw1 hP hD hS => ?_)
  have hP : va_P D vwCl (wM g bd cb n cd lf rt vr pu ou vw ++ wXu h ad ca u1) H := w_swap hP
  have hD : va_D (fun q : Nat => s.heap.size ≤ q) (wM g bd cb n cd lf rt vr pu ou vw ++ wXu h ad ca u1) := w_dswap hD
  refine lv_aload_n hx hb dL_law_284 rfl (lv_at hl 2 rfl) ?_
  refine lv_aload_n hx hb dL_law_285 rfl (lv_at hl 0 rfl) ?_
  refine lv_iload_n hx hb dL_law_286 rfl (lv_at hl 3 rfl) ?_
  refine lv_iconst (v := nI 1) hx hb dL_law_287 (by decide) ?_
  refine xi_add hx hb dL_law_288 ?_
  refine xs_ld (k := i + 1) hx hb hX0 hbl hbA hS (by omega) hL dL_law_289 ?_
  refine lv_aload_n hx hb dL_law_290 rfl (lv_at hl 0 rfl) ?_
  refine lv_iload_n hx hb dL_law_291 rfl (lv_at hl 3 rfl) ?_
  refine lv_iconst (v := nI 2) hx hb dL_law_292 (by decide) ?_
  refine xi_add hx hb dL_law_293 ?_
  refine xs_ld (k := i + 2) hx hb hX0 hbl hbA hS (by omega) hL dL_law_294 ?_
  refine kw_i (n := 2) (As := [.int (xs (i + 1)), .int (xs (i + 2))]) (rest := [.int r1]) ⟨hx, hb, hml, hown, hts⟩ (cM_end l D g bd cb H.size n cd lf rt vr pu ou vw (xs (i + 1)) (xs (i + 2)) hV hn40) (lw_V q286 q287 q288 q24 q289) (by decide +kernel) ⟨Nat.le_of_ble_eq_true rfl, Nat.le_of_ble_eq_true rfl⟩ ⟨Nat.le_refl 600000, Nat.le_refl 7290000⟩ hKM hP hD hS hA (ci := 1) rfl rfl rfl rfl hl.1 rfl (Nat.le_of_ble_eq_true rfl) dL_law_295 (fun r2 v1 H locs hw2 hP hD hS => ?_)
  have hP : va_P D vwCl (wXu h ad ca u1 ++ wM g bd cb n cd lf rt v1.1 v1.2.1 v1.2.2.1 v1.2.2.2) H := w_swap hP
  have hD : va_D (fun q : Nat => s.heap.size ≤ q) (wXu h ad ca u1 ++ wM g bd cb n cd lf rt v1.1 v1.2.1 v1.2.2.1 v1.2.2.2) := w_dswap hD
  refine lv_icmp_eq (tgt := 336) hx hb dL_law_298 (by decide) (fun _ => ?_) (fun q => absurd (hw1.1.trans hw2.symm) q)
  exact back u1 n cd lf rt v1.1 v1.2.1 v1.2.2.1 v1.2.2.2 H locs ls ⟨hw1.2, hV, hn40⟩ hP hD hS hl
set_option maxHeartbeats 4000000 in
/-- case 9: guessed -/
theorem lw_c9 (F : lwF p s m meth c b L xs D ca cb) (hi4 : i + 4 ≤ L) (hI : lwI cd lf rt n u) (hP : va_P D vwCl (wXu h ad ca u ++ wM g bd cb n cd lf rt vr pu ou vw) H) (hD : va_D (fun q : Nat => s.heap.size ≤ q) (wXu h ad ca u ++ wM g bd cb n cd lf rt vr pu ou vw)) (hS : va_S (fun q : Nat => s.heap.size ≤ q) s.heap H locs) (hl : lv_has ls 4 [(0, .ref b), (1, .ref h), (2, .ref g), (3, .int (nI i))]) (back : lwB p l e s m below meth c b D h g ad bd ca cb i) : W p l e room_1 s m #[Value.ref b] below meth c H locs 600000 7290000 (lw_Z below #[Value.ref b] s) (F0 m 303 ls []) := by
  obtain ⟨hL, ⟨hx, hb, hr, hml, hown, hts0, hX0, hbl, hlocks, hgv⟩, hKX, hKM⟩ := F
  obtain ⟨hX, hV, hn40⟩ := hI
  have hown : s.vm.findClass "LeakageMeterLaw" = some m.cls := hown
  have hts : ∀ w ∈ lw_all, w.before #[Value.ref b] s = true := fun w q => hts0 w (lw_all_tbl q)
  have hA : ∀ q : Nat, s.heap.size ≤ q → (fun q : Nat => s.heap.size ≤ q) q := fun _ q => q
  have hbA : ¬ (fun q : Nat => s.heap.size ≤ q) b := Nat.not_le.mpr hbl
  refine lv_aload_n hx hb dL_law_303 rfl (lv_at hl 1 rfl) ?_
  refine lv_aload_n hx hb dL_law_304 rfl (lv_at hl 0 rfl) ?_
  refine lv_iload_n hx hb dL_law_305 rfl (lv_at hl 3 rfl) ?_
  refine lv_iconst (v := nI 1) hx hb dL_law_306 (by decide) ?_
  refine xi_add hx hb dL_law_307 ?_
  refine xs_ld (k := i + 1) hx hb hX0 hbl hbA hS (by omega) hL dL_law_308 ?_
  refine lv_aload_n hx hb dL_law_309 rfl (lv_at hl 0 rfl) ?_
  refine lv_iload_n hx hb dL_law_310 rfl (lv_at hl 3 rfl) ?_
  refine lv_iconst (v := nI 2) hx hb dL_law_311 (by decide) ?_
  refine xi_add hx hb dL_law_312 ?_
  refine xs_ld (k := i + 2) hx hb hX0 hbl hbA hS (by omega) hL dL_law_313 ?_
  refine kw_i (n := 2) (As := [.int (xs (i + 1)), .int (xs (i + 2))]) (rest := []) ⟨hx, hb, hml, hown, hts⟩ (cX_guessed l D h ad ca H.size u.1 u.2.1 u.2.2.1 u.2.2.2.1 u.2.2.2.2.1 u.2.2.2.2.2.1 u.2.2.2.2.2.2.1 u.2.2.2.2.2.2.2.1 u.2.2.2.2.2.2.2.2.1 u.2.2.2.2.2.2.2.2.2.1 u.2.2.2.2.2.2.2.2.2.2.1 u.2.2.2.2.2.2.2.2.2.2.2.1 u.2.2.2.2.2.2.2.2.2.2.2.2.1 u.2.2.2.2.2.2.2.2.2.2.2.2.2.1 u.2.2.2.2.2.2.2.2.2.2.2.2.2.2.1 u.2.2.2.2.2.2.2.2.2.2.2.2.2.2.2 cd lf rt n (xs (i + 1)) (xs (i + 2)) hX) (lw_V q184 q185 q186 q23 q187) (by decide +kernel) ⟨Nat.le_of_ble_eq_true rfl, Nat.le_of_ble_eq_true rfl⟩ ⟨Nat.le_refl 600000, Nat.le_refl 7290000⟩ hKX hP hD hS hA (ci := 0) rfl rfl rfl rfl hl.1 rfl (Nat.le_of_ble_eq_true rfl) dL_law_314 (fun r1 u1 H locs hw1 hP hD hS => ?_)
  have hP : va_P D vwCl (wM g bd cb n cd lf rt vr pu ou vw ++ wXu h ad ca u1) H := w_swap hP
  have hD : va_D (fun q : Nat => s.heap.size ≤ q) (wM g bd cb n cd lf rt vr pu ou vw ++ wXu h ad ca u1) := w_dswap hD
  refine lv_aload_n hx hb dL_law_317 rfl (lv_at hl 2 rfl) ?_
  refine lv_aload_n hx hb dL_law_318 rfl (lv_at hl 0 rfl) ?_
  refine lv_iload_n hx hb dL_law_319 rfl (lv_at hl 3 rfl) ?_
  refine lv_iconst (v := nI 1) hx hb dL_law_320 (by decide) ?_
  refine xi_add hx hb dL_law_321 ?_
  refine xs_ld (k := i + 1) hx hb hX0 hbl hbA hS (by omega) hL dL_law_322 ?_
  refine lv_aload_n hx hb dL_law_323 rfl (lv_at hl 0 rfl) ?_
  refine lv_iload_n hx hb dL_law_324 rfl (lv_at hl 3 rfl) ?_
  refine lv_iconst (v := nI 2) hx hb dL_law_325 (by decide) ?_
  refine xi_add hx hb dL_law_326 ?_
  refine xs_ld (k := i + 2) hx hb hX0 hbl hbA hS (by omega) hL dL_law_327 ?_
  refine kw_i (n := 2) (As := [.int (xs (i + 1)), .int (xs (i + 2))]) (rest := [.int r1]) ⟨hx, hb, hml, hown, hts⟩ (cM_guessed l D g bd cb H.size n cd lf rt vr pu ou vw (xs (i + 1)) (xs (i + 2)) hV hn40) (lw_V q290 q291 q292 q24 q293) (by decide +kernel) ⟨Nat.le_of_ble_eq_true rfl, Nat.le_of_ble_eq_true rfl⟩ ⟨Nat.le_refl 600000, Nat.le_refl 7290000⟩ hKM hP hD hS hA (ci := 1) rfl rfl rfl rfl hl.1 rfl (Nat.le_of_ble_eq_true rfl) dL_law_328 (fun r2 v1 H locs hw2 hP hD hS => ?_)
  have hP : va_P D vwCl (wXu h ad ca u1 ++ wM g bd cb n cd lf rt v1.1 v1.2.1 v1.2.2.1 v1.2.2.2) H := w_swap hP
  have hD : va_D (fun q : Nat => s.heap.size ≤ q) (wXu h ad ca u1 ++ wM g bd cb n cd lf rt v1.1 v1.2.1 v1.2.2.1 v1.2.2.2) := w_dswap hD
  refine lv_icmp_eq (tgt := 336) hx hb dL_law_331 (by decide) (fun _ => ?_) (fun q => absurd (lw_guess (f := fun lo hi => nI (dif (kI cd lf rt n) lo (hi + 1 - lo))) hw1.1 hw2) q)
  exact back u1 n cd lf rt v1.1 v1.2.1 v1.2.2.1 v1.2.2.2 H locs ls ⟨hw1.2, hV, hn40⟩ hP hD hS hl
end LC
end
section
set_option maxRecDepth 100000
set_option maxHeartbeats 4000000 in
/-- THE LAW'S LOOP at its head: i ints are read, both objects hold one program -/
theorem law_loop {p : Program} {l : Launch} {e : Env} {s : State} {m : MethodId} {below : List Frame} {meth : Method} {c : Code} {b L : Nat} {xs : Nat → Int32} {D : va_G} {h g : Nat} {ad bd : Nat → Nat} {ca cb : Nat → ClassId} (F : lwF p s m meth c b L xs D ca cb) :
    ∀ (k i : Nat), i ≤ L → L + 1 ≤ i + k → ∀ (u : XS) (n : Nat) (cd : Nat → Nat) (lf rt : Nat → Int32) (vr : Nat → Nat) (pu : Nat) (ou vw : Nat → Nat) (H : Heap) (locs : List Loc) (ls : Array Slot), lwI cd lf rt n u → va_P D vwCl (wXu h ad ca u ++ wM g bd cb n cd lf rt vr pu ou vw) H → va_D (fun q : Nat => s.heap.size ≤ q) (wXu h ad ca u ++ wM g bd cb n cd lf rt vr pu ou vw) → va_S (fun q : Nat => s.heap.size ≤ q) s.heap H locs → lv_has ls 4 [(0, .ref b), (1, .ref h), (2, .ref g), (3, .int (nI i))] → W p l e room_1 s m #[Value.ref b] below meth c H locs 600000 7290000 (lw_Z below #[Value.ref b] s) (F0 m 18 ls []) := by
  intro k
  induction k with
  | zero =>
    intro i h1 h2
    exact absurd h2 (by omega)
  | succ k ih =>
    intro i hi hik u n cd lf rt vr pu ou vw H locs ls hI hP hD hS hl
    obtain ⟨hL, ⟨hx, hb, hr, hml, hown, hts0, hX0, hbl, hlocks, hgv⟩, hKX, hKM⟩ := id F
    have hbA : ¬ (fun q : Nat => s.heap.size ≤ q) b := Nat.not_le.mpr hbl
    refine lv_iload_n hx hb dL_law_18 rfl (lv_at hl 3 rfl) ?_
    refine lv_aload_n hx hb dL_law_19 rfl (lv_at hl 0 rfl) ?_
    refine va_slen hx hb hX0 hbl hbA hS dL_law_20 ?_
    refine lv_iconst (v := nI 4) hx hb dL_law_21 (by decide) ?_
    refine lv_isub hx hb dL_law_22 ?_
    refine lv_icmp_gt (tgt := 342) hx hb dL_law_23 (by decide) (fun c9 => ?_) (fun c9 => ?_)
    · refine lv_iconst (v := 1) hx hb dL_law_342 (by decide) ?_
      refine va_forget (fun q hq => hS.2.2 q hq) ?_
      exact lw_ret hx hb hr hlocks dL_law_343
    · have hi4 : i + 4 ≤ L := lw_lt hi hL c9
      have back : lwB p l e s m below meth c b D h g ad bd ca cb i := by
        intro u n cd lf rt vr pu ou vw H locs ls hI hP hD hS hl
        refine lv_iinc (v := nI (i + 4)) (lv' := [(3, .int (nI (i + 4))), (0, .ref b), (1, .ref h), (2, .ref g)]) hx hb dL_law_336 hl (k := 3) rfl (xi_inc4 _) (by decide) rfl (fun ls hl => ?_)
        refine lv_goto (tgt := 18) hx hb dL_law_339 (by decide) ?_
        exact ih (i + 4) hi4 (by omega) u n cd lf rt vr pu ou vw H locs ls hI hP hD hS (lv_sub hl [1, 2, 3, 0] rfl)
      refine lv_aload_n hx hb dL_law_26 rfl (lv_at hl 0 rfl) ?_
      refine lv_iload_n hx hb dL_law_27 rfl (lv_at hl 3 rfl) ?_
      refine xs_ld (k := i) hx hb hX0 hbl hbA hS (by omega) hL dL_law_28 ?_
      refine lv_bipush (v := nI 15) hx hb dL_law_29 (by decide) ?_
      refine xi_and 15 16 4 (by decide) (by decide) hx hb dL_law_31 ?_
      have hj : ub (xs i) % 16 < 16 := Nat.mod_lt _ (by decide)
      generalize ub (xs i) % 16 = j at hj ⊢
      rcases (show j = 0 ∨ j = 1 ∨ j = 2 ∨ j = 3 ∨ j = 4 ∨ j = 5 ∨ j = 6 ∨ j = 7 ∨ j = 8 ∨ j = 9 ∨ 10 ≤ j by omega) with q | q | q | q | q | q | q | q | q | q | q
      · subst q
        refine lv_tableIn (off := 56) (tgt := 88) hx hb dL_law_32 (by decide) (by decide) (by decide +kernel) (by decide) ?_
        exact lw_c0 F hi4 hI hP hD hS hl back
      · subst q
        refine lv_tableIn (off := 99) (tgt := 131) hx hb dL_law_32 (by decide) (by decide) (by decide +kernel) (by decide) ?_
        exact lw_c1 F hi4 hI hP hD hS hl back
      · subst q
        refine lv_tableIn (off := 110) (tgt := 142) hx hb dL_law_32 (by decide) (by decide) (by decide +kernel) (by decide) ?_
        exact lw_c2 F hi4 hI hP hD hS hl back
      · subst q
        refine lv_tableIn (off := 123) (tgt := 155) hx hb dL_law_32 (by decide) (by decide) (by decide +kernel) (by decide) ?_
        exact lw_c3 F hi4 hI hP hD hS hl back
      · subst q
        refine lv_tableIn (off := 136) (tgt := 168) hx hb dL_law_32 (by decide) (by decide) (by decide +kernel) (by decide) ?_
        exact lw_c4 F hi4 hI hP hD hS hl back
      · subst q
        refine lv_tableIn (off := 159) (tgt := 191) hx hb dL_law_32 (by decide) (by decide) (by decide +kernel) (by decide) ?_
        exact lw_c5 F hi4 hI hP hD hS hl back
      · subst q
        refine lv_tableIn (off := 182) (tgt := 214) hx hb dL_law_32 (by decide) (by decide) (by decide +kernel) (by decide) ?_
        exact lw_c6 F hi4 hI hP hD hS hl back
      · subst q
        refine lv_tableIn (off := 205) (tgt := 237) hx hb dL_law_32 (by decide) (by decide) (by decide +kernel) (by decide) ?_
        exact lw_c7 F hi4 hI hP hD hS hl back
      · subst q
        refine lv_tableIn (off := 238) (tgt := 270) hx hb dL_law_32 (by decide) (by decide) (by decide +kernel) (by decide) ?_
        exact lw_c8 F hi4 hI hP hD hS hl back
      · subst q
        refine lv_tableIn (off := 271) (tgt := 303) hx hb dL_law_32 (by decide) (by decide) (by decide +kernel) (by decide) ?_
        exact lw_c9 F hi4 hI hP hD hS hl back
      · refine lv_tableOut (tgt := 336) hx hb dL_law_32 (Or.inr (by rw [nI_toInt (by omega)]; omega)) (by decide) ?_
        exact back u n cd lf rt vr pu ou vw H locs ls hI hP hD hS hl
set_option maxHeartbeats 4000000 in
/-- from the entry, for every script of at most 256 ints, the law comes to its end with true -/
theorem whole_start {p : Program} {e : Env} {s : State} {m : MethodId} {below : List Frame} {meth : Method} {c : Code} (l : Launch) {b L : Nat} {xs : Nat → Int32} (hL : L ≤ 256) (C0 : lw_At p s m meth c b L xs) : W p l e room_1 s m #[Value.ref b] below meth c s.heap [] 0 0 (lw_Z below #[Value.ref b] s) (entryFrame m ([Value.ref b] : List Value).toArray 4) := by
  obtain ⟨hx, hb, hr, hml, hown, hts0, hX0, hbl, hlocks, hgv⟩ := id C0
  have hown : s.vm.findClass "LeakageMeterLaw" = some m.cls := hown
  have hts : ∀ w ∈ lw_all, w.before #[Value.ref b] s = true := fun w q => hts0 w (lw_all_tbl q)
  have hA : ∀ q : Nat, s.heap.size ≤ q → (fun q : Nat => s.heap.size ≤ q) q := fun _ q => q
  obtain ⟨c0, iS0, hKn0⟩ := u_known (C := RX0) (T := TX0) (N := 16) (n := 16) hts in_X0 (hts _ q26)
  obtain ⟨c1, iS1, hKn1⟩ := u_known (C := RX1) (T := TX1) (N := 8) (n := 8) hts in_X1 (hts _ q189)
  obtain ⟨D, hKc⟩ : ∃ D : va_G, ∀ (k : Nat) (q : vw_C), vwCl[k]? = some q → u_Kn s q.1 q.2.1 q.2.2 (D.1 k) (D.2 k) := by
    refine ⟨(fun k => if k = 0 then c0 else c1, fun k => if k = 0 then iS0 else iS1), ?_⟩
    intro k q hq
    match k, hq with
    | 0, hq => cases hq; exact hKn0
    | 1, hq => cases hq; exact hKn1
    | k + 2, hq => simp [vwCl] at hq
  have hS : va_S (fun q : Nat => s.heap.size ≤ q) s.heap s.heap [] := va_S.rf
  have hK : va_K D vwCl [] s := ⟨hKc, fun k q q1 => by simp at q1⟩
  have hP : va_P D vwCl [] s.heap := fun k q q1 => by simp at q1
  have hD : va_D (fun q : Nat => s.heap.size ≤ q) [] := ⟨fun i j p q q1 => by simp at q1, fun k q q1 => by simp at q1⟩
  have hl := lv_entry ([.ref b]) (n := 4) (Nat.le_of_ble_eq_true rfl)
  rw [lg_entry_eq]
  generalize (lg_sl ([.ref b]) ++ List.replicate (4 - (lg_sl ([.ref b])).length) Slot.unset).toArray = ls at hl ⊢
  have hl : lv_has ls 4 [(0, .ref b)] := hl
  refine va_new (ci := 0) (fs := dX) (C := RX0) (T := TX0) (N := 16) hx hb hts in_X0 tyX0 tyX0_ok hown (hts _ q25) (hts _ q26) (hts _ q23) hK hP hD hS hA rfl (fun j hj => by rcases (show j = 0 ∨ j = 1 ∨ j = 2 ∨ j = 3 ∨ j = 4 ∨ j = 5 ∨ j = 6 ∨ j = 7 ∨ j = 8 ∨ j = 9 ∨ j = 10 ∨ j = 11 ∨ j = 12 ∨ j = 13 ∨ j = 14 ∨ j = 15 by omega) with rfl | rfl | rfl | rfl | rfl | rfl | rfl | rfl | rfl | rfl | rfl | rfl | rfl | rfl | rfl | rfl <;> rfl) (Nat.le_of_ble_eq_true rfl) (Nat.le_of_ble_eq_true rfl) dL_law_0 (fun h H hP hD hS => ?_)
  have hP : va_P D vwCl ([(h, .inr (0, dX))] ++ []) H := hP
  have hD : va_D (fun q : Nat => s.heap.size ≤ q) ([(h, .inr (0, dX))] ++ []) := hD
  refine lv_dup hx hb dL_law_3 rfl ?_
  refine ki_v (rest := [.ref h]) ⟨hx, hb, hml, hown, hts⟩ (cX_init l D h H.size) (cwI 0 hts (lw_meth q29) rfl rfl rfl (hts _ q23) (hts _ q27) (hts _ q28) rfl (by decide +kernel) ⟨Nat.le_of_ble_eq_true rfl, Nat.le_of_ble_eq_true rfl⟩) ⟨Nat.le_of_ble_eq_true rfl, Nat.le_of_ble_eq_true rfl⟩ hK hP hD hS hA hl.1 (Nat.le_of_ble_eq_true rfl) dL_law_4 (fun v H locs hX hP hD hKX hS => ?_)
  obtain ⟨ad, ca, u⟩ := v
  have hP : va_P D vwCl (wXu h ad ca u) H := by rw [List.append_nil] at hP; exact hP
  have hD : va_D (fun q : Nat => s.heap.size ≤ q) (wXu h ad ca u) := by rw [List.append_nil] at hD; exact hD
  refine lv_astore_n (lv' := [(1, .ref h), (0, .ref b)]) hx hb dL_law_7 rfl hl (by decide) rfl (fun ls hl => ?_)
  refine va_new (ci := 1) (fs := dM) (C := RX1) (T := TX1) (N := 8) hx hb hts in_X1 tyX1 tyX1_ok hown (hts _ q188) (hts _ q189) (hts _ q24) hK hP hD hS hA rfl (fun j hj => by rcases (show j = 0 ∨ j = 1 ∨ j = 2 ∨ j = 3 ∨ j = 4 ∨ j = 5 ∨ j = 6 ∨ j = 7 by omega) with rfl | rfl | rfl | rfl | rfl | rfl | rfl | rfl <;> rfl) (Nat.le_of_ble_eq_true rfl) (Nat.le_of_ble_eq_true rfl) dL_law_8 (fun g H hP hD hS => ?_)
  have hP : va_P D vwCl ([(g, .inr (1, dM))] ++ wXu h ad ca u) H := w_swap hP
  have hD : va_D (fun q : Nat => s.heap.size ≤ q) ([(g, .inr (1, dM))] ++ wXu h ad ca u) := w_dswap hD
  refine lv_dup hx hb dL_law_11 rfl ?_
  refine ki_v (rest := [.ref g]) ⟨hx, hb, hml, hown, hts⟩ (cM_init l D g H.size) (cwI 0 hts (lw_meth q192) rfl rfl rfl (hts _ q24) (hts _ q190) (hts _ q191) rfl (by decide +kernel) ⟨Nat.le_of_ble_eq_true rfl, Nat.le_of_ble_eq_true rfl⟩) ⟨Nat.le_of_ble_eq_true rfl, Nat.le_of_ble_eq_true rfl⟩ hK hP hD hS hA hl.1 (Nat.le_of_ble_eq_true rfl) dL_law_12 (fun v H locs _ hP hD hKM hS => ?_)
  obtain ⟨bd, cb⟩ := v
  have hP : va_P D vwCl (wXu h ad ca u ++ wM g bd cb 0 (fun _ => 0) (fun _ => 0) (fun _ => 0) (fun _ => 0) 0 (fun _ => 0) (fun _ => 0)) H := w_swap hP
  have hD : va_D (fun q : Nat => s.heap.size ≤ q) (wXu h ad ca u ++ wM g bd cb 0 (fun _ => 0) (fun _ => 0) (fun _ => 0) (fun _ => 0) 0 (fun _ => 0) (fun _ => 0)) := w_dswap hD
  refine lv_astore_n (lv' := [(2, .ref g), (1, .ref h), (0, .ref b)]) hx hb dL_law_15 rfl hl (by decide) rfl (fun ls hl => ?_)
  refine lv_iconst (v := nI 0) hx hb dL_law_16 (by decide) ?_
  refine lv_istore_n (lv' := [(3, .int (nI 0)), (2, .ref g), (1, .ref h), (0, .ref b)]) hx hb dL_law_17 rfl hl (by decide) rfl (fun ls hl => ?_)
  refine W.widen (k := 600000) (n := 7290000) (Nat.le_of_ble_eq_true rfl) (Nat.le_of_ble_eq_true rfl) ?_
  exact law_loop ⟨hL, C0, hKX, hKM⟩ (L + 1) 0 (Nat.zero_le L) (by omega) u 0 (fun _ => 0) (fun _ => 0) (fun _ => 0) (fun _ => 0) 0 (fun _ => 0) (fun _ => 0) H locs ls ⟨hX, fun j hj => absurd hj (Nat.not_lt_zero j), Nat.zero_le 40⟩ hP hD hS (lv_sub hl [3, 2, 1, 0] rfl)
end
section
set_option maxRecDepth 100000
set_option maxHeartbeats 4000000 in
theorem lw_walk (l : Launch) (b : Addr) (xs : List Int32) : MetFree l x (headSpec (Jvm.Cond.code x code maxLocals ret :: tables_1) room_1) (lw_P b xs) (fun _ _ _ _ _ => True) lw_Q := by
  refine MetFree.of_bodyS (code := code) (maxLocals := maxLocals) (ret := ret) (by decide) ?_ ?_
  · intro args s m h hn
    obtain ⟨meth, c, h1, h2, h3, h4, h5, h6, -, -⟩ := Cond.code_spec hn (atoms_spec (ws := Jvm.Cond.code x code maxLocals ret :: tables_1) h _ List.mem_cons_self)
    exact ⟨meth, c, h1, h2, h3, h4, h5, h6⟩
  · intro p e s m args below meth c s₁ B hml0 hP _
    obtain ⟨rfl, hx, hbd, hgv⟩ := hP
    obtain ⟨scr, harrAt, hlist, hof, hsmall⟩ := hx
    obtain ⟨hcb, hkn, -, -⟩ := State.arrayAt?_spec harrAt
    have hown : s.vm.findClass R_law = some m.cls := findClass_of_methodNamed B.named
    have hts0 : ∀ c ∈ (Jvm.Cond.code x code maxLocals ret :: tables_1), c.before #[Value.ref b] s = true := atoms_spec (ws := Jvm.Cond.code x code maxLocals ret :: tables_1) B.pre
    have hts : ∀ w ∈ lw_tbl, w.before #[Value.ref b] s = true := k2_hts_sels lw_privs (fun w hw => hts0 w (List.mem_cons_of_mem _ hw)) lw_privs_ok
    have hml : c.maxLocals = 4 := B.maxLocals_eq (hts0 _ List.mem_cons_self)
    have X₀ : Stand p l e room_1 s m #[Value.ref b] below meth c s₁ [] 0 0 := Stand.of_body B
    have hh0 : s₁.heap = s.heap := by rw [B.state]; rfl
    have hsz : scr.slots.size = xs.length := by rw [← Array.length_toList, hlist, List.length_map]
    have hval : ∀ j : Nat, j < xs.length → scr.slots[j]? = some (.int (xs.getD j 0)) := fun j hj => by
      rw [← Array.getElem?_toList, hlist]
      simp [hj]
    have hbl : b < s.heap.size := (Array.getElem?_eq_some_iff.mp hcb).1
    have hX : va_X b xs.length (fun j => xs.getD j 0) s s.heap := ⟨scr, hcb, hof, hkn, hsz, hval⟩
    have K : W p l e room_1 s m #[Value.ref b] below meth c s₁.heap [] 0 0 (lw_Z below #[Value.ref b] s) (entryFrame m ([Value.ref b] : List Value).toArray 4) := by
      rw [hh0]
      exact whole_start l hbd ⟨B.exec, B.bytes, B.returns, hml, hown, hts, hX, hbl, B.notSynchronized, hgv⟩
    obtain ⟨t, a1, o, b1, b2, b3⟩ := K s₁ rfl X₀
    exact ⟨t, o, a1, b1, b2, b3⟩
theorem lw_pre_spec {args : Array Value} {s : State} (h : (Jvm.Cond.and given_1 narrow_1).before args s = true) (hr : rest_1_c.before args s = true) : ∃ (b : Addr) (xs : List Int32), lw_P b xs args s := by
  have hs := flat_of_before _ h
  have hq := flat_of_before _ hr
  have hc : (Cond.count 1).before args s = true := hs _ (by decide +kernel)
  have harr : (Cond.arrayOf (.arg 0) .int).before args s = true := hs _ (by decide +kernel)
  have hle : (Cond.le (.length (.arg 0)) (.int 256)).before args s = true := hs _ (by decide +kernel)
  have hlen : (Cond.isInt (.length (.arg 0))).before args s = true := hq _ (by decide +kernel)
  have hall : (Cond.all (.arg 0) (.isInt (.elem (.arg 0) (.index 0)))).before args s = true := hq _ (by decide +kernel)
  obtain ⟨b, xs, hb, hx⟩ := State.ints_of_pre rfl harr hlen hall
  have hsm : xs.length < 2 ^ 31 := hx.choose_spec.2.2.2
  have hev : (Term.length (.arg 0)).eval args s none [] s = some (.int xs.length.toInt32) := hx.length_eval hb
  have hv := Cond.le_ints hev (show (Term.int 256).eval args s none [] s = some (.int 256) from rfl)
  have hd : xs.length.toInt32 ≤ 256 := by
    simpa [Cond.before, Cond.holds, hv] using hle
  have hN : xs.length ≤ 256 := (Int32.ofNat_le_ofNat hsm (by decide)).mp (show Int32.ofNat xs.length ≤ Int32.ofNat 256 from hd)
  exact ⟨b, xs, Cond.one_arg hc (show args[0]? = some (.ref b) from hb), hx, hN, h⟩
theorem lw_comes (l : Launch) : Comes l x (Jvm.Cond.code x code maxLocals ret :: tables_1) room_1 (fun tb e args s => Calls_1 tb e args s ∧ rest_1 tb e args s ∧ Pre_1 tb e args s)
    (fun _ _ args s o t => lw_Q args s o t) := by
  intro p e ha hc hk s m args below hf hfit hheap happ hpre
  obtain ⟨b, xs, hP⟩ := lw_pre_spec hpre.2.2 hpre.2.1
  obtain ⟨k, o, h1, h2, h3, hQ⟩ := lw_walk l b xs p e ha hc hk s m args below hf ((Spec.applies_iff_loose hf).mp happ).1 hP trivial
  exact ⟨k, o, h1, h2, h3, hQ⟩
theorem lw_frame {s t : State} {o : Outcome} {args : Array Value} (h : Framed s o t [] 600000 7290000) :
    Framed s o t (fieldLocs frame_1_writes args s ++ arrayLocs frame_1_arrays args s ++ staticLocs frame_1_statics s) 600000 7290000 := h
theorem lw_limb (L : Cond) (hL : ∀ (args : Array Value) (s t : State), L.after args s (.returned (some (.int 1))) t = true) :
    ArmFor flags0 classFile x code maxLocals ret World_1 tables_1 room_1 Calls_1 rest_1 Pre_1
      (fun tb e a s o t => postC L tb e a s o t ∧ Framed s o t (fieldLocs frame_1_writes a s ++ arrayLocs frame_1_arrays a s ++ staticLocs frame_1_statics s) 600000 7290000) := by
  intro l _ _ _ p e ha hc hk s m args below hf hfit hheap happ hpre
  obtain ⟨k, o, h1, h2, h3, rfl, hF⟩ := lw_comes l p e ha hc hk s m args below hf hfit hheap happ hpre
  exact ⟨k, _, h1, h2, h3, hL args s _, lw_frame hF⟩
theorem i_vc : Claimed_1_1 ∧ Claimed_1_2 := ⟨lw_limb limb_1_1 (fun args s t => by simp [limb_1_1, Cond.after, Cond.holds, Cond.value]), lw_limb limb_1_2 (fun args s t => Cond.after_iff.mpr (by
  first | (rw [show limb_1_2 = Cond.eq .result (.int 1) from rfl, Cond.eq_ints (x := 1) (y := 1) rfl rfl]; simp; done) | (simp [limb_1_2, Cond.value, Term.eval]; done)))⟩
end
