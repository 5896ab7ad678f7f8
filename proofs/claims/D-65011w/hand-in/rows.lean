section
-- ===== PART A: goes FIRST, ahead of the names: the tables' words, and 'selects' of the private methods out of them =====
/-- a private method of a class that the tables say can be made, by its rows of tables_1 -/
def lw_okq (q : MethodName × Nat) : Prop := (q.1.cls ≠ "java/lang/invoke/MethodHandle" ∧ q.1.cls ≠ "java/lang/invoke/VarHandle") ∧ Cond.instantiable q.1.cls q.2 ∈ tables_1 ∧ Cond.privateMethod q.1 ∈ tables_1 ∧ Cond.instanceMethod q.1 ∈ tables_1
set_option maxRecDepth 100000
theorem lw_t1 {w : Cond} (h : w ∈ tables_1_1) : w ∈ tables_1 := List.mem_append_left _ h
theorem lw_t2 {w : Cond} (h : w ∈ tables_1_2) : w ∈ tables_1 := List.mem_append_right _ h
theorem lw_p0 : lw_okq (⟨"ClockZones", "tighten", "(IIII)V"⟩, 3) := ⟨⟨by decide +kernel, by decide +kernel⟩, lw_t1 (List.mem_of_getElem? (i := 4) rfl), lw_t1 (List.mem_of_getElem? (i := 46) rfl), lw_t1 (List.mem_of_getElem? (i := 47) rfl)⟩
theorem lw_p1 : lw_okq (⟨"ClockZones", "take", "(I)V"⟩, 3) := ⟨⟨by decide +kernel, by decide +kernel⟩, lw_t1 (List.mem_of_getElem? (i := 4) rfl), lw_t1 (List.mem_of_getElem? (i := 50) rfl), lw_t1 (List.mem_of_getElem? (i := 51) rfl)⟩
theorem lw_p2 : lw_okq (⟨"ClockZones", "narrow", "(III)Z"⟩, 3) := ⟨⟨by decide +kernel, by decide +kernel⟩, lw_t1 (List.mem_of_getElem? (i := 4) rfl), lw_t1 (List.mem_of_getElem? (i := 54) rfl), lw_t1 (List.mem_of_getElem? (i := 55) rfl)⟩
theorem lw_p3 : lw_okq (⟨"ClockZones", "left", "(I)I"⟩, 3) := ⟨⟨by decide +kernel, by decide +kernel⟩, lw_t1 (List.mem_of_getElem? (i := 4) rfl), lw_t1 (List.mem_of_getElem? (i := 58) rfl), lw_t1 (List.mem_of_getElem? (i := 59) rfl)⟩
theorem lw_p4 : lw_okq (⟨"ClockZones", "close", "(I)V"⟩, 3) := ⟨⟨by decide +kernel, by decide +kernel⟩, lw_t1 (List.mem_of_getElem? (i := 4) rfl), lw_t1 (List.mem_of_getElem? (i := 66) rfl), lw_t1 (List.mem_of_getElem? (i := 67) rfl)⟩
theorem lw_p5 : lw_okq (⟨"ClockZones", "fix", "(II)Z"⟩, 3) := ⟨⟨by decide +kernel, by decide +kernel⟩, lw_t1 (List.mem_of_getElem? (i := 4) rfl), lw_t1 (List.mem_of_getElem? (i := 114) rfl), lw_t1 (List.mem_of_getElem? (i := 115) rfl)⟩
theorem lw_p6 : lw_okq (⟨"ClockZones", "spanFor", "(II)I"⟩, 3) := ⟨⟨by decide +kernel, by decide +kernel⟩, lw_t1 (List.mem_of_getElem? (i := 4) rfl), lw_t1 (List.mem_of_getElem? (i := 122) rfl), lw_t1 (List.mem_of_getElem? (i := 123) rfl)⟩
theorem lw_p7 : lw_okq (⟨"ClockZones", "firstFrom", "(IIII)I"⟩, 3) := ⟨⟨by decide +kernel, by decide +kernel⟩, lw_t1 (List.mem_of_getElem? (i := 4) rfl), lw_t1 (List.mem_of_getElem? (i := 130) rfl), lw_t1 (List.mem_of_getElem? (i := 131) rfl)⟩
theorem lw_p8 : lw_okq (⟨"ClockZones", "firstSecond", "(III)I"⟩, 3) := ⟨⟨by decide +kernel, by decide +kernel⟩, lw_t1 (List.mem_of_getElem? (i := 4) rfl), lw_t1 (List.mem_of_getElem? (i := 134) rfl), lw_t1 (List.mem_of_getElem? (i := 135) rfl)⟩
theorem lw_p9 : lw_okq (⟨"ClockZones", "firstBehind", "(II)I"⟩, 3) := ⟨⟨by decide +kernel, by decide +kernel⟩, lw_t1 (List.mem_of_getElem? (i := 4) rfl), lw_t1 (List.mem_of_getElem? (i := 138) rfl), lw_t1 (List.mem_of_getElem? (i := 139) rfl)⟩
theorem lw_p10 : lw_okq (⟨"ClockZonesModel", "badZone", "(I)Z"⟩, 2) := ⟨⟨by decide +kernel, by decide +kernel⟩, lw_t1 (List.mem_of_getElem? (i := 150) rfl), lw_t1 (List.mem_of_getElem? (i := 167) rfl), lw_t1 (List.mem_of_getElem? (i := 168) rfl)⟩
theorem lw_p11 : lw_okq (⟨"ClockZonesModel", "badPair", "(II)Z"⟩, 2) := ⟨⟨by decide +kernel, by decide +kernel⟩, lw_t1 (List.mem_of_getElem? (i := 150) rfl), lw_t1 (List.mem_of_getElem? (i := 179) rfl), lw_t1 (List.mem_of_getElem? (i := 180) rfl)⟩
theorem lw_p12 : lw_okq (⟨"ClockZonesModel", "value", "(II)I"⟩, 2) := ⟨⟨by decide +kernel, by decide +kernel⟩, lw_t1 (List.mem_of_getElem? (i := 150) rfl), lw_t1 (List.mem_of_getElem? (i := 183) rfl), lw_t1 (List.mem_of_getElem? (i := 184) rfl)⟩
theorem lw_p13 : lw_okq (⟨"ClockZonesModel", "store", "(I)I"⟩, 2) := ⟨⟨by decide +kernel, by decide +kernel⟩, lw_t1 (List.mem_of_getElem? (i := 150) rfl), lw_t1 (List.mem_of_getElem? (i := 187) rfl), lw_t1 (List.mem_of_getElem? (i := 188) rfl)⟩
theorem lw_p14 : lw_okq (⟨"ClockZonesModel", "some", "(I)I"⟩, 2) := ⟨⟨by decide +kernel, by decide +kernel⟩, lw_t1 (List.mem_of_getElem? (i := 150) rfl), lw_t1 (List.mem_of_getElem? (i := 191) rfl), lw_t1 (List.mem_of_getElem? (i := 192) rfl)⟩
theorem lw_p15 : lw_okq (⟨"ClockZonesModel", "shifted", "(III)Z"⟩, 2) := ⟨⟨by decide +kernel, by decide +kernel⟩, lw_t1 (List.mem_of_getElem? (i := 150) rfl), lw_t1 (List.mem_of_getElem? (i := 199) rfl), lw_t1 (List.mem_of_getElem? (i := 200) rfl)⟩
def lw_privs_1 : List (MethodName × Nat) := [(⟨"ClockZones", "tighten", "(IIII)V"⟩, 3), (⟨"ClockZones", "take", "(I)V"⟩, 3), (⟨"ClockZones", "narrow", "(III)Z"⟩, 3), (⟨"ClockZones", "left", "(I)I"⟩, 3), (⟨"ClockZones", "close", "(I)V"⟩, 3), (⟨"ClockZones", "fix", "(II)Z"⟩, 3), (⟨"ClockZones", "spanFor", "(II)I"⟩, 3), (⟨"ClockZones", "firstFrom", "(IIII)I"⟩, 3), (⟨"ClockZones", "firstSecond", "(III)I"⟩, 3), (⟨"ClockZones", "firstBehind", "(II)I"⟩, 3), (⟨"ClockZonesModel", "badZone", "(I)Z"⟩, 2), (⟨"ClockZonesModel", "badPair", "(II)Z"⟩, 2), (⟨"ClockZonesModel", "value", "(II)I"⟩, 2), (⟨"ClockZonesModel", "store", "(I)I"⟩, 2), (⟨"ClockZonesModel", "some", "(I)I"⟩, 2), (⟨"ClockZonesModel", "shifted", "(III)Z"⟩, 2)]
theorem lw_r1 : ∀ q ∈ lw_privs_1, lw_okq q := List.forall_mem_cons.mpr ⟨lw_p0, List.forall_mem_cons.mpr ⟨lw_p1, List.forall_mem_cons.mpr ⟨lw_p2, List.forall_mem_cons.mpr ⟨lw_p3, List.forall_mem_cons.mpr ⟨lw_p4, List.forall_mem_cons.mpr ⟨lw_p5, List.forall_mem_cons.mpr ⟨lw_p6, List.forall_mem_cons.mpr ⟨lw_p7, List.forall_mem_cons.mpr ⟨lw_p8, List.forall_mem_cons.mpr ⟨lw_p9, List.forall_mem_cons.mpr ⟨lw_p10, List.forall_mem_cons.mpr ⟨lw_p11, List.forall_mem_cons.mpr ⟨lw_p12, List.forall_mem_cons.mpr ⟨lw_p13, List.forall_mem_cons.mpr ⟨lw_p14, List.forall_mem_cons.mpr ⟨lw_p15, fun _ h => absurd h List.not_mem_nil⟩⟩⟩⟩⟩⟩⟩⟩⟩⟩⟩⟩⟩⟩⟩⟩
theorem lw_p16 : lw_okq (⟨"ClockZonesModel", "badClock", "(I)Z"⟩, 2) := ⟨⟨by decide +kernel, by decide +kernel⟩, lw_t1 (List.mem_of_getElem? (i := 150) rfl), lw_t1 (List.mem_of_getElem? (i := 211) rfl), lw_t1 (List.mem_of_getElem? (i := 212) rfl)⟩
theorem lw_p17 : lw_okq (⟨"ClockZonesModel", "anyAt", "(III)Z"⟩, 2) := ⟨⟨by decide +kernel, by decide +kernel⟩, lw_t1 (List.mem_of_getElem? (i := 150) rfl), lw_t1 (List.mem_of_getElem? (i := 215) rfl), lw_t1 (List.mem_of_getElem? (i := 216) rfl)⟩
theorem lw_p18 : lw_okq (⟨"ClockZonesModel", "with", "(III)I"⟩, 2) := ⟨⟨by decide +kernel, by decide +kernel⟩, lw_t1 (List.mem_of_getElem? (i := 150) rfl), lw_t1 (List.mem_of_getElem? (i := 219) rfl), lw_t1 (List.mem_of_getElem? (i := 220) rfl)⟩
theorem lw_p19 : lw_okq (⟨"ClockZonesModel", "greatest", "(II)I"⟩, 2) := ⟨⟨by decide +kernel, by decide +kernel⟩, lw_t1 (List.mem_of_getElem? (i := 150) rfl), lw_t1 (List.mem_of_getElem? (i := 239) rfl), lw_t2 (List.mem_of_getElem? (i := 0) rfl)⟩
theorem lw_p20 : lw_okq (⟨"ClockZonesModel", "drop", "(IIII)V"⟩, 2) := ⟨⟨by decide +kernel, by decide +kernel⟩, lw_t1 (List.mem_of_getElem? (i := 150) rfl), lw_t2 (List.mem_of_getElem? (i := 3) rfl), lw_t2 (List.mem_of_getElem? (i := 4) rfl)⟩
def lw_privs_2 : List (MethodName × Nat) := [(⟨"ClockZonesModel", "badClock", "(I)Z"⟩, 2), (⟨"ClockZonesModel", "anyAt", "(III)Z"⟩, 2), (⟨"ClockZonesModel", "with", "(III)I"⟩, 2), (⟨"ClockZonesModel", "greatest", "(II)I"⟩, 2), (⟨"ClockZonesModel", "drop", "(IIII)V"⟩, 2)]
theorem lw_r2 : ∀ q ∈ lw_privs_2, lw_okq q := List.forall_mem_cons.mpr ⟨lw_p16, List.forall_mem_cons.mpr ⟨lw_p17, List.forall_mem_cons.mpr ⟨lw_p18, List.forall_mem_cons.mpr ⟨lw_p19, List.forall_mem_cons.mpr ⟨lw_p20, fun _ h => absurd h List.not_mem_nil⟩⟩⟩⟩⟩
def lw_privs : List (MethodName × Nat) := lw_privs_1 ++ (lw_privs_2)
def lw_tbl : List Cond := k2_sels lw_privs ++ tables_1
theorem lw_privs_ok : ∀ q ∈ lw_privs, lw_okq q := by
  show ∀ q ∈ lw_privs_1 ++ (lw_privs_2), lw_okq q
  exact List.forall_mem_append.mpr ⟨lw_r1, lw_r2⟩
-- ===== ONE list of words for every method: the tables' words that hold all through a run =====
def lw_all : List Cond := lw_tbl.filter goodWord
/-- a word of the tables by its place: claim/WORDS.tsv -/
theorem lw_w {w : Cond} (i : Nat) (h : lw_tbl[i]? = some w) (g : goodWord w = true) : w ∈ lw_all := List.mem_filter.mpr ⟨List.mem_of_getElem? h, g⟩
theorem lw_all_tbl {w : Cond} (h : w ∈ lw_all) : w ∈ lw_tbl := (List.mem_filter.mp h).1
theorem lw_self : GoodIn lw_all lw_all := fun w h => ⟨h, good_of_word (List.mem_filter.mp h).2⟩
/-- a class's field words, by their places -/
theorem lw_in (ws : List Cond) (ps : List Nat) (hp : ws = ps.filterMap (fun i => lw_tbl[i]?)) (hg : ws.all goodWord = true) : ∀ w ∈ ws, w ∈ lw_all := by
  intro w h
  have h1 := List.all_eq_true.mp hg w h
  rw [hp] at h
  obtain ⟨i, -, hi⟩ := List.mem_filterMap.mp h
  exact lw_w i hi h1
/-- the words of a contract for the method y with code b, L locals, answer r -/
abbrev ws_ (y : MethodName) (b : ByteArray) (L : Nat) (r : Option FieldType) : List Cond := Cond.code y b L r :: lw_all
theorem lw_meth {y : MethodName} {b : ByteArray} {L : Nat} {r : Option FieldType} (h : Cond.code y b L r ∈ lw_all) : GoodIn lw_all (ws_ y b L r) := by
  intro w hw
  rcases List.mem_cons.mp hw with e | e
  · rw [e]
    exact lw_self _ h
  · exact lw_self _ e
theorem lw_app {a c : List Cond} (ha : ∀ w ∈ a, w ∈ lw_all) (hc : GoodIn lw_all c) : GoodIn lw_all (a ++ c) := by
  intro w hw
  rcases List.mem_append.mp hw with e | e
  · exact lw_self w (ha w e)
  · exact hc w e
/-- what a call through an object asks: cwV n hts (lw_V ..) -/
theorem lw_V {own : String} {idx : Nat} {C : String} {y : MethodName} {b : ByteArray} {L : Nat} {r : Option FieldType} (h1 : Cond.methodLink own idx y ∈ lw_all) (h2 : Cond.instanceMethod y ∈ lw_all) (h3 : Cond.selects C y y ∈ lw_all) (h4 : Cond.initialized C ∈ lw_all) (h5 : Cond.code y b L r ∈ lw_all) : GoodIn lw_all (wsV own idx C y (ws_ y b L r)) := by
  refine lw_app ?_ (lw_meth h5)
  intro w hw
  simp only [List.mem_cons, List.not_mem_nil, or_false] at hw
  rcases hw with e | e | e | e
  · rw [e]; exact h1
  · rw [e]; exact h2
  · rw [e]; exact h3
  · rw [e]; exact h4
/-- what a static call asks: va_cwS n hts (lw_S ..) -/
theorem lw_S {own : String} {idx : Nat} {y : MethodName} {b : ByteArray} {L : Nat} {r : Option FieldType} (h1 : Cond.methodLink own idx y ∈ lw_all) (h2 : Cond.static y ∈ lw_all) (h3 : Cond.initialized y.cls ∈ lw_all) (h4 : Cond.code y b L r ∈ lw_all) : GoodIn lw_all (va_wsS own idx y (ws_ y b L r)) := by
  refine lw_app ?_ (lw_meth h4)
  intro w hw
  simp only [List.mem_cons, List.not_mem_nil, or_false] at hw
  rcases hw with e | e | e
  · rw [e]; exact h1
  · rw [e]; exact h2
  · rw [e]; exact h3
/-- the words of a contract for a method WITH HANDLERS (hh: its table) -/
abbrev wsW_ (y : MethodName) (b : ByteArray) (L : Nat) (r : Option FieldType) (hh : List (Nat × Nat × Nat × Nat)) : List Cond := Cond.codeWith y b L r hh :: lw_all
theorem lw_methW {y : MethodName} {b : ByteArray} {L : Nat} {r : Option FieldType} {hh : List (Nat × Nat × Nat × Nat)} (h : Cond.codeWith y b L r hh ∈ lw_all) : GoodIn lw_all (wsW_ y b L r hh) := by
  intro w hw
  rcases List.mem_cons.mp hw with e | e
  · rw [e]
    exact lw_self _ h
  · exact lw_self _ e
/-- any list of words by their places (lw_in), good -/
theorem lw_good {ws : List Cond} (h : ∀ w ∈ ws, w ∈ lw_all) : GoodIn lw_all ws := fun w hw => lw_self w (h w hw)
/-- what a call of a method with handlers asks: vx_cwVW n hts (lw_VW ..), vx_cwSW n hts (lw_SW ..) -/
theorem lw_VW {own : String} {idx : Nat} {C : String} {y : MethodName} {b : ByteArray} {L : Nat} {r : Option FieldType} {hh : List (Nat × Nat × Nat × Nat)} (h1 : Cond.methodLink own idx y ∈ lw_all) (h2 : Cond.instanceMethod y ∈ lw_all) (h3 : Cond.selects C y y ∈ lw_all) (h4 : Cond.initialized C ∈ lw_all) (h5 : Cond.codeWith y b L r hh ∈ lw_all) : GoodIn lw_all (wsV own idx C y (wsW_ y b L r hh)) := by
  refine lw_app ?_ (lw_methW h5)
  intro w hw
  simp only [List.mem_cons, List.not_mem_nil, or_false] at hw
  rcases hw with e | e | e | e
  · rw [e]; exact h1
  · rw [e]; exact h2
  · rw [e]; exact h3
  · rw [e]; exact h4
theorem lw_SW {own : String} {idx : Nat} {y : MethodName} {b : ByteArray} {L : Nat} {r : Option FieldType} {hh : List (Nat × Nat × Nat × Nat)} (h1 : Cond.methodLink own idx y ∈ lw_all) (h2 : Cond.static y ∈ lw_all) (h3 : Cond.initialized y.cls ∈ lw_all) (h4 : Cond.codeWith y b L r hh ∈ lw_all) : GoodIn lw_all (va_wsS own idx y (wsW_ y b L r hh)) := by
  refine lw_app ?_ (lw_methW h4)
  intro w hw
  simp only [List.mem_cons, List.not_mem_nil, or_false] at hw
  rcases hw with e | e | e
  · rw [e]; exact h1
  · rw [e]; exact h2
  · rw [e]; exact h3
/-- a word by its place in its run of the tables -/
theorem lw_at {r : List Cond} (hr : ∀ w ∈ r, w ∈ lw_tbl) {w : Cond} (i : Nat) (h : r[i]? = some w) : w ∈ lw_tbl := hr w (List.mem_of_getElem? h)
theorem lw_g {w : Cond} (h : w ∈ lw_tbl) (g : goodWord w = true) : w ∈ lw_all := List.mem_filter.mpr ⟨h, g⟩
theorem lw_ms : ∀ w ∈ k2_sels lw_privs, w ∈ lw_tbl := fun w h => show w ∈ k2_sels lw_privs ++ tables_1 from List.mem_append_left _ h
theorem lw_m1 : ∀ w ∈ tables_1_1, w ∈ lw_tbl := fun w h => show w ∈ k2_sels lw_privs ++ tables_1 from List.mem_append_right (k2_sels lw_privs) (show w ∈ tables_1 from List.mem_append_left _ h)
theorem lw_m2 : ∀ w ∈ tables_1_2, w ∈ lw_tbl := fun w h => show w ∈ k2_sels lw_privs ++ tables_1 from List.mem_append_right (k2_sels lw_privs) (show w ∈ tables_1 from List.mem_append_right _ h)
theorem qs0 : (Cond.selects "ClockZones" ⟨"ClockZones", "tighten", "(IIII)V"⟩ ⟨"ClockZones", "tighten", "(IIII)V"⟩) ∈ lw_all := lw_g (lw_at lw_ms 0 rfl) rfl
theorem qs1 : (Cond.selects "ClockZones" ⟨"ClockZones", "take", "(I)V"⟩ ⟨"ClockZones", "take", "(I)V"⟩) ∈ lw_all := lw_g (lw_at lw_ms 1 rfl) rfl
theorem qs2 : (Cond.selects "ClockZones" ⟨"ClockZones", "narrow", "(III)Z"⟩ ⟨"ClockZones", "narrow", "(III)Z"⟩) ∈ lw_all := lw_g (lw_at lw_ms 2 rfl) rfl
theorem qs3 : (Cond.selects "ClockZones" ⟨"ClockZones", "left", "(I)I"⟩ ⟨"ClockZones", "left", "(I)I"⟩) ∈ lw_all := lw_g (lw_at lw_ms 3 rfl) rfl
theorem qs4 : (Cond.selects "ClockZones" ⟨"ClockZones", "close", "(I)V"⟩ ⟨"ClockZones", "close", "(I)V"⟩) ∈ lw_all := lw_g (lw_at lw_ms 4 rfl) rfl
theorem qs5 : (Cond.selects "ClockZones" ⟨"ClockZones", "fix", "(II)Z"⟩ ⟨"ClockZones", "fix", "(II)Z"⟩) ∈ lw_all := lw_g (lw_at lw_ms 5 rfl) rfl
theorem qs6 : (Cond.selects "ClockZones" ⟨"ClockZones", "spanFor", "(II)I"⟩ ⟨"ClockZones", "spanFor", "(II)I"⟩) ∈ lw_all := lw_g (lw_at lw_ms 6 rfl) rfl
theorem qs7 : (Cond.selects "ClockZones" ⟨"ClockZones", "firstFrom", "(IIII)I"⟩ ⟨"ClockZones", "firstFrom", "(IIII)I"⟩) ∈ lw_all := lw_g (lw_at lw_ms 7 rfl) rfl
theorem qs8 : (Cond.selects "ClockZones" ⟨"ClockZones", "firstSecond", "(III)I"⟩ ⟨"ClockZones", "firstSecond", "(III)I"⟩) ∈ lw_all := lw_g (lw_at lw_ms 8 rfl) rfl
theorem qs9 : (Cond.selects "ClockZones" ⟨"ClockZones", "firstBehind", "(II)I"⟩ ⟨"ClockZones", "firstBehind", "(II)I"⟩) ∈ lw_all := lw_g (lw_at lw_ms 9 rfl) rfl
theorem qs10 : (Cond.selects "ClockZonesModel" ⟨"ClockZonesModel", "badZone", "(I)Z"⟩ ⟨"ClockZonesModel", "badZone", "(I)Z"⟩) ∈ lw_all := lw_g (lw_at lw_ms 10 rfl) rfl
theorem qs11 : (Cond.selects "ClockZonesModel" ⟨"ClockZonesModel", "badPair", "(II)Z"⟩ ⟨"ClockZonesModel", "badPair", "(II)Z"⟩) ∈ lw_all := lw_g (lw_at lw_ms 11 rfl) rfl
theorem qs12 : (Cond.selects "ClockZonesModel" ⟨"ClockZonesModel", "value", "(II)I"⟩ ⟨"ClockZonesModel", "value", "(II)I"⟩) ∈ lw_all := lw_g (lw_at lw_ms 12 rfl) rfl
theorem qs13 : (Cond.selects "ClockZonesModel" ⟨"ClockZonesModel", "store", "(I)I"⟩ ⟨"ClockZonesModel", "store", "(I)I"⟩) ∈ lw_all := lw_g (lw_at lw_ms 13 rfl) rfl
theorem qs14 : (Cond.selects "ClockZonesModel" ⟨"ClockZonesModel", "some", "(I)I"⟩ ⟨"ClockZonesModel", "some", "(I)I"⟩) ∈ lw_all := lw_g (lw_at lw_ms 14 rfl) rfl
theorem qs15 : (Cond.selects "ClockZonesModel" ⟨"ClockZonesModel", "shifted", "(III)Z"⟩ ⟨"ClockZonesModel", "shifted", "(III)Z"⟩) ∈ lw_all := lw_g (lw_at lw_ms 15 rfl) rfl
theorem qs16 : (Cond.selects "ClockZonesModel" ⟨"ClockZonesModel", "badClock", "(I)Z"⟩ ⟨"ClockZonesModel", "badClock", "(I)Z"⟩) ∈ lw_all := lw_g (lw_at lw_ms 16 rfl) rfl
theorem qs17 : (Cond.selects "ClockZonesModel" ⟨"ClockZonesModel", "anyAt", "(III)Z"⟩ ⟨"ClockZonesModel", "anyAt", "(III)Z"⟩) ∈ lw_all := lw_g (lw_at lw_ms 17 rfl) rfl
theorem qs18 : (Cond.selects "ClockZonesModel" ⟨"ClockZonesModel", "with", "(III)I"⟩ ⟨"ClockZonesModel", "with", "(III)I"⟩) ∈ lw_all := lw_g (lw_at lw_ms 18 rfl) rfl
theorem qs19 : (Cond.selects "ClockZonesModel" ⟨"ClockZonesModel", "greatest", "(II)I"⟩ ⟨"ClockZonesModel", "greatest", "(II)I"⟩) ∈ lw_all := lw_g (lw_at lw_ms 19 rfl) rfl
theorem qs20 : (Cond.selects "ClockZonesModel" ⟨"ClockZonesModel", "drop", "(IIII)V"⟩ ⟨"ClockZonesModel", "drop", "(IIII)V"⟩) ∈ lw_all := lw_g (lw_at lw_ms 20 rfl) rfl
end
section
set_option maxRecDepth 100000
/-! java/lang/Object -/
def RJ0 : String := "java/lang/Object"
abbrev cJ0_init : ByteArray := object_method_1_code
def yJ0_init : MethodName := ⟨RJ0, "<init>", "()V"⟩
theorem q30 : (Jvm.Cond.instanceMethod ({ cls := "java/lang/Object", name := "<init>", desc := "()V" } : Jvm.MethodName)) ∈ lw_all := lw_g (lw_at lw_m1 9 rfl) rfl
theorem q31 : (Jvm.Cond.code ({ cls := "java/lang/Object", name := "<init>", desc := "()V" } : Jvm.MethodName) object_method_1_code (1 : Nat) (Option.none : Option Jvm.ClassFile.FieldType)) ∈ lw_all := lw_g (lw_at lw_m1 10 rfl) rfl
/-! ClockZones -/
def RX0 : String := "ClockZones"
def TX0 : u_T := fun k => match k with
  | 0 => ("ClockZones", "bounds", "[I", true)
  | 1 => ("ClockZones", "none", "[Z", true)
  | _ => ("ClockZones", "work", "[I", true)
def tyX0 : Nat → FieldType := fun k => match k with
  | 0 => .array .int
  | 1 => .array .boolean
  | _ => .array .int
abbrev wsX00 : List Cond := u_ws RX0 TX0 3
theorem nmX0 : ∀ a, a < 3 → ∀ b, b < 3 → a ≠ b → (TX0 a).2.1 ≠ (TX0 b).2.1 := by decide +kernel
theorem tyX0_ok : ∀ k, k < 3 → parseFieldDescriptor (TX0 k).2.2.1 = some (tyX0 k) := by decide +kernel
abbrev cX0_init : ByteArray := prog_1_method_1_code
def yX0_init : MethodName := ⟨RX0, "<init>", "()V"⟩
abbrev cX0_all : ByteArray := prog_1_method_2_code
def yX0_all : MethodName := ⟨RX0, "all", "(I)I"⟩
abbrev cX0_isZone : ByteArray := prog_1_method_20_code
def yX0_isZone : MethodName := ⟨RX0, "isZone", "(I)Z"⟩
abbrev cX0_boxBound : ByteArray := prog_1_method_23_code
def yX0_boxBound : MethodName := ⟨RX0, "boxBound", "(II)I"⟩
abbrev cX0_zero : ByteArray := prog_1_method_3_code
def yX0_zero : MethodName := ⟨RX0, "zero", "(I)I"⟩
abbrev cX0_keep : ByteArray := prog_1_method_4_code
def yX0_keep : MethodName := ⟨RX0, "keep", "(IIII)I"⟩
abbrev cX0_isPair : ByteArray := prog_1_method_22_code
def yX0_isPair : MethodName := ⟨RX0, "isPair", "(II)Z"⟩
abbrev cX0_tighten : ByteArray := prog_1_method_28_code
def yX0_tighten : MethodName := ⟨RX0, "tighten", "(IIII)V"⟩
abbrev cX0_take : ByteArray := prog_1_method_25_code
def yX0_take : MethodName := ⟨RX0, "take", "(I)V"⟩
abbrev cX0_narrow : ByteArray := prog_1_method_26_code
def yX0_narrow : MethodName := ⟨RX0, "narrow", "(III)Z"⟩
abbrev cX0_left : ByteArray := prog_1_method_24_code
def yX0_left : MethodName := ⟨RX0, "left", "(I)I"⟩
abbrev cX0_pass : ByteArray := prog_1_method_5_code
def yX0_pass : MethodName := ⟨RX0, "pass", "(I)I"⟩
abbrev cX0_close : ByteArray := prog_1_method_29_code
def yX0_close : MethodName := ⟨RX0, "close", "(I)V"⟩
abbrev cX0_back : ByteArray := prog_1_method_6_code
def yX0_back : MethodName := ⟨RX0, "back", "(I)I"⟩
abbrev cX0_set : ByteArray := prog_1_method_7_code
def yX0_set : MethodName := ⟨RX0, "set", "(III)I"⟩
abbrev cX0_isClock : ByteArray := prog_1_method_21_code
def yX0_isClock : MethodName := ⟨RX0, "isClock", "(I)Z"⟩
abbrev cX0_free : ByteArray := prog_1_method_8_code
def yX0_free : MethodName := ⟨RX0, "free", "(II)I"⟩
abbrev cX0_follow : ByteArray := prog_1_method_9_code
def yX0_follow : MethodName := ⟨RX0, "follow", "(III)I"⟩
abbrev cX0_meet : ByteArray := prog_1_method_10_code
def yX0_meet : MethodName := ⟨RX0, "meet", "(II)I"⟩
abbrev cX0_hull : ByteArray := prog_1_method_11_code
def yX0_hull : MethodName := ⟨RX0, "hull", "(II)I"⟩
abbrev cX0_copy : ByteArray := prog_1_method_12_code
def yX0_copy : MethodName := ⟨RX0, "copy", "(II)I"⟩
abbrev cX0_empty : ByteArray := prog_1_method_13_code
def yX0_empty : MethodName := ⟨RX0, "empty", "(I)I"⟩
abbrev cX0_widest : ByteArray := prog_1_method_14_code
def yX0_widest : MethodName := ⟨RX0, "widest", "(III)I"⟩
abbrev cX0_has : ByteArray := prog_1_method_15_code
def yX0_has : MethodName := ⟨RX0, "has", "(IIII)I"⟩
abbrev cX0_fix : ByteArray := prog_1_method_27_code
def yX0_fix : MethodName := ⟨RX0, "fix", "(II)Z"⟩
abbrev cX0_size : ByteArray := prog_1_method_16_code
def yX0_size : MethodName := ⟨RX0, "size", "(I)I"⟩
abbrev cX0_spanFor : ByteArray := prog_1_method_30_code
def yX0_spanFor : MethodName := ⟨RX0, "spanFor", "(II)I"⟩
abbrev cX0_next : ByteArray := prog_1_method_17_code
def yX0_next : MethodName := ⟨RX0, "next", "(II)I"⟩
abbrev cX0_firstFrom : ByteArray := prog_1_method_31_code
def yX0_firstFrom : MethodName := ⟨RX0, "firstFrom", "(IIII)I"⟩
abbrev cX0_firstSecond : ByteArray := prog_1_method_32_code
def yX0_firstSecond : MethodName := ⟨RX0, "firstSecond", "(III)I"⟩
abbrev cX0_firstBehind : ByteArray := prog_1_method_33_code
def yX0_firstBehind : MethodName := ⟨RX0, "firstBehind", "(II)I"⟩
abbrev cX0_within : ByteArray := prog_1_method_18_code
def yX0_within : MethodName := ⟨RX0, "within", "(II)I"⟩
abbrev cX0_touch : ByteArray := prog_1_method_19_code
def yX0_touch : MethodName := ⟨RX0, "touch", "(II)I"⟩
theorem q22 : (Jvm.Cond.initialized "ClockZones") ∈ lw_all := lw_g (lw_at lw_m1 1 rfl) rfl
theorem q25 : (Jvm.Cond.instantiable "ClockZones" (3 : Nat)) ∈ lw_all := lw_g (lw_at lw_m1 4 rfl) rfl
theorem q27 : (Jvm.Cond.instanceMethod ({ cls := "ClockZones", name := "<init>", desc := "()V" } : Jvm.MethodName)) ∈ lw_all := lw_g (lw_at lw_m1 6 rfl) rfl
theorem q28 : (Jvm.Cond.code ({ cls := "ClockZones", name := "<init>", desc := "()V" } : Jvm.MethodName) prog_1_method_1_code (2 : Nat) (Option.none : Option Jvm.ClassFile.FieldType)) ∈ lw_all := lw_g (lw_at lw_m1 7 rfl) rfl
theorem q29 : (Jvm.Cond.methodLink "ClockZones" (1 : Nat) ({ cls := "java/lang/Object", name := "<init>", desc := "()V" } : Jvm.MethodName)) ∈ lw_all := lw_g (lw_at lw_m1 8 rfl) rfl
theorem q32 : (Jvm.Cond.methodLink "ClockZones" (20 : Nat) ({ cls := "ClockZones", name := "all", desc := "(I)I" } : Jvm.MethodName)) ∈ lw_all := lw_g (lw_at lw_m1 11 rfl) rfl
theorem q33 : (Jvm.Cond.instanceMethod ({ cls := "ClockZones", name := "all", desc := "(I)I" } : Jvm.MethodName)) ∈ lw_all := lw_g (lw_at lw_m1 12 rfl) rfl
theorem q34 : (Jvm.Cond.selects "ClockZones" ({ cls := "ClockZones", name := "all", desc := "(I)I" } : Jvm.MethodName) ({ cls := "ClockZones", name := "all", desc := "(I)I" } : Jvm.MethodName)) ∈ lw_all := lw_g (lw_at lw_m1 13 rfl) rfl
theorem q35 : (Jvm.Cond.code ({ cls := "ClockZones", name := "all", desc := "(I)I" } : Jvm.MethodName) prog_1_method_2_code (3 : Nat) (Option.some Jvm.ClassFile.FieldType.int)) ∈ lw_all := lw_g (lw_at lw_m1 14 rfl) rfl
theorem q36 : (Jvm.Cond.methodLink "ClockZones" (24 : Nat) ({ cls := "ClockZones", name := "isZone", desc := "(I)Z" } : Jvm.MethodName)) ∈ lw_all := lw_g (lw_at lw_m1 15 rfl) rfl
theorem q37 : (Jvm.Cond.static ({ cls := "ClockZones", name := "isZone", desc := "(I)Z" } : Jvm.MethodName)) ∈ lw_all := lw_g (lw_at lw_m1 16 rfl) rfl
theorem q38 : (Jvm.Cond.code ({ cls := "ClockZones", name := "isZone", desc := "(I)Z" } : Jvm.MethodName) prog_1_method_20_code (1 : Nat) (Option.some Jvm.ClassFile.FieldType.boolean)) ∈ lw_all := lw_g (lw_at lw_m1 17 rfl) rfl
theorem q39 : (Jvm.Cond.methodLink "ClockZones" (28 : Nat) ({ cls := "ClockZones", name := "boxBound", desc := "(II)I" } : Jvm.MethodName)) ∈ lw_all := lw_g (lw_at lw_m1 18 rfl) rfl
theorem q40 : (Jvm.Cond.static ({ cls := "ClockZones", name := "boxBound", desc := "(II)I" } : Jvm.MethodName)) ∈ lw_all := lw_g (lw_at lw_m1 19 rfl) rfl
theorem q41 : (Jvm.Cond.code ({ cls := "ClockZones", name := "boxBound", desc := "(II)I" } : Jvm.MethodName) prog_1_method_23_code (2 : Nat) (Option.some Jvm.ClassFile.FieldType.int)) ∈ lw_all := lw_g (lw_at lw_m1 20 rfl) rfl
theorem q42 : (Jvm.Cond.fieldLink "ClockZones" (7 : Nat) "ClockZones" "bounds" "[I") ∈ lw_all := lw_g (lw_at lw_m1 21 rfl) rfl
theorem q43 : (Jvm.Cond.fieldLink "ClockZones" (13 : Nat) "ClockZones" "none" "[Z") ∈ lw_all := lw_g (lw_at lw_m1 22 rfl) rfl
theorem q44 : (Jvm.Cond.fieldLink "ClockZones" (17 : Nat) "ClockZones" "work" "[I") ∈ lw_all := lw_g (lw_at lw_m1 23 rfl) rfl
theorem q45 : (Jvm.Cond.laysFinal "ClockZones" "ClockZones" "bounds" "[I") ∈ lw_all := lw_g (lw_at lw_m1 24 rfl) rfl
theorem q46 : (Jvm.Cond.soleField "ClockZones" "bounds") ∈ lw_all := lw_g (lw_at lw_m1 25 rfl) rfl
theorem q47 : (Jvm.Cond.laysFinal "ClockZones" "ClockZones" "none" "[Z") ∈ lw_all := lw_g (lw_at lw_m1 26 rfl) rfl
theorem q48 : (Jvm.Cond.soleField "ClockZones" "none") ∈ lw_all := lw_g (lw_at lw_m1 27 rfl) rfl
theorem q49 : (Jvm.Cond.laysFinal "ClockZones" "ClockZones" "work" "[I") ∈ lw_all := lw_g (lw_at lw_m1 28 rfl) rfl
theorem q50 : (Jvm.Cond.soleField "ClockZones" "work") ∈ lw_all := lw_g (lw_at lw_m1 29 rfl) rfl
theorem q51 : (Jvm.Cond.superclass "ClockZones" "java/lang/Object") ∈ lw_all := lw_g (lw_at lw_m1 30 rfl) rfl
theorem q56 : (Jvm.Cond.instanceMethod ({ cls := "ClockZones", name := "zero", desc := "(I)I" } : Jvm.MethodName)) ∈ lw_all := lw_g (lw_at lw_m1 35 rfl) rfl
theorem q57 : (Jvm.Cond.selects "ClockZones" ({ cls := "ClockZones", name := "zero", desc := "(I)I" } : Jvm.MethodName) ({ cls := "ClockZones", name := "zero", desc := "(I)I" } : Jvm.MethodName)) ∈ lw_all := lw_g (lw_at lw_m1 36 rfl) rfl
theorem q58 : (Jvm.Cond.code ({ cls := "ClockZones", name := "zero", desc := "(I)I" } : Jvm.MethodName) prog_1_method_3_code (3 : Nat) (Option.some Jvm.ClassFile.FieldType.int)) ∈ lw_all := lw_g (lw_at lw_m1 37 rfl) rfl
theorem q60 : (Jvm.Cond.instanceMethod ({ cls := "ClockZones", name := "keep", desc := "(IIII)I" } : Jvm.MethodName)) ∈ lw_all := lw_g (lw_at lw_m1 39 rfl) rfl
theorem q61 : (Jvm.Cond.selects "ClockZones" ({ cls := "ClockZones", name := "keep", desc := "(IIII)I" } : Jvm.MethodName) ({ cls := "ClockZones", name := "keep", desc := "(IIII)I" } : Jvm.MethodName)) ∈ lw_all := lw_g (lw_at lw_m1 40 rfl) rfl
theorem q62 : (Jvm.Cond.code ({ cls := "ClockZones", name := "keep", desc := "(IIII)I" } : Jvm.MethodName) prog_1_method_4_code (5 : Nat) (Option.some Jvm.ClassFile.FieldType.int)) ∈ lw_all := lw_g (lw_at lw_m1 41 rfl) rfl
theorem q63 : (Jvm.Cond.methodLink "ClockZones" (32 : Nat) ({ cls := "ClockZones", name := "isPair", desc := "(II)Z" } : Jvm.MethodName)) ∈ lw_all := lw_g (lw_at lw_m1 42 rfl) rfl
theorem q64 : (Jvm.Cond.static ({ cls := "ClockZones", name := "isPair", desc := "(II)Z" } : Jvm.MethodName)) ∈ lw_all := lw_g (lw_at lw_m1 43 rfl) rfl
theorem q65 : (Jvm.Cond.code ({ cls := "ClockZones", name := "isPair", desc := "(II)Z" } : Jvm.MethodName) prog_1_method_22_code (2 : Nat) (Option.some Jvm.ClassFile.FieldType.boolean)) ∈ lw_all := lw_g (lw_at lw_m1 44 rfl) rfl
theorem q66 : (Jvm.Cond.methodLink "ClockZones" (36 : Nat) ({ cls := "ClockZones", name := "tighten", desc := "(IIII)V" } : Jvm.MethodName)) ∈ lw_all := lw_g (lw_at lw_m1 45 rfl) rfl
theorem q67 : (Jvm.Cond.privateMethod ({ cls := "ClockZones", name := "tighten", desc := "(IIII)V" } : Jvm.MethodName)) ∈ lw_tbl := lw_at lw_m1 46 rfl
theorem q68 : (Jvm.Cond.instanceMethod ({ cls := "ClockZones", name := "tighten", desc := "(IIII)V" } : Jvm.MethodName)) ∈ lw_all := lw_g (lw_at lw_m1 47 rfl) rfl
theorem q69 : (Jvm.Cond.code ({ cls := "ClockZones", name := "tighten", desc := "(IIII)V" } : Jvm.MethodName) prog_1_method_28_code (7 : Nat) (Option.none : Option Jvm.ClassFile.FieldType)) ∈ lw_all := lw_g (lw_at lw_m1 48 rfl) rfl
theorem q70 : (Jvm.Cond.methodLink "ClockZones" (53 : Nat) ({ cls := "ClockZones", name := "take", desc := "(I)V" } : Jvm.MethodName)) ∈ lw_all := lw_g (lw_at lw_m1 49 rfl) rfl
theorem q71 : (Jvm.Cond.privateMethod ({ cls := "ClockZones", name := "take", desc := "(I)V" } : Jvm.MethodName)) ∈ lw_tbl := lw_at lw_m1 50 rfl
theorem q72 : (Jvm.Cond.instanceMethod ({ cls := "ClockZones", name := "take", desc := "(I)V" } : Jvm.MethodName)) ∈ lw_all := lw_g (lw_at lw_m1 51 rfl) rfl
theorem q73 : (Jvm.Cond.code ({ cls := "ClockZones", name := "take", desc := "(I)V" } : Jvm.MethodName) prog_1_method_25_code (3 : Nat) (Option.none : Option Jvm.ClassFile.FieldType)) ∈ lw_all := lw_g (lw_at lw_m1 52 rfl) rfl
theorem q74 : (Jvm.Cond.methodLink "ClockZones" (73 : Nat) ({ cls := "ClockZones", name := "narrow", desc := "(III)Z" } : Jvm.MethodName)) ∈ lw_all := lw_g (lw_at lw_m1 53 rfl) rfl
theorem q75 : (Jvm.Cond.privateMethod ({ cls := "ClockZones", name := "narrow", desc := "(III)Z" } : Jvm.MethodName)) ∈ lw_tbl := lw_at lw_m1 54 rfl
theorem q76 : (Jvm.Cond.instanceMethod ({ cls := "ClockZones", name := "narrow", desc := "(III)Z" } : Jvm.MethodName)) ∈ lw_all := lw_g (lw_at lw_m1 55 rfl) rfl
theorem q77 : (Jvm.Cond.code ({ cls := "ClockZones", name := "narrow", desc := "(III)Z" } : Jvm.MethodName) prog_1_method_26_code (8 : Nat) (Option.some Jvm.ClassFile.FieldType.boolean)) ∈ lw_all := lw_g (lw_at lw_m1 56 rfl) rfl
theorem q78 : (Jvm.Cond.methodLink "ClockZones" (40 : Nat) ({ cls := "ClockZones", name := "left", desc := "(I)I" } : Jvm.MethodName)) ∈ lw_all := lw_g (lw_at lw_m1 57 rfl) rfl
theorem q79 : (Jvm.Cond.privateMethod ({ cls := "ClockZones", name := "left", desc := "(I)I" } : Jvm.MethodName)) ∈ lw_tbl := lw_at lw_m1 58 rfl
theorem q80 : (Jvm.Cond.instanceMethod ({ cls := "ClockZones", name := "left", desc := "(I)I" } : Jvm.MethodName)) ∈ lw_all := lw_g (lw_at lw_m1 59 rfl) rfl
theorem q81 : (Jvm.Cond.code ({ cls := "ClockZones", name := "left", desc := "(I)I" } : Jvm.MethodName) prog_1_method_24_code (2 : Nat) (Option.some Jvm.ClassFile.FieldType.int)) ∈ lw_all := lw_g (lw_at lw_m1 60 rfl) rfl
theorem q83 : (Jvm.Cond.instanceMethod ({ cls := "ClockZones", name := "pass", desc := "(I)I" } : Jvm.MethodName)) ∈ lw_all := lw_g (lw_at lw_m1 62 rfl) rfl
theorem q84 : (Jvm.Cond.selects "ClockZones" ({ cls := "ClockZones", name := "pass", desc := "(I)I" } : Jvm.MethodName) ({ cls := "ClockZones", name := "pass", desc := "(I)I" } : Jvm.MethodName)) ∈ lw_all := lw_g (lw_at lw_m1 63 rfl) rfl
theorem q85 : (Jvm.Cond.code ({ cls := "ClockZones", name := "pass", desc := "(I)I" } : Jvm.MethodName) prog_1_method_5_code (3 : Nat) (Option.some Jvm.ClassFile.FieldType.int)) ∈ lw_all := lw_g (lw_at lw_m1 64 rfl) rfl
theorem q86 : (Jvm.Cond.methodLink "ClockZones" (43 : Nat) ({ cls := "ClockZones", name := "close", desc := "(I)V" } : Jvm.MethodName)) ∈ lw_all := lw_g (lw_at lw_m1 65 rfl) rfl
theorem q87 : (Jvm.Cond.privateMethod ({ cls := "ClockZones", name := "close", desc := "(I)V" } : Jvm.MethodName)) ∈ lw_tbl := lw_at lw_m1 66 rfl
theorem q88 : (Jvm.Cond.instanceMethod ({ cls := "ClockZones", name := "close", desc := "(I)V" } : Jvm.MethodName)) ∈ lw_all := lw_g (lw_at lw_m1 67 rfl) rfl
theorem q89 : (Jvm.Cond.code ({ cls := "ClockZones", name := "close", desc := "(I)V" } : Jvm.MethodName) prog_1_method_29_code (7 : Nat) (Option.none : Option Jvm.ClassFile.FieldType)) ∈ lw_all := lw_g (lw_at lw_m1 68 rfl) rfl
theorem q91 : (Jvm.Cond.instanceMethod ({ cls := "ClockZones", name := "back", desc := "(I)I" } : Jvm.MethodName)) ∈ lw_all := lw_g (lw_at lw_m1 70 rfl) rfl
theorem q92 : (Jvm.Cond.selects "ClockZones" ({ cls := "ClockZones", name := "back", desc := "(I)I" } : Jvm.MethodName) ({ cls := "ClockZones", name := "back", desc := "(I)I" } : Jvm.MethodName)) ∈ lw_all := lw_g (lw_at lw_m1 71 rfl) rfl
theorem q93 : (Jvm.Cond.code ({ cls := "ClockZones", name := "back", desc := "(I)I" } : Jvm.MethodName) prog_1_method_6_code (3 : Nat) (Option.some Jvm.ClassFile.FieldType.int)) ∈ lw_all := lw_g (lw_at lw_m1 72 rfl) rfl
theorem q95 : (Jvm.Cond.instanceMethod ({ cls := "ClockZones", name := "set", desc := "(III)I" } : Jvm.MethodName)) ∈ lw_all := lw_g (lw_at lw_m1 74 rfl) rfl
theorem q96 : (Jvm.Cond.selects "ClockZones" ({ cls := "ClockZones", name := "set", desc := "(III)I" } : Jvm.MethodName) ({ cls := "ClockZones", name := "set", desc := "(III)I" } : Jvm.MethodName)) ∈ lw_all := lw_g (lw_at lw_m1 75 rfl) rfl
theorem q97 : (Jvm.Cond.code ({ cls := "ClockZones", name := "set", desc := "(III)I" } : Jvm.MethodName) prog_1_method_7_code (5 : Nat) (Option.some Jvm.ClassFile.FieldType.int)) ∈ lw_all := lw_g (lw_at lw_m1 76 rfl) rfl
theorem q98 : (Jvm.Cond.methodLink "ClockZones" (47 : Nat) ({ cls := "ClockZones", name := "isClock", desc := "(I)Z" } : Jvm.MethodName)) ∈ lw_all := lw_g (lw_at lw_m1 77 rfl) rfl
theorem q99 : (Jvm.Cond.static ({ cls := "ClockZones", name := "isClock", desc := "(I)Z" } : Jvm.MethodName)) ∈ lw_all := lw_g (lw_at lw_m1 78 rfl) rfl
theorem q100 : (Jvm.Cond.code ({ cls := "ClockZones", name := "isClock", desc := "(I)Z" } : Jvm.MethodName) prog_1_method_21_code (1 : Nat) (Option.some Jvm.ClassFile.FieldType.boolean)) ∈ lw_all := lw_g (lw_at lw_m1 79 rfl) rfl
theorem q102 : (Jvm.Cond.instanceMethod ({ cls := "ClockZones", name := "free", desc := "(II)I" } : Jvm.MethodName)) ∈ lw_all := lw_g (lw_at lw_m1 81 rfl) rfl
theorem q103 : (Jvm.Cond.selects "ClockZones" ({ cls := "ClockZones", name := "free", desc := "(II)I" } : Jvm.MethodName) ({ cls := "ClockZones", name := "free", desc := "(II)I" } : Jvm.MethodName)) ∈ lw_all := lw_g (lw_at lw_m1 82 rfl) rfl
theorem q104 : (Jvm.Cond.code ({ cls := "ClockZones", name := "free", desc := "(II)I" } : Jvm.MethodName) prog_1_method_8_code (4 : Nat) (Option.some Jvm.ClassFile.FieldType.int)) ∈ lw_all := lw_g (lw_at lw_m1 83 rfl) rfl
theorem q106 : (Jvm.Cond.instanceMethod ({ cls := "ClockZones", name := "follow", desc := "(III)I" } : Jvm.MethodName)) ∈ lw_all := lw_g (lw_at lw_m1 85 rfl) rfl
theorem q107 : (Jvm.Cond.selects "ClockZones" ({ cls := "ClockZones", name := "follow", desc := "(III)I" } : Jvm.MethodName) ({ cls := "ClockZones", name := "follow", desc := "(III)I" } : Jvm.MethodName)) ∈ lw_all := lw_g (lw_at lw_m1 86 rfl) rfl
theorem q108 : (Jvm.Cond.code ({ cls := "ClockZones", name := "follow", desc := "(III)I" } : Jvm.MethodName) prog_1_method_9_code (5 : Nat) (Option.some Jvm.ClassFile.FieldType.int)) ∈ lw_all := lw_g (lw_at lw_m1 87 rfl) rfl
theorem q110 : (Jvm.Cond.instanceMethod ({ cls := "ClockZones", name := "meet", desc := "(II)I" } : Jvm.MethodName)) ∈ lw_all := lw_g (lw_at lw_m1 89 rfl) rfl
theorem q111 : (Jvm.Cond.selects "ClockZones" ({ cls := "ClockZones", name := "meet", desc := "(II)I" } : Jvm.MethodName) ({ cls := "ClockZones", name := "meet", desc := "(II)I" } : Jvm.MethodName)) ∈ lw_all := lw_g (lw_at lw_m1 90 rfl) rfl
theorem q112 : (Jvm.Cond.code ({ cls := "ClockZones", name := "meet", desc := "(II)I" } : Jvm.MethodName) prog_1_method_10_code (5 : Nat) (Option.some Jvm.ClassFile.FieldType.int)) ∈ lw_all := lw_g (lw_at lw_m1 91 rfl) rfl
theorem q114 : (Jvm.Cond.instanceMethod ({ cls := "ClockZones", name := "hull", desc := "(II)I" } : Jvm.MethodName)) ∈ lw_all := lw_g (lw_at lw_m1 93 rfl) rfl
theorem q115 : (Jvm.Cond.selects "ClockZones" ({ cls := "ClockZones", name := "hull", desc := "(II)I" } : Jvm.MethodName) ({ cls := "ClockZones", name := "hull", desc := "(II)I" } : Jvm.MethodName)) ∈ lw_all := lw_g (lw_at lw_m1 94 rfl) rfl
theorem q116 : (Jvm.Cond.code ({ cls := "ClockZones", name := "hull", desc := "(II)I" } : Jvm.MethodName) prog_1_method_11_code (5 : Nat) (Option.some Jvm.ClassFile.FieldType.int)) ∈ lw_all := lw_g (lw_at lw_m1 95 rfl) rfl
theorem q117 : (Jvm.Cond.methodLink "ClockZones" (50 : Nat) ({ cls := "ClockZones", name := "copy", desc := "(II)I" } : Jvm.MethodName)) ∈ lw_all := lw_g (lw_at lw_m1 96 rfl) rfl
theorem q118 : (Jvm.Cond.instanceMethod ({ cls := "ClockZones", name := "copy", desc := "(II)I" } : Jvm.MethodName)) ∈ lw_all := lw_g (lw_at lw_m1 97 rfl) rfl
theorem q119 : (Jvm.Cond.selects "ClockZones" ({ cls := "ClockZones", name := "copy", desc := "(II)I" } : Jvm.MethodName) ({ cls := "ClockZones", name := "copy", desc := "(II)I" } : Jvm.MethodName)) ∈ lw_all := lw_g (lw_at lw_m1 98 rfl) rfl
theorem q120 : (Jvm.Cond.code ({ cls := "ClockZones", name := "copy", desc := "(II)I" } : Jvm.MethodName) prog_1_method_12_code (4 : Nat) (Option.some Jvm.ClassFile.FieldType.int)) ∈ lw_all := lw_g (lw_at lw_m1 99 rfl) rfl
theorem q123 : (Jvm.Cond.instanceMethod ({ cls := "ClockZones", name := "empty", desc := "(I)I" } : Jvm.MethodName)) ∈ lw_all := lw_g (lw_at lw_m1 102 rfl) rfl
theorem q124 : (Jvm.Cond.selects "ClockZones" ({ cls := "ClockZones", name := "empty", desc := "(I)I" } : Jvm.MethodName) ({ cls := "ClockZones", name := "empty", desc := "(I)I" } : Jvm.MethodName)) ∈ lw_all := lw_g (lw_at lw_m1 103 rfl) rfl
theorem q125 : (Jvm.Cond.code ({ cls := "ClockZones", name := "empty", desc := "(I)I" } : Jvm.MethodName) prog_1_method_13_code (2 : Nat) (Option.some Jvm.ClassFile.FieldType.int)) ∈ lw_all := lw_g (lw_at lw_m1 104 rfl) rfl
theorem q127 : (Jvm.Cond.instanceMethod ({ cls := "ClockZones", name := "widest", desc := "(III)I" } : Jvm.MethodName)) ∈ lw_all := lw_g (lw_at lw_m1 106 rfl) rfl
theorem q128 : (Jvm.Cond.selects "ClockZones" ({ cls := "ClockZones", name := "widest", desc := "(III)I" } : Jvm.MethodName) ({ cls := "ClockZones", name := "widest", desc := "(III)I" } : Jvm.MethodName)) ∈ lw_all := lw_g (lw_at lw_m1 107 rfl) rfl
theorem q129 : (Jvm.Cond.code ({ cls := "ClockZones", name := "widest", desc := "(III)I" } : Jvm.MethodName) prog_1_method_14_code (4 : Nat) (Option.some Jvm.ClassFile.FieldType.int)) ∈ lw_all := lw_g (lw_at lw_m1 108 rfl) rfl
theorem q131 : (Jvm.Cond.instanceMethod ({ cls := "ClockZones", name := "has", desc := "(IIII)I" } : Jvm.MethodName)) ∈ lw_all := lw_g (lw_at lw_m1 110 rfl) rfl
theorem q132 : (Jvm.Cond.selects "ClockZones" ({ cls := "ClockZones", name := "has", desc := "(IIII)I" } : Jvm.MethodName) ({ cls := "ClockZones", name := "has", desc := "(IIII)I" } : Jvm.MethodName)) ∈ lw_all := lw_g (lw_at lw_m1 111 rfl) rfl
theorem q133 : (Jvm.Cond.code ({ cls := "ClockZones", name := "has", desc := "(IIII)I" } : Jvm.MethodName) prog_1_method_15_code (9 : Nat) (Option.some Jvm.ClassFile.FieldType.int)) ∈ lw_all := lw_g (lw_at lw_m1 112 rfl) rfl
theorem q134 : (Jvm.Cond.methodLink "ClockZones" (56 : Nat) ({ cls := "ClockZones", name := "fix", desc := "(II)Z" } : Jvm.MethodName)) ∈ lw_all := lw_g (lw_at lw_m1 113 rfl) rfl
theorem q135 : (Jvm.Cond.privateMethod ({ cls := "ClockZones", name := "fix", desc := "(II)Z" } : Jvm.MethodName)) ∈ lw_tbl := lw_at lw_m1 114 rfl
theorem q136 : (Jvm.Cond.instanceMethod ({ cls := "ClockZones", name := "fix", desc := "(II)Z" } : Jvm.MethodName)) ∈ lw_all := lw_g (lw_at lw_m1 115 rfl) rfl
theorem q137 : (Jvm.Cond.code ({ cls := "ClockZones", name := "fix", desc := "(II)Z" } : Jvm.MethodName) prog_1_method_27_code (4 : Nat) (Option.some Jvm.ClassFile.FieldType.boolean)) ∈ lw_all := lw_g (lw_at lw_m1 116 rfl) rfl
theorem q139 : (Jvm.Cond.instanceMethod ({ cls := "ClockZones", name := "size", desc := "(I)I" } : Jvm.MethodName)) ∈ lw_all := lw_g (lw_at lw_m1 118 rfl) rfl
theorem q140 : (Jvm.Cond.selects "ClockZones" ({ cls := "ClockZones", name := "size", desc := "(I)I" } : Jvm.MethodName) ({ cls := "ClockZones", name := "size", desc := "(I)I" } : Jvm.MethodName)) ∈ lw_all := lw_g (lw_at lw_m1 119 rfl) rfl
theorem q141 : (Jvm.Cond.code ({ cls := "ClockZones", name := "size", desc := "(I)I" } : Jvm.MethodName) prog_1_method_16_code (7 : Nat) (Option.some Jvm.ClassFile.FieldType.int)) ∈ lw_all := lw_g (lw_at lw_m1 120 rfl) rfl
theorem q142 : (Jvm.Cond.methodLink "ClockZones" (59 : Nat) ({ cls := "ClockZones", name := "spanFor", desc := "(II)I" } : Jvm.MethodName)) ∈ lw_all := lw_g (lw_at lw_m1 121 rfl) rfl
theorem q143 : (Jvm.Cond.privateMethod ({ cls := "ClockZones", name := "spanFor", desc := "(II)I" } : Jvm.MethodName)) ∈ lw_tbl := lw_at lw_m1 122 rfl
theorem q144 : (Jvm.Cond.instanceMethod ({ cls := "ClockZones", name := "spanFor", desc := "(II)I" } : Jvm.MethodName)) ∈ lw_all := lw_g (lw_at lw_m1 123 rfl) rfl
theorem q145 : (Jvm.Cond.code ({ cls := "ClockZones", name := "spanFor", desc := "(II)I" } : Jvm.MethodName) prog_1_method_30_code (9 : Nat) (Option.some Jvm.ClassFile.FieldType.int)) ∈ lw_all := lw_g (lw_at lw_m1 124 rfl) rfl
theorem q147 : (Jvm.Cond.instanceMethod ({ cls := "ClockZones", name := "next", desc := "(II)I" } : Jvm.MethodName)) ∈ lw_all := lw_g (lw_at lw_m1 126 rfl) rfl
theorem q148 : (Jvm.Cond.selects "ClockZones" ({ cls := "ClockZones", name := "next", desc := "(II)I" } : Jvm.MethodName) ({ cls := "ClockZones", name := "next", desc := "(II)I" } : Jvm.MethodName)) ∈ lw_all := lw_g (lw_at lw_m1 127 rfl) rfl
theorem q149 : (Jvm.Cond.code ({ cls := "ClockZones", name := "next", desc := "(II)I" } : Jvm.MethodName) prog_1_method_17_code (5 : Nat) (Option.some Jvm.ClassFile.FieldType.int)) ∈ lw_all := lw_g (lw_at lw_m1 128 rfl) rfl
theorem q150 : (Jvm.Cond.methodLink "ClockZones" (62 : Nat) ({ cls := "ClockZones", name := "firstFrom", desc := "(IIII)I" } : Jvm.MethodName)) ∈ lw_all := lw_g (lw_at lw_m1 129 rfl) rfl
theorem q151 : (Jvm.Cond.privateMethod ({ cls := "ClockZones", name := "firstFrom", desc := "(IIII)I" } : Jvm.MethodName)) ∈ lw_tbl := lw_at lw_m1 130 rfl
theorem q152 : (Jvm.Cond.instanceMethod ({ cls := "ClockZones", name := "firstFrom", desc := "(IIII)I" } : Jvm.MethodName)) ∈ lw_all := lw_g (lw_at lw_m1 131 rfl) rfl
theorem q153 : (Jvm.Cond.code ({ cls := "ClockZones", name := "firstFrom", desc := "(IIII)I" } : Jvm.MethodName) prog_1_method_31_code (8 : Nat) (Option.some Jvm.ClassFile.FieldType.int)) ∈ lw_all := lw_g (lw_at lw_m1 132 rfl) rfl
theorem q154 : (Jvm.Cond.methodLink "ClockZones" (66 : Nat) ({ cls := "ClockZones", name := "firstSecond", desc := "(III)I" } : Jvm.MethodName)) ∈ lw_all := lw_g (lw_at lw_m1 133 rfl) rfl
theorem q155 : (Jvm.Cond.privateMethod ({ cls := "ClockZones", name := "firstSecond", desc := "(III)I" } : Jvm.MethodName)) ∈ lw_tbl := lw_at lw_m1 134 rfl
theorem q156 : (Jvm.Cond.instanceMethod ({ cls := "ClockZones", name := "firstSecond", desc := "(III)I" } : Jvm.MethodName)) ∈ lw_all := lw_g (lw_at lw_m1 135 rfl) rfl
theorem q157 : (Jvm.Cond.code ({ cls := "ClockZones", name := "firstSecond", desc := "(III)I" } : Jvm.MethodName) prog_1_method_32_code (7 : Nat) (Option.some Jvm.ClassFile.FieldType.int)) ∈ lw_all := lw_g (lw_at lw_m1 136 rfl) rfl
theorem q158 : (Jvm.Cond.methodLink "ClockZones" (70 : Nat) ({ cls := "ClockZones", name := "firstBehind", desc := "(II)I" } : Jvm.MethodName)) ∈ lw_all := lw_g (lw_at lw_m1 137 rfl) rfl
theorem q159 : (Jvm.Cond.privateMethod ({ cls := "ClockZones", name := "firstBehind", desc := "(II)I" } : Jvm.MethodName)) ∈ lw_tbl := lw_at lw_m1 138 rfl
theorem q160 : (Jvm.Cond.instanceMethod ({ cls := "ClockZones", name := "firstBehind", desc := "(II)I" } : Jvm.MethodName)) ∈ lw_all := lw_g (lw_at lw_m1 139 rfl) rfl
theorem q161 : (Jvm.Cond.code ({ cls := "ClockZones", name := "firstBehind", desc := "(II)I" } : Jvm.MethodName) prog_1_method_33_code (6 : Nat) (Option.some Jvm.ClassFile.FieldType.int)) ∈ lw_all := lw_g (lw_at lw_m1 140 rfl) rfl
theorem q163 : (Jvm.Cond.instanceMethod ({ cls := "ClockZones", name := "within", desc := "(II)I" } : Jvm.MethodName)) ∈ lw_all := lw_g (lw_at lw_m1 142 rfl) rfl
theorem q164 : (Jvm.Cond.selects "ClockZones" ({ cls := "ClockZones", name := "within", desc := "(II)I" } : Jvm.MethodName) ({ cls := "ClockZones", name := "within", desc := "(II)I" } : Jvm.MethodName)) ∈ lw_all := lw_g (lw_at lw_m1 143 rfl) rfl
theorem q165 : (Jvm.Cond.code ({ cls := "ClockZones", name := "within", desc := "(II)I" } : Jvm.MethodName) prog_1_method_18_code (4 : Nat) (Option.some Jvm.ClassFile.FieldType.int)) ∈ lw_all := lw_g (lw_at lw_m1 144 rfl) rfl
theorem q167 : (Jvm.Cond.instanceMethod ({ cls := "ClockZones", name := "touch", desc := "(II)I" } : Jvm.MethodName)) ∈ lw_all := lw_g (lw_at lw_m1 146 rfl) rfl
theorem q168 : (Jvm.Cond.selects "ClockZones" ({ cls := "ClockZones", name := "touch", desc := "(II)I" } : Jvm.MethodName) ({ cls := "ClockZones", name := "touch", desc := "(II)I" } : Jvm.MethodName)) ∈ lw_all := lw_g (lw_at lw_m1 147 rfl) rfl
theorem q169 : (Jvm.Cond.code ({ cls := "ClockZones", name := "touch", desc := "(II)I" } : Jvm.MethodName) prog_1_method_19_code (5 : Nat) (Option.some Jvm.ClassFile.FieldType.int)) ∈ lw_all := lw_g (lw_at lw_m1 148 rfl) rfl
theorem in_X0 : ∀ w ∈ wsX00, w ∈ lw_all := lw_in wsX00 [45, 47, 49] (by decide +kernel) (by decide +kernel)
/-! ClockZonesModel -/
def RX1 : String := "ClockZonesModel"
def TX1 : u_T := fun k => match k with
  | 0 => ("ClockZonesModel", "mark", "[Z", true)
  | _ => ("ClockZonesModel", "made", "[Z", true)
def tyX1 : Nat → FieldType := fun k => match k with
  | 0 => .array .boolean
  | _ => .array .boolean
abbrev wsX10 : List Cond := u_ws RX1 TX1 2
theorem nmX1 : ∀ a, a < 2 → ∀ b, b < 2 → a ≠ b → (TX1 a).2.1 ≠ (TX1 b).2.1 := by decide +kernel
theorem tyX1_ok : ∀ k, k < 2 → parseFieldDescriptor (TX1 k).2.2.1 = some (tyX1 k) := by decide +kernel
abbrev cX1_init : ByteArray := prog_3_method_1_code
def yX1_init : MethodName := ⟨RX1, "<init>", "()V"⟩
abbrev cX1_all : ByteArray := prog_3_method_9_code
def yX1_all : MethodName := ⟨RX1, "all", "(I)I"⟩
abbrev cX1_badZone : ByteArray := prog_3_method_2_code
def yX1_badZone : MethodName := ⟨RX1, "badZone", "(I)Z"⟩
abbrev cX1_zero : ByteArray := prog_3_method_10_code
def yX1_zero : MethodName := ⟨RX1, "zero", "(I)I"⟩
abbrev cX1_keep : ByteArray := prog_3_method_11_code
def yX1_keep : MethodName := ⟨RX1, "keep", "(IIII)I"⟩
abbrev cX1_badPair : ByteArray := prog_3_method_4_code
def yX1_badPair : MethodName := ⟨RX1, "badPair", "(II)Z"⟩
abbrev cX1_value : ByteArray := prog_3_method_5_code
def yX1_value : MethodName := ⟨RX1, "value", "(II)I"⟩
abbrev cX1_store : ByteArray := prog_3_method_8_code
def yX1_store : MethodName := ⟨RX1, "store", "(I)I"⟩
abbrev cX1_some : ByteArray := prog_3_method_7_code
def yX1_some : MethodName := ⟨RX1, "some", "(I)I"⟩
abbrev cX1_pass : ByteArray := prog_3_method_13_code
def yX1_pass : MethodName := ⟨RX1, "pass", "(I)I"⟩
abbrev cX1_shifted : ByteArray := prog_3_method_12_code
def yX1_shifted : MethodName := ⟨RX1, "shifted", "(III)Z"⟩
abbrev cX1_back : ByteArray := prog_3_method_14_code
def yX1_back : MethodName := ⟨RX1, "back", "(I)I"⟩
abbrev cX1_set : ByteArray := prog_3_method_16_code
def yX1_set : MethodName := ⟨RX1, "set", "(III)I"⟩
abbrev cX1_badClock : ByteArray := prog_3_method_3_code
def yX1_badClock : MethodName := ⟨RX1, "badClock", "(I)Z"⟩
abbrev cX1_anyAt : ByteArray := prog_3_method_15_code
def yX1_anyAt : MethodName := ⟨RX1, "anyAt", "(III)Z"⟩
abbrev cX1_with : ByteArray := prog_3_method_6_code
def yX1_with : MethodName := ⟨RX1, "with", "(III)I"⟩
abbrev cX1_free : ByteArray := prog_3_method_17_code
def yX1_free : MethodName := ⟨RX1, "free", "(II)I"⟩
abbrev cX1_follow : ByteArray := prog_3_method_18_code
def yX1_follow : MethodName := ⟨RX1, "follow", "(III)I"⟩
abbrev cX1_meet : ByteArray := prog_3_method_19_code
def yX1_meet : MethodName := ⟨RX1, "meet", "(II)I"⟩
abbrev cX1_hull : ByteArray := prog_3_method_22_code
def yX1_hull : MethodName := ⟨RX1, "hull", "(II)I"⟩
abbrev cX1_greatest : ByteArray := prog_3_method_20_code
def yX1_greatest : MethodName := ⟨RX1, "greatest", "(II)I"⟩
abbrev cX1_drop : ByteArray := prog_3_method_21_code
def yX1_drop : MethodName := ⟨RX1, "drop", "(IIII)V"⟩
abbrev cX1_copy : ByteArray := prog_3_method_23_code
def yX1_copy : MethodName := ⟨RX1, "copy", "(II)I"⟩
abbrev cX1_empty : ByteArray := prog_3_method_24_code
def yX1_empty : MethodName := ⟨RX1, "empty", "(I)I"⟩
abbrev cX1_widest : ByteArray := prog_3_method_25_code
def yX1_widest : MethodName := ⟨RX1, "widest", "(III)I"⟩
abbrev cX1_has : ByteArray := prog_3_method_26_code
def yX1_has : MethodName := ⟨RX1, "has", "(IIII)I"⟩
abbrev cX1_size : ByteArray := prog_3_method_27_code
def yX1_size : MethodName := ⟨RX1, "size", "(I)I"⟩
abbrev cX1_next : ByteArray := prog_3_method_28_code
def yX1_next : MethodName := ⟨RX1, "next", "(II)I"⟩
abbrev cX1_within : ByteArray := prog_3_method_29_code
def yX1_within : MethodName := ⟨RX1, "within", "(II)I"⟩
abbrev cX1_touch : ByteArray := prog_3_method_30_code
def yX1_touch : MethodName := ⟨RX1, "touch", "(II)I"⟩
theorem q23 : (Jvm.Cond.initialized "ClockZonesModel") ∈ lw_all := lw_g (lw_at lw_m1 2 rfl) rfl
theorem q171 : (Jvm.Cond.instantiable "ClockZonesModel" (2 : Nat)) ∈ lw_all := lw_g (lw_at lw_m1 150 rfl) rfl
theorem q173 : (Jvm.Cond.instanceMethod ({ cls := "ClockZonesModel", name := "<init>", desc := "()V" } : Jvm.MethodName)) ∈ lw_all := lw_g (lw_at lw_m1 152 rfl) rfl
theorem q174 : (Jvm.Cond.code ({ cls := "ClockZonesModel", name := "<init>", desc := "()V" } : Jvm.MethodName) prog_3_method_1_code (2 : Nat) (Option.none : Option Jvm.ClassFile.FieldType)) ∈ lw_all := lw_g (lw_at lw_m1 153 rfl) rfl
theorem q175 : (Jvm.Cond.methodLink "ClockZonesModel" (1 : Nat) ({ cls := "java/lang/Object", name := "<init>", desc := "()V" } : Jvm.MethodName)) ∈ lw_all := lw_g (lw_at lw_m1 154 rfl) rfl
theorem q176 : (Jvm.Cond.fieldLink "ClockZonesModel" (7 : Nat) "ClockZonesModel" "mark" "[Z") ∈ lw_all := lw_g (lw_at lw_m1 155 rfl) rfl
theorem q177 : (Jvm.Cond.fieldLink "ClockZonesModel" (13 : Nat) "ClockZonesModel" "made" "[Z") ∈ lw_all := lw_g (lw_at lw_m1 156 rfl) rfl
theorem q178 : (Jvm.Cond.laysFinal "ClockZonesModel" "ClockZonesModel" "mark" "[Z") ∈ lw_all := lw_g (lw_at lw_m1 157 rfl) rfl
theorem q179 : (Jvm.Cond.soleField "ClockZonesModel" "mark") ∈ lw_all := lw_g (lw_at lw_m1 158 rfl) rfl
theorem q180 : (Jvm.Cond.laysFinal "ClockZonesModel" "ClockZonesModel" "made" "[Z") ∈ lw_all := lw_g (lw_at lw_m1 159 rfl) rfl
theorem q181 : (Jvm.Cond.soleField "ClockZonesModel" "made") ∈ lw_all := lw_g (lw_at lw_m1 160 rfl) rfl
theorem q182 : (Jvm.Cond.superclass "ClockZonesModel" "java/lang/Object") ∈ lw_all := lw_g (lw_at lw_m1 161 rfl) rfl
theorem q184 : (Jvm.Cond.instanceMethod ({ cls := "ClockZonesModel", name := "all", desc := "(I)I" } : Jvm.MethodName)) ∈ lw_all := lw_g (lw_at lw_m1 163 rfl) rfl
theorem q185 : (Jvm.Cond.selects "ClockZonesModel" ({ cls := "ClockZonesModel", name := "all", desc := "(I)I" } : Jvm.MethodName) ({ cls := "ClockZonesModel", name := "all", desc := "(I)I" } : Jvm.MethodName)) ∈ lw_all := lw_g (lw_at lw_m1 164 rfl) rfl
theorem q186 : (Jvm.Cond.code ({ cls := "ClockZonesModel", name := "all", desc := "(I)I" } : Jvm.MethodName) prog_3_method_9_code (3 : Nat) (Option.some Jvm.ClassFile.FieldType.int)) ∈ lw_all := lw_g (lw_at lw_m1 165 rfl) rfl
theorem q187 : (Jvm.Cond.methodLink "ClockZonesModel" (24 : Nat) ({ cls := "ClockZonesModel", name := "badZone", desc := "(I)Z" } : Jvm.MethodName)) ∈ lw_all := lw_g (lw_at lw_m1 166 rfl) rfl
theorem q188 : (Jvm.Cond.privateMethod ({ cls := "ClockZonesModel", name := "badZone", desc := "(I)Z" } : Jvm.MethodName)) ∈ lw_tbl := lw_at lw_m1 167 rfl
theorem q189 : (Jvm.Cond.instanceMethod ({ cls := "ClockZonesModel", name := "badZone", desc := "(I)Z" } : Jvm.MethodName)) ∈ lw_all := lw_g (lw_at lw_m1 168 rfl) rfl
theorem q190 : (Jvm.Cond.code ({ cls := "ClockZonesModel", name := "badZone", desc := "(I)Z" } : Jvm.MethodName) prog_3_method_2_code (2 : Nat) (Option.some Jvm.ClassFile.FieldType.boolean)) ∈ lw_all := lw_g (lw_at lw_m1 169 rfl) rfl
theorem q192 : (Jvm.Cond.instanceMethod ({ cls := "ClockZonesModel", name := "zero", desc := "(I)I" } : Jvm.MethodName)) ∈ lw_all := lw_g (lw_at lw_m1 171 rfl) rfl
theorem q193 : (Jvm.Cond.selects "ClockZonesModel" ({ cls := "ClockZonesModel", name := "zero", desc := "(I)I" } : Jvm.MethodName) ({ cls := "ClockZonesModel", name := "zero", desc := "(I)I" } : Jvm.MethodName)) ∈ lw_all := lw_g (lw_at lw_m1 172 rfl) rfl
theorem q194 : (Jvm.Cond.code ({ cls := "ClockZonesModel", name := "zero", desc := "(I)I" } : Jvm.MethodName) prog_3_method_10_code (3 : Nat) (Option.some Jvm.ClassFile.FieldType.int)) ∈ lw_all := lw_g (lw_at lw_m1 173 rfl) rfl
theorem q196 : (Jvm.Cond.instanceMethod ({ cls := "ClockZonesModel", name := "keep", desc := "(IIII)I" } : Jvm.MethodName)) ∈ lw_all := lw_g (lw_at lw_m1 175 rfl) rfl
theorem q197 : (Jvm.Cond.selects "ClockZonesModel" ({ cls := "ClockZonesModel", name := "keep", desc := "(IIII)I" } : Jvm.MethodName) ({ cls := "ClockZonesModel", name := "keep", desc := "(IIII)I" } : Jvm.MethodName)) ∈ lw_all := lw_g (lw_at lw_m1 176 rfl) rfl
theorem q198 : (Jvm.Cond.code ({ cls := "ClockZonesModel", name := "keep", desc := "(IIII)I" } : Jvm.MethodName) prog_3_method_11_code (8 : Nat) (Option.some Jvm.ClassFile.FieldType.int)) ∈ lw_all := lw_g (lw_at lw_m1 177 rfl) rfl
theorem q199 : (Jvm.Cond.methodLink "ClockZonesModel" (28 : Nat) ({ cls := "ClockZonesModel", name := "badPair", desc := "(II)Z" } : Jvm.MethodName)) ∈ lw_all := lw_g (lw_at lw_m1 178 rfl) rfl
theorem q200 : (Jvm.Cond.privateMethod ({ cls := "ClockZonesModel", name := "badPair", desc := "(II)Z" } : Jvm.MethodName)) ∈ lw_tbl := lw_at lw_m1 179 rfl
theorem q201 : (Jvm.Cond.instanceMethod ({ cls := "ClockZonesModel", name := "badPair", desc := "(II)Z" } : Jvm.MethodName)) ∈ lw_all := lw_g (lw_at lw_m1 180 rfl) rfl
theorem q202 : (Jvm.Cond.code ({ cls := "ClockZonesModel", name := "badPair", desc := "(II)Z" } : Jvm.MethodName) prog_3_method_4_code (3 : Nat) (Option.some Jvm.ClassFile.FieldType.boolean)) ∈ lw_all := lw_g (lw_at lw_m1 181 rfl) rfl
theorem q203 : (Jvm.Cond.methodLink "ClockZonesModel" (16 : Nat) ({ cls := "ClockZonesModel", name := "value", desc := "(II)I" } : Jvm.MethodName)) ∈ lw_all := lw_g (lw_at lw_m1 182 rfl) rfl
theorem q204 : (Jvm.Cond.privateMethod ({ cls := "ClockZonesModel", name := "value", desc := "(II)I" } : Jvm.MethodName)) ∈ lw_tbl := lw_at lw_m1 183 rfl
theorem q205 : (Jvm.Cond.instanceMethod ({ cls := "ClockZonesModel", name := "value", desc := "(II)I" } : Jvm.MethodName)) ∈ lw_all := lw_g (lw_at lw_m1 184 rfl) rfl
theorem q206 : (Jvm.Cond.code ({ cls := "ClockZonesModel", name := "value", desc := "(II)I" } : Jvm.MethodName) prog_3_method_5_code (3 : Nat) (Option.some Jvm.ClassFile.FieldType.int)) ∈ lw_all := lw_g (lw_at lw_m1 185 rfl) rfl
theorem q207 : (Jvm.Cond.methodLink "ClockZonesModel" (32 : Nat) ({ cls := "ClockZonesModel", name := "store", desc := "(I)I" } : Jvm.MethodName)) ∈ lw_all := lw_g (lw_at lw_m1 186 rfl) rfl
theorem q208 : (Jvm.Cond.privateMethod ({ cls := "ClockZonesModel", name := "store", desc := "(I)I" } : Jvm.MethodName)) ∈ lw_tbl := lw_at lw_m1 187 rfl
theorem q209 : (Jvm.Cond.instanceMethod ({ cls := "ClockZonesModel", name := "store", desc := "(I)I" } : Jvm.MethodName)) ∈ lw_all := lw_g (lw_at lw_m1 188 rfl) rfl
theorem q210 : (Jvm.Cond.code ({ cls := "ClockZonesModel", name := "store", desc := "(I)I" } : Jvm.MethodName) prog_3_method_8_code (3 : Nat) (Option.some Jvm.ClassFile.FieldType.int)) ∈ lw_all := lw_g (lw_at lw_m1 189 rfl) rfl
theorem q211 : (Jvm.Cond.methodLink "ClockZonesModel" (20 : Nat) ({ cls := "ClockZonesModel", name := "some", desc := "(I)I" } : Jvm.MethodName)) ∈ lw_all := lw_g (lw_at lw_m1 190 rfl) rfl
theorem q212 : (Jvm.Cond.privateMethod ({ cls := "ClockZonesModel", name := "some", desc := "(I)I" } : Jvm.MethodName)) ∈ lw_tbl := lw_at lw_m1 191 rfl
theorem q213 : (Jvm.Cond.instanceMethod ({ cls := "ClockZonesModel", name := "some", desc := "(I)I" } : Jvm.MethodName)) ∈ lw_all := lw_g (lw_at lw_m1 192 rfl) rfl
theorem q214 : (Jvm.Cond.code ({ cls := "ClockZonesModel", name := "some", desc := "(I)I" } : Jvm.MethodName) prog_3_method_7_code (3 : Nat) (Option.some Jvm.ClassFile.FieldType.int)) ∈ lw_all := lw_g (lw_at lw_m1 193 rfl) rfl
theorem q216 : (Jvm.Cond.instanceMethod ({ cls := "ClockZonesModel", name := "pass", desc := "(I)I" } : Jvm.MethodName)) ∈ lw_all := lw_g (lw_at lw_m1 195 rfl) rfl
theorem q217 : (Jvm.Cond.selects "ClockZonesModel" ({ cls := "ClockZonesModel", name := "pass", desc := "(I)I" } : Jvm.MethodName) ({ cls := "ClockZonesModel", name := "pass", desc := "(I)I" } : Jvm.MethodName)) ∈ lw_all := lw_g (lw_at lw_m1 196 rfl) rfl
theorem q218 : (Jvm.Cond.code ({ cls := "ClockZonesModel", name := "pass", desc := "(I)I" } : Jvm.MethodName) prog_3_method_13_code (3 : Nat) (Option.some Jvm.ClassFile.FieldType.int)) ∈ lw_all := lw_g (lw_at lw_m1 197 rfl) rfl
theorem q219 : (Jvm.Cond.methodLink "ClockZonesModel" (35 : Nat) ({ cls := "ClockZonesModel", name := "shifted", desc := "(III)Z" } : Jvm.MethodName)) ∈ lw_all := lw_g (lw_at lw_m1 198 rfl) rfl
theorem q220 : (Jvm.Cond.privateMethod ({ cls := "ClockZonesModel", name := "shifted", desc := "(III)Z" } : Jvm.MethodName)) ∈ lw_tbl := lw_at lw_m1 199 rfl
theorem q221 : (Jvm.Cond.instanceMethod ({ cls := "ClockZonesModel", name := "shifted", desc := "(III)Z" } : Jvm.MethodName)) ∈ lw_all := lw_g (lw_at lw_m1 200 rfl) rfl
theorem q222 : (Jvm.Cond.code ({ cls := "ClockZonesModel", name := "shifted", desc := "(III)Z" } : Jvm.MethodName) prog_3_method_12_code (10 : Nat) (Option.some Jvm.ClassFile.FieldType.boolean)) ∈ lw_all := lw_g (lw_at lw_m1 201 rfl) rfl
theorem q224 : (Jvm.Cond.instanceMethod ({ cls := "ClockZonesModel", name := "back", desc := "(I)I" } : Jvm.MethodName)) ∈ lw_all := lw_g (lw_at lw_m1 203 rfl) rfl
theorem q225 : (Jvm.Cond.selects "ClockZonesModel" ({ cls := "ClockZonesModel", name := "back", desc := "(I)I" } : Jvm.MethodName) ({ cls := "ClockZonesModel", name := "back", desc := "(I)I" } : Jvm.MethodName)) ∈ lw_all := lw_g (lw_at lw_m1 204 rfl) rfl
theorem q226 : (Jvm.Cond.code ({ cls := "ClockZonesModel", name := "back", desc := "(I)I" } : Jvm.MethodName) prog_3_method_14_code (3 : Nat) (Option.some Jvm.ClassFile.FieldType.int)) ∈ lw_all := lw_g (lw_at lw_m1 205 rfl) rfl
theorem q228 : (Jvm.Cond.instanceMethod ({ cls := "ClockZonesModel", name := "set", desc := "(III)I" } : Jvm.MethodName)) ∈ lw_all := lw_g (lw_at lw_m1 207 rfl) rfl
theorem q229 : (Jvm.Cond.selects "ClockZonesModel" ({ cls := "ClockZonesModel", name := "set", desc := "(III)I" } : Jvm.MethodName) ({ cls := "ClockZonesModel", name := "set", desc := "(III)I" } : Jvm.MethodName)) ∈ lw_all := lw_g (lw_at lw_m1 208 rfl) rfl
theorem q230 : (Jvm.Cond.code ({ cls := "ClockZonesModel", name := "set", desc := "(III)I" } : Jvm.MethodName) prog_3_method_16_code (6 : Nat) (Option.some Jvm.ClassFile.FieldType.int)) ∈ lw_all := lw_g (lw_at lw_m1 209 rfl) rfl
theorem q231 : (Jvm.Cond.methodLink "ClockZonesModel" (43 : Nat) ({ cls := "ClockZonesModel", name := "badClock", desc := "(I)Z" } : Jvm.MethodName)) ∈ lw_all := lw_g (lw_at lw_m1 210 rfl) rfl
theorem q232 : (Jvm.Cond.privateMethod ({ cls := "ClockZonesModel", name := "badClock", desc := "(I)Z" } : Jvm.MethodName)) ∈ lw_tbl := lw_at lw_m1 211 rfl
theorem q233 : (Jvm.Cond.instanceMethod ({ cls := "ClockZonesModel", name := "badClock", desc := "(I)Z" } : Jvm.MethodName)) ∈ lw_all := lw_g (lw_at lw_m1 212 rfl) rfl
theorem q234 : (Jvm.Cond.code ({ cls := "ClockZonesModel", name := "badClock", desc := "(I)Z" } : Jvm.MethodName) prog_3_method_3_code (2 : Nat) (Option.some Jvm.ClassFile.FieldType.boolean)) ∈ lw_all := lw_g (lw_at lw_m1 213 rfl) rfl
theorem q235 : (Jvm.Cond.methodLink "ClockZonesModel" (46 : Nat) ({ cls := "ClockZonesModel", name := "anyAt", desc := "(III)Z" } : Jvm.MethodName)) ∈ lw_all := lw_g (lw_at lw_m1 214 rfl) rfl
theorem q236 : (Jvm.Cond.privateMethod ({ cls := "ClockZonesModel", name := "anyAt", desc := "(III)Z" } : Jvm.MethodName)) ∈ lw_tbl := lw_at lw_m1 215 rfl
theorem q237 : (Jvm.Cond.instanceMethod ({ cls := "ClockZonesModel", name := "anyAt", desc := "(III)Z" } : Jvm.MethodName)) ∈ lw_all := lw_g (lw_at lw_m1 216 rfl) rfl
theorem q238 : (Jvm.Cond.code ({ cls := "ClockZonesModel", name := "anyAt", desc := "(III)Z" } : Jvm.MethodName) prog_3_method_15_code (6 : Nat) (Option.some Jvm.ClassFile.FieldType.boolean)) ∈ lw_all := lw_g (lw_at lw_m1 217 rfl) rfl
theorem q239 : (Jvm.Cond.methodLink "ClockZonesModel" (39 : Nat) ({ cls := "ClockZonesModel", name := "with", desc := "(III)I" } : Jvm.MethodName)) ∈ lw_all := lw_g (lw_at lw_m1 218 rfl) rfl
theorem q240 : (Jvm.Cond.privateMethod ({ cls := "ClockZonesModel", name := "with", desc := "(III)I" } : Jvm.MethodName)) ∈ lw_tbl := lw_at lw_m1 219 rfl
theorem q241 : (Jvm.Cond.instanceMethod ({ cls := "ClockZonesModel", name := "with", desc := "(III)I" } : Jvm.MethodName)) ∈ lw_all := lw_g (lw_at lw_m1 220 rfl) rfl
theorem q242 : (Jvm.Cond.code ({ cls := "ClockZonesModel", name := "with", desc := "(III)I" } : Jvm.MethodName) prog_3_method_6_code (6 : Nat) (Option.some Jvm.ClassFile.FieldType.int)) ∈ lw_all := lw_g (lw_at lw_m1 221 rfl) rfl
theorem q244 : (Jvm.Cond.instanceMethod ({ cls := "ClockZonesModel", name := "free", desc := "(II)I" } : Jvm.MethodName)) ∈ lw_all := lw_g (lw_at lw_m1 223 rfl) rfl
theorem q245 : (Jvm.Cond.selects "ClockZonesModel" ({ cls := "ClockZonesModel", name := "free", desc := "(II)I" } : Jvm.MethodName) ({ cls := "ClockZonesModel", name := "free", desc := "(II)I" } : Jvm.MethodName)) ∈ lw_all := lw_g (lw_at lw_m1 224 rfl) rfl
theorem q246 : (Jvm.Cond.code ({ cls := "ClockZonesModel", name := "free", desc := "(II)I" } : Jvm.MethodName) prog_3_method_17_code (4 : Nat) (Option.some Jvm.ClassFile.FieldType.int)) ∈ lw_all := lw_g (lw_at lw_m1 225 rfl) rfl
theorem q248 : (Jvm.Cond.instanceMethod ({ cls := "ClockZonesModel", name := "follow", desc := "(III)I" } : Jvm.MethodName)) ∈ lw_all := lw_g (lw_at lw_m1 227 rfl) rfl
theorem q249 : (Jvm.Cond.selects "ClockZonesModel" ({ cls := "ClockZonesModel", name := "follow", desc := "(III)I" } : Jvm.MethodName) ({ cls := "ClockZonesModel", name := "follow", desc := "(III)I" } : Jvm.MethodName)) ∈ lw_all := lw_g (lw_at lw_m1 228 rfl) rfl
theorem q250 : (Jvm.Cond.code ({ cls := "ClockZonesModel", name := "follow", desc := "(III)I" } : Jvm.MethodName) prog_3_method_18_code (7 : Nat) (Option.some Jvm.ClassFile.FieldType.int)) ∈ lw_all := lw_g (lw_at lw_m1 229 rfl) rfl
theorem q252 : (Jvm.Cond.instanceMethod ({ cls := "ClockZonesModel", name := "meet", desc := "(II)I" } : Jvm.MethodName)) ∈ lw_all := lw_g (lw_at lw_m1 231 rfl) rfl
theorem q253 : (Jvm.Cond.selects "ClockZonesModel" ({ cls := "ClockZonesModel", name := "meet", desc := "(II)I" } : Jvm.MethodName) ({ cls := "ClockZonesModel", name := "meet", desc := "(II)I" } : Jvm.MethodName)) ∈ lw_all := lw_g (lw_at lw_m1 232 rfl) rfl
theorem q254 : (Jvm.Cond.code ({ cls := "ClockZonesModel", name := "meet", desc := "(II)I" } : Jvm.MethodName) prog_3_method_19_code (4 : Nat) (Option.some Jvm.ClassFile.FieldType.int)) ∈ lw_all := lw_g (lw_at lw_m1 233 rfl) rfl
theorem q256 : (Jvm.Cond.instanceMethod ({ cls := "ClockZonesModel", name := "hull", desc := "(II)I" } : Jvm.MethodName)) ∈ lw_all := lw_g (lw_at lw_m1 235 rfl) rfl
theorem q257 : (Jvm.Cond.selects "ClockZonesModel" ({ cls := "ClockZonesModel", name := "hull", desc := "(II)I" } : Jvm.MethodName) ({ cls := "ClockZonesModel", name := "hull", desc := "(II)I" } : Jvm.MethodName)) ∈ lw_all := lw_g (lw_at lw_m1 236 rfl) rfl
theorem q258 : (Jvm.Cond.code ({ cls := "ClockZonesModel", name := "hull", desc := "(II)I" } : Jvm.MethodName) prog_3_method_22_code (7 : Nat) (Option.some Jvm.ClassFile.FieldType.int)) ∈ lw_all := lw_g (lw_at lw_m1 237 rfl) rfl
theorem q259 : (Jvm.Cond.methodLink "ClockZonesModel" (49 : Nat) ({ cls := "ClockZonesModel", name := "greatest", desc := "(II)I" } : Jvm.MethodName)) ∈ lw_all := lw_g (lw_at lw_m1 238 rfl) rfl
theorem q260 : (Jvm.Cond.privateMethod ({ cls := "ClockZonesModel", name := "greatest", desc := "(II)I" } : Jvm.MethodName)) ∈ lw_tbl := lw_at lw_m1 239 rfl
theorem q261 : (Jvm.Cond.instanceMethod ({ cls := "ClockZonesModel", name := "greatest", desc := "(II)I" } : Jvm.MethodName)) ∈ lw_all := lw_g (lw_at lw_m2 0 rfl) rfl
theorem q262 : (Jvm.Cond.code ({ cls := "ClockZonesModel", name := "greatest", desc := "(II)I" } : Jvm.MethodName) prog_3_method_20_code (7 : Nat) (Option.some Jvm.ClassFile.FieldType.int)) ∈ lw_all := lw_g (lw_at lw_m2 1 rfl) rfl
theorem q263 : (Jvm.Cond.methodLink "ClockZonesModel" (52 : Nat) ({ cls := "ClockZonesModel", name := "drop", desc := "(IIII)V" } : Jvm.MethodName)) ∈ lw_all := lw_g (lw_at lw_m2 2 rfl) rfl
theorem q264 : (Jvm.Cond.privateMethod ({ cls := "ClockZonesModel", name := "drop", desc := "(IIII)V" } : Jvm.MethodName)) ∈ lw_tbl := lw_at lw_m2 3 rfl
theorem q265 : (Jvm.Cond.instanceMethod ({ cls := "ClockZonesModel", name := "drop", desc := "(IIII)V" } : Jvm.MethodName)) ∈ lw_all := lw_g (lw_at lw_m2 4 rfl) rfl
theorem q266 : (Jvm.Cond.code ({ cls := "ClockZonesModel", name := "drop", desc := "(IIII)V" } : Jvm.MethodName) prog_3_method_21_code (8 : Nat) (Option.none : Option Jvm.ClassFile.FieldType)) ∈ lw_all := lw_g (lw_at lw_m2 5 rfl) rfl
theorem q268 : (Jvm.Cond.instanceMethod ({ cls := "ClockZonesModel", name := "copy", desc := "(II)I" } : Jvm.MethodName)) ∈ lw_all := lw_g (lw_at lw_m2 7 rfl) rfl
theorem q269 : (Jvm.Cond.selects "ClockZonesModel" ({ cls := "ClockZonesModel", name := "copy", desc := "(II)I" } : Jvm.MethodName) ({ cls := "ClockZonesModel", name := "copy", desc := "(II)I" } : Jvm.MethodName)) ∈ lw_all := lw_g (lw_at lw_m2 8 rfl) rfl
theorem q270 : (Jvm.Cond.code ({ cls := "ClockZonesModel", name := "copy", desc := "(II)I" } : Jvm.MethodName) prog_3_method_23_code (4 : Nat) (Option.some Jvm.ClassFile.FieldType.int)) ∈ lw_all := lw_g (lw_at lw_m2 9 rfl) rfl
theorem q272 : (Jvm.Cond.instanceMethod ({ cls := "ClockZonesModel", name := "empty", desc := "(I)I" } : Jvm.MethodName)) ∈ lw_all := lw_g (lw_at lw_m2 11 rfl) rfl
theorem q273 : (Jvm.Cond.selects "ClockZonesModel" ({ cls := "ClockZonesModel", name := "empty", desc := "(I)I" } : Jvm.MethodName) ({ cls := "ClockZonesModel", name := "empty", desc := "(I)I" } : Jvm.MethodName)) ∈ lw_all := lw_g (lw_at lw_m2 12 rfl) rfl
theorem q274 : (Jvm.Cond.code ({ cls := "ClockZonesModel", name := "empty", desc := "(I)I" } : Jvm.MethodName) prog_3_method_24_code (2 : Nat) (Option.some Jvm.ClassFile.FieldType.int)) ∈ lw_all := lw_g (lw_at lw_m2 13 rfl) rfl
theorem q276 : (Jvm.Cond.instanceMethod ({ cls := "ClockZonesModel", name := "widest", desc := "(III)I" } : Jvm.MethodName)) ∈ lw_all := lw_g (lw_at lw_m2 15 rfl) rfl
theorem q277 : (Jvm.Cond.selects "ClockZonesModel" ({ cls := "ClockZonesModel", name := "widest", desc := "(III)I" } : Jvm.MethodName) ({ cls := "ClockZonesModel", name := "widest", desc := "(III)I" } : Jvm.MethodName)) ∈ lw_all := lw_g (lw_at lw_m2 16 rfl) rfl
theorem q278 : (Jvm.Cond.code ({ cls := "ClockZonesModel", name := "widest", desc := "(III)I" } : Jvm.MethodName) prog_3_method_25_code (5 : Nat) (Option.some Jvm.ClassFile.FieldType.int)) ∈ lw_all := lw_g (lw_at lw_m2 17 rfl) rfl
theorem q280 : (Jvm.Cond.instanceMethod ({ cls := "ClockZonesModel", name := "has", desc := "(IIII)I" } : Jvm.MethodName)) ∈ lw_all := lw_g (lw_at lw_m2 19 rfl) rfl
theorem q281 : (Jvm.Cond.selects "ClockZonesModel" ({ cls := "ClockZonesModel", name := "has", desc := "(IIII)I" } : Jvm.MethodName) ({ cls := "ClockZonesModel", name := "has", desc := "(IIII)I" } : Jvm.MethodName)) ∈ lw_all := lw_g (lw_at lw_m2 20 rfl) rfl
theorem q282 : (Jvm.Cond.code ({ cls := "ClockZonesModel", name := "has", desc := "(IIII)I" } : Jvm.MethodName) prog_3_method_26_code (5 : Nat) (Option.some Jvm.ClassFile.FieldType.int)) ∈ lw_all := lw_g (lw_at lw_m2 21 rfl) rfl
theorem q284 : (Jvm.Cond.instanceMethod ({ cls := "ClockZonesModel", name := "size", desc := "(I)I" } : Jvm.MethodName)) ∈ lw_all := lw_g (lw_at lw_m2 23 rfl) rfl
theorem q285 : (Jvm.Cond.selects "ClockZonesModel" ({ cls := "ClockZonesModel", name := "size", desc := "(I)I" } : Jvm.MethodName) ({ cls := "ClockZonesModel", name := "size", desc := "(I)I" } : Jvm.MethodName)) ∈ lw_all := lw_g (lw_at lw_m2 24 rfl) rfl
theorem q286 : (Jvm.Cond.code ({ cls := "ClockZonesModel", name := "size", desc := "(I)I" } : Jvm.MethodName) prog_3_method_27_code (4 : Nat) (Option.some Jvm.ClassFile.FieldType.int)) ∈ lw_all := lw_g (lw_at lw_m2 25 rfl) rfl
theorem q288 : (Jvm.Cond.instanceMethod ({ cls := "ClockZonesModel", name := "next", desc := "(II)I" } : Jvm.MethodName)) ∈ lw_all := lw_g (lw_at lw_m2 27 rfl) rfl
theorem q289 : (Jvm.Cond.selects "ClockZonesModel" ({ cls := "ClockZonesModel", name := "next", desc := "(II)I" } : Jvm.MethodName) ({ cls := "ClockZonesModel", name := "next", desc := "(II)I" } : Jvm.MethodName)) ∈ lw_all := lw_g (lw_at lw_m2 28 rfl) rfl
theorem q290 : (Jvm.Cond.code ({ cls := "ClockZonesModel", name := "next", desc := "(II)I" } : Jvm.MethodName) prog_3_method_28_code (4 : Nat) (Option.some Jvm.ClassFile.FieldType.int)) ∈ lw_all := lw_g (lw_at lw_m2 29 rfl) rfl
theorem q292 : (Jvm.Cond.instanceMethod ({ cls := "ClockZonesModel", name := "within", desc := "(II)I" } : Jvm.MethodName)) ∈ lw_all := lw_g (lw_at lw_m2 31 rfl) rfl
theorem q293 : (Jvm.Cond.selects "ClockZonesModel" ({ cls := "ClockZonesModel", name := "within", desc := "(II)I" } : Jvm.MethodName) ({ cls := "ClockZonesModel", name := "within", desc := "(II)I" } : Jvm.MethodName)) ∈ lw_all := lw_g (lw_at lw_m2 32 rfl) rfl
theorem q294 : (Jvm.Cond.code ({ cls := "ClockZonesModel", name := "within", desc := "(II)I" } : Jvm.MethodName) prog_3_method_29_code (4 : Nat) (Option.some Jvm.ClassFile.FieldType.int)) ∈ lw_all := lw_g (lw_at lw_m2 33 rfl) rfl
theorem q296 : (Jvm.Cond.instanceMethod ({ cls := "ClockZonesModel", name := "touch", desc := "(II)I" } : Jvm.MethodName)) ∈ lw_all := lw_g (lw_at lw_m2 35 rfl) rfl
theorem q297 : (Jvm.Cond.selects "ClockZonesModel" ({ cls := "ClockZonesModel", name := "touch", desc := "(II)I" } : Jvm.MethodName) ({ cls := "ClockZonesModel", name := "touch", desc := "(II)I" } : Jvm.MethodName)) ∈ lw_all := lw_g (lw_at lw_m2 36 rfl) rfl
theorem q298 : (Jvm.Cond.code ({ cls := "ClockZonesModel", name := "touch", desc := "(II)I" } : Jvm.MethodName) prog_3_method_30_code (4 : Nat) (Option.some Jvm.ClassFile.FieldType.int)) ∈ lw_all := lw_g (lw_at lw_m2 37 rfl) rfl
theorem in_X1 : ∀ w ∈ wsX10, w ∈ lw_all := lw_in wsX10 [178, 180] (by decide +kernel) (by decide +kernel)
/-! the law's own entry -/
abbrev cL_law : ByteArray := code
theorem q21 : (Jvm.Cond.initialized "ClockZonesLaw") ∈ lw_all := lw_g (lw_at lw_m1 0 rfl) rfl
theorem q24 : (Jvm.Cond.classLink "ClockZonesLaw" (7 : Nat) "ClockZones") ∈ lw_all := lw_g (lw_at lw_m1 3 rfl) rfl
theorem q26 : (Jvm.Cond.methodLink "ClockZonesLaw" (9 : Nat) ({ cls := "ClockZones", name := "<init>", desc := "()V" } : Jvm.MethodName)) ∈ lw_all := lw_g (lw_at lw_m1 5 rfl) rfl
theorem q54 : (Jvm.Cond.methodLink "ClockZonesLaw" (13 : Nat) ({ cls := "ClockZones", name := "all", desc := "(I)I" } : Jvm.MethodName)) ∈ lw_all := lw_g (lw_at lw_m1 33 rfl) rfl
theorem q55 : (Jvm.Cond.methodLink "ClockZonesLaw" (18 : Nat) ({ cls := "ClockZones", name := "zero", desc := "(I)I" } : Jvm.MethodName)) ∈ lw_all := lw_g (lw_at lw_m1 34 rfl) rfl
theorem q59 : (Jvm.Cond.methodLink "ClockZonesLaw" (22 : Nat) ({ cls := "ClockZones", name := "keep", desc := "(IIII)I" } : Jvm.MethodName)) ∈ lw_all := lw_g (lw_at lw_m1 38 rfl) rfl
theorem q82 : (Jvm.Cond.methodLink "ClockZonesLaw" (27 : Nat) ({ cls := "ClockZones", name := "pass", desc := "(I)I" } : Jvm.MethodName)) ∈ lw_all := lw_g (lw_at lw_m1 61 rfl) rfl
theorem q90 : (Jvm.Cond.methodLink "ClockZonesLaw" (31 : Nat) ({ cls := "ClockZones", name := "back", desc := "(I)I" } : Jvm.MethodName)) ∈ lw_all := lw_g (lw_at lw_m1 69 rfl) rfl
theorem q94 : (Jvm.Cond.methodLink "ClockZonesLaw" (35 : Nat) ({ cls := "ClockZones", name := "set", desc := "(III)I" } : Jvm.MethodName)) ∈ lw_all := lw_g (lw_at lw_m1 73 rfl) rfl
theorem q101 : (Jvm.Cond.methodLink "ClockZonesLaw" (40 : Nat) ({ cls := "ClockZones", name := "free", desc := "(II)I" } : Jvm.MethodName)) ∈ lw_all := lw_g (lw_at lw_m1 80 rfl) rfl
theorem q105 : (Jvm.Cond.methodLink "ClockZonesLaw" (45 : Nat) ({ cls := "ClockZones", name := "follow", desc := "(III)I" } : Jvm.MethodName)) ∈ lw_all := lw_g (lw_at lw_m1 84 rfl) rfl
theorem q109 : (Jvm.Cond.methodLink "ClockZonesLaw" (49 : Nat) ({ cls := "ClockZones", name := "meet", desc := "(II)I" } : Jvm.MethodName)) ∈ lw_all := lw_g (lw_at lw_m1 88 rfl) rfl
theorem q113 : (Jvm.Cond.methodLink "ClockZonesLaw" (53 : Nat) ({ cls := "ClockZones", name := "hull", desc := "(II)I" } : Jvm.MethodName)) ∈ lw_all := lw_g (lw_at lw_m1 92 rfl) rfl
theorem q121 : (Jvm.Cond.methodLink "ClockZonesLaw" (57 : Nat) ({ cls := "ClockZones", name := "copy", desc := "(II)I" } : Jvm.MethodName)) ∈ lw_all := lw_g (lw_at lw_m1 100 rfl) rfl
theorem q122 : (Jvm.Cond.methodLink "ClockZonesLaw" (61 : Nat) ({ cls := "ClockZones", name := "empty", desc := "(I)I" } : Jvm.MethodName)) ∈ lw_all := lw_g (lw_at lw_m1 101 rfl) rfl
theorem q126 : (Jvm.Cond.methodLink "ClockZonesLaw" (65 : Nat) ({ cls := "ClockZones", name := "widest", desc := "(III)I" } : Jvm.MethodName)) ∈ lw_all := lw_g (lw_at lw_m1 105 rfl) rfl
theorem q130 : (Jvm.Cond.methodLink "ClockZonesLaw" (69 : Nat) ({ cls := "ClockZones", name := "has", desc := "(IIII)I" } : Jvm.MethodName)) ∈ lw_all := lw_g (lw_at lw_m1 109 rfl) rfl
theorem q138 : (Jvm.Cond.methodLink "ClockZonesLaw" (73 : Nat) ({ cls := "ClockZones", name := "size", desc := "(I)I" } : Jvm.MethodName)) ∈ lw_all := lw_g (lw_at lw_m1 117 rfl) rfl
theorem q146 : (Jvm.Cond.methodLink "ClockZonesLaw" (77 : Nat) ({ cls := "ClockZones", name := "next", desc := "(II)I" } : Jvm.MethodName)) ∈ lw_all := lw_g (lw_at lw_m1 125 rfl) rfl
theorem q162 : (Jvm.Cond.methodLink "ClockZonesLaw" (81 : Nat) ({ cls := "ClockZones", name := "within", desc := "(II)I" } : Jvm.MethodName)) ∈ lw_all := lw_g (lw_at lw_m1 141 rfl) rfl
theorem q166 : (Jvm.Cond.methodLink "ClockZonesLaw" (85 : Nat) ({ cls := "ClockZones", name := "touch", desc := "(II)I" } : Jvm.MethodName)) ∈ lw_all := lw_g (lw_at lw_m1 145 rfl) rfl
theorem q170 : (Jvm.Cond.classLink "ClockZonesLaw" (10 : Nat) "ClockZonesModel") ∈ lw_all := lw_g (lw_at lw_m1 149 rfl) rfl
theorem q172 : (Jvm.Cond.methodLink "ClockZonesLaw" (12 : Nat) ({ cls := "ClockZonesModel", name := "<init>", desc := "()V" } : Jvm.MethodName)) ∈ lw_all := lw_g (lw_at lw_m1 151 rfl) rfl
theorem q183 : (Jvm.Cond.methodLink "ClockZonesLaw" (17 : Nat) ({ cls := "ClockZonesModel", name := "all", desc := "(I)I" } : Jvm.MethodName)) ∈ lw_all := lw_g (lw_at lw_m1 162 rfl) rfl
theorem q191 : (Jvm.Cond.methodLink "ClockZonesLaw" (21 : Nat) ({ cls := "ClockZonesModel", name := "zero", desc := "(I)I" } : Jvm.MethodName)) ∈ lw_all := lw_g (lw_at lw_m1 170 rfl) rfl
theorem q195 : (Jvm.Cond.methodLink "ClockZonesLaw" (26 : Nat) ({ cls := "ClockZonesModel", name := "keep", desc := "(IIII)I" } : Jvm.MethodName)) ∈ lw_all := lw_g (lw_at lw_m1 174 rfl) rfl
theorem q215 : (Jvm.Cond.methodLink "ClockZonesLaw" (30 : Nat) ({ cls := "ClockZonesModel", name := "pass", desc := "(I)I" } : Jvm.MethodName)) ∈ lw_all := lw_g (lw_at lw_m1 194 rfl) rfl
theorem q223 : (Jvm.Cond.methodLink "ClockZonesLaw" (34 : Nat) ({ cls := "ClockZonesModel", name := "back", desc := "(I)I" } : Jvm.MethodName)) ∈ lw_all := lw_g (lw_at lw_m1 202 rfl) rfl
theorem q227 : (Jvm.Cond.methodLink "ClockZonesLaw" (39 : Nat) ({ cls := "ClockZonesModel", name := "set", desc := "(III)I" } : Jvm.MethodName)) ∈ lw_all := lw_g (lw_at lw_m1 206 rfl) rfl
theorem q243 : (Jvm.Cond.methodLink "ClockZonesLaw" (44 : Nat) ({ cls := "ClockZonesModel", name := "free", desc := "(II)I" } : Jvm.MethodName)) ∈ lw_all := lw_g (lw_at lw_m1 222 rfl) rfl
theorem q247 : (Jvm.Cond.methodLink "ClockZonesLaw" (48 : Nat) ({ cls := "ClockZonesModel", name := "follow", desc := "(III)I" } : Jvm.MethodName)) ∈ lw_all := lw_g (lw_at lw_m1 226 rfl) rfl
theorem q251 : (Jvm.Cond.methodLink "ClockZonesLaw" (52 : Nat) ({ cls := "ClockZonesModel", name := "meet", desc := "(II)I" } : Jvm.MethodName)) ∈ lw_all := lw_g (lw_at lw_m1 230 rfl) rfl
theorem q255 : (Jvm.Cond.methodLink "ClockZonesLaw" (56 : Nat) ({ cls := "ClockZonesModel", name := "hull", desc := "(II)I" } : Jvm.MethodName)) ∈ lw_all := lw_g (lw_at lw_m1 234 rfl) rfl
theorem q267 : (Jvm.Cond.methodLink "ClockZonesLaw" (60 : Nat) ({ cls := "ClockZonesModel", name := "copy", desc := "(II)I" } : Jvm.MethodName)) ∈ lw_all := lw_g (lw_at lw_m2 6 rfl) rfl
theorem q271 : (Jvm.Cond.methodLink "ClockZonesLaw" (64 : Nat) ({ cls := "ClockZonesModel", name := "empty", desc := "(I)I" } : Jvm.MethodName)) ∈ lw_all := lw_g (lw_at lw_m2 10 rfl) rfl
theorem q275 : (Jvm.Cond.methodLink "ClockZonesLaw" (68 : Nat) ({ cls := "ClockZonesModel", name := "widest", desc := "(III)I" } : Jvm.MethodName)) ∈ lw_all := lw_g (lw_at lw_m2 14 rfl) rfl
theorem q279 : (Jvm.Cond.methodLink "ClockZonesLaw" (72 : Nat) ({ cls := "ClockZonesModel", name := "has", desc := "(IIII)I" } : Jvm.MethodName)) ∈ lw_all := lw_g (lw_at lw_m2 18 rfl) rfl
theorem q283 : (Jvm.Cond.methodLink "ClockZonesLaw" (76 : Nat) ({ cls := "ClockZonesModel", name := "size", desc := "(I)I" } : Jvm.MethodName)) ∈ lw_all := lw_g (lw_at lw_m2 22 rfl) rfl
theorem q287 : (Jvm.Cond.methodLink "ClockZonesLaw" (80 : Nat) ({ cls := "ClockZonesModel", name := "next", desc := "(II)I" } : Jvm.MethodName)) ∈ lw_all := lw_g (lw_at lw_m2 26 rfl) rfl
theorem q291 : (Jvm.Cond.methodLink "ClockZonesLaw" (84 : Nat) ({ cls := "ClockZonesModel", name := "within", desc := "(II)I" } : Jvm.MethodName)) ∈ lw_all := lw_g (lw_at lw_m2 30 rfl) rfl
theorem q295 : (Jvm.Cond.methodLink "ClockZonesLaw" (88 : Nat) ({ cls := "ClockZonesModel", name := "touch", desc := "(II)I" } : Jvm.MethodName)) ∈ lw_all := lw_g (lw_at lw_m2 34 rfl) rfl
theorem q52 : (Jvm.Cond.arrayClass Jvm.ClassFile.FieldType.int) ∈ lw_all := lw_g (lw_at lw_m1 31 rfl) rfl
theorem q53 : (Jvm.Cond.arrayClass Jvm.ClassFile.FieldType.boolean) ∈ lw_all := lw_g (lw_at lw_m1 32 rfl) rfl
abbrev vwCl : List vw_C := [(RX0, TX0, 3), (RX1, TX1, 2)]
/-- an instruction at a place, its length, the next place; with a target -/
def Dc (cc : ByteArray) (pc : Nat) (i : Instr) (len nx : Nat) : Prop := decode cc pc = .ok (i, len) ∧ pc + len = nx
def Db (cc : ByteArray) (pc : Nat) (i : Instr) (off : Int) (nx tgt : Nat) : Prop := decode cc pc = .ok (i, 3) ∧ pc + 3 = nx ∧ (pc : Int) + off = (tgt : Int)
end
section
set_option maxRecDepth 100000
theorem dX0_init_0 : Dc cX0_init 0 (.aload_n 0) 1 1 := ⟨by decide +kernel, rfl⟩
theorem dX0_init_1 : Dc cX0_init 1 (.invokespecial 1) 3 4 := ⟨by decide +kernel, rfl⟩
theorem dX0_init_4 : Dc cX0_init 4 (.aload_n 0) 1 5 := ⟨by decide +kernel, rfl⟩
theorem dX0_init_5 : Dc cX0_init 5 (.bipush 48) 2 7 := ⟨by decide +kernel, rfl⟩
theorem dX0_init_7 : Dc cX0_init 7 (.newarray .int) 2 9 := ⟨by decide +kernel, rfl⟩
theorem dX0_init_9 : Dc cX0_init 9 (.putfield 7) 3 12 := ⟨by decide +kernel, rfl⟩
theorem dX0_init_12 : Dc cX0_init 12 (.aload_n 0) 1 13 := ⟨by decide +kernel, rfl⟩
theorem dX0_init_13 : Dc cX0_init 13 (.iconst 3) 1 14 := ⟨by decide +kernel, rfl⟩
theorem dX0_init_14 : Dc cX0_init 14 (.newarray .boolean) 2 16 := ⟨by decide +kernel, rfl⟩
theorem dX0_init_16 : Dc cX0_init 16 (.putfield 13) 3 19 := ⟨by decide +kernel, rfl⟩
theorem dX0_init_19 : Dc cX0_init 19 (.aload_n 0) 1 20 := ⟨by decide +kernel, rfl⟩
theorem dX0_init_20 : Dc cX0_init 20 (.bipush 16) 2 22 := ⟨by decide +kernel, rfl⟩
theorem dX0_init_22 : Dc cX0_init 22 (.newarray .int) 2 24 := ⟨by decide +kernel, rfl⟩
theorem dX0_init_24 : Dc cX0_init 24 (.putfield 17) 3 27 := ⟨by decide +kernel, rfl⟩
theorem dX0_init_27 : Dc cX0_init 27 (.iconst 0) 1 28 := ⟨by decide +kernel, rfl⟩
theorem dX0_init_28 : Dc cX0_init 28 (.istore_n 1) 1 29 := ⟨by decide +kernel, rfl⟩
theorem dX0_init_29 : Dc cX0_init 29 (.iload_n 1) 1 30 := ⟨by decide +kernel, rfl⟩
theorem dX0_init_30 : Dc cX0_init 30 (.iconst 3) 1 31 := ⟨by decide +kernel, rfl⟩
theorem dX0_init_31 : Db cX0_init 31 (.if_icmp .ge 15) (15) 34 46 := ⟨by decide +kernel, rfl, rfl⟩
theorem dX0_init_34 : Dc cX0_init 34 (.aload_n 0) 1 35 := ⟨by decide +kernel, rfl⟩
theorem dX0_init_35 : Dc cX0_init 35 (.iload_n 1) 1 36 := ⟨by decide +kernel, rfl⟩
theorem dX0_init_36 : Dc cX0_init 36 (.invokevirtual 20) 3 39 := ⟨by decide +kernel, rfl⟩
theorem dX0_init_39 : Dc cX0_init 39 (.pop) 1 40 := ⟨by decide +kernel, rfl⟩
theorem dX0_init_40 : Dc cX0_init 40 (.iinc 1 1) 3 43 := ⟨by decide +kernel, rfl⟩
theorem dX0_init_43 : Db cX0_init 43 (.goto (-14)) (-14) 46 29 := ⟨by decide +kernel, rfl, rfl⟩
theorem dX0_init_46 : Dc cX0_init 46 (.return_) 1 47 := ⟨by decide +kernel, rfl⟩
theorem dX0_all_0 : Dc cX0_all 0 (.iload_n 1) 1 1 := ⟨by decide +kernel, rfl⟩
theorem dX0_all_1 : Dc cX0_all 1 (.invokestatic 24) 3 4 := ⟨by decide +kernel, rfl⟩
theorem dX0_all_4 : Db cX0_all 4 (.ifCond .ne 5) (5) 7 9 := ⟨by decide +kernel, rfl, rfl⟩
theorem dX0_all_7 : Dc cX0_all 7 (.iconst (-1)) 1 8 := ⟨by decide +kernel, rfl⟩
theorem dX0_all_8 : Dc cX0_all 8 (.ireturn) 1 9 := ⟨by decide +kernel, rfl⟩
theorem dX0_all_9 : Dc cX0_all 9 (.aload_n 0) 1 10 := ⟨by decide +kernel, rfl⟩
theorem dX0_all_10 : Dc cX0_all 10 (.getfield 13) 3 13 := ⟨by decide +kernel, rfl⟩
theorem dX0_all_13 : Dc cX0_all 13 (.iload_n 1) 1 14 := ⟨by decide +kernel, rfl⟩
theorem dX0_all_14 : Dc cX0_all 14 (.iconst 0) 1 15 := ⟨by decide +kernel, rfl⟩
theorem dX0_all_15 : Dc cX0_all 15 (.bastore) 1 16 := ⟨by decide +kernel, rfl⟩
theorem dX0_all_16 : Dc cX0_all 16 (.iconst 0) 1 17 := ⟨by decide +kernel, rfl⟩
theorem dX0_all_17 : Dc cX0_all 17 (.istore_n 2) 1 18 := ⟨by decide +kernel, rfl⟩
theorem dX0_all_18 : Dc cX0_all 18 (.iload_n 2) 1 19 := ⟨by decide +kernel, rfl⟩
theorem dX0_all_19 : Dc cX0_all 19 (.bipush 16) 2 21 := ⟨by decide +kernel, rfl⟩
theorem dX0_all_21 : Db cX0_all 21 (.if_icmp .ge 29) (29) 24 50 := ⟨by decide +kernel, rfl, rfl⟩
theorem dX0_all_24 : Dc cX0_all 24 (.aload_n 0) 1 25 := ⟨by decide +kernel, rfl⟩
theorem dX0_all_25 : Dc cX0_all 25 (.getfield 7) 3 28 := ⟨by decide +kernel, rfl⟩
theorem dX0_all_28 : Dc cX0_all 28 (.bipush 16) 2 30 := ⟨by decide +kernel, rfl⟩
theorem dX0_all_30 : Dc cX0_all 30 (.iload_n 1) 1 31 := ⟨by decide +kernel, rfl⟩
theorem dX0_all_31 : Dc cX0_all 31 (.imul) 1 32 := ⟨by decide +kernel, rfl⟩
theorem dX0_all_32 : Dc cX0_all 32 (.iload_n 2) 1 33 := ⟨by decide +kernel, rfl⟩
theorem dX0_all_33 : Dc cX0_all 33 (.iadd) 1 34 := ⟨by decide +kernel, rfl⟩
theorem dX0_all_34 : Dc cX0_all 34 (.iload_n 2) 1 35 := ⟨by decide +kernel, rfl⟩
theorem dX0_all_35 : Dc cX0_all 35 (.iconst 4) 1 36 := ⟨by decide +kernel, rfl⟩
theorem dX0_all_36 : Dc cX0_all 36 (.idiv) 1 37 := ⟨by decide +kernel, rfl⟩
theorem dX0_all_37 : Dc cX0_all 37 (.iload_n 2) 1 38 := ⟨by decide +kernel, rfl⟩
theorem dX0_all_38 : Dc cX0_all 38 (.iconst 4) 1 39 := ⟨by decide +kernel, rfl⟩
theorem dX0_all_39 : Dc cX0_all 39 (.irem) 1 40 := ⟨by decide +kernel, rfl⟩
theorem dX0_all_40 : Dc cX0_all 40 (.invokestatic 28) 3 43 := ⟨by decide +kernel, rfl⟩
theorem dX0_all_43 : Dc cX0_all 43 (.iastore) 1 44 := ⟨by decide +kernel, rfl⟩
theorem dX0_all_44 : Dc cX0_all 44 (.iinc 2 1) 3 47 := ⟨by decide +kernel, rfl⟩
theorem dX0_all_47 : Db cX0_all 47 (.goto (-29)) (-29) 50 18 := ⟨by decide +kernel, rfl, rfl⟩
theorem dX0_all_50 : Dc cX0_all 50 (.iconst 0) 1 51 := ⟨by decide +kernel, rfl⟩
theorem dX0_all_51 : Dc cX0_all 51 (.ireturn) 1 52 := ⟨by decide +kernel, rfl⟩
theorem dX0_isZone_0 : Dc cX0_isZone 0 (.iload_n 0) 1 1 := ⟨by decide +kernel, rfl⟩
theorem dX0_isZone_1 : Db cX0_isZone 1 (.ifCond .lt 12) (12) 4 13 := ⟨by decide +kernel, rfl, rfl⟩
theorem dX0_isZone_4 : Dc cX0_isZone 4 (.iload_n 0) 1 5 := ⟨by decide +kernel, rfl⟩
theorem dX0_isZone_5 : Dc cX0_isZone 5 (.iconst 2) 1 6 := ⟨by decide +kernel, rfl⟩
theorem dX0_isZone_6 : Db cX0_isZone 6 (.if_icmp .gt 7) (7) 9 13 := ⟨by decide +kernel, rfl, rfl⟩
theorem dX0_isZone_9 : Dc cX0_isZone 9 (.iconst 1) 1 10 := ⟨by decide +kernel, rfl⟩
theorem dX0_isZone_10 : Db cX0_isZone 10 (.goto 4) (4) 13 14 := ⟨by decide +kernel, rfl, rfl⟩
theorem dX0_isZone_13 : Dc cX0_isZone 13 (.iconst 0) 1 14 := ⟨by decide +kernel, rfl⟩
theorem dX0_isZone_14 : Dc cX0_isZone 14 (.ireturn) 1 15 := ⟨by decide +kernel, rfl⟩
theorem dX0_boxBound_0 : Dc cX0_boxBound 0 (.iload_n 0) 1 1 := ⟨by decide +kernel, rfl⟩
theorem dX0_boxBound_1 : Dc cX0_boxBound 1 (.iload_n 1) 1 2 := ⟨by decide +kernel, rfl⟩
theorem dX0_boxBound_2 : Db cX0_boxBound 2 (.if_icmp .eq 7) (7) 5 9 := ⟨by decide +kernel, rfl, rfl⟩
theorem dX0_boxBound_5 : Dc cX0_boxBound 5 (.iload_n 0) 1 6 := ⟨by decide +kernel, rfl⟩
theorem dX0_boxBound_6 : Db cX0_boxBound 6 (.ifCond .ne 7) (7) 9 13 := ⟨by decide +kernel, rfl, rfl⟩
theorem dX0_boxBound_9 : Dc cX0_boxBound 9 (.iconst 0) 1 10 := ⟨by decide +kernel, rfl⟩
theorem dX0_boxBound_10 : Db cX0_boxBound 10 (.goto 5) (5) 13 15 := ⟨by decide +kernel, rfl, rfl⟩
theorem dX0_boxBound_13 : Dc cX0_boxBound 13 (.bipush 12) 2 15 := ⟨by decide +kernel, rfl⟩
theorem dX0_boxBound_15 : Dc cX0_boxBound 15 (.ireturn) 1 16 := ⟨by decide +kernel, rfl⟩
theorem dX0_zero_0 : Dc cX0_zero 0 (.iload_n 1) 1 1 := ⟨by decide +kernel, rfl⟩
theorem dX0_zero_1 : Dc cX0_zero 1 (.invokestatic 24) 3 4 := ⟨by decide +kernel, rfl⟩
theorem dX0_zero_4 : Db cX0_zero 4 (.ifCond .ne 5) (5) 7 9 := ⟨by decide +kernel, rfl, rfl⟩
theorem dX0_zero_7 : Dc cX0_zero 7 (.iconst (-1)) 1 8 := ⟨by decide +kernel, rfl⟩
theorem dX0_zero_8 : Dc cX0_zero 8 (.ireturn) 1 9 := ⟨by decide +kernel, rfl⟩
theorem dX0_zero_9 : Dc cX0_zero 9 (.aload_n 0) 1 10 := ⟨by decide +kernel, rfl⟩
theorem dX0_zero_10 : Dc cX0_zero 10 (.getfield 13) 3 13 := ⟨by decide +kernel, rfl⟩
theorem dX0_zero_13 : Dc cX0_zero 13 (.iload_n 1) 1 14 := ⟨by decide +kernel, rfl⟩
theorem dX0_zero_14 : Dc cX0_zero 14 (.iconst 0) 1 15 := ⟨by decide +kernel, rfl⟩
theorem dX0_zero_15 : Dc cX0_zero 15 (.bastore) 1 16 := ⟨by decide +kernel, rfl⟩
theorem dX0_zero_16 : Dc cX0_zero 16 (.iconst 0) 1 17 := ⟨by decide +kernel, rfl⟩
theorem dX0_zero_17 : Dc cX0_zero 17 (.istore_n 2) 1 18 := ⟨by decide +kernel, rfl⟩
theorem dX0_zero_18 : Dc cX0_zero 18 (.iload_n 2) 1 19 := ⟨by decide +kernel, rfl⟩
theorem dX0_zero_19 : Dc cX0_zero 19 (.bipush 16) 2 21 := ⟨by decide +kernel, rfl⟩
theorem dX0_zero_21 : Db cX0_zero 21 (.if_icmp .ge 21) (21) 24 42 := ⟨by decide +kernel, rfl, rfl⟩
theorem dX0_zero_24 : Dc cX0_zero 24 (.aload_n 0) 1 25 := ⟨by decide +kernel, rfl⟩
theorem dX0_zero_25 : Dc cX0_zero 25 (.getfield 7) 3 28 := ⟨by decide +kernel, rfl⟩
theorem dX0_zero_28 : Dc cX0_zero 28 (.bipush 16) 2 30 := ⟨by decide +kernel, rfl⟩
theorem dX0_zero_30 : Dc cX0_zero 30 (.iload_n 1) 1 31 := ⟨by decide +kernel, rfl⟩
theorem dX0_zero_31 : Dc cX0_zero 31 (.imul) 1 32 := ⟨by decide +kernel, rfl⟩
theorem dX0_zero_32 : Dc cX0_zero 32 (.iload_n 2) 1 33 := ⟨by decide +kernel, rfl⟩
theorem dX0_zero_33 : Dc cX0_zero 33 (.iadd) 1 34 := ⟨by decide +kernel, rfl⟩
theorem dX0_zero_34 : Dc cX0_zero 34 (.iconst 0) 1 35 := ⟨by decide +kernel, rfl⟩
theorem dX0_zero_35 : Dc cX0_zero 35 (.iastore) 1 36 := ⟨by decide +kernel, rfl⟩
theorem dX0_zero_36 : Dc cX0_zero 36 (.iinc 2 1) 3 39 := ⟨by decide +kernel, rfl⟩
theorem dX0_zero_39 : Db cX0_zero 39 (.goto (-21)) (-21) 42 18 := ⟨by decide +kernel, rfl, rfl⟩
theorem dX0_zero_42 : Dc cX0_zero 42 (.iconst 0) 1 43 := ⟨by decide +kernel, rfl⟩
theorem dX0_zero_43 : Dc cX0_zero 43 (.ireturn) 1 44 := ⟨by decide +kernel, rfl⟩
theorem dX0_keep_0 : Dc cX0_keep 0 (.iload_n 1) 1 1 := ⟨by decide +kernel, rfl⟩
theorem dX0_keep_1 : Dc cX0_keep 1 (.invokestatic 24) 3 4 := ⟨by decide +kernel, rfl⟩
theorem dX0_keep_4 : Db cX0_keep 4 (.ifCond .ne 5) (5) 7 9 := ⟨by decide +kernel, rfl, rfl⟩
theorem dX0_keep_7 : Dc cX0_keep 7 (.iconst (-1)) 1 8 := ⟨by decide +kernel, rfl⟩
theorem dX0_keep_8 : Dc cX0_keep 8 (.ireturn) 1 9 := ⟨by decide +kernel, rfl⟩
theorem dX0_keep_9 : Dc cX0_keep 9 (.iload_n 2) 1 10 := ⟨by decide +kernel, rfl⟩
theorem dX0_keep_10 : Dc cX0_keep 10 (.iload_n 3) 1 11 := ⟨by decide +kernel, rfl⟩
theorem dX0_keep_11 : Dc cX0_keep 11 (.invokestatic 32) 3 14 := ⟨by decide +kernel, rfl⟩
theorem dX0_keep_14 : Db cX0_keep 14 (.ifCond .ne 6) (6) 17 20 := ⟨by decide +kernel, rfl, rfl⟩
theorem dX0_keep_17 : Dc cX0_keep 17 (.bipush (-2)) 2 19 := ⟨by decide +kernel, rfl⟩
theorem dX0_keep_19 : Dc cX0_keep 19 (.ireturn) 1 20 := ⟨by decide +kernel, rfl⟩
theorem dX0_keep_20 : Dc cX0_keep 20 (.iload 4) 2 22 := ⟨by decide +kernel, rfl⟩
theorem dX0_keep_22 : Dc cX0_keep 22 (.bipush (-12)) 2 24 := ⟨by decide +kernel, rfl⟩
theorem dX0_keep_24 : Db cX0_keep 24 (.if_icmp .lt 10) (10) 27 34 := ⟨by decide +kernel, rfl, rfl⟩
theorem dX0_keep_27 : Dc cX0_keep 27 (.iload 4) 2 29 := ⟨by decide +kernel, rfl⟩
theorem dX0_keep_29 : Dc cX0_keep 29 (.bipush 12) 2 31 := ⟨by decide +kernel, rfl⟩
theorem dX0_keep_31 : Db cX0_keep 31 (.if_icmp .le 6) (6) 34 37 := ⟨by decide +kernel, rfl, rfl⟩
theorem dX0_keep_34 : Dc cX0_keep 34 (.bipush (-3)) 2 36 := ⟨by decide +kernel, rfl⟩
theorem dX0_keep_36 : Dc cX0_keep 36 (.ireturn) 1 37 := ⟨by decide +kernel, rfl⟩
theorem dX0_keep_37 : Dc cX0_keep 37 (.aload_n 0) 1 38 := ⟨by decide +kernel, rfl⟩
theorem dX0_keep_38 : Dc cX0_keep 38 (.iload_n 1) 1 39 := ⟨by decide +kernel, rfl⟩
theorem dX0_keep_39 : Dc cX0_keep 39 (.iload_n 2) 1 40 := ⟨by decide +kernel, rfl⟩
theorem dX0_keep_40 : Dc cX0_keep 40 (.iload_n 3) 1 41 := ⟨by decide +kernel, rfl⟩
theorem dX0_keep_41 : Dc cX0_keep 41 (.iload 4) 2 43 := ⟨by decide +kernel, rfl⟩
theorem dX0_keep_43 : Dc cX0_keep 43 (.invokevirtual 36) 3 46 := ⟨by decide +kernel, rfl⟩
theorem dX0_keep_46 : Dc cX0_keep 46 (.aload_n 0) 1 47 := ⟨by decide +kernel, rfl⟩
theorem dX0_keep_47 : Dc cX0_keep 47 (.iload_n 1) 1 48 := ⟨by decide +kernel, rfl⟩
theorem dX0_keep_48 : Dc cX0_keep 48 (.invokevirtual 40) 3 51 := ⟨by decide +kernel, rfl⟩
theorem dX0_keep_51 : Dc cX0_keep 51 (.ireturn) 1 52 := ⟨by decide +kernel, rfl⟩
theorem dX0_isPair_0 : Dc cX0_isPair 0 (.iload_n 0) 1 1 := ⟨by decide +kernel, rfl⟩
theorem dX0_isPair_1 : Db cX0_isPair 1 (.ifCond .lt 26) (26) 4 27 := ⟨by decide +kernel, rfl, rfl⟩
theorem dX0_isPair_4 : Dc cX0_isPair 4 (.iload_n 0) 1 5 := ⟨by decide +kernel, rfl⟩
theorem dX0_isPair_5 : Dc cX0_isPair 5 (.iconst 3) 1 6 := ⟨by decide +kernel, rfl⟩
theorem dX0_isPair_6 : Db cX0_isPair 6 (.if_icmp .gt 21) (21) 9 27 := ⟨by decide +kernel, rfl, rfl⟩
theorem dX0_isPair_9 : Dc cX0_isPair 9 (.iload_n 1) 1 10 := ⟨by decide +kernel, rfl⟩
theorem dX0_isPair_10 : Db cX0_isPair 10 (.ifCond .lt 17) (17) 13 27 := ⟨by decide +kernel, rfl, rfl⟩
theorem dX0_isPair_13 : Dc cX0_isPair 13 (.iload_n 1) 1 14 := ⟨by decide +kernel, rfl⟩
theorem dX0_isPair_14 : Dc cX0_isPair 14 (.iconst 3) 1 15 := ⟨by decide +kernel, rfl⟩
theorem dX0_isPair_15 : Db cX0_isPair 15 (.if_icmp .gt 12) (12) 18 27 := ⟨by decide +kernel, rfl, rfl⟩
theorem dX0_isPair_18 : Dc cX0_isPair 18 (.iload_n 0) 1 19 := ⟨by decide +kernel, rfl⟩
theorem dX0_isPair_19 : Dc cX0_isPair 19 (.iload_n 1) 1 20 := ⟨by decide +kernel, rfl⟩
theorem dX0_isPair_20 : Db cX0_isPair 20 (.if_icmp .eq 7) (7) 23 27 := ⟨by decide +kernel, rfl, rfl⟩
theorem dX0_isPair_23 : Dc cX0_isPair 23 (.iconst 1) 1 24 := ⟨by decide +kernel, rfl⟩
theorem dX0_isPair_24 : Db cX0_isPair 24 (.goto 4) (4) 27 28 := ⟨by decide +kernel, rfl, rfl⟩
theorem dX0_isPair_27 : Dc cX0_isPair 27 (.iconst 0) 1 28 := ⟨by decide +kernel, rfl⟩
theorem dX0_isPair_28 : Dc cX0_isPair 28 (.ireturn) 1 29 := ⟨by decide +kernel, rfl⟩
theorem dX0_tighten_0 : Dc cX0_tighten 0 (.aload_n 0) 1 1 := ⟨by decide +kernel, rfl⟩
theorem dX0_tighten_1 : Dc cX0_tighten 1 (.getfield 13) 3 4 := ⟨by decide +kernel, rfl⟩
theorem dX0_tighten_4 : Dc cX0_tighten 4 (.iload_n 1) 1 5 := ⟨by decide +kernel, rfl⟩
theorem dX0_tighten_5 : Dc cX0_tighten 5 (.baload) 1 6 := ⟨by decide +kernel, rfl⟩
theorem dX0_tighten_6 : Db cX0_tighten 6 (.ifCond .eq 4) (4) 9 10 := ⟨by decide +kernel, rfl, rfl⟩
theorem dX0_tighten_9 : Dc cX0_tighten 9 (.return_) 1 10 := ⟨by decide +kernel, rfl⟩
theorem dX0_tighten_10 : Dc cX0_tighten 10 (.aload_n 0) 1 11 := ⟨by decide +kernel, rfl⟩
theorem dX0_tighten_11 : Dc cX0_tighten 11 (.iload_n 1) 1 12 := ⟨by decide +kernel, rfl⟩
theorem dX0_tighten_12 : Dc cX0_tighten 12 (.invokevirtual 53) 3 15 := ⟨by decide +kernel, rfl⟩
theorem dX0_tighten_15 : Dc cX0_tighten 15 (.aload_n 0) 1 16 := ⟨by decide +kernel, rfl⟩
theorem dX0_tighten_16 : Dc cX0_tighten 16 (.iload_n 2) 1 17 := ⟨by decide +kernel, rfl⟩
theorem dX0_tighten_17 : Dc cX0_tighten 17 (.iload_n 3) 1 18 := ⟨by decide +kernel, rfl⟩
theorem dX0_tighten_18 : Dc cX0_tighten 18 (.iload 4) 2 20 := ⟨by decide +kernel, rfl⟩
theorem dX0_tighten_20 : Dc cX0_tighten 20 (.invokevirtual 73) 3 23 := ⟨by decide +kernel, rfl⟩
theorem dX0_tighten_23 : Dc cX0_tighten 23 (.istore 5) 2 25 := ⟨by decide +kernel, rfl⟩
theorem dX0_tighten_25 : Dc cX0_tighten 25 (.aload_n 0) 1 26 := ⟨by decide +kernel, rfl⟩
theorem dX0_tighten_26 : Dc cX0_tighten 26 (.getfield 13) 3 29 := ⟨by decide +kernel, rfl⟩
theorem dX0_tighten_29 : Dc cX0_tighten 29 (.iload_n 1) 1 30 := ⟨by decide +kernel, rfl⟩
theorem dX0_tighten_30 : Dc cX0_tighten 30 (.iload 5) 2 32 := ⟨by decide +kernel, rfl⟩
theorem dX0_tighten_32 : Db cX0_tighten 32 (.ifCond .ne 7) (7) 35 39 := ⟨by decide +kernel, rfl, rfl⟩
theorem dX0_tighten_35 : Dc cX0_tighten 35 (.iconst 1) 1 36 := ⟨by decide +kernel, rfl⟩
theorem dX0_tighten_36 : Db cX0_tighten 36 (.goto 4) (4) 39 40 := ⟨by decide +kernel, rfl, rfl⟩
theorem dX0_tighten_39 : Dc cX0_tighten 39 (.iconst 0) 1 40 := ⟨by decide +kernel, rfl⟩
theorem dX0_tighten_40 : Dc cX0_tighten 40 (.bastore) 1 41 := ⟨by decide +kernel, rfl⟩
theorem dX0_tighten_41 : Dc cX0_tighten 41 (.iconst 0) 1 42 := ⟨by decide +kernel, rfl⟩
theorem dX0_tighten_42 : Dc cX0_tighten 42 (.istore 6) 2 44 := ⟨by decide +kernel, rfl⟩
theorem dX0_tighten_44 : Dc cX0_tighten 44 (.iload 6) 2 46 := ⟨by decide +kernel, rfl⟩
theorem dX0_tighten_46 : Dc cX0_tighten 46 (.bipush 16) 2 48 := ⟨by decide +kernel, rfl⟩
theorem dX0_tighten_48 : Db cX0_tighten 48 (.if_icmp .ge 33) (33) 51 81 := ⟨by decide +kernel, rfl, rfl⟩
theorem dX0_tighten_51 : Dc cX0_tighten 51 (.iload 5) 2 53 := ⟨by decide +kernel, rfl⟩
theorem dX0_tighten_53 : Db cX0_tighten 53 (.ifCond .eq 28) (28) 56 81 := ⟨by decide +kernel, rfl, rfl⟩
theorem dX0_tighten_56 : Dc cX0_tighten 56 (.aload_n 0) 1 57 := ⟨by decide +kernel, rfl⟩
theorem dX0_tighten_57 : Dc cX0_tighten 57 (.getfield 7) 3 60 := ⟨by decide +kernel, rfl⟩
theorem dX0_tighten_60 : Dc cX0_tighten 60 (.bipush 16) 2 62 := ⟨by decide +kernel, rfl⟩
theorem dX0_tighten_62 : Dc cX0_tighten 62 (.iload_n 1) 1 63 := ⟨by decide +kernel, rfl⟩
theorem dX0_tighten_63 : Dc cX0_tighten 63 (.imul) 1 64 := ⟨by decide +kernel, rfl⟩
theorem dX0_tighten_64 : Dc cX0_tighten 64 (.iload 6) 2 66 := ⟨by decide +kernel, rfl⟩
theorem dX0_tighten_66 : Dc cX0_tighten 66 (.iadd) 1 67 := ⟨by decide +kernel, rfl⟩
theorem dX0_tighten_67 : Dc cX0_tighten 67 (.aload_n 0) 1 68 := ⟨by decide +kernel, rfl⟩
theorem dX0_tighten_68 : Dc cX0_tighten 68 (.getfield 17) 3 71 := ⟨by decide +kernel, rfl⟩
theorem dX0_tighten_71 : Dc cX0_tighten 71 (.iload 6) 2 73 := ⟨by decide +kernel, rfl⟩
theorem dX0_tighten_73 : Dc cX0_tighten 73 (.iaload) 1 74 := ⟨by decide +kernel, rfl⟩
theorem dX0_tighten_74 : Dc cX0_tighten 74 (.iastore) 1 75 := ⟨by decide +kernel, rfl⟩
theorem dX0_tighten_75 : Dc cX0_tighten 75 (.iinc 6 1) 3 78 := ⟨by decide +kernel, rfl⟩
theorem dX0_tighten_78 : Db cX0_tighten 78 (.goto (-34)) (-34) 81 44 := ⟨by decide +kernel, rfl, rfl⟩
theorem dX0_tighten_81 : Dc cX0_tighten 81 (.return_) 1 82 := ⟨by decide +kernel, rfl⟩
theorem dX0_take_0 : Dc cX0_take 0 (.iconst 0) 1 1 := ⟨by decide +kernel, rfl⟩
theorem dX0_take_1 : Dc cX0_take 1 (.istore_n 2) 1 2 := ⟨by decide +kernel, rfl⟩
theorem dX0_take_2 : Dc cX0_take 2 (.iload_n 2) 1 3 := ⟨by decide +kernel, rfl⟩
theorem dX0_take_3 : Dc cX0_take 3 (.bipush 16) 2 5 := ⟨by decide +kernel, rfl⟩
theorem dX0_take_5 : Db cX0_take 5 (.if_icmp .ge 26) (26) 8 31 := ⟨by decide +kernel, rfl, rfl⟩
theorem dX0_take_8 : Dc cX0_take 8 (.aload_n 0) 1 9 := ⟨by decide +kernel, rfl⟩
theorem dX0_take_9 : Dc cX0_take 9 (.getfield 17) 3 12 := ⟨by decide +kernel, rfl⟩
theorem dX0_take_12 : Dc cX0_take 12 (.iload_n 2) 1 13 := ⟨by decide +kernel, rfl⟩
theorem dX0_take_13 : Dc cX0_take 13 (.aload_n 0) 1 14 := ⟨by decide +kernel, rfl⟩
theorem dX0_take_14 : Dc cX0_take 14 (.getfield 7) 3 17 := ⟨by decide +kernel, rfl⟩
theorem dX0_take_17 : Dc cX0_take 17 (.bipush 16) 2 19 := ⟨by decide +kernel, rfl⟩
theorem dX0_take_19 : Dc cX0_take 19 (.iload_n 1) 1 20 := ⟨by decide +kernel, rfl⟩
theorem dX0_take_20 : Dc cX0_take 20 (.imul) 1 21 := ⟨by decide +kernel, rfl⟩
theorem dX0_take_21 : Dc cX0_take 21 (.iload_n 2) 1 22 := ⟨by decide +kernel, rfl⟩
theorem dX0_take_22 : Dc cX0_take 22 (.iadd) 1 23 := ⟨by decide +kernel, rfl⟩
theorem dX0_take_23 : Dc cX0_take 23 (.iaload) 1 24 := ⟨by decide +kernel, rfl⟩
theorem dX0_take_24 : Dc cX0_take 24 (.iastore) 1 25 := ⟨by decide +kernel, rfl⟩
theorem dX0_take_25 : Dc cX0_take 25 (.iinc 2 1) 3 28 := ⟨by decide +kernel, rfl⟩
theorem dX0_take_28 : Db cX0_take 28 (.goto (-26)) (-26) 31 2 := ⟨by decide +kernel, rfl, rfl⟩
theorem dX0_take_31 : Dc cX0_take 31 (.return_) 1 32 := ⟨by decide +kernel, rfl⟩
theorem dX0_narrow_0 : Dc cX0_narrow 0 (.iload_n 3) 1 1 := ⟨by decide +kernel, rfl⟩
theorem dX0_narrow_1 : Dc cX0_narrow 1 (.aload_n 0) 1 2 := ⟨by decide +kernel, rfl⟩
theorem dX0_narrow_2 : Dc cX0_narrow 2 (.getfield 17) 3 5 := ⟨by decide +kernel, rfl⟩
theorem dX0_narrow_5 : Dc cX0_narrow 5 (.iconst 4) 1 6 := ⟨by decide +kernel, rfl⟩
theorem dX0_narrow_6 : Dc cX0_narrow 6 (.iload_n 1) 1 7 := ⟨by decide +kernel, rfl⟩
theorem dX0_narrow_7 : Dc cX0_narrow 7 (.imul) 1 8 := ⟨by decide +kernel, rfl⟩
theorem dX0_narrow_8 : Dc cX0_narrow 8 (.iload_n 2) 1 9 := ⟨by decide +kernel, rfl⟩
theorem dX0_narrow_9 : Dc cX0_narrow 9 (.iadd) 1 10 := ⟨by decide +kernel, rfl⟩
theorem dX0_narrow_10 : Dc cX0_narrow 10 (.iaload) 1 11 := ⟨by decide +kernel, rfl⟩
theorem dX0_narrow_11 : Db cX0_narrow 11 (.if_icmp .lt 5) (5) 14 16 := ⟨by decide +kernel, rfl, rfl⟩
theorem dX0_narrow_14 : Dc cX0_narrow 14 (.iconst 1) 1 15 := ⟨by decide +kernel, rfl⟩
theorem dX0_narrow_15 : Dc cX0_narrow 15 (.ireturn) 1 16 := ⟨by decide +kernel, rfl⟩
theorem dX0_narrow_16 : Dc cX0_narrow 16 (.iload_n 3) 1 17 := ⟨by decide +kernel, rfl⟩
theorem dX0_narrow_17 : Dc cX0_narrow 17 (.aload_n 0) 1 18 := ⟨by decide +kernel, rfl⟩
theorem dX0_narrow_18 : Dc cX0_narrow 18 (.getfield 17) 3 21 := ⟨by decide +kernel, rfl⟩
theorem dX0_narrow_21 : Dc cX0_narrow 21 (.iconst 4) 1 22 := ⟨by decide +kernel, rfl⟩
theorem dX0_narrow_22 : Dc cX0_narrow 22 (.iload_n 2) 1 23 := ⟨by decide +kernel, rfl⟩
theorem dX0_narrow_23 : Dc cX0_narrow 23 (.imul) 1 24 := ⟨by decide +kernel, rfl⟩
theorem dX0_narrow_24 : Dc cX0_narrow 24 (.iload_n 1) 1 25 := ⟨by decide +kernel, rfl⟩
theorem dX0_narrow_25 : Dc cX0_narrow 25 (.iadd) 1 26 := ⟨by decide +kernel, rfl⟩
theorem dX0_narrow_26 : Dc cX0_narrow 26 (.iaload) 1 27 := ⟨by decide +kernel, rfl⟩
theorem dX0_narrow_27 : Dc cX0_narrow 27 (.iadd) 1 28 := ⟨by decide +kernel, rfl⟩
theorem dX0_narrow_28 : Db cX0_narrow 28 (.ifCond .ge 5) (5) 31 33 := ⟨by decide +kernel, rfl, rfl⟩
theorem dX0_narrow_31 : Dc cX0_narrow 31 (.iconst 0) 1 32 := ⟨by decide +kernel, rfl⟩
theorem dX0_narrow_32 : Dc cX0_narrow 32 (.ireturn) 1 33 := ⟨by decide +kernel, rfl⟩
theorem dX0_narrow_33 : Dc cX0_narrow 33 (.iconst 0) 1 34 := ⟨by decide +kernel, rfl⟩
theorem dX0_narrow_34 : Dc cX0_narrow 34 (.istore 4) 2 36 := ⟨by decide +kernel, rfl⟩
theorem dX0_narrow_36 : Dc cX0_narrow 36 (.iload 4) 2 38 := ⟨by decide +kernel, rfl⟩
theorem dX0_narrow_38 : Dc cX0_narrow 38 (.bipush 16) 2 40 := ⟨by decide +kernel, rfl⟩
theorem dX0_narrow_40 : Db cX0_narrow 40 (.if_icmp .ge 79) (79) 43 119 := ⟨by decide +kernel, rfl, rfl⟩
theorem dX0_narrow_43 : Dc cX0_narrow 43 (.iload 4) 2 45 := ⟨by decide +kernel, rfl⟩
theorem dX0_narrow_45 : Dc cX0_narrow 45 (.iconst 4) 1 46 := ⟨by decide +kernel, rfl⟩
theorem dX0_narrow_46 : Dc cX0_narrow 46 (.idiv) 1 47 := ⟨by decide +kernel, rfl⟩
theorem dX0_narrow_47 : Dc cX0_narrow 47 (.istore 5) 2 49 := ⟨by decide +kernel, rfl⟩
theorem dX0_narrow_49 : Dc cX0_narrow 49 (.iload 4) 2 51 := ⟨by decide +kernel, rfl⟩
theorem dX0_narrow_51 : Dc cX0_narrow 51 (.iconst 4) 1 52 := ⟨by decide +kernel, rfl⟩
theorem dX0_narrow_52 : Dc cX0_narrow 52 (.irem) 1 53 := ⟨by decide +kernel, rfl⟩
theorem dX0_narrow_53 : Dc cX0_narrow 53 (.istore 6) 2 55 := ⟨by decide +kernel, rfl⟩
theorem dX0_narrow_55 : Dc cX0_narrow 55 (.aload_n 0) 1 56 := ⟨by decide +kernel, rfl⟩
theorem dX0_narrow_56 : Dc cX0_narrow 56 (.getfield 17) 3 59 := ⟨by decide +kernel, rfl⟩
theorem dX0_narrow_59 : Dc cX0_narrow 59 (.iconst 4) 1 60 := ⟨by decide +kernel, rfl⟩
theorem dX0_narrow_60 : Dc cX0_narrow 60 (.iload 5) 2 62 := ⟨by decide +kernel, rfl⟩
theorem dX0_narrow_62 : Dc cX0_narrow 62 (.imul) 1 63 := ⟨by decide +kernel, rfl⟩
theorem dX0_narrow_63 : Dc cX0_narrow 63 (.iload_n 1) 1 64 := ⟨by decide +kernel, rfl⟩
theorem dX0_narrow_64 : Dc cX0_narrow 64 (.iadd) 1 65 := ⟨by decide +kernel, rfl⟩
theorem dX0_narrow_65 : Dc cX0_narrow 65 (.iaload) 1 66 := ⟨by decide +kernel, rfl⟩
theorem dX0_narrow_66 : Dc cX0_narrow 66 (.iload_n 3) 1 67 := ⟨by decide +kernel, rfl⟩
theorem dX0_narrow_67 : Dc cX0_narrow 67 (.iadd) 1 68 := ⟨by decide +kernel, rfl⟩
theorem dX0_narrow_68 : Dc cX0_narrow 68 (.aload_n 0) 1 69 := ⟨by decide +kernel, rfl⟩
theorem dX0_narrow_69 : Dc cX0_narrow 69 (.getfield 17) 3 72 := ⟨by decide +kernel, rfl⟩
theorem dX0_narrow_72 : Dc cX0_narrow 72 (.iconst 4) 1 73 := ⟨by decide +kernel, rfl⟩
theorem dX0_narrow_73 : Dc cX0_narrow 73 (.iload_n 2) 1 74 := ⟨by decide +kernel, rfl⟩
theorem dX0_narrow_74 : Dc cX0_narrow 74 (.imul) 1 75 := ⟨by decide +kernel, rfl⟩
theorem dX0_narrow_75 : Dc cX0_narrow 75 (.iload 6) 2 77 := ⟨by decide +kernel, rfl⟩
theorem dX0_narrow_77 : Dc cX0_narrow 77 (.iadd) 1 78 := ⟨by decide +kernel, rfl⟩
theorem dX0_narrow_78 : Dc cX0_narrow 78 (.iaload) 1 79 := ⟨by decide +kernel, rfl⟩
theorem dX0_narrow_79 : Dc cX0_narrow 79 (.iadd) 1 80 := ⟨by decide +kernel, rfl⟩
theorem dX0_narrow_80 : Dc cX0_narrow 80 (.istore 7) 2 82 := ⟨by decide +kernel, rfl⟩
theorem dX0_narrow_82 : Dc cX0_narrow 82 (.aload_n 0) 1 83 := ⟨by decide +kernel, rfl⟩
theorem dX0_narrow_83 : Dc cX0_narrow 83 (.getfield 17) 3 86 := ⟨by decide +kernel, rfl⟩
theorem dX0_narrow_86 : Dc cX0_narrow 86 (.iload 4) 2 88 := ⟨by decide +kernel, rfl⟩
theorem dX0_narrow_88 : Dc cX0_narrow 88 (.iload 7) 2 90 := ⟨by decide +kernel, rfl⟩
theorem dX0_narrow_90 : Dc cX0_narrow 90 (.aload_n 0) 1 91 := ⟨by decide +kernel, rfl⟩
theorem dX0_narrow_91 : Dc cX0_narrow 91 (.getfield 17) 3 94 := ⟨by decide +kernel, rfl⟩
theorem dX0_narrow_94 : Dc cX0_narrow 94 (.iload 4) 2 96 := ⟨by decide +kernel, rfl⟩
theorem dX0_narrow_96 : Dc cX0_narrow 96 (.iaload) 1 97 := ⟨by decide +kernel, rfl⟩
theorem dX0_narrow_97 : Db cX0_narrow 97 (.if_icmp .ge 8) (8) 100 105 := ⟨by decide +kernel, rfl, rfl⟩
theorem dX0_narrow_100 : Dc cX0_narrow 100 (.iload 7) 2 102 := ⟨by decide +kernel, rfl⟩
theorem dX0_narrow_102 : Db cX0_narrow 102 (.goto 10) (10) 105 112 := ⟨by decide +kernel, rfl, rfl⟩
theorem dX0_narrow_105 : Dc cX0_narrow 105 (.aload_n 0) 1 106 := ⟨by decide +kernel, rfl⟩
theorem dX0_narrow_106 : Dc cX0_narrow 106 (.getfield 17) 3 109 := ⟨by decide +kernel, rfl⟩
theorem dX0_narrow_109 : Dc cX0_narrow 109 (.iload 4) 2 111 := ⟨by decide +kernel, rfl⟩
theorem dX0_narrow_111 : Dc cX0_narrow 111 (.iaload) 1 112 := ⟨by decide +kernel, rfl⟩
theorem dX0_narrow_112 : Dc cX0_narrow 112 (.iastore) 1 113 := ⟨by decide +kernel, rfl⟩
theorem dX0_narrow_113 : Dc cX0_narrow 113 (.iinc 4 1) 3 116 := ⟨by decide +kernel, rfl⟩
theorem dX0_narrow_116 : Db cX0_narrow 116 (.goto (-80)) (-80) 119 36 := ⟨by decide +kernel, rfl, rfl⟩
theorem dX0_narrow_119 : Dc cX0_narrow 119 (.iconst 1) 1 120 := ⟨by decide +kernel, rfl⟩
theorem dX0_narrow_120 : Dc cX0_narrow 120 (.ireturn) 1 121 := ⟨by decide +kernel, rfl⟩
theorem dX0_left_0 : Dc cX0_left 0 (.aload_n 0) 1 1 := ⟨by decide +kernel, rfl⟩
theorem dX0_left_1 : Dc cX0_left 1 (.getfield 13) 3 4 := ⟨by decide +kernel, rfl⟩
theorem dX0_left_4 : Dc cX0_left 4 (.iload_n 1) 1 5 := ⟨by decide +kernel, rfl⟩
theorem dX0_left_5 : Dc cX0_left 5 (.baload) 1 6 := ⟨by decide +kernel, rfl⟩
theorem dX0_left_6 : Db cX0_left 6 (.ifCond .eq 7) (7) 9 13 := ⟨by decide +kernel, rfl, rfl⟩
theorem dX0_left_9 : Dc cX0_left 9 (.iconst 0) 1 10 := ⟨by decide +kernel, rfl⟩
theorem dX0_left_10 : Db cX0_left 10 (.goto 4) (4) 13 14 := ⟨by decide +kernel, rfl, rfl⟩
theorem dX0_left_13 : Dc cX0_left 13 (.iconst 1) 1 14 := ⟨by decide +kernel, rfl⟩
theorem dX0_left_14 : Dc cX0_left 14 (.ireturn) 1 15 := ⟨by decide +kernel, rfl⟩
theorem dX0_pass_0 : Dc cX0_pass 0 (.iload_n 1) 1 1 := ⟨by decide +kernel, rfl⟩
theorem dX0_pass_1 : Dc cX0_pass 1 (.invokestatic 24) 3 4 := ⟨by decide +kernel, rfl⟩
theorem dX0_pass_4 : Db cX0_pass 4 (.ifCond .ne 5) (5) 7 9 := ⟨by decide +kernel, rfl, rfl⟩
theorem dX0_pass_7 : Dc cX0_pass 7 (.iconst (-1)) 1 8 := ⟨by decide +kernel, rfl⟩
theorem dX0_pass_8 : Dc cX0_pass 8 (.ireturn) 1 9 := ⟨by decide +kernel, rfl⟩
theorem dX0_pass_9 : Dc cX0_pass 9 (.aload_n 0) 1 10 := ⟨by decide +kernel, rfl⟩
theorem dX0_pass_10 : Dc cX0_pass 10 (.getfield 13) 3 13 := ⟨by decide +kernel, rfl⟩
theorem dX0_pass_13 : Dc cX0_pass 13 (.iload_n 1) 1 14 := ⟨by decide +kernel, rfl⟩
theorem dX0_pass_14 : Dc cX0_pass 14 (.baload) 1 15 := ⟨by decide +kernel, rfl⟩
theorem dX0_pass_15 : Db cX0_pass 15 (.ifCond .ne 36) (36) 18 51 := ⟨by decide +kernel, rfl, rfl⟩
theorem dX0_pass_18 : Dc cX0_pass 18 (.iconst 1) 1 19 := ⟨by decide +kernel, rfl⟩
theorem dX0_pass_19 : Dc cX0_pass 19 (.istore_n 2) 1 20 := ⟨by decide +kernel, rfl⟩
theorem dX0_pass_20 : Dc cX0_pass 20 (.iload_n 2) 1 21 := ⟨by decide +kernel, rfl⟩
theorem dX0_pass_21 : Dc cX0_pass 21 (.iconst 4) 1 22 := ⟨by decide +kernel, rfl⟩
theorem dX0_pass_22 : Db cX0_pass 22 (.if_icmp .ge 24) (24) 25 46 := ⟨by decide +kernel, rfl, rfl⟩
theorem dX0_pass_25 : Dc cX0_pass 25 (.aload_n 0) 1 26 := ⟨by decide +kernel, rfl⟩
theorem dX0_pass_26 : Dc cX0_pass 26 (.getfield 7) 3 29 := ⟨by decide +kernel, rfl⟩
theorem dX0_pass_29 : Dc cX0_pass 29 (.bipush 16) 2 31 := ⟨by decide +kernel, rfl⟩
theorem dX0_pass_31 : Dc cX0_pass 31 (.iload_n 1) 1 32 := ⟨by decide +kernel, rfl⟩
theorem dX0_pass_32 : Dc cX0_pass 32 (.imul) 1 33 := ⟨by decide +kernel, rfl⟩
theorem dX0_pass_33 : Dc cX0_pass 33 (.iconst 4) 1 34 := ⟨by decide +kernel, rfl⟩
theorem dX0_pass_34 : Dc cX0_pass 34 (.iload_n 2) 1 35 := ⟨by decide +kernel, rfl⟩
theorem dX0_pass_35 : Dc cX0_pass 35 (.imul) 1 36 := ⟨by decide +kernel, rfl⟩
theorem dX0_pass_36 : Dc cX0_pass 36 (.iadd) 1 37 := ⟨by decide +kernel, rfl⟩
theorem dX0_pass_37 : Dc cX0_pass 37 (.bipush 12) 2 39 := ⟨by decide +kernel, rfl⟩
theorem dX0_pass_39 : Dc cX0_pass 39 (.iastore) 1 40 := ⟨by decide +kernel, rfl⟩
theorem dX0_pass_40 : Dc cX0_pass 40 (.iinc 2 1) 3 43 := ⟨by decide +kernel, rfl⟩
theorem dX0_pass_43 : Db cX0_pass 43 (.goto (-23)) (-23) 46 20 := ⟨by decide +kernel, rfl, rfl⟩
theorem dX0_pass_46 : Dc cX0_pass 46 (.aload_n 0) 1 47 := ⟨by decide +kernel, rfl⟩
theorem dX0_pass_47 : Dc cX0_pass 47 (.iload_n 1) 1 48 := ⟨by decide +kernel, rfl⟩
theorem dX0_pass_48 : Dc cX0_pass 48 (.invokevirtual 43) 3 51 := ⟨by decide +kernel, rfl⟩
theorem dX0_pass_51 : Dc cX0_pass 51 (.aload_n 0) 1 52 := ⟨by decide +kernel, rfl⟩
theorem dX0_pass_52 : Dc cX0_pass 52 (.iload_n 1) 1 53 := ⟨by decide +kernel, rfl⟩
theorem dX0_pass_53 : Dc cX0_pass 53 (.invokevirtual 40) 3 56 := ⟨by decide +kernel, rfl⟩
theorem dX0_pass_56 : Dc cX0_pass 56 (.ireturn) 1 57 := ⟨by decide +kernel, rfl⟩
theorem dX0_close_0 : Dc cX0_close 0 (.iconst 0) 1 1 := ⟨by decide +kernel, rfl⟩
theorem dX0_close_1 : Dc cX0_close 1 (.istore_n 2) 1 2 := ⟨by decide +kernel, rfl⟩
theorem dX0_close_2 : Dc cX0_close 2 (.iload_n 2) 1 3 := ⟨by decide +kernel, rfl⟩
theorem dX0_close_3 : Dc cX0_close 3 (.iconst 4) 1 4 := ⟨by decide +kernel, rfl⟩
theorem dX0_close_4 : Db cX0_close 4 (.if_icmp .ge 111) (111) 7 115 := ⟨by decide +kernel, rfl, rfl⟩
theorem dX0_close_7 : Dc cX0_close 7 (.iconst 0) 1 8 := ⟨by decide +kernel, rfl⟩
theorem dX0_close_8 : Dc cX0_close 8 (.istore_n 3) 1 9 := ⟨by decide +kernel, rfl⟩
theorem dX0_close_9 : Dc cX0_close 9 (.iload_n 3) 1 10 := ⟨by decide +kernel, rfl⟩
theorem dX0_close_10 : Dc cX0_close 10 (.bipush 16) 2 12 := ⟨by decide +kernel, rfl⟩
theorem dX0_close_12 : Db cX0_close 12 (.if_icmp .ge 97) (97) 15 109 := ⟨by decide +kernel, rfl, rfl⟩
theorem dX0_close_15 : Dc cX0_close 15 (.iload_n 3) 1 16 := ⟨by decide +kernel, rfl⟩
theorem dX0_close_16 : Dc cX0_close 16 (.iconst 4) 1 17 := ⟨by decide +kernel, rfl⟩
theorem dX0_close_17 : Dc cX0_close 17 (.idiv) 1 18 := ⟨by decide +kernel, rfl⟩
theorem dX0_close_18 : Dc cX0_close 18 (.istore 4) 2 20 := ⟨by decide +kernel, rfl⟩
theorem dX0_close_20 : Dc cX0_close 20 (.iload_n 3) 1 21 := ⟨by decide +kernel, rfl⟩
theorem dX0_close_21 : Dc cX0_close 21 (.iconst 4) 1 22 := ⟨by decide +kernel, rfl⟩
theorem dX0_close_22 : Dc cX0_close 22 (.irem) 1 23 := ⟨by decide +kernel, rfl⟩
theorem dX0_close_23 : Dc cX0_close 23 (.istore 5) 2 25 := ⟨by decide +kernel, rfl⟩
theorem dX0_close_25 : Dc cX0_close 25 (.aload_n 0) 1 26 := ⟨by decide +kernel, rfl⟩
theorem dX0_close_26 : Dc cX0_close 26 (.getfield 7) 3 29 := ⟨by decide +kernel, rfl⟩
theorem dX0_close_29 : Dc cX0_close 29 (.bipush 16) 2 31 := ⟨by decide +kernel, rfl⟩
theorem dX0_close_31 : Dc cX0_close 31 (.iload_n 1) 1 32 := ⟨by decide +kernel, rfl⟩
theorem dX0_close_32 : Dc cX0_close 32 (.imul) 1 33 := ⟨by decide +kernel, rfl⟩
theorem dX0_close_33 : Dc cX0_close 33 (.iconst 4) 1 34 := ⟨by decide +kernel, rfl⟩
theorem dX0_close_34 : Dc cX0_close 34 (.iload 4) 2 36 := ⟨by decide +kernel, rfl⟩
theorem dX0_close_36 : Dc cX0_close 36 (.imul) 1 37 := ⟨by decide +kernel, rfl⟩
theorem dX0_close_37 : Dc cX0_close 37 (.iadd) 1 38 := ⟨by decide +kernel, rfl⟩
theorem dX0_close_38 : Dc cX0_close 38 (.iload_n 2) 1 39 := ⟨by decide +kernel, rfl⟩
theorem dX0_close_39 : Dc cX0_close 39 (.iadd) 1 40 := ⟨by decide +kernel, rfl⟩
theorem dX0_close_40 : Dc cX0_close 40 (.iaload) 1 41 := ⟨by decide +kernel, rfl⟩
theorem dX0_close_41 : Dc cX0_close 41 (.aload_n 0) 1 42 := ⟨by decide +kernel, rfl⟩
theorem dX0_close_42 : Dc cX0_close 42 (.getfield 7) 3 45 := ⟨by decide +kernel, rfl⟩
theorem dX0_close_45 : Dc cX0_close 45 (.bipush 16) 2 47 := ⟨by decide +kernel, rfl⟩
theorem dX0_close_47 : Dc cX0_close 47 (.iload_n 1) 1 48 := ⟨by decide +kernel, rfl⟩
theorem dX0_close_48 : Dc cX0_close 48 (.imul) 1 49 := ⟨by decide +kernel, rfl⟩
theorem dX0_close_49 : Dc cX0_close 49 (.iconst 4) 1 50 := ⟨by decide +kernel, rfl⟩
theorem dX0_close_50 : Dc cX0_close 50 (.iload_n 2) 1 51 := ⟨by decide +kernel, rfl⟩
theorem dX0_close_51 : Dc cX0_close 51 (.imul) 1 52 := ⟨by decide +kernel, rfl⟩
theorem dX0_close_52 : Dc cX0_close 52 (.iadd) 1 53 := ⟨by decide +kernel, rfl⟩
theorem dX0_close_53 : Dc cX0_close 53 (.iload 5) 2 55 := ⟨by decide +kernel, rfl⟩
theorem dX0_close_55 : Dc cX0_close 55 (.iadd) 1 56 := ⟨by decide +kernel, rfl⟩
theorem dX0_close_56 : Dc cX0_close 56 (.iaload) 1 57 := ⟨by decide +kernel, rfl⟩
theorem dX0_close_57 : Dc cX0_close 57 (.iadd) 1 58 := ⟨by decide +kernel, rfl⟩
theorem dX0_close_58 : Dc cX0_close 58 (.istore 6) 2 60 := ⟨by decide +kernel, rfl⟩
theorem dX0_close_60 : Dc cX0_close 60 (.aload_n 0) 1 61 := ⟨by decide +kernel, rfl⟩
theorem dX0_close_61 : Dc cX0_close 61 (.getfield 7) 3 64 := ⟨by decide +kernel, rfl⟩
theorem dX0_close_64 : Dc cX0_close 64 (.bipush 16) 2 66 := ⟨by decide +kernel, rfl⟩
theorem dX0_close_66 : Dc cX0_close 66 (.iload_n 1) 1 67 := ⟨by decide +kernel, rfl⟩
theorem dX0_close_67 : Dc cX0_close 67 (.imul) 1 68 := ⟨by decide +kernel, rfl⟩
theorem dX0_close_68 : Dc cX0_close 68 (.iload_n 3) 1 69 := ⟨by decide +kernel, rfl⟩
theorem dX0_close_69 : Dc cX0_close 69 (.iadd) 1 70 := ⟨by decide +kernel, rfl⟩
theorem dX0_close_70 : Dc cX0_close 70 (.iload 6) 2 72 := ⟨by decide +kernel, rfl⟩
theorem dX0_close_72 : Dc cX0_close 72 (.aload_n 0) 1 73 := ⟨by decide +kernel, rfl⟩
theorem dX0_close_73 : Dc cX0_close 73 (.getfield 7) 3 76 := ⟨by decide +kernel, rfl⟩
theorem dX0_close_76 : Dc cX0_close 76 (.bipush 16) 2 78 := ⟨by decide +kernel, rfl⟩
theorem dX0_close_78 : Dc cX0_close 78 (.iload_n 1) 1 79 := ⟨by decide +kernel, rfl⟩
theorem dX0_close_79 : Dc cX0_close 79 (.imul) 1 80 := ⟨by decide +kernel, rfl⟩
theorem dX0_close_80 : Dc cX0_close 80 (.iload_n 3) 1 81 := ⟨by decide +kernel, rfl⟩
theorem dX0_close_81 : Dc cX0_close 81 (.iadd) 1 82 := ⟨by decide +kernel, rfl⟩
theorem dX0_close_82 : Dc cX0_close 82 (.iaload) 1 83 := ⟨by decide +kernel, rfl⟩
theorem dX0_close_83 : Db cX0_close 83 (.if_icmp .ge 8) (8) 86 91 := ⟨by decide +kernel, rfl, rfl⟩
theorem dX0_close_86 : Dc cX0_close 86 (.iload 6) 2 88 := ⟨by decide +kernel, rfl⟩
theorem dX0_close_88 : Db cX0_close 88 (.goto 14) (14) 91 102 := ⟨by decide +kernel, rfl, rfl⟩
theorem dX0_close_91 : Dc cX0_close 91 (.aload_n 0) 1 92 := ⟨by decide +kernel, rfl⟩
theorem dX0_close_92 : Dc cX0_close 92 (.getfield 7) 3 95 := ⟨by decide +kernel, rfl⟩
theorem dX0_close_95 : Dc cX0_close 95 (.bipush 16) 2 97 := ⟨by decide +kernel, rfl⟩
theorem dX0_close_97 : Dc cX0_close 97 (.iload_n 1) 1 98 := ⟨by decide +kernel, rfl⟩
theorem dX0_close_98 : Dc cX0_close 98 (.imul) 1 99 := ⟨by decide +kernel, rfl⟩
theorem dX0_close_99 : Dc cX0_close 99 (.iload_n 3) 1 100 := ⟨by decide +kernel, rfl⟩
theorem dX0_close_100 : Dc cX0_close 100 (.iadd) 1 101 := ⟨by decide +kernel, rfl⟩
theorem dX0_close_101 : Dc cX0_close 101 (.iaload) 1 102 := ⟨by decide +kernel, rfl⟩
theorem dX0_close_102 : Dc cX0_close 102 (.iastore) 1 103 := ⟨by decide +kernel, rfl⟩
theorem dX0_close_103 : Dc cX0_close 103 (.iinc 3 1) 3 106 := ⟨by decide +kernel, rfl⟩
theorem dX0_close_106 : Db cX0_close 106 (.goto (-97)) (-97) 109 9 := ⟨by decide +kernel, rfl, rfl⟩
theorem dX0_close_109 : Dc cX0_close 109 (.iinc 2 1) 3 112 := ⟨by decide +kernel, rfl⟩
theorem dX0_close_112 : Db cX0_close 112 (.goto (-110)) (-110) 115 2 := ⟨by decide +kernel, rfl, rfl⟩
theorem dX0_close_115 : Dc cX0_close 115 (.iconst 0) 1 116 := ⟨by decide +kernel, rfl⟩
theorem dX0_close_116 : Dc cX0_close 116 (.istore_n 2) 1 117 := ⟨by decide +kernel, rfl⟩
theorem dX0_close_117 : Dc cX0_close 117 (.iload_n 2) 1 118 := ⟨by decide +kernel, rfl⟩
theorem dX0_close_118 : Dc cX0_close 118 (.iconst 4) 1 119 := ⟨by decide +kernel, rfl⟩
theorem dX0_close_119 : Db cX0_close 119 (.if_icmp .ge 47) (47) 122 166 := ⟨by decide +kernel, rfl, rfl⟩
theorem dX0_close_122 : Dc cX0_close 122 (.aload_n 0) 1 123 := ⟨by decide +kernel, rfl⟩
theorem dX0_close_123 : Dc cX0_close 123 (.getfield 13) 3 126 := ⟨by decide +kernel, rfl⟩
theorem dX0_close_126 : Dc cX0_close 126 (.iload_n 1) 1 127 := ⟨by decide +kernel, rfl⟩
theorem dX0_close_127 : Dc cX0_close 127 (.aload_n 0) 1 128 := ⟨by decide +kernel, rfl⟩
theorem dX0_close_128 : Dc cX0_close 128 (.getfield 13) 3 131 := ⟨by decide +kernel, rfl⟩
theorem dX0_close_131 : Dc cX0_close 131 (.iload_n 1) 1 132 := ⟨by decide +kernel, rfl⟩
theorem dX0_close_132 : Dc cX0_close 132 (.baload) 1 133 := ⟨by decide +kernel, rfl⟩
theorem dX0_close_133 : Db cX0_close 133 (.ifCond .ne 21) (21) 136 154 := ⟨by decide +kernel, rfl, rfl⟩
theorem dX0_close_136 : Dc cX0_close 136 (.aload_n 0) 1 137 := ⟨by decide +kernel, rfl⟩
theorem dX0_close_137 : Dc cX0_close 137 (.getfield 7) 3 140 := ⟨by decide +kernel, rfl⟩
theorem dX0_close_140 : Dc cX0_close 140 (.bipush 16) 2 142 := ⟨by decide +kernel, rfl⟩
theorem dX0_close_142 : Dc cX0_close 142 (.iload_n 1) 1 143 := ⟨by decide +kernel, rfl⟩
theorem dX0_close_143 : Dc cX0_close 143 (.imul) 1 144 := ⟨by decide +kernel, rfl⟩
theorem dX0_close_144 : Dc cX0_close 144 (.iconst 4) 1 145 := ⟨by decide +kernel, rfl⟩
theorem dX0_close_145 : Dc cX0_close 145 (.iload_n 2) 1 146 := ⟨by decide +kernel, rfl⟩
theorem dX0_close_146 : Dc cX0_close 146 (.imul) 1 147 := ⟨by decide +kernel, rfl⟩
theorem dX0_close_147 : Dc cX0_close 147 (.iadd) 1 148 := ⟨by decide +kernel, rfl⟩
theorem dX0_close_148 : Dc cX0_close 148 (.iload_n 2) 1 149 := ⟨by decide +kernel, rfl⟩
theorem dX0_close_149 : Dc cX0_close 149 (.iadd) 1 150 := ⟨by decide +kernel, rfl⟩
theorem dX0_close_150 : Dc cX0_close 150 (.iaload) 1 151 := ⟨by decide +kernel, rfl⟩
theorem dX0_close_151 : Db cX0_close 151 (.ifCond .ge 7) (7) 154 158 := ⟨by decide +kernel, rfl, rfl⟩
theorem dX0_close_154 : Dc cX0_close 154 (.iconst 1) 1 155 := ⟨by decide +kernel, rfl⟩
theorem dX0_close_155 : Db cX0_close 155 (.goto 4) (4) 158 159 := ⟨by decide +kernel, rfl, rfl⟩
theorem dX0_close_158 : Dc cX0_close 158 (.iconst 0) 1 159 := ⟨by decide +kernel, rfl⟩
theorem dX0_close_159 : Dc cX0_close 159 (.bastore) 1 160 := ⟨by decide +kernel, rfl⟩
theorem dX0_close_160 : Dc cX0_close 160 (.iinc 2 1) 3 163 := ⟨by decide +kernel, rfl⟩
theorem dX0_close_163 : Db cX0_close 163 (.goto (-46)) (-46) 166 117 := ⟨by decide +kernel, rfl, rfl⟩
theorem dX0_close_166 : Dc cX0_close 166 (.return_) 1 167 := ⟨by decide +kernel, rfl⟩
theorem dX0_back_0 : Dc cX0_back 0 (.iload_n 1) 1 1 := ⟨by decide +kernel, rfl⟩
theorem dX0_back_1 : Dc cX0_back 1 (.invokestatic 24) 3 4 := ⟨by decide +kernel, rfl⟩
theorem dX0_back_4 : Db cX0_back 4 (.ifCond .ne 5) (5) 7 9 := ⟨by decide +kernel, rfl, rfl⟩
theorem dX0_back_7 : Dc cX0_back 7 (.iconst (-1)) 1 8 := ⟨by decide +kernel, rfl⟩
theorem dX0_back_8 : Dc cX0_back 8 (.ireturn) 1 9 := ⟨by decide +kernel, rfl⟩
theorem dX0_back_9 : Dc cX0_back 9 (.aload_n 0) 1 10 := ⟨by decide +kernel, rfl⟩
theorem dX0_back_10 : Dc cX0_back 10 (.getfield 13) 3 13 := ⟨by decide +kernel, rfl⟩
theorem dX0_back_13 : Dc cX0_back 13 (.iload_n 1) 1 14 := ⟨by decide +kernel, rfl⟩
theorem dX0_back_14 : Dc cX0_back 14 (.baload) 1 15 := ⟨by decide +kernel, rfl⟩
theorem dX0_back_15 : Db cX0_back 15 (.ifCond .ne 33) (33) 18 48 := ⟨by decide +kernel, rfl, rfl⟩
theorem dX0_back_18 : Dc cX0_back 18 (.iconst 1) 1 19 := ⟨by decide +kernel, rfl⟩
theorem dX0_back_19 : Dc cX0_back 19 (.istore_n 2) 1 20 := ⟨by decide +kernel, rfl⟩
theorem dX0_back_20 : Dc cX0_back 20 (.iload_n 2) 1 21 := ⟨by decide +kernel, rfl⟩
theorem dX0_back_21 : Dc cX0_back 21 (.iconst 4) 1 22 := ⟨by decide +kernel, rfl⟩
theorem dX0_back_22 : Db cX0_back 22 (.if_icmp .ge 21) (21) 25 43 := ⟨by decide +kernel, rfl, rfl⟩
theorem dX0_back_25 : Dc cX0_back 25 (.aload_n 0) 1 26 := ⟨by decide +kernel, rfl⟩
theorem dX0_back_26 : Dc cX0_back 26 (.getfield 7) 3 29 := ⟨by decide +kernel, rfl⟩
theorem dX0_back_29 : Dc cX0_back 29 (.bipush 16) 2 31 := ⟨by decide +kernel, rfl⟩
theorem dX0_back_31 : Dc cX0_back 31 (.iload_n 1) 1 32 := ⟨by decide +kernel, rfl⟩
theorem dX0_back_32 : Dc cX0_back 32 (.imul) 1 33 := ⟨by decide +kernel, rfl⟩
theorem dX0_back_33 : Dc cX0_back 33 (.iload_n 2) 1 34 := ⟨by decide +kernel, rfl⟩
theorem dX0_back_34 : Dc cX0_back 34 (.iadd) 1 35 := ⟨by decide +kernel, rfl⟩
theorem dX0_back_35 : Dc cX0_back 35 (.iconst 0) 1 36 := ⟨by decide +kernel, rfl⟩
theorem dX0_back_36 : Dc cX0_back 36 (.iastore) 1 37 := ⟨by decide +kernel, rfl⟩
theorem dX0_back_37 : Dc cX0_back 37 (.iinc 2 1) 3 40 := ⟨by decide +kernel, rfl⟩
theorem dX0_back_40 : Db cX0_back 40 (.goto (-20)) (-20) 43 20 := ⟨by decide +kernel, rfl, rfl⟩
theorem dX0_back_43 : Dc cX0_back 43 (.aload_n 0) 1 44 := ⟨by decide +kernel, rfl⟩
theorem dX0_back_44 : Dc cX0_back 44 (.iload_n 1) 1 45 := ⟨by decide +kernel, rfl⟩
theorem dX0_back_45 : Dc cX0_back 45 (.invokevirtual 43) 3 48 := ⟨by decide +kernel, rfl⟩
theorem dX0_back_48 : Dc cX0_back 48 (.aload_n 0) 1 49 := ⟨by decide +kernel, rfl⟩
theorem dX0_back_49 : Dc cX0_back 49 (.iload_n 1) 1 50 := ⟨by decide +kernel, rfl⟩
theorem dX0_back_50 : Dc cX0_back 50 (.invokevirtual 40) 3 53 := ⟨by decide +kernel, rfl⟩
theorem dX0_back_53 : Dc cX0_back 53 (.ireturn) 1 54 := ⟨by decide +kernel, rfl⟩
theorem dX0_set_0 : Dc cX0_set 0 (.iload_n 1) 1 1 := ⟨by decide +kernel, rfl⟩
theorem dX0_set_1 : Dc cX0_set 1 (.invokestatic 24) 3 4 := ⟨by decide +kernel, rfl⟩
theorem dX0_set_4 : Db cX0_set 4 (.ifCond .ne 5) (5) 7 9 := ⟨by decide +kernel, rfl, rfl⟩
theorem dX0_set_7 : Dc cX0_set 7 (.iconst (-1)) 1 8 := ⟨by decide +kernel, rfl⟩
theorem dX0_set_8 : Dc cX0_set 8 (.ireturn) 1 9 := ⟨by decide +kernel, rfl⟩
theorem dX0_set_9 : Dc cX0_set 9 (.iload_n 2) 1 10 := ⟨by decide +kernel, rfl⟩
theorem dX0_set_10 : Dc cX0_set 10 (.invokestatic 47) 3 13 := ⟨by decide +kernel, rfl⟩
theorem dX0_set_13 : Db cX0_set 13 (.ifCond .ne 6) (6) 16 19 := ⟨by decide +kernel, rfl, rfl⟩
theorem dX0_set_16 : Dc cX0_set 16 (.bipush (-2)) 2 18 := ⟨by decide +kernel, rfl⟩
theorem dX0_set_18 : Dc cX0_set 18 (.ireturn) 1 19 := ⟨by decide +kernel, rfl⟩
theorem dX0_set_19 : Dc cX0_set 19 (.iload_n 3) 1 20 := ⟨by decide +kernel, rfl⟩
theorem dX0_set_20 : Db cX0_set 20 (.ifCond .lt 9) (9) 23 29 := ⟨by decide +kernel, rfl, rfl⟩
theorem dX0_set_23 : Dc cX0_set 23 (.iload_n 3) 1 24 := ⟨by decide +kernel, rfl⟩
theorem dX0_set_24 : Dc cX0_set 24 (.bipush 12) 2 26 := ⟨by decide +kernel, rfl⟩
theorem dX0_set_26 : Db cX0_set 26 (.if_icmp .le 6) (6) 29 32 := ⟨by decide +kernel, rfl, rfl⟩
theorem dX0_set_29 : Dc cX0_set 29 (.bipush (-3)) 2 31 := ⟨by decide +kernel, rfl⟩
theorem dX0_set_31 : Dc cX0_set 31 (.ireturn) 1 32 := ⟨by decide +kernel, rfl⟩
theorem dX0_set_32 : Dc cX0_set 32 (.iconst 0) 1 33 := ⟨by decide +kernel, rfl⟩
theorem dX0_set_33 : Dc cX0_set 33 (.istore 4) 2 35 := ⟨by decide +kernel, rfl⟩
theorem dX0_set_35 : Dc cX0_set 35 (.iload 4) 2 37 := ⟨by decide +kernel, rfl⟩
theorem dX0_set_37 : Dc cX0_set 37 (.iconst 4) 1 38 := ⟨by decide +kernel, rfl⟩
theorem dX0_set_38 : Db cX0_set 38 (.if_icmp .ge 86) (86) 41 124 := ⟨by decide +kernel, rfl, rfl⟩
theorem dX0_set_41 : Dc cX0_set 41 (.aload_n 0) 1 42 := ⟨by decide +kernel, rfl⟩
theorem dX0_set_42 : Dc cX0_set 42 (.getfield 13) 3 45 := ⟨by decide +kernel, rfl⟩
theorem dX0_set_45 : Dc cX0_set 45 (.iload_n 1) 1 46 := ⟨by decide +kernel, rfl⟩
theorem dX0_set_46 : Dc cX0_set 46 (.baload) 1 47 := ⟨by decide +kernel, rfl⟩
theorem dX0_set_47 : Db cX0_set 47 (.ifCond .ne 77) (77) 50 124 := ⟨by decide +kernel, rfl, rfl⟩
theorem dX0_set_50 : Dc cX0_set 50 (.iload 4) 2 52 := ⟨by decide +kernel, rfl⟩
theorem dX0_set_52 : Dc cX0_set 52 (.iload_n 2) 1 53 := ⟨by decide +kernel, rfl⟩
theorem dX0_set_53 : Db cX0_set 53 (.if_icmp .eq 65) (65) 56 118 := ⟨by decide +kernel, rfl, rfl⟩
theorem dX0_set_56 : Dc cX0_set 56 (.aload_n 0) 1 57 := ⟨by decide +kernel, rfl⟩
theorem dX0_set_57 : Dc cX0_set 57 (.getfield 7) 3 60 := ⟨by decide +kernel, rfl⟩
theorem dX0_set_60 : Dc cX0_set 60 (.bipush 16) 2 62 := ⟨by decide +kernel, rfl⟩
theorem dX0_set_62 : Dc cX0_set 62 (.iload_n 1) 1 63 := ⟨by decide +kernel, rfl⟩
theorem dX0_set_63 : Dc cX0_set 63 (.imul) 1 64 := ⟨by decide +kernel, rfl⟩
theorem dX0_set_64 : Dc cX0_set 64 (.iconst 4) 1 65 := ⟨by decide +kernel, rfl⟩
theorem dX0_set_65 : Dc cX0_set 65 (.iload_n 2) 1 66 := ⟨by decide +kernel, rfl⟩
theorem dX0_set_66 : Dc cX0_set 66 (.imul) 1 67 := ⟨by decide +kernel, rfl⟩
theorem dX0_set_67 : Dc cX0_set 67 (.iadd) 1 68 := ⟨by decide +kernel, rfl⟩
theorem dX0_set_68 : Dc cX0_set 68 (.iload 4) 2 70 := ⟨by decide +kernel, rfl⟩
theorem dX0_set_70 : Dc cX0_set 70 (.iadd) 1 71 := ⟨by decide +kernel, rfl⟩
theorem dX0_set_71 : Dc cX0_set 71 (.iload_n 3) 1 72 := ⟨by decide +kernel, rfl⟩
theorem dX0_set_72 : Dc cX0_set 72 (.aload_n 0) 1 73 := ⟨by decide +kernel, rfl⟩
theorem dX0_set_73 : Dc cX0_set 73 (.getfield 7) 3 76 := ⟨by decide +kernel, rfl⟩
theorem dX0_set_76 : Dc cX0_set 76 (.bipush 16) 2 78 := ⟨by decide +kernel, rfl⟩
theorem dX0_set_78 : Dc cX0_set 78 (.iload_n 1) 1 79 := ⟨by decide +kernel, rfl⟩
theorem dX0_set_79 : Dc cX0_set 79 (.imul) 1 80 := ⟨by decide +kernel, rfl⟩
theorem dX0_set_80 : Dc cX0_set 80 (.iload 4) 2 82 := ⟨by decide +kernel, rfl⟩
theorem dX0_set_82 : Dc cX0_set 82 (.iadd) 1 83 := ⟨by decide +kernel, rfl⟩
theorem dX0_set_83 : Dc cX0_set 83 (.iaload) 1 84 := ⟨by decide +kernel, rfl⟩
theorem dX0_set_84 : Dc cX0_set 84 (.iadd) 1 85 := ⟨by decide +kernel, rfl⟩
theorem dX0_set_85 : Dc cX0_set 85 (.iastore) 1 86 := ⟨by decide +kernel, rfl⟩
theorem dX0_set_86 : Dc cX0_set 86 (.aload_n 0) 1 87 := ⟨by decide +kernel, rfl⟩
theorem dX0_set_87 : Dc cX0_set 87 (.getfield 7) 3 90 := ⟨by decide +kernel, rfl⟩
theorem dX0_set_90 : Dc cX0_set 90 (.bipush 16) 2 92 := ⟨by decide +kernel, rfl⟩
theorem dX0_set_92 : Dc cX0_set 92 (.iload_n 1) 1 93 := ⟨by decide +kernel, rfl⟩
theorem dX0_set_93 : Dc cX0_set 93 (.imul) 1 94 := ⟨by decide +kernel, rfl⟩
theorem dX0_set_94 : Dc cX0_set 94 (.iconst 4) 1 95 := ⟨by decide +kernel, rfl⟩
theorem dX0_set_95 : Dc cX0_set 95 (.iload 4) 2 97 := ⟨by decide +kernel, rfl⟩
theorem dX0_set_97 : Dc cX0_set 97 (.imul) 1 98 := ⟨by decide +kernel, rfl⟩
theorem dX0_set_98 : Dc cX0_set 98 (.iadd) 1 99 := ⟨by decide +kernel, rfl⟩
theorem dX0_set_99 : Dc cX0_set 99 (.iload_n 2) 1 100 := ⟨by decide +kernel, rfl⟩
theorem dX0_set_100 : Dc cX0_set 100 (.iadd) 1 101 := ⟨by decide +kernel, rfl⟩
theorem dX0_set_101 : Dc cX0_set 101 (.aload_n 0) 1 102 := ⟨by decide +kernel, rfl⟩
theorem dX0_set_102 : Dc cX0_set 102 (.getfield 7) 3 105 := ⟨by decide +kernel, rfl⟩
theorem dX0_set_105 : Dc cX0_set 105 (.bipush 16) 2 107 := ⟨by decide +kernel, rfl⟩
theorem dX0_set_107 : Dc cX0_set 107 (.iload_n 1) 1 108 := ⟨by decide +kernel, rfl⟩
theorem dX0_set_108 : Dc cX0_set 108 (.imul) 1 109 := ⟨by decide +kernel, rfl⟩
theorem dX0_set_109 : Dc cX0_set 109 (.iconst 4) 1 110 := ⟨by decide +kernel, rfl⟩
theorem dX0_set_110 : Dc cX0_set 110 (.iload 4) 2 112 := ⟨by decide +kernel, rfl⟩
theorem dX0_set_112 : Dc cX0_set 112 (.imul) 1 113 := ⟨by decide +kernel, rfl⟩
theorem dX0_set_113 : Dc cX0_set 113 (.iadd) 1 114 := ⟨by decide +kernel, rfl⟩
theorem dX0_set_114 : Dc cX0_set 114 (.iaload) 1 115 := ⟨by decide +kernel, rfl⟩
theorem dX0_set_115 : Dc cX0_set 115 (.iload_n 3) 1 116 := ⟨by decide +kernel, rfl⟩
theorem dX0_set_116 : Dc cX0_set 116 (.isub) 1 117 := ⟨by decide +kernel, rfl⟩
theorem dX0_set_117 : Dc cX0_set 117 (.iastore) 1 118 := ⟨by decide +kernel, rfl⟩
theorem dX0_set_118 : Dc cX0_set 118 (.iinc 4 1) 3 121 := ⟨by decide +kernel, rfl⟩
theorem dX0_set_121 : Db cX0_set 121 (.goto (-86)) (-86) 124 35 := ⟨by decide +kernel, rfl, rfl⟩
theorem dX0_set_124 : Dc cX0_set 124 (.aload_n 0) 1 125 := ⟨by decide +kernel, rfl⟩
theorem dX0_set_125 : Dc cX0_set 125 (.iload_n 1) 1 126 := ⟨by decide +kernel, rfl⟩
theorem dX0_set_126 : Dc cX0_set 126 (.invokevirtual 40) 3 129 := ⟨by decide +kernel, rfl⟩
theorem dX0_set_129 : Dc cX0_set 129 (.ireturn) 1 130 := ⟨by decide +kernel, rfl⟩
theorem dX0_isClock_0 : Dc cX0_isClock 0 (.iload_n 0) 1 1 := ⟨by decide +kernel, rfl⟩
theorem dX0_isClock_1 : Dc cX0_isClock 1 (.iconst 1) 1 2 := ⟨by decide +kernel, rfl⟩
theorem dX0_isClock_2 : Db cX0_isClock 2 (.if_icmp .lt 12) (12) 5 14 := ⟨by decide +kernel, rfl, rfl⟩
theorem dX0_isClock_5 : Dc cX0_isClock 5 (.iload_n 0) 1 6 := ⟨by decide +kernel, rfl⟩
theorem dX0_isClock_6 : Dc cX0_isClock 6 (.iconst 3) 1 7 := ⟨by decide +kernel, rfl⟩
theorem dX0_isClock_7 : Db cX0_isClock 7 (.if_icmp .gt 7) (7) 10 14 := ⟨by decide +kernel, rfl, rfl⟩
theorem dX0_isClock_10 : Dc cX0_isClock 10 (.iconst 1) 1 11 := ⟨by decide +kernel, rfl⟩
theorem dX0_isClock_11 : Db cX0_isClock 11 (.goto 4) (4) 14 15 := ⟨by decide +kernel, rfl, rfl⟩
theorem dX0_isClock_14 : Dc cX0_isClock 14 (.iconst 0) 1 15 := ⟨by decide +kernel, rfl⟩
theorem dX0_isClock_15 : Dc cX0_isClock 15 (.ireturn) 1 16 := ⟨by decide +kernel, rfl⟩
theorem dX0_free_0 : Dc cX0_free 0 (.iload_n 1) 1 1 := ⟨by decide +kernel, rfl⟩
theorem dX0_free_1 : Dc cX0_free 1 (.invokestatic 24) 3 4 := ⟨by decide +kernel, rfl⟩
theorem dX0_free_4 : Db cX0_free 4 (.ifCond .ne 5) (5) 7 9 := ⟨by decide +kernel, rfl, rfl⟩
theorem dX0_free_7 : Dc cX0_free 7 (.iconst (-1)) 1 8 := ⟨by decide +kernel, rfl⟩
theorem dX0_free_8 : Dc cX0_free 8 (.ireturn) 1 9 := ⟨by decide +kernel, rfl⟩
theorem dX0_free_9 : Dc cX0_free 9 (.iload_n 2) 1 10 := ⟨by decide +kernel, rfl⟩
theorem dX0_free_10 : Dc cX0_free 10 (.invokestatic 47) 3 13 := ⟨by decide +kernel, rfl⟩
theorem dX0_free_13 : Db cX0_free 13 (.ifCond .ne 6) (6) 16 19 := ⟨by decide +kernel, rfl, rfl⟩
theorem dX0_free_16 : Dc cX0_free 16 (.bipush (-2)) 2 18 := ⟨by decide +kernel, rfl⟩
theorem dX0_free_18 : Dc cX0_free 18 (.ireturn) 1 19 := ⟨by decide +kernel, rfl⟩
theorem dX0_free_19 : Dc cX0_free 19 (.iconst 0) 1 20 := ⟨by decide +kernel, rfl⟩
theorem dX0_free_20 : Dc cX0_free 20 (.istore_n 3) 1 21 := ⟨by decide +kernel, rfl⟩
theorem dX0_free_21 : Dc cX0_free 21 (.iload_n 3) 1 22 := ⟨by decide +kernel, rfl⟩
theorem dX0_free_22 : Dc cX0_free 22 (.iconst 4) 1 23 := ⟨by decide +kernel, rfl⟩
theorem dX0_free_23 : Db cX0_free 23 (.if_icmp .ge 80) (80) 26 103 := ⟨by decide +kernel, rfl, rfl⟩
theorem dX0_free_26 : Dc cX0_free 26 (.aload_n 0) 1 27 := ⟨by decide +kernel, rfl⟩
theorem dX0_free_27 : Dc cX0_free 27 (.getfield 13) 3 30 := ⟨by decide +kernel, rfl⟩
theorem dX0_free_30 : Dc cX0_free 30 (.iload_n 1) 1 31 := ⟨by decide +kernel, rfl⟩
theorem dX0_free_31 : Dc cX0_free 31 (.baload) 1 32 := ⟨by decide +kernel, rfl⟩
theorem dX0_free_32 : Db cX0_free 32 (.ifCond .ne 71) (71) 35 103 := ⟨by decide +kernel, rfl, rfl⟩
theorem dX0_free_35 : Dc cX0_free 35 (.iload_n 3) 1 36 := ⟨by decide +kernel, rfl⟩
theorem dX0_free_36 : Dc cX0_free 36 (.iload_n 2) 1 37 := ⟨by decide +kernel, rfl⟩
theorem dX0_free_37 : Db cX0_free 37 (.if_icmp .eq 60) (60) 40 97 := ⟨by decide +kernel, rfl, rfl⟩
theorem dX0_free_40 : Dc cX0_free 40 (.aload_n 0) 1 41 := ⟨by decide +kernel, rfl⟩
theorem dX0_free_41 : Dc cX0_free 41 (.getfield 7) 3 44 := ⟨by decide +kernel, rfl⟩
theorem dX0_free_44 : Dc cX0_free 44 (.bipush 16) 2 46 := ⟨by decide +kernel, rfl⟩
theorem dX0_free_46 : Dc cX0_free 46 (.iload_n 1) 1 47 := ⟨by decide +kernel, rfl⟩
theorem dX0_free_47 : Dc cX0_free 47 (.imul) 1 48 := ⟨by decide +kernel, rfl⟩
theorem dX0_free_48 : Dc cX0_free 48 (.iconst 4) 1 49 := ⟨by decide +kernel, rfl⟩
theorem dX0_free_49 : Dc cX0_free 49 (.iload_n 2) 1 50 := ⟨by decide +kernel, rfl⟩
theorem dX0_free_50 : Dc cX0_free 50 (.imul) 1 51 := ⟨by decide +kernel, rfl⟩
theorem dX0_free_51 : Dc cX0_free 51 (.iadd) 1 52 := ⟨by decide +kernel, rfl⟩
theorem dX0_free_52 : Dc cX0_free 52 (.iload_n 3) 1 53 := ⟨by decide +kernel, rfl⟩
theorem dX0_free_53 : Dc cX0_free 53 (.iadd) 1 54 := ⟨by decide +kernel, rfl⟩
theorem dX0_free_54 : Dc cX0_free 54 (.bipush 12) 2 56 := ⟨by decide +kernel, rfl⟩
theorem dX0_free_56 : Dc cX0_free 56 (.aload_n 0) 1 57 := ⟨by decide +kernel, rfl⟩
theorem dX0_free_57 : Dc cX0_free 57 (.getfield 7) 3 60 := ⟨by decide +kernel, rfl⟩
theorem dX0_free_60 : Dc cX0_free 60 (.bipush 16) 2 62 := ⟨by decide +kernel, rfl⟩
theorem dX0_free_62 : Dc cX0_free 62 (.iload_n 1) 1 63 := ⟨by decide +kernel, rfl⟩
theorem dX0_free_63 : Dc cX0_free 63 (.imul) 1 64 := ⟨by decide +kernel, rfl⟩
theorem dX0_free_64 : Dc cX0_free 64 (.iload_n 3) 1 65 := ⟨by decide +kernel, rfl⟩
theorem dX0_free_65 : Dc cX0_free 65 (.iadd) 1 66 := ⟨by decide +kernel, rfl⟩
theorem dX0_free_66 : Dc cX0_free 66 (.iaload) 1 67 := ⟨by decide +kernel, rfl⟩
theorem dX0_free_67 : Dc cX0_free 67 (.iadd) 1 68 := ⟨by decide +kernel, rfl⟩
theorem dX0_free_68 : Dc cX0_free 68 (.iastore) 1 69 := ⟨by decide +kernel, rfl⟩
theorem dX0_free_69 : Dc cX0_free 69 (.aload_n 0) 1 70 := ⟨by decide +kernel, rfl⟩
theorem dX0_free_70 : Dc cX0_free 70 (.getfield 7) 3 73 := ⟨by decide +kernel, rfl⟩
theorem dX0_free_73 : Dc cX0_free 73 (.bipush 16) 2 75 := ⟨by decide +kernel, rfl⟩
theorem dX0_free_75 : Dc cX0_free 75 (.iload_n 1) 1 76 := ⟨by decide +kernel, rfl⟩
theorem dX0_free_76 : Dc cX0_free 76 (.imul) 1 77 := ⟨by decide +kernel, rfl⟩
theorem dX0_free_77 : Dc cX0_free 77 (.iconst 4) 1 78 := ⟨by decide +kernel, rfl⟩
theorem dX0_free_78 : Dc cX0_free 78 (.iload_n 3) 1 79 := ⟨by decide +kernel, rfl⟩
theorem dX0_free_79 : Dc cX0_free 79 (.imul) 1 80 := ⟨by decide +kernel, rfl⟩
theorem dX0_free_80 : Dc cX0_free 80 (.iadd) 1 81 := ⟨by decide +kernel, rfl⟩
theorem dX0_free_81 : Dc cX0_free 81 (.iload_n 2) 1 82 := ⟨by decide +kernel, rfl⟩
theorem dX0_free_82 : Dc cX0_free 82 (.iadd) 1 83 := ⟨by decide +kernel, rfl⟩
theorem dX0_free_83 : Dc cX0_free 83 (.aload_n 0) 1 84 := ⟨by decide +kernel, rfl⟩
theorem dX0_free_84 : Dc cX0_free 84 (.getfield 7) 3 87 := ⟨by decide +kernel, rfl⟩
theorem dX0_free_87 : Dc cX0_free 87 (.bipush 16) 2 89 := ⟨by decide +kernel, rfl⟩
theorem dX0_free_89 : Dc cX0_free 89 (.iload_n 1) 1 90 := ⟨by decide +kernel, rfl⟩
theorem dX0_free_90 : Dc cX0_free 90 (.imul) 1 91 := ⟨by decide +kernel, rfl⟩
theorem dX0_free_91 : Dc cX0_free 91 (.iconst 4) 1 92 := ⟨by decide +kernel, rfl⟩
theorem dX0_free_92 : Dc cX0_free 92 (.iload_n 3) 1 93 := ⟨by decide +kernel, rfl⟩
theorem dX0_free_93 : Dc cX0_free 93 (.imul) 1 94 := ⟨by decide +kernel, rfl⟩
theorem dX0_free_94 : Dc cX0_free 94 (.iadd) 1 95 := ⟨by decide +kernel, rfl⟩
theorem dX0_free_95 : Dc cX0_free 95 (.iaload) 1 96 := ⟨by decide +kernel, rfl⟩
theorem dX0_free_96 : Dc cX0_free 96 (.iastore) 1 97 := ⟨by decide +kernel, rfl⟩
theorem dX0_free_97 : Dc cX0_free 97 (.iinc 3 1) 3 100 := ⟨by decide +kernel, rfl⟩
theorem dX0_free_100 : Db cX0_free 100 (.goto (-79)) (-79) 103 21 := ⟨by decide +kernel, rfl, rfl⟩
theorem dX0_free_103 : Dc cX0_free 103 (.aload_n 0) 1 104 := ⟨by decide +kernel, rfl⟩
theorem dX0_free_104 : Dc cX0_free 104 (.iload_n 1) 1 105 := ⟨by decide +kernel, rfl⟩
theorem dX0_free_105 : Dc cX0_free 105 (.invokevirtual 40) 3 108 := ⟨by decide +kernel, rfl⟩
theorem dX0_free_108 : Dc cX0_free 108 (.ireturn) 1 109 := ⟨by decide +kernel, rfl⟩
theorem dX0_follow_0 : Dc cX0_follow 0 (.iload_n 1) 1 1 := ⟨by decide +kernel, rfl⟩
theorem dX0_follow_1 : Dc cX0_follow 1 (.invokestatic 24) 3 4 := ⟨by decide +kernel, rfl⟩
theorem dX0_follow_4 : Db cX0_follow 4 (.ifCond .ne 5) (5) 7 9 := ⟨by decide +kernel, rfl, rfl⟩
theorem dX0_follow_7 : Dc cX0_follow 7 (.iconst (-1)) 1 8 := ⟨by decide +kernel, rfl⟩
theorem dX0_follow_8 : Dc cX0_follow 8 (.ireturn) 1 9 := ⟨by decide +kernel, rfl⟩
theorem dX0_follow_9 : Dc cX0_follow 9 (.iload_n 2) 1 10 := ⟨by decide +kernel, rfl⟩
theorem dX0_follow_10 : Dc cX0_follow 10 (.invokestatic 47) 3 13 := ⟨by decide +kernel, rfl⟩
theorem dX0_follow_13 : Db cX0_follow 13 (.ifCond .eq 10) (10) 16 23 := ⟨by decide +kernel, rfl, rfl⟩
theorem dX0_follow_16 : Dc cX0_follow 16 (.iload_n 3) 1 17 := ⟨by decide +kernel, rfl⟩
theorem dX0_follow_17 : Dc cX0_follow 17 (.invokestatic 47) 3 20 := ⟨by decide +kernel, rfl⟩
theorem dX0_follow_20 : Db cX0_follow 20 (.ifCond .ne 6) (6) 23 26 := ⟨by decide +kernel, rfl, rfl⟩
theorem dX0_follow_23 : Dc cX0_follow 23 (.bipush (-2)) 2 25 := ⟨by decide +kernel, rfl⟩
theorem dX0_follow_25 : Dc cX0_follow 25 (.ireturn) 1 26 := ⟨by decide +kernel, rfl⟩
theorem dX0_follow_26 : Dc cX0_follow 26 (.iload_n 2) 1 27 := ⟨by decide +kernel, rfl⟩
theorem dX0_follow_27 : Dc cX0_follow 27 (.iload_n 3) 1 28 := ⟨by decide +kernel, rfl⟩
theorem dX0_follow_28 : Db cX0_follow 28 (.if_icmp .eq 97) (97) 31 125 := ⟨by decide +kernel, rfl, rfl⟩
theorem dX0_follow_31 : Dc cX0_follow 31 (.aload_n 0) 1 32 := ⟨by decide +kernel, rfl⟩
theorem dX0_follow_32 : Dc cX0_follow 32 (.getfield 13) 3 35 := ⟨by decide +kernel, rfl⟩
theorem dX0_follow_35 : Dc cX0_follow 35 (.iload_n 1) 1 36 := ⟨by decide +kernel, rfl⟩
theorem dX0_follow_36 : Dc cX0_follow 36 (.baload) 1 37 := ⟨by decide +kernel, rfl⟩
theorem dX0_follow_37 : Db cX0_follow 37 (.ifCond .ne 88) (88) 40 125 := ⟨by decide +kernel, rfl, rfl⟩
theorem dX0_follow_40 : Dc cX0_follow 40 (.iconst 0) 1 41 := ⟨by decide +kernel, rfl⟩
theorem dX0_follow_41 : Dc cX0_follow 41 (.istore 4) 2 43 := ⟨by decide +kernel, rfl⟩
theorem dX0_follow_43 : Dc cX0_follow 43 (.iload 4) 2 45 := ⟨by decide +kernel, rfl⟩
theorem dX0_follow_45 : Dc cX0_follow 45 (.iconst 4) 1 46 := ⟨by decide +kernel, rfl⟩
theorem dX0_follow_46 : Db cX0_follow 46 (.if_icmp .ge 79) (79) 49 125 := ⟨by decide +kernel, rfl, rfl⟩
theorem dX0_follow_49 : Dc cX0_follow 49 (.iload 4) 2 51 := ⟨by decide +kernel, rfl⟩
theorem dX0_follow_51 : Dc cX0_follow 51 (.iload_n 2) 1 52 := ⟨by decide +kernel, rfl⟩
theorem dX0_follow_52 : Db cX0_follow 52 (.if_icmp .eq 67) (67) 55 119 := ⟨by decide +kernel, rfl, rfl⟩
theorem dX0_follow_55 : Dc cX0_follow 55 (.aload_n 0) 1 56 := ⟨by decide +kernel, rfl⟩
theorem dX0_follow_56 : Dc cX0_follow 56 (.getfield 7) 3 59 := ⟨by decide +kernel, rfl⟩
theorem dX0_follow_59 : Dc cX0_follow 59 (.bipush 16) 2 61 := ⟨by decide +kernel, rfl⟩
theorem dX0_follow_61 : Dc cX0_follow 61 (.iload_n 1) 1 62 := ⟨by decide +kernel, rfl⟩
theorem dX0_follow_62 : Dc cX0_follow 62 (.imul) 1 63 := ⟨by decide +kernel, rfl⟩
theorem dX0_follow_63 : Dc cX0_follow 63 (.iconst 4) 1 64 := ⟨by decide +kernel, rfl⟩
theorem dX0_follow_64 : Dc cX0_follow 64 (.iload_n 2) 1 65 := ⟨by decide +kernel, rfl⟩
theorem dX0_follow_65 : Dc cX0_follow 65 (.imul) 1 66 := ⟨by decide +kernel, rfl⟩
theorem dX0_follow_66 : Dc cX0_follow 66 (.iadd) 1 67 := ⟨by decide +kernel, rfl⟩
theorem dX0_follow_67 : Dc cX0_follow 67 (.iload 4) 2 69 := ⟨by decide +kernel, rfl⟩
theorem dX0_follow_69 : Dc cX0_follow 69 (.iadd) 1 70 := ⟨by decide +kernel, rfl⟩
theorem dX0_follow_70 : Dc cX0_follow 70 (.aload_n 0) 1 71 := ⟨by decide +kernel, rfl⟩
theorem dX0_follow_71 : Dc cX0_follow 71 (.getfield 7) 3 74 := ⟨by decide +kernel, rfl⟩
theorem dX0_follow_74 : Dc cX0_follow 74 (.bipush 16) 2 76 := ⟨by decide +kernel, rfl⟩
theorem dX0_follow_76 : Dc cX0_follow 76 (.iload_n 1) 1 77 := ⟨by decide +kernel, rfl⟩
theorem dX0_follow_77 : Dc cX0_follow 77 (.imul) 1 78 := ⟨by decide +kernel, rfl⟩
theorem dX0_follow_78 : Dc cX0_follow 78 (.iconst 4) 1 79 := ⟨by decide +kernel, rfl⟩
theorem dX0_follow_79 : Dc cX0_follow 79 (.iload_n 3) 1 80 := ⟨by decide +kernel, rfl⟩
theorem dX0_follow_80 : Dc cX0_follow 80 (.imul) 1 81 := ⟨by decide +kernel, rfl⟩
theorem dX0_follow_81 : Dc cX0_follow 81 (.iadd) 1 82 := ⟨by decide +kernel, rfl⟩
theorem dX0_follow_82 : Dc cX0_follow 82 (.iload 4) 2 84 := ⟨by decide +kernel, rfl⟩
theorem dX0_follow_84 : Dc cX0_follow 84 (.iadd) 1 85 := ⟨by decide +kernel, rfl⟩
theorem dX0_follow_85 : Dc cX0_follow 85 (.iaload) 1 86 := ⟨by decide +kernel, rfl⟩
theorem dX0_follow_86 : Dc cX0_follow 86 (.iastore) 1 87 := ⟨by decide +kernel, rfl⟩
theorem dX0_follow_87 : Dc cX0_follow 87 (.aload_n 0) 1 88 := ⟨by decide +kernel, rfl⟩
theorem dX0_follow_88 : Dc cX0_follow 88 (.getfield 7) 3 91 := ⟨by decide +kernel, rfl⟩
theorem dX0_follow_91 : Dc cX0_follow 91 (.bipush 16) 2 93 := ⟨by decide +kernel, rfl⟩
theorem dX0_follow_93 : Dc cX0_follow 93 (.iload_n 1) 1 94 := ⟨by decide +kernel, rfl⟩
theorem dX0_follow_94 : Dc cX0_follow 94 (.imul) 1 95 := ⟨by decide +kernel, rfl⟩
theorem dX0_follow_95 : Dc cX0_follow 95 (.iconst 4) 1 96 := ⟨by decide +kernel, rfl⟩
theorem dX0_follow_96 : Dc cX0_follow 96 (.iload 4) 2 98 := ⟨by decide +kernel, rfl⟩
theorem dX0_follow_98 : Dc cX0_follow 98 (.imul) 1 99 := ⟨by decide +kernel, rfl⟩
theorem dX0_follow_99 : Dc cX0_follow 99 (.iadd) 1 100 := ⟨by decide +kernel, rfl⟩
theorem dX0_follow_100 : Dc cX0_follow 100 (.iload_n 2) 1 101 := ⟨by decide +kernel, rfl⟩
theorem dX0_follow_101 : Dc cX0_follow 101 (.iadd) 1 102 := ⟨by decide +kernel, rfl⟩
theorem dX0_follow_102 : Dc cX0_follow 102 (.aload_n 0) 1 103 := ⟨by decide +kernel, rfl⟩
theorem dX0_follow_103 : Dc cX0_follow 103 (.getfield 7) 3 106 := ⟨by decide +kernel, rfl⟩
theorem dX0_follow_106 : Dc cX0_follow 106 (.bipush 16) 2 108 := ⟨by decide +kernel, rfl⟩
theorem dX0_follow_108 : Dc cX0_follow 108 (.iload_n 1) 1 109 := ⟨by decide +kernel, rfl⟩
theorem dX0_follow_109 : Dc cX0_follow 109 (.imul) 1 110 := ⟨by decide +kernel, rfl⟩
theorem dX0_follow_110 : Dc cX0_follow 110 (.iconst 4) 1 111 := ⟨by decide +kernel, rfl⟩
theorem dX0_follow_111 : Dc cX0_follow 111 (.iload 4) 2 113 := ⟨by decide +kernel, rfl⟩
theorem dX0_follow_113 : Dc cX0_follow 113 (.imul) 1 114 := ⟨by decide +kernel, rfl⟩
theorem dX0_follow_114 : Dc cX0_follow 114 (.iadd) 1 115 := ⟨by decide +kernel, rfl⟩
theorem dX0_follow_115 : Dc cX0_follow 115 (.iload_n 3) 1 116 := ⟨by decide +kernel, rfl⟩
theorem dX0_follow_116 : Dc cX0_follow 116 (.iadd) 1 117 := ⟨by decide +kernel, rfl⟩
theorem dX0_follow_117 : Dc cX0_follow 117 (.iaload) 1 118 := ⟨by decide +kernel, rfl⟩
theorem dX0_follow_118 : Dc cX0_follow 118 (.iastore) 1 119 := ⟨by decide +kernel, rfl⟩
theorem dX0_follow_119 : Dc cX0_follow 119 (.iinc 4 1) 3 122 := ⟨by decide +kernel, rfl⟩
theorem dX0_follow_122 : Db cX0_follow 122 (.goto (-79)) (-79) 125 43 := ⟨by decide +kernel, rfl, rfl⟩
theorem dX0_follow_125 : Dc cX0_follow 125 (.aload_n 0) 1 126 := ⟨by decide +kernel, rfl⟩
theorem dX0_follow_126 : Dc cX0_follow 126 (.iload_n 1) 1 127 := ⟨by decide +kernel, rfl⟩
theorem dX0_follow_127 : Dc cX0_follow 127 (.invokevirtual 40) 3 130 := ⟨by decide +kernel, rfl⟩
theorem dX0_follow_130 : Dc cX0_follow 130 (.ireturn) 1 131 := ⟨by decide +kernel, rfl⟩
theorem dX0_meet_0 : Dc cX0_meet 0 (.iload_n 1) 1 1 := ⟨by decide +kernel, rfl⟩
theorem dX0_meet_1 : Dc cX0_meet 1 (.invokestatic 24) 3 4 := ⟨by decide +kernel, rfl⟩
theorem dX0_meet_4 : Db cX0_meet 4 (.ifCond .eq 10) (10) 7 14 := ⟨by decide +kernel, rfl, rfl⟩
theorem dX0_meet_7 : Dc cX0_meet 7 (.iload_n 2) 1 8 := ⟨by decide +kernel, rfl⟩
theorem dX0_meet_8 : Dc cX0_meet 8 (.invokestatic 24) 3 11 := ⟨by decide +kernel, rfl⟩
theorem dX0_meet_11 : Db cX0_meet 11 (.ifCond .ne 5) (5) 14 16 := ⟨by decide +kernel, rfl, rfl⟩
theorem dX0_meet_14 : Dc cX0_meet 14 (.iconst (-1)) 1 15 := ⟨by decide +kernel, rfl⟩
theorem dX0_meet_15 : Dc cX0_meet 15 (.ireturn) 1 16 := ⟨by decide +kernel, rfl⟩
theorem dX0_meet_16 : Dc cX0_meet 16 (.aload_n 0) 1 17 := ⟨by decide +kernel, rfl⟩
theorem dX0_meet_17 : Dc cX0_meet 17 (.getfield 13) 3 20 := ⟨by decide +kernel, rfl⟩
theorem dX0_meet_20 : Dc cX0_meet 20 (.iload_n 1) 1 21 := ⟨by decide +kernel, rfl⟩
theorem dX0_meet_21 : Dc cX0_meet 21 (.aload_n 0) 1 22 := ⟨by decide +kernel, rfl⟩
theorem dX0_meet_22 : Dc cX0_meet 22 (.getfield 13) 3 25 := ⟨by decide +kernel, rfl⟩
theorem dX0_meet_25 : Dc cX0_meet 25 (.iload_n 1) 1 26 := ⟨by decide +kernel, rfl⟩
theorem dX0_meet_26 : Dc cX0_meet 26 (.baload) 1 27 := ⟨by decide +kernel, rfl⟩
theorem dX0_meet_27 : Db cX0_meet 27 (.ifCond .ne 12) (12) 30 39 := ⟨by decide +kernel, rfl, rfl⟩
theorem dX0_meet_30 : Dc cX0_meet 30 (.aload_n 0) 1 31 := ⟨by decide +kernel, rfl⟩
theorem dX0_meet_31 : Dc cX0_meet 31 (.getfield 13) 3 34 := ⟨by decide +kernel, rfl⟩
theorem dX0_meet_34 : Dc cX0_meet 34 (.iload_n 2) 1 35 := ⟨by decide +kernel, rfl⟩
theorem dX0_meet_35 : Dc cX0_meet 35 (.baload) 1 36 := ⟨by decide +kernel, rfl⟩
theorem dX0_meet_36 : Db cX0_meet 36 (.ifCond .eq 7) (7) 39 43 := ⟨by decide +kernel, rfl, rfl⟩
theorem dX0_meet_39 : Dc cX0_meet 39 (.iconst 1) 1 40 := ⟨by decide +kernel, rfl⟩
theorem dX0_meet_40 : Db cX0_meet 40 (.goto 4) (4) 43 44 := ⟨by decide +kernel, rfl, rfl⟩
theorem dX0_meet_43 : Dc cX0_meet 43 (.iconst 0) 1 44 := ⟨by decide +kernel, rfl⟩
theorem dX0_meet_44 : Dc cX0_meet 44 (.bastore) 1 45 := ⟨by decide +kernel, rfl⟩
theorem dX0_meet_45 : Dc cX0_meet 45 (.aload_n 0) 1 46 := ⟨by decide +kernel, rfl⟩
theorem dX0_meet_46 : Dc cX0_meet 46 (.getfield 13) 3 49 := ⟨by decide +kernel, rfl⟩
theorem dX0_meet_49 : Dc cX0_meet 49 (.iload_n 1) 1 50 := ⟨by decide +kernel, rfl⟩
theorem dX0_meet_50 : Dc cX0_meet 50 (.baload) 1 51 := ⟨by decide +kernel, rfl⟩
theorem dX0_meet_51 : Db cX0_meet 51 (.ifCond .ne 78) (78) 54 129 := ⟨by decide +kernel, rfl, rfl⟩
theorem dX0_meet_54 : Dc cX0_meet 54 (.iconst 0) 1 55 := ⟨by decide +kernel, rfl⟩
theorem dX0_meet_55 : Dc cX0_meet 55 (.istore_n 3) 1 56 := ⟨by decide +kernel, rfl⟩
theorem dX0_meet_56 : Dc cX0_meet 56 (.iload_n 3) 1 57 := ⟨by decide +kernel, rfl⟩
theorem dX0_meet_57 : Dc cX0_meet 57 (.bipush 16) 2 59 := ⟨by decide +kernel, rfl⟩
theorem dX0_meet_59 : Db cX0_meet 59 (.if_icmp .ge 65) (65) 62 124 := ⟨by decide +kernel, rfl, rfl⟩
theorem dX0_meet_62 : Dc cX0_meet 62 (.aload_n 0) 1 63 := ⟨by decide +kernel, rfl⟩
theorem dX0_meet_63 : Dc cX0_meet 63 (.getfield 7) 3 66 := ⟨by decide +kernel, rfl⟩
theorem dX0_meet_66 : Dc cX0_meet 66 (.bipush 16) 2 68 := ⟨by decide +kernel, rfl⟩
theorem dX0_meet_68 : Dc cX0_meet 68 (.iload_n 2) 1 69 := ⟨by decide +kernel, rfl⟩
theorem dX0_meet_69 : Dc cX0_meet 69 (.imul) 1 70 := ⟨by decide +kernel, rfl⟩
theorem dX0_meet_70 : Dc cX0_meet 70 (.iload_n 3) 1 71 := ⟨by decide +kernel, rfl⟩
theorem dX0_meet_71 : Dc cX0_meet 71 (.iadd) 1 72 := ⟨by decide +kernel, rfl⟩
theorem dX0_meet_72 : Dc cX0_meet 72 (.iaload) 1 73 := ⟨by decide +kernel, rfl⟩
theorem dX0_meet_73 : Dc cX0_meet 73 (.istore 4) 2 75 := ⟨by decide +kernel, rfl⟩
theorem dX0_meet_75 : Dc cX0_meet 75 (.aload_n 0) 1 76 := ⟨by decide +kernel, rfl⟩
theorem dX0_meet_76 : Dc cX0_meet 76 (.getfield 7) 3 79 := ⟨by decide +kernel, rfl⟩
theorem dX0_meet_79 : Dc cX0_meet 79 (.bipush 16) 2 81 := ⟨by decide +kernel, rfl⟩
theorem dX0_meet_81 : Dc cX0_meet 81 (.iload_n 1) 1 82 := ⟨by decide +kernel, rfl⟩
theorem dX0_meet_82 : Dc cX0_meet 82 (.imul) 1 83 := ⟨by decide +kernel, rfl⟩
theorem dX0_meet_83 : Dc cX0_meet 83 (.iload_n 3) 1 84 := ⟨by decide +kernel, rfl⟩
theorem dX0_meet_84 : Dc cX0_meet 84 (.iadd) 1 85 := ⟨by decide +kernel, rfl⟩
theorem dX0_meet_85 : Dc cX0_meet 85 (.iload 4) 2 87 := ⟨by decide +kernel, rfl⟩
theorem dX0_meet_87 : Dc cX0_meet 87 (.aload_n 0) 1 88 := ⟨by decide +kernel, rfl⟩
theorem dX0_meet_88 : Dc cX0_meet 88 (.getfield 7) 3 91 := ⟨by decide +kernel, rfl⟩
theorem dX0_meet_91 : Dc cX0_meet 91 (.bipush 16) 2 93 := ⟨by decide +kernel, rfl⟩
theorem dX0_meet_93 : Dc cX0_meet 93 (.iload_n 1) 1 94 := ⟨by decide +kernel, rfl⟩
theorem dX0_meet_94 : Dc cX0_meet 94 (.imul) 1 95 := ⟨by decide +kernel, rfl⟩
theorem dX0_meet_95 : Dc cX0_meet 95 (.iload_n 3) 1 96 := ⟨by decide +kernel, rfl⟩
theorem dX0_meet_96 : Dc cX0_meet 96 (.iadd) 1 97 := ⟨by decide +kernel, rfl⟩
theorem dX0_meet_97 : Dc cX0_meet 97 (.iaload) 1 98 := ⟨by decide +kernel, rfl⟩
theorem dX0_meet_98 : Db cX0_meet 98 (.if_icmp .ge 8) (8) 101 106 := ⟨by decide +kernel, rfl, rfl⟩
theorem dX0_meet_101 : Dc cX0_meet 101 (.iload 4) 2 103 := ⟨by decide +kernel, rfl⟩
theorem dX0_meet_103 : Db cX0_meet 103 (.goto 14) (14) 106 117 := ⟨by decide +kernel, rfl, rfl⟩
theorem dX0_meet_106 : Dc cX0_meet 106 (.aload_n 0) 1 107 := ⟨by decide +kernel, rfl⟩
theorem dX0_meet_107 : Dc cX0_meet 107 (.getfield 7) 3 110 := ⟨by decide +kernel, rfl⟩
theorem dX0_meet_110 : Dc cX0_meet 110 (.bipush 16) 2 112 := ⟨by decide +kernel, rfl⟩
theorem dX0_meet_112 : Dc cX0_meet 112 (.iload_n 1) 1 113 := ⟨by decide +kernel, rfl⟩
theorem dX0_meet_113 : Dc cX0_meet 113 (.imul) 1 114 := ⟨by decide +kernel, rfl⟩
theorem dX0_meet_114 : Dc cX0_meet 114 (.iload_n 3) 1 115 := ⟨by decide +kernel, rfl⟩
theorem dX0_meet_115 : Dc cX0_meet 115 (.iadd) 1 116 := ⟨by decide +kernel, rfl⟩
theorem dX0_meet_116 : Dc cX0_meet 116 (.iaload) 1 117 := ⟨by decide +kernel, rfl⟩
theorem dX0_meet_117 : Dc cX0_meet 117 (.iastore) 1 118 := ⟨by decide +kernel, rfl⟩
theorem dX0_meet_118 : Dc cX0_meet 118 (.iinc 3 1) 3 121 := ⟨by decide +kernel, rfl⟩
theorem dX0_meet_121 : Db cX0_meet 121 (.goto (-65)) (-65) 124 56 := ⟨by decide +kernel, rfl, rfl⟩
theorem dX0_meet_124 : Dc cX0_meet 124 (.aload_n 0) 1 125 := ⟨by decide +kernel, rfl⟩
theorem dX0_meet_125 : Dc cX0_meet 125 (.iload_n 1) 1 126 := ⟨by decide +kernel, rfl⟩
theorem dX0_meet_126 : Dc cX0_meet 126 (.invokevirtual 43) 3 129 := ⟨by decide +kernel, rfl⟩
theorem dX0_meet_129 : Dc cX0_meet 129 (.aload_n 0) 1 130 := ⟨by decide +kernel, rfl⟩
theorem dX0_meet_130 : Dc cX0_meet 130 (.iload_n 1) 1 131 := ⟨by decide +kernel, rfl⟩
theorem dX0_meet_131 : Dc cX0_meet 131 (.invokevirtual 40) 3 134 := ⟨by decide +kernel, rfl⟩
theorem dX0_meet_134 : Dc cX0_meet 134 (.ireturn) 1 135 := ⟨by decide +kernel, rfl⟩
theorem dX0_hull_0 : Dc cX0_hull 0 (.iload_n 1) 1 1 := ⟨by decide +kernel, rfl⟩
theorem dX0_hull_1 : Dc cX0_hull 1 (.invokestatic 24) 3 4 := ⟨by decide +kernel, rfl⟩
theorem dX0_hull_4 : Db cX0_hull 4 (.ifCond .eq 10) (10) 7 14 := ⟨by decide +kernel, rfl, rfl⟩
theorem dX0_hull_7 : Dc cX0_hull 7 (.iload_n 2) 1 8 := ⟨by decide +kernel, rfl⟩
theorem dX0_hull_8 : Dc cX0_hull 8 (.invokestatic 24) 3 11 := ⟨by decide +kernel, rfl⟩
theorem dX0_hull_11 : Db cX0_hull 11 (.ifCond .ne 5) (5) 14 16 := ⟨by decide +kernel, rfl, rfl⟩
theorem dX0_hull_14 : Dc cX0_hull 14 (.iconst (-1)) 1 15 := ⟨by decide +kernel, rfl⟩
theorem dX0_hull_15 : Dc cX0_hull 15 (.ireturn) 1 16 := ⟨by decide +kernel, rfl⟩
theorem dX0_hull_16 : Dc cX0_hull 16 (.aload_n 0) 1 17 := ⟨by decide +kernel, rfl⟩
theorem dX0_hull_17 : Dc cX0_hull 17 (.getfield 13) 3 20 := ⟨by decide +kernel, rfl⟩
theorem dX0_hull_20 : Dc cX0_hull 20 (.iload_n 1) 1 21 := ⟨by decide +kernel, rfl⟩
theorem dX0_hull_21 : Dc cX0_hull 21 (.baload) 1 22 := ⟨by decide +kernel, rfl⟩
theorem dX0_hull_22 : Db cX0_hull 22 (.ifCond .eq 13) (13) 25 35 := ⟨by decide +kernel, rfl, rfl⟩
theorem dX0_hull_25 : Dc cX0_hull 25 (.aload_n 0) 1 26 := ⟨by decide +kernel, rfl⟩
theorem dX0_hull_26 : Dc cX0_hull 26 (.iload_n 1) 1 27 := ⟨by decide +kernel, rfl⟩
theorem dX0_hull_27 : Dc cX0_hull 27 (.iload_n 2) 1 28 := ⟨by decide +kernel, rfl⟩
theorem dX0_hull_28 : Dc cX0_hull 28 (.invokevirtual 50) 3 31 := ⟨by decide +kernel, rfl⟩
theorem dX0_hull_31 : Dc cX0_hull 31 (.pop) 1 32 := ⟨by decide +kernel, rfl⟩
theorem dX0_hull_32 : Db cX0_hull 32 (.goto 82) (82) 35 114 := ⟨by decide +kernel, rfl, rfl⟩
theorem dX0_hull_35 : Dc cX0_hull 35 (.aload_n 0) 1 36 := ⟨by decide +kernel, rfl⟩
theorem dX0_hull_36 : Dc cX0_hull 36 (.getfield 13) 3 39 := ⟨by decide +kernel, rfl⟩
theorem dX0_hull_39 : Dc cX0_hull 39 (.iload_n 2) 1 40 := ⟨by decide +kernel, rfl⟩
theorem dX0_hull_40 : Dc cX0_hull 40 (.baload) 1 41 := ⟨by decide +kernel, rfl⟩
theorem dX0_hull_41 : Db cX0_hull 41 (.ifCond .ne 73) (73) 44 114 := ⟨by decide +kernel, rfl, rfl⟩
theorem dX0_hull_44 : Dc cX0_hull 44 (.iconst 0) 1 45 := ⟨by decide +kernel, rfl⟩
theorem dX0_hull_45 : Dc cX0_hull 45 (.istore_n 3) 1 46 := ⟨by decide +kernel, rfl⟩
theorem dX0_hull_46 : Dc cX0_hull 46 (.iload_n 3) 1 47 := ⟨by decide +kernel, rfl⟩
theorem dX0_hull_47 : Dc cX0_hull 47 (.bipush 16) 2 49 := ⟨by decide +kernel, rfl⟩
theorem dX0_hull_49 : Db cX0_hull 49 (.if_icmp .ge 65) (65) 52 114 := ⟨by decide +kernel, rfl, rfl⟩
theorem dX0_hull_52 : Dc cX0_hull 52 (.aload_n 0) 1 53 := ⟨by decide +kernel, rfl⟩
theorem dX0_hull_53 : Dc cX0_hull 53 (.getfield 7) 3 56 := ⟨by decide +kernel, rfl⟩
theorem dX0_hull_56 : Dc cX0_hull 56 (.bipush 16) 2 58 := ⟨by decide +kernel, rfl⟩
theorem dX0_hull_58 : Dc cX0_hull 58 (.iload_n 2) 1 59 := ⟨by decide +kernel, rfl⟩
theorem dX0_hull_59 : Dc cX0_hull 59 (.imul) 1 60 := ⟨by decide +kernel, rfl⟩
theorem dX0_hull_60 : Dc cX0_hull 60 (.iload_n 3) 1 61 := ⟨by decide +kernel, rfl⟩
theorem dX0_hull_61 : Dc cX0_hull 61 (.iadd) 1 62 := ⟨by decide +kernel, rfl⟩
theorem dX0_hull_62 : Dc cX0_hull 62 (.iaload) 1 63 := ⟨by decide +kernel, rfl⟩
theorem dX0_hull_63 : Dc cX0_hull 63 (.istore 4) 2 65 := ⟨by decide +kernel, rfl⟩
theorem dX0_hull_65 : Dc cX0_hull 65 (.aload_n 0) 1 66 := ⟨by decide +kernel, rfl⟩
theorem dX0_hull_66 : Dc cX0_hull 66 (.getfield 7) 3 69 := ⟨by decide +kernel, rfl⟩
theorem dX0_hull_69 : Dc cX0_hull 69 (.bipush 16) 2 71 := ⟨by decide +kernel, rfl⟩
theorem dX0_hull_71 : Dc cX0_hull 71 (.iload_n 1) 1 72 := ⟨by decide +kernel, rfl⟩
theorem dX0_hull_72 : Dc cX0_hull 72 (.imul) 1 73 := ⟨by decide +kernel, rfl⟩
theorem dX0_hull_73 : Dc cX0_hull 73 (.iload_n 3) 1 74 := ⟨by decide +kernel, rfl⟩
theorem dX0_hull_74 : Dc cX0_hull 74 (.iadd) 1 75 := ⟨by decide +kernel, rfl⟩
theorem dX0_hull_75 : Dc cX0_hull 75 (.iload 4) 2 77 := ⟨by decide +kernel, rfl⟩
theorem dX0_hull_77 : Dc cX0_hull 77 (.aload_n 0) 1 78 := ⟨by decide +kernel, rfl⟩
theorem dX0_hull_78 : Dc cX0_hull 78 (.getfield 7) 3 81 := ⟨by decide +kernel, rfl⟩
theorem dX0_hull_81 : Dc cX0_hull 81 (.bipush 16) 2 83 := ⟨by decide +kernel, rfl⟩
theorem dX0_hull_83 : Dc cX0_hull 83 (.iload_n 1) 1 84 := ⟨by decide +kernel, rfl⟩
theorem dX0_hull_84 : Dc cX0_hull 84 (.imul) 1 85 := ⟨by decide +kernel, rfl⟩
theorem dX0_hull_85 : Dc cX0_hull 85 (.iload_n 3) 1 86 := ⟨by decide +kernel, rfl⟩
theorem dX0_hull_86 : Dc cX0_hull 86 (.iadd) 1 87 := ⟨by decide +kernel, rfl⟩
theorem dX0_hull_87 : Dc cX0_hull 87 (.iaload) 1 88 := ⟨by decide +kernel, rfl⟩
theorem dX0_hull_88 : Db cX0_hull 88 (.if_icmp .le 8) (8) 91 96 := ⟨by decide +kernel, rfl, rfl⟩
theorem dX0_hull_91 : Dc cX0_hull 91 (.iload 4) 2 93 := ⟨by decide +kernel, rfl⟩
theorem dX0_hull_93 : Db cX0_hull 93 (.goto 14) (14) 96 107 := ⟨by decide +kernel, rfl, rfl⟩
theorem dX0_hull_96 : Dc cX0_hull 96 (.aload_n 0) 1 97 := ⟨by decide +kernel, rfl⟩
theorem dX0_hull_97 : Dc cX0_hull 97 (.getfield 7) 3 100 := ⟨by decide +kernel, rfl⟩
theorem dX0_hull_100 : Dc cX0_hull 100 (.bipush 16) 2 102 := ⟨by decide +kernel, rfl⟩
theorem dX0_hull_102 : Dc cX0_hull 102 (.iload_n 1) 1 103 := ⟨by decide +kernel, rfl⟩
theorem dX0_hull_103 : Dc cX0_hull 103 (.imul) 1 104 := ⟨by decide +kernel, rfl⟩
theorem dX0_hull_104 : Dc cX0_hull 104 (.iload_n 3) 1 105 := ⟨by decide +kernel, rfl⟩
theorem dX0_hull_105 : Dc cX0_hull 105 (.iadd) 1 106 := ⟨by decide +kernel, rfl⟩
theorem dX0_hull_106 : Dc cX0_hull 106 (.iaload) 1 107 := ⟨by decide +kernel, rfl⟩
theorem dX0_hull_107 : Dc cX0_hull 107 (.iastore) 1 108 := ⟨by decide +kernel, rfl⟩
theorem dX0_hull_108 : Dc cX0_hull 108 (.iinc 3 1) 3 111 := ⟨by decide +kernel, rfl⟩
theorem dX0_hull_111 : Db cX0_hull 111 (.goto (-65)) (-65) 114 46 := ⟨by decide +kernel, rfl, rfl⟩
theorem dX0_hull_114 : Dc cX0_hull 114 (.aload_n 0) 1 115 := ⟨by decide +kernel, rfl⟩
theorem dX0_hull_115 : Dc cX0_hull 115 (.iload_n 1) 1 116 := ⟨by decide +kernel, rfl⟩
theorem dX0_hull_116 : Dc cX0_hull 116 (.invokevirtual 40) 3 119 := ⟨by decide +kernel, rfl⟩
theorem dX0_hull_119 : Dc cX0_hull 119 (.ireturn) 1 120 := ⟨by decide +kernel, rfl⟩
theorem dX0_copy_0 : Dc cX0_copy 0 (.iload_n 1) 1 1 := ⟨by decide +kernel, rfl⟩
theorem dX0_copy_1 : Dc cX0_copy 1 (.invokestatic 24) 3 4 := ⟨by decide +kernel, rfl⟩
theorem dX0_copy_4 : Db cX0_copy 4 (.ifCond .eq 10) (10) 7 14 := ⟨by decide +kernel, rfl, rfl⟩
theorem dX0_copy_7 : Dc cX0_copy 7 (.iload_n 2) 1 8 := ⟨by decide +kernel, rfl⟩
theorem dX0_copy_8 : Dc cX0_copy 8 (.invokestatic 24) 3 11 := ⟨by decide +kernel, rfl⟩
theorem dX0_copy_11 : Db cX0_copy 11 (.ifCond .ne 5) (5) 14 16 := ⟨by decide +kernel, rfl, rfl⟩
theorem dX0_copy_14 : Dc cX0_copy 14 (.iconst (-1)) 1 15 := ⟨by decide +kernel, rfl⟩
theorem dX0_copy_15 : Dc cX0_copy 15 (.ireturn) 1 16 := ⟨by decide +kernel, rfl⟩
theorem dX0_copy_16 : Dc cX0_copy 16 (.aload_n 0) 1 17 := ⟨by decide +kernel, rfl⟩
theorem dX0_copy_17 : Dc cX0_copy 17 (.getfield 13) 3 20 := ⟨by decide +kernel, rfl⟩
theorem dX0_copy_20 : Dc cX0_copy 20 (.iload_n 1) 1 21 := ⟨by decide +kernel, rfl⟩
theorem dX0_copy_21 : Dc cX0_copy 21 (.aload_n 0) 1 22 := ⟨by decide +kernel, rfl⟩
theorem dX0_copy_22 : Dc cX0_copy 22 (.getfield 13) 3 25 := ⟨by decide +kernel, rfl⟩
theorem dX0_copy_25 : Dc cX0_copy 25 (.iload_n 2) 1 26 := ⟨by decide +kernel, rfl⟩
theorem dX0_copy_26 : Dc cX0_copy 26 (.baload) 1 27 := ⟨by decide +kernel, rfl⟩
theorem dX0_copy_27 : Dc cX0_copy 27 (.bastore) 1 28 := ⟨by decide +kernel, rfl⟩
theorem dX0_copy_28 : Dc cX0_copy 28 (.iconst 0) 1 29 := ⟨by decide +kernel, rfl⟩
theorem dX0_copy_29 : Dc cX0_copy 29 (.istore_n 3) 1 30 := ⟨by decide +kernel, rfl⟩
theorem dX0_copy_30 : Dc cX0_copy 30 (.iload_n 3) 1 31 := ⟨by decide +kernel, rfl⟩
theorem dX0_copy_31 : Dc cX0_copy 31 (.bipush 16) 2 33 := ⟨by decide +kernel, rfl⟩
theorem dX0_copy_33 : Db cX0_copy 33 (.if_icmp .ge 31) (31) 36 64 := ⟨by decide +kernel, rfl, rfl⟩
theorem dX0_copy_36 : Dc cX0_copy 36 (.aload_n 0) 1 37 := ⟨by decide +kernel, rfl⟩
theorem dX0_copy_37 : Dc cX0_copy 37 (.getfield 7) 3 40 := ⟨by decide +kernel, rfl⟩
theorem dX0_copy_40 : Dc cX0_copy 40 (.bipush 16) 2 42 := ⟨by decide +kernel, rfl⟩
theorem dX0_copy_42 : Dc cX0_copy 42 (.iload_n 1) 1 43 := ⟨by decide +kernel, rfl⟩
theorem dX0_copy_43 : Dc cX0_copy 43 (.imul) 1 44 := ⟨by decide +kernel, rfl⟩
theorem dX0_copy_44 : Dc cX0_copy 44 (.iload_n 3) 1 45 := ⟨by decide +kernel, rfl⟩
theorem dX0_copy_45 : Dc cX0_copy 45 (.iadd) 1 46 := ⟨by decide +kernel, rfl⟩
theorem dX0_copy_46 : Dc cX0_copy 46 (.aload_n 0) 1 47 := ⟨by decide +kernel, rfl⟩
theorem dX0_copy_47 : Dc cX0_copy 47 (.getfield 7) 3 50 := ⟨by decide +kernel, rfl⟩
theorem dX0_copy_50 : Dc cX0_copy 50 (.bipush 16) 2 52 := ⟨by decide +kernel, rfl⟩
theorem dX0_copy_52 : Dc cX0_copy 52 (.iload_n 2) 1 53 := ⟨by decide +kernel, rfl⟩
theorem dX0_copy_53 : Dc cX0_copy 53 (.imul) 1 54 := ⟨by decide +kernel, rfl⟩
theorem dX0_copy_54 : Dc cX0_copy 54 (.iload_n 3) 1 55 := ⟨by decide +kernel, rfl⟩
theorem dX0_copy_55 : Dc cX0_copy 55 (.iadd) 1 56 := ⟨by decide +kernel, rfl⟩
theorem dX0_copy_56 : Dc cX0_copy 56 (.iaload) 1 57 := ⟨by decide +kernel, rfl⟩
theorem dX0_copy_57 : Dc cX0_copy 57 (.iastore) 1 58 := ⟨by decide +kernel, rfl⟩
theorem dX0_copy_58 : Dc cX0_copy 58 (.iinc 3 1) 3 61 := ⟨by decide +kernel, rfl⟩
theorem dX0_copy_61 : Db cX0_copy 61 (.goto (-31)) (-31) 64 30 := ⟨by decide +kernel, rfl, rfl⟩
theorem dX0_copy_64 : Dc cX0_copy 64 (.iconst 0) 1 65 := ⟨by decide +kernel, rfl⟩
theorem dX0_copy_65 : Dc cX0_copy 65 (.ireturn) 1 66 := ⟨by decide +kernel, rfl⟩
theorem dX0_empty_0 : Dc cX0_empty 0 (.iload_n 1) 1 1 := ⟨by decide +kernel, rfl⟩
theorem dX0_empty_1 : Dc cX0_empty 1 (.invokestatic 24) 3 4 := ⟨by decide +kernel, rfl⟩
theorem dX0_empty_4 : Db cX0_empty 4 (.ifCond .ne 5) (5) 7 9 := ⟨by decide +kernel, rfl, rfl⟩
theorem dX0_empty_7 : Dc cX0_empty 7 (.iconst (-1)) 1 8 := ⟨by decide +kernel, rfl⟩
theorem dX0_empty_8 : Dc cX0_empty 8 (.ireturn) 1 9 := ⟨by decide +kernel, rfl⟩
theorem dX0_empty_9 : Dc cX0_empty 9 (.aload_n 0) 1 10 := ⟨by decide +kernel, rfl⟩
theorem dX0_empty_10 : Dc cX0_empty 10 (.getfield 13) 3 13 := ⟨by decide +kernel, rfl⟩
theorem dX0_empty_13 : Dc cX0_empty 13 (.iload_n 1) 1 14 := ⟨by decide +kernel, rfl⟩
theorem dX0_empty_14 : Dc cX0_empty 14 (.baload) 1 15 := ⟨by decide +kernel, rfl⟩
theorem dX0_empty_15 : Db cX0_empty 15 (.ifCond .eq 7) (7) 18 22 := ⟨by decide +kernel, rfl, rfl⟩
theorem dX0_empty_18 : Dc cX0_empty 18 (.iconst 1) 1 19 := ⟨by decide +kernel, rfl⟩
theorem dX0_empty_19 : Db cX0_empty 19 (.goto 4) (4) 22 23 := ⟨by decide +kernel, rfl, rfl⟩
theorem dX0_empty_22 : Dc cX0_empty 22 (.iconst 0) 1 23 := ⟨by decide +kernel, rfl⟩
theorem dX0_empty_23 : Dc cX0_empty 23 (.ireturn) 1 24 := ⟨by decide +kernel, rfl⟩
theorem dX0_widest_0 : Dc cX0_widest 0 (.iload_n 1) 1 1 := ⟨by decide +kernel, rfl⟩
theorem dX0_widest_1 : Dc cX0_widest 1 (.invokestatic 24) 3 4 := ⟨by decide +kernel, rfl⟩
theorem dX0_widest_4 : Db cX0_widest 4 (.ifCond .ne 6) (6) 7 10 := ⟨by decide +kernel, rfl, rfl⟩
theorem dX0_widest_7 : Dc cX0_widest 7 (.bipush (-100)) 2 9 := ⟨by decide +kernel, rfl⟩
theorem dX0_widest_9 : Dc cX0_widest 9 (.ireturn) 1 10 := ⟨by decide +kernel, rfl⟩
theorem dX0_widest_10 : Dc cX0_widest 10 (.iload_n 2) 1 11 := ⟨by decide +kernel, rfl⟩
theorem dX0_widest_11 : Dc cX0_widest 11 (.iload_n 3) 1 12 := ⟨by decide +kernel, rfl⟩
theorem dX0_widest_12 : Dc cX0_widest 12 (.invokestatic 32) 3 15 := ⟨by decide +kernel, rfl⟩
theorem dX0_widest_15 : Db cX0_widest 15 (.ifCond .ne 7) (7) 18 22 := ⟨by decide +kernel, rfl, rfl⟩
theorem dX0_widest_18 : Dc cX0_widest 18 (.sipush (-200)) 3 21 := ⟨by decide +kernel, rfl⟩
theorem dX0_widest_21 : Dc cX0_widest 21 (.ireturn) 1 22 := ⟨by decide +kernel, rfl⟩
theorem dX0_widest_22 : Dc cX0_widest 22 (.aload_n 0) 1 23 := ⟨by decide +kernel, rfl⟩
theorem dX0_widest_23 : Dc cX0_widest 23 (.getfield 13) 3 26 := ⟨by decide +kernel, rfl⟩
theorem dX0_widest_26 : Dc cX0_widest 26 (.iload_n 1) 1 27 := ⟨by decide +kernel, rfl⟩
theorem dX0_widest_27 : Dc cX0_widest 27 (.baload) 1 28 := ⟨by decide +kernel, rfl⟩
theorem dX0_widest_28 : Db cX0_widest 28 (.ifCond .eq 9) (9) 31 37 := ⟨by decide +kernel, rfl, rfl⟩
theorem dX0_widest_31 : Dc cX0_widest 31 (.sipush (-300)) 3 34 := ⟨by decide +kernel, rfl⟩
theorem dX0_widest_34 : Db cX0_widest 34 (.goto 18) (18) 37 52 := ⟨by decide +kernel, rfl, rfl⟩
theorem dX0_widest_37 : Dc cX0_widest 37 (.aload_n 0) 1 38 := ⟨by decide +kernel, rfl⟩
theorem dX0_widest_38 : Dc cX0_widest 38 (.getfield 7) 3 41 := ⟨by decide +kernel, rfl⟩
theorem dX0_widest_41 : Dc cX0_widest 41 (.bipush 16) 2 43 := ⟨by decide +kernel, rfl⟩
theorem dX0_widest_43 : Dc cX0_widest 43 (.iload_n 1) 1 44 := ⟨by decide +kernel, rfl⟩
theorem dX0_widest_44 : Dc cX0_widest 44 (.imul) 1 45 := ⟨by decide +kernel, rfl⟩
theorem dX0_widest_45 : Dc cX0_widest 45 (.iconst 4) 1 46 := ⟨by decide +kernel, rfl⟩
theorem dX0_widest_46 : Dc cX0_widest 46 (.iload_n 2) 1 47 := ⟨by decide +kernel, rfl⟩
theorem dX0_widest_47 : Dc cX0_widest 47 (.imul) 1 48 := ⟨by decide +kernel, rfl⟩
theorem dX0_widest_48 : Dc cX0_widest 48 (.iadd) 1 49 := ⟨by decide +kernel, rfl⟩
theorem dX0_widest_49 : Dc cX0_widest 49 (.iload_n 3) 1 50 := ⟨by decide +kernel, rfl⟩
theorem dX0_widest_50 : Dc cX0_widest 50 (.iadd) 1 51 := ⟨by decide +kernel, rfl⟩
theorem dX0_widest_51 : Dc cX0_widest 51 (.iaload) 1 52 := ⟨by decide +kernel, rfl⟩
theorem dX0_widest_52 : Dc cX0_widest 52 (.ireturn) 1 53 := ⟨by decide +kernel, rfl⟩
theorem dX0_has_0 : Dc cX0_has 0 (.iload_n 1) 1 1 := ⟨by decide +kernel, rfl⟩
theorem dX0_has_1 : Dc cX0_has 1 (.invokestatic 24) 3 4 := ⟨by decide +kernel, rfl⟩
theorem dX0_has_4 : Db cX0_has 4 (.ifCond .ne 5) (5) 7 9 := ⟨by decide +kernel, rfl, rfl⟩
theorem dX0_has_7 : Dc cX0_has 7 (.iconst (-1)) 1 8 := ⟨by decide +kernel, rfl⟩
theorem dX0_has_8 : Dc cX0_has 8 (.ireturn) 1 9 := ⟨by decide +kernel, rfl⟩
theorem dX0_has_9 : Dc cX0_has 9 (.iload_n 2) 1 10 := ⟨by decide +kernel, rfl⟩
theorem dX0_has_10 : Db cX0_has 10 (.ifCond .lt 35) (35) 13 45 := ⟨by decide +kernel, rfl, rfl⟩
theorem dX0_has_13 : Dc cX0_has 13 (.iload_n 2) 1 14 := ⟨by decide +kernel, rfl⟩
theorem dX0_has_14 : Dc cX0_has 14 (.bipush 12) 2 16 := ⟨by decide +kernel, rfl⟩
theorem dX0_has_16 : Db cX0_has 16 (.if_icmp .gt 29) (29) 19 45 := ⟨by decide +kernel, rfl, rfl⟩
theorem dX0_has_19 : Dc cX0_has 19 (.iload_n 3) 1 20 := ⟨by decide +kernel, rfl⟩
theorem dX0_has_20 : Db cX0_has 20 (.ifCond .lt 25) (25) 23 45 := ⟨by decide +kernel, rfl, rfl⟩
theorem dX0_has_23 : Dc cX0_has 23 (.iload_n 3) 1 24 := ⟨by decide +kernel, rfl⟩
theorem dX0_has_24 : Dc cX0_has 24 (.bipush 12) 2 26 := ⟨by decide +kernel, rfl⟩
theorem dX0_has_26 : Db cX0_has 26 (.if_icmp .gt 19) (19) 29 45 := ⟨by decide +kernel, rfl, rfl⟩
theorem dX0_has_29 : Dc cX0_has 29 (.iload 4) 2 31 := ⟨by decide +kernel, rfl⟩
theorem dX0_has_31 : Db cX0_has 31 (.ifCond .lt 14) (14) 34 45 := ⟨by decide +kernel, rfl, rfl⟩
theorem dX0_has_34 : Dc cX0_has 34 (.iload 4) 2 36 := ⟨by decide +kernel, rfl⟩
theorem dX0_has_36 : Dc cX0_has 36 (.bipush 12) 2 38 := ⟨by decide +kernel, rfl⟩
theorem dX0_has_38 : Db cX0_has 38 (.if_icmp .gt 7) (7) 41 45 := ⟨by decide +kernel, rfl, rfl⟩
theorem dX0_has_41 : Dc cX0_has 41 (.iconst 1) 1 42 := ⟨by decide +kernel, rfl⟩
theorem dX0_has_42 : Db cX0_has 42 (.goto 4) (4) 45 46 := ⟨by decide +kernel, rfl, rfl⟩
theorem dX0_has_45 : Dc cX0_has 45 (.iconst 0) 1 46 := ⟨by decide +kernel, rfl⟩
theorem dX0_has_46 : Dc cX0_has 46 (.istore 5) 2 48 := ⟨by decide +kernel, rfl⟩
theorem dX0_has_48 : Dc cX0_has 48 (.aload_n 0) 1 49 := ⟨by decide +kernel, rfl⟩
theorem dX0_has_49 : Dc cX0_has 49 (.getfield 13) 3 52 := ⟨by decide +kernel, rfl⟩
theorem dX0_has_52 : Dc cX0_has 52 (.iload_n 1) 1 53 := ⟨by decide +kernel, rfl⟩
theorem dX0_has_53 : Dc cX0_has 53 (.baload) 1 54 := ⟨by decide +kernel, rfl⟩
theorem dX0_has_54 : Db cX0_has 54 (.ifCond .ne 8) (8) 57 62 := ⟨by decide +kernel, rfl, rfl⟩
theorem dX0_has_57 : Dc cX0_has 57 (.iload 5) 2 59 := ⟨by decide +kernel, rfl⟩
theorem dX0_has_59 : Db cX0_has 59 (.ifCond .ne 5) (5) 62 64 := ⟨by decide +kernel, rfl, rfl⟩
theorem dX0_has_62 : Dc cX0_has 62 (.iconst 0) 1 63 := ⟨by decide +kernel, rfl⟩
theorem dX0_has_63 : Dc cX0_has 63 (.ireturn) 1 64 := ⟨by decide +kernel, rfl⟩
theorem dX0_has_64 : Dc cX0_has 64 (.aload_n 0) 1 65 := ⟨by decide +kernel, rfl⟩
theorem dX0_has_65 : Dc cX0_has 65 (.iload_n 1) 1 66 := ⟨by decide +kernel, rfl⟩
theorem dX0_has_66 : Dc cX0_has 66 (.invokevirtual 53) 3 69 := ⟨by decide +kernel, rfl⟩
theorem dX0_has_69 : Dc cX0_has 69 (.aload_n 0) 1 70 := ⟨by decide +kernel, rfl⟩
theorem dX0_has_70 : Dc cX0_has 70 (.iconst 1) 1 71 := ⟨by decide +kernel, rfl⟩
theorem dX0_has_71 : Dc cX0_has 71 (.iload_n 2) 1 72 := ⟨by decide +kernel, rfl⟩
theorem dX0_has_72 : Dc cX0_has 72 (.invokevirtual 56) 3 75 := ⟨by decide +kernel, rfl⟩
theorem dX0_has_75 : Dc cX0_has 75 (.istore 6) 2 77 := ⟨by decide +kernel, rfl⟩
theorem dX0_has_77 : Dc cX0_has 77 (.iload 6) 2 79 := ⟨by decide +kernel, rfl⟩
theorem dX0_has_79 : Db cX0_has 79 (.ifCond .eq 16) (16) 82 95 := ⟨by decide +kernel, rfl, rfl⟩
theorem dX0_has_82 : Dc cX0_has 82 (.aload_n 0) 1 83 := ⟨by decide +kernel, rfl⟩
theorem dX0_has_83 : Dc cX0_has 83 (.iconst 2) 1 84 := ⟨by decide +kernel, rfl⟩
theorem dX0_has_84 : Dc cX0_has 84 (.iload_n 3) 1 85 := ⟨by decide +kernel, rfl⟩
theorem dX0_has_85 : Dc cX0_has 85 (.invokevirtual 56) 3 88 := ⟨by decide +kernel, rfl⟩
theorem dX0_has_88 : Db cX0_has 88 (.ifCond .eq 7) (7) 91 95 := ⟨by decide +kernel, rfl, rfl⟩
theorem dX0_has_91 : Dc cX0_has 91 (.iconst 1) 1 92 := ⟨by decide +kernel, rfl⟩
theorem dX0_has_92 : Db cX0_has 92 (.goto 4) (4) 95 96 := ⟨by decide +kernel, rfl, rfl⟩
theorem dX0_has_95 : Dc cX0_has 95 (.iconst 0) 1 96 := ⟨by decide +kernel, rfl⟩
theorem dX0_has_96 : Dc cX0_has 96 (.istore 7) 2 98 := ⟨by decide +kernel, rfl⟩
theorem dX0_has_98 : Dc cX0_has 98 (.iload 7) 2 100 := ⟨by decide +kernel, rfl⟩
theorem dX0_has_100 : Db cX0_has 100 (.ifCond .eq 17) (17) 103 117 := ⟨by decide +kernel, rfl, rfl⟩
theorem dX0_has_103 : Dc cX0_has 103 (.aload_n 0) 1 104 := ⟨by decide +kernel, rfl⟩
theorem dX0_has_104 : Dc cX0_has 104 (.iconst 3) 1 105 := ⟨by decide +kernel, rfl⟩
theorem dX0_has_105 : Dc cX0_has 105 (.iload 4) 2 107 := ⟨by decide +kernel, rfl⟩
theorem dX0_has_107 : Dc cX0_has 107 (.invokevirtual 56) 3 110 := ⟨by decide +kernel, rfl⟩
theorem dX0_has_110 : Db cX0_has 110 (.ifCond .eq 7) (7) 113 117 := ⟨by decide +kernel, rfl, rfl⟩
theorem dX0_has_113 : Dc cX0_has 113 (.iconst 1) 1 114 := ⟨by decide +kernel, rfl⟩
theorem dX0_has_114 : Db cX0_has 114 (.goto 4) (4) 117 118 := ⟨by decide +kernel, rfl, rfl⟩
theorem dX0_has_117 : Dc cX0_has 117 (.iconst 0) 1 118 := ⟨by decide +kernel, rfl⟩
theorem dX0_has_118 : Dc cX0_has 118 (.istore 8) 2 120 := ⟨by decide +kernel, rfl⟩
theorem dX0_has_120 : Dc cX0_has 120 (.iload 8) 2 122 := ⟨by decide +kernel, rfl⟩
theorem dX0_has_122 : Db cX0_has 122 (.ifCond .eq 7) (7) 125 129 := ⟨by decide +kernel, rfl, rfl⟩
theorem dX0_has_125 : Dc cX0_has 125 (.iconst 1) 1 126 := ⟨by decide +kernel, rfl⟩
theorem dX0_has_126 : Db cX0_has 126 (.goto 4) (4) 129 130 := ⟨by decide +kernel, rfl, rfl⟩
theorem dX0_has_129 : Dc cX0_has 129 (.iconst 0) 1 130 := ⟨by decide +kernel, rfl⟩
theorem dX0_has_130 : Dc cX0_has 130 (.ireturn) 1 131 := ⟨by decide +kernel, rfl⟩
theorem dX0_fix_0 : Dc cX0_fix 0 (.aload_n 0) 1 1 := ⟨by decide +kernel, rfl⟩
theorem dX0_fix_1 : Dc cX0_fix 1 (.iload_n 1) 1 2 := ⟨by decide +kernel, rfl⟩
theorem dX0_fix_2 : Dc cX0_fix 2 (.iconst 0) 1 3 := ⟨by decide +kernel, rfl⟩
theorem dX0_fix_3 : Dc cX0_fix 3 (.iload_n 2) 1 4 := ⟨by decide +kernel, rfl⟩
theorem dX0_fix_4 : Dc cX0_fix 4 (.invokevirtual 73) 3 7 := ⟨by decide +kernel, rfl⟩
theorem dX0_fix_7 : Dc cX0_fix 7 (.istore_n 3) 1 8 := ⟨by decide +kernel, rfl⟩
theorem dX0_fix_8 : Dc cX0_fix 8 (.iload_n 3) 1 9 := ⟨by decide +kernel, rfl⟩
theorem dX0_fix_9 : Db cX0_fix 9 (.ifCond .eq 18) (18) 12 27 := ⟨by decide +kernel, rfl, rfl⟩
theorem dX0_fix_12 : Dc cX0_fix 12 (.aload_n 0) 1 13 := ⟨by decide +kernel, rfl⟩
theorem dX0_fix_13 : Dc cX0_fix 13 (.iconst 0) 1 14 := ⟨by decide +kernel, rfl⟩
theorem dX0_fix_14 : Dc cX0_fix 14 (.iload_n 1) 1 15 := ⟨by decide +kernel, rfl⟩
theorem dX0_fix_15 : Dc cX0_fix 15 (.iload_n 2) 1 16 := ⟨by decide +kernel, rfl⟩
theorem dX0_fix_16 : Dc cX0_fix 16 (.ineg) 1 17 := ⟨by decide +kernel, rfl⟩
theorem dX0_fix_17 : Dc cX0_fix 17 (.invokevirtual 73) 3 20 := ⟨by decide +kernel, rfl⟩
theorem dX0_fix_20 : Db cX0_fix 20 (.ifCond .eq 7) (7) 23 27 := ⟨by decide +kernel, rfl, rfl⟩
theorem dX0_fix_23 : Dc cX0_fix 23 (.iconst 1) 1 24 := ⟨by decide +kernel, rfl⟩
theorem dX0_fix_24 : Db cX0_fix 24 (.goto 4) (4) 27 28 := ⟨by decide +kernel, rfl, rfl⟩
theorem dX0_fix_27 : Dc cX0_fix 27 (.iconst 0) 1 28 := ⟨by decide +kernel, rfl⟩
theorem dX0_fix_28 : Dc cX0_fix 28 (.ireturn) 1 29 := ⟨by decide +kernel, rfl⟩
theorem dX0_size_0 : Dc cX0_size 0 (.iload_n 1) 1 1 := ⟨by decide +kernel, rfl⟩
theorem dX0_size_1 : Dc cX0_size 1 (.invokestatic 24) 3 4 := ⟨by decide +kernel, rfl⟩
theorem dX0_size_4 : Db cX0_size 4 (.ifCond .ne 5) (5) 7 9 := ⟨by decide +kernel, rfl, rfl⟩
theorem dX0_size_7 : Dc cX0_size 7 (.iconst (-1)) 1 8 := ⟨by decide +kernel, rfl⟩
theorem dX0_size_8 : Dc cX0_size 8 (.ireturn) 1 9 := ⟨by decide +kernel, rfl⟩
theorem dX0_size_9 : Dc cX0_size 9 (.aload_n 0) 1 10 := ⟨by decide +kernel, rfl⟩
theorem dX0_size_10 : Dc cX0_size 10 (.getfield 13) 3 13 := ⟨by decide +kernel, rfl⟩
theorem dX0_size_13 : Dc cX0_size 13 (.iload_n 1) 1 14 := ⟨by decide +kernel, rfl⟩
theorem dX0_size_14 : Dc cX0_size 14 (.baload) 1 15 := ⟨by decide +kernel, rfl⟩
theorem dX0_size_15 : Db cX0_size 15 (.ifCond .eq 5) (5) 18 20 := ⟨by decide +kernel, rfl, rfl⟩
theorem dX0_size_18 : Dc cX0_size 18 (.iconst 0) 1 19 := ⟨by decide +kernel, rfl⟩
theorem dX0_size_19 : Dc cX0_size 19 (.ireturn) 1 20 := ⟨by decide +kernel, rfl⟩
theorem dX0_size_20 : Dc cX0_size 20 (.iconst 0) 1 21 := ⟨by decide +kernel, rfl⟩
theorem dX0_size_21 : Dc cX0_size 21 (.istore_n 2) 1 22 := ⟨by decide +kernel, rfl⟩
theorem dX0_size_22 : Dc cX0_size 22 (.aload_n 0) 1 23 := ⟨by decide +kernel, rfl⟩
theorem dX0_size_23 : Dc cX0_size 23 (.getfield 7) 3 26 := ⟨by decide +kernel, rfl⟩
theorem dX0_size_26 : Dc cX0_size 26 (.bipush 16) 2 28 := ⟨by decide +kernel, rfl⟩
theorem dX0_size_28 : Dc cX0_size 28 (.iload_n 1) 1 29 := ⟨by decide +kernel, rfl⟩
theorem dX0_size_29 : Dc cX0_size 29 (.imul) 1 30 := ⟨by decide +kernel, rfl⟩
theorem dX0_size_30 : Dc cX0_size 30 (.iconst 4) 1 31 := ⟨by decide +kernel, rfl⟩
theorem dX0_size_31 : Dc cX0_size 31 (.iadd) 1 32 := ⟨by decide +kernel, rfl⟩
theorem dX0_size_32 : Dc cX0_size 32 (.iaload) 1 33 := ⟨by decide +kernel, rfl⟩
theorem dX0_size_33 : Dc cX0_size 33 (.istore_n 3) 1 34 := ⟨by decide +kernel, rfl⟩
theorem dX0_size_34 : Dc cX0_size 34 (.aload_n 0) 1 35 := ⟨by decide +kernel, rfl⟩
theorem dX0_size_35 : Dc cX0_size 35 (.getfield 7) 3 38 := ⟨by decide +kernel, rfl⟩
theorem dX0_size_38 : Dc cX0_size 38 (.bipush 16) 2 40 := ⟨by decide +kernel, rfl⟩
theorem dX0_size_40 : Dc cX0_size 40 (.iload_n 1) 1 41 := ⟨by decide +kernel, rfl⟩
theorem dX0_size_41 : Dc cX0_size 41 (.imul) 1 42 := ⟨by decide +kernel, rfl⟩
theorem dX0_size_42 : Dc cX0_size 42 (.iconst 1) 1 43 := ⟨by decide +kernel, rfl⟩
theorem dX0_size_43 : Dc cX0_size 43 (.iadd) 1 44 := ⟨by decide +kernel, rfl⟩
theorem dX0_size_44 : Dc cX0_size 44 (.iaload) 1 45 := ⟨by decide +kernel, rfl⟩
theorem dX0_size_45 : Dc cX0_size 45 (.ineg) 1 46 := ⟨by decide +kernel, rfl⟩
theorem dX0_size_46 : Dc cX0_size 46 (.istore 4) 2 48 := ⟨by decide +kernel, rfl⟩
theorem dX0_size_48 : Dc cX0_size 48 (.iload 4) 2 50 := ⟨by decide +kernel, rfl⟩
theorem dX0_size_50 : Dc cX0_size 50 (.iload_n 3) 1 51 := ⟨by decide +kernel, rfl⟩
theorem dX0_size_51 : Db cX0_size 51 (.if_icmp .gt 64) (64) 54 115 := ⟨by decide +kernel, rfl, rfl⟩
theorem dX0_size_54 : Dc cX0_size 54 (.aload_n 0) 1 55 := ⟨by decide +kernel, rfl⟩
theorem dX0_size_55 : Dc cX0_size 55 (.iload_n 1) 1 56 := ⟨by decide +kernel, rfl⟩
theorem dX0_size_56 : Dc cX0_size 56 (.invokevirtual 53) 3 59 := ⟨by decide +kernel, rfl⟩
theorem dX0_size_59 : Dc cX0_size 59 (.aload_n 0) 1 60 := ⟨by decide +kernel, rfl⟩
theorem dX0_size_60 : Dc cX0_size 60 (.iconst 1) 1 61 := ⟨by decide +kernel, rfl⟩
theorem dX0_size_61 : Dc cX0_size 61 (.iload 4) 2 63 := ⟨by decide +kernel, rfl⟩
theorem dX0_size_63 : Dc cX0_size 63 (.invokevirtual 56) 3 66 := ⟨by decide +kernel, rfl⟩
theorem dX0_size_66 : Dc cX0_size 66 (.pop) 1 67 := ⟨by decide +kernel, rfl⟩
theorem dX0_size_67 : Dc cX0_size 67 (.aload_n 0) 1 68 := ⟨by decide +kernel, rfl⟩
theorem dX0_size_68 : Dc cX0_size 68 (.getfield 17) 3 71 := ⟨by decide +kernel, rfl⟩
theorem dX0_size_71 : Dc cX0_size 71 (.bipush 8) 2 73 := ⟨by decide +kernel, rfl⟩
theorem dX0_size_73 : Dc cX0_size 73 (.iaload) 1 74 := ⟨by decide +kernel, rfl⟩
theorem dX0_size_74 : Dc cX0_size 74 (.istore 5) 2 76 := ⟨by decide +kernel, rfl⟩
theorem dX0_size_76 : Dc cX0_size 76 (.aload_n 0) 1 77 := ⟨by decide +kernel, rfl⟩
theorem dX0_size_77 : Dc cX0_size 77 (.getfield 17) 3 80 := ⟨by decide +kernel, rfl⟩
theorem dX0_size_80 : Dc cX0_size 80 (.iconst 2) 1 81 := ⟨by decide +kernel, rfl⟩
theorem dX0_size_81 : Dc cX0_size 81 (.iaload) 1 82 := ⟨by decide +kernel, rfl⟩
theorem dX0_size_82 : Dc cX0_size 82 (.ineg) 1 83 := ⟨by decide +kernel, rfl⟩
theorem dX0_size_83 : Dc cX0_size 83 (.istore 6) 2 85 := ⟨by decide +kernel, rfl⟩
theorem dX0_size_85 : Dc cX0_size 85 (.iload 6) 2 87 := ⟨by decide +kernel, rfl⟩
theorem dX0_size_87 : Dc cX0_size 87 (.iload 5) 2 89 := ⟨by decide +kernel, rfl⟩
theorem dX0_size_89 : Db cX0_size 89 (.if_icmp .gt 20) (20) 92 109 := ⟨by decide +kernel, rfl, rfl⟩
theorem dX0_size_92 : Dc cX0_size 92 (.iload_n 2) 1 93 := ⟨by decide +kernel, rfl⟩
theorem dX0_size_93 : Dc cX0_size 93 (.aload_n 0) 1 94 := ⟨by decide +kernel, rfl⟩
theorem dX0_size_94 : Dc cX0_size 94 (.iload 4) 2 96 := ⟨by decide +kernel, rfl⟩
theorem dX0_size_96 : Dc cX0_size 96 (.iload 6) 2 98 := ⟨by decide +kernel, rfl⟩
theorem dX0_size_98 : Dc cX0_size 98 (.invokevirtual 59) 3 101 := ⟨by decide +kernel, rfl⟩
theorem dX0_size_101 : Dc cX0_size 101 (.iadd) 1 102 := ⟨by decide +kernel, rfl⟩
theorem dX0_size_102 : Dc cX0_size 102 (.istore_n 2) 1 103 := ⟨by decide +kernel, rfl⟩
theorem dX0_size_103 : Dc cX0_size 103 (.iinc 6 1) 3 106 := ⟨by decide +kernel, rfl⟩
theorem dX0_size_106 : Db cX0_size 106 (.goto (-21)) (-21) 109 85 := ⟨by decide +kernel, rfl, rfl⟩
theorem dX0_size_109 : Dc cX0_size 109 (.iinc 4 1) 3 112 := ⟨by decide +kernel, rfl⟩
theorem dX0_size_112 : Db cX0_size 112 (.goto (-64)) (-64) 115 48 := ⟨by decide +kernel, rfl, rfl⟩
theorem dX0_size_115 : Dc cX0_size 115 (.iload_n 2) 1 116 := ⟨by decide +kernel, rfl⟩
theorem dX0_size_116 : Dc cX0_size 116 (.ireturn) 1 117 := ⟨by decide +kernel, rfl⟩
theorem dX0_spanFor_0 : Dc cX0_spanFor 0 (.aload_n 0) 1 1 := ⟨by decide +kernel, rfl⟩
theorem dX0_spanFor_1 : Dc cX0_spanFor 1 (.getfield 17) 3 4 := ⟨by decide +kernel, rfl⟩
theorem dX0_spanFor_4 : Dc cX0_spanFor 4 (.bipush 12) 2 6 := ⟨by decide +kernel, rfl⟩
theorem dX0_spanFor_6 : Dc cX0_spanFor 6 (.iaload) 1 7 := ⟨by decide +kernel, rfl⟩
theorem dX0_spanFor_7 : Dc cX0_spanFor 7 (.istore_n 3) 1 8 := ⟨by decide +kernel, rfl⟩
theorem dX0_spanFor_8 : Dc cX0_spanFor 8 (.aload_n 0) 1 9 := ⟨by decide +kernel, rfl⟩
theorem dX0_spanFor_9 : Dc cX0_spanFor 9 (.getfield 17) 3 12 := ⟨by decide +kernel, rfl⟩
theorem dX0_spanFor_12 : Dc cX0_spanFor 12 (.bipush 13) 2 14 := ⟨by decide +kernel, rfl⟩
theorem dX0_spanFor_14 : Dc cX0_spanFor 14 (.iaload) 1 15 := ⟨by decide +kernel, rfl⟩
theorem dX0_spanFor_15 : Dc cX0_spanFor 15 (.iload_n 1) 1 16 := ⟨by decide +kernel, rfl⟩
theorem dX0_spanFor_16 : Dc cX0_spanFor 16 (.iadd) 1 17 := ⟨by decide +kernel, rfl⟩
theorem dX0_spanFor_17 : Dc cX0_spanFor 17 (.istore 4) 2 19 := ⟨by decide +kernel, rfl⟩
theorem dX0_spanFor_19 : Dc cX0_spanFor 19 (.aload_n 0) 1 20 := ⟨by decide +kernel, rfl⟩
theorem dX0_spanFor_20 : Dc cX0_spanFor 20 (.getfield 17) 3 23 := ⟨by decide +kernel, rfl⟩
theorem dX0_spanFor_23 : Dc cX0_spanFor 23 (.bipush 14) 2 25 := ⟨by decide +kernel, rfl⟩
theorem dX0_spanFor_25 : Dc cX0_spanFor 25 (.iaload) 1 26 := ⟨by decide +kernel, rfl⟩
theorem dX0_spanFor_26 : Dc cX0_spanFor 26 (.iload_n 2) 1 27 := ⟨by decide +kernel, rfl⟩
theorem dX0_spanFor_27 : Dc cX0_spanFor 27 (.iadd) 1 28 := ⟨by decide +kernel, rfl⟩
theorem dX0_spanFor_28 : Dc cX0_spanFor 28 (.istore 5) 2 30 := ⟨by decide +kernel, rfl⟩
theorem dX0_spanFor_30 : Dc cX0_spanFor 30 (.iload 4) 2 32 := ⟨by decide +kernel, rfl⟩
theorem dX0_spanFor_32 : Dc cX0_spanFor 32 (.iload_n 3) 1 33 := ⟨by decide +kernel, rfl⟩
theorem dX0_spanFor_33 : Db cX0_spanFor 33 (.if_icmp .ge 8) (8) 36 41 := ⟨by decide +kernel, rfl, rfl⟩
theorem dX0_spanFor_36 : Dc cX0_spanFor 36 (.iload 4) 2 38 := ⟨by decide +kernel, rfl⟩
theorem dX0_spanFor_38 : Db cX0_spanFor 38 (.goto 4) (4) 41 42 := ⟨by decide +kernel, rfl, rfl⟩
theorem dX0_spanFor_41 : Dc cX0_spanFor 41 (.iload_n 3) 1 42 := ⟨by decide +kernel, rfl⟩
theorem dX0_spanFor_42 : Dc cX0_spanFor 42 (.istore_n 3) 1 43 := ⟨by decide +kernel, rfl⟩
theorem dX0_spanFor_43 : Dc cX0_spanFor 43 (.iload 5) 2 45 := ⟨by decide +kernel, rfl⟩
theorem dX0_spanFor_45 : Dc cX0_spanFor 45 (.iload_n 3) 1 46 := ⟨by decide +kernel, rfl⟩
theorem dX0_spanFor_46 : Db cX0_spanFor 46 (.if_icmp .ge 8) (8) 49 54 := ⟨by decide +kernel, rfl, rfl⟩
theorem dX0_spanFor_49 : Dc cX0_spanFor 49 (.iload 5) 2 51 := ⟨by decide +kernel, rfl⟩
theorem dX0_spanFor_51 : Db cX0_spanFor 51 (.goto 4) (4) 54 55 := ⟨by decide +kernel, rfl, rfl⟩
theorem dX0_spanFor_54 : Dc cX0_spanFor 54 (.iload_n 3) 1 55 := ⟨by decide +kernel, rfl⟩
theorem dX0_spanFor_55 : Dc cX0_spanFor 55 (.istore_n 3) 1 56 := ⟨by decide +kernel, rfl⟩
theorem dX0_spanFor_56 : Dc cX0_spanFor 56 (.aload_n 0) 1 57 := ⟨by decide +kernel, rfl⟩
theorem dX0_spanFor_57 : Dc cX0_spanFor 57 (.getfield 17) 3 60 := ⟨by decide +kernel, rfl⟩
theorem dX0_spanFor_60 : Dc cX0_spanFor 60 (.iconst 3) 1 61 := ⟨by decide +kernel, rfl⟩
theorem dX0_spanFor_61 : Dc cX0_spanFor 61 (.iaload) 1 62 := ⟨by decide +kernel, rfl⟩
theorem dX0_spanFor_62 : Dc cX0_spanFor 62 (.ineg) 1 63 := ⟨by decide +kernel, rfl⟩
theorem dX0_spanFor_63 : Dc cX0_spanFor 63 (.istore 6) 2 65 := ⟨by decide +kernel, rfl⟩
theorem dX0_spanFor_65 : Dc cX0_spanFor 65 (.iload_n 1) 1 66 := ⟨by decide +kernel, rfl⟩
theorem dX0_spanFor_66 : Dc cX0_spanFor 66 (.aload_n 0) 1 67 := ⟨by decide +kernel, rfl⟩
theorem dX0_spanFor_67 : Dc cX0_spanFor 67 (.getfield 17) 3 70 := ⟨by decide +kernel, rfl⟩
theorem dX0_spanFor_70 : Dc cX0_spanFor 70 (.bipush 7) 2 72 := ⟨by decide +kernel, rfl⟩
theorem dX0_spanFor_72 : Dc cX0_spanFor 72 (.iaload) 1 73 := ⟨by decide +kernel, rfl⟩
theorem dX0_spanFor_73 : Dc cX0_spanFor 73 (.isub) 1 74 := ⟨by decide +kernel, rfl⟩
theorem dX0_spanFor_74 : Dc cX0_spanFor 74 (.istore 7) 2 76 := ⟨by decide +kernel, rfl⟩
theorem dX0_spanFor_76 : Dc cX0_spanFor 76 (.iload_n 2) 1 77 := ⟨by decide +kernel, rfl⟩
theorem dX0_spanFor_77 : Dc cX0_spanFor 77 (.aload_n 0) 1 78 := ⟨by decide +kernel, rfl⟩
theorem dX0_spanFor_78 : Dc cX0_spanFor 78 (.getfield 17) 3 81 := ⟨by decide +kernel, rfl⟩
theorem dX0_spanFor_81 : Dc cX0_spanFor 81 (.bipush 11) 2 83 := ⟨by decide +kernel, rfl⟩
theorem dX0_spanFor_83 : Dc cX0_spanFor 83 (.iaload) 1 84 := ⟨by decide +kernel, rfl⟩
theorem dX0_spanFor_84 : Dc cX0_spanFor 84 (.isub) 1 85 := ⟨by decide +kernel, rfl⟩
theorem dX0_spanFor_85 : Dc cX0_spanFor 85 (.istore 8) 2 87 := ⟨by decide +kernel, rfl⟩
theorem dX0_spanFor_87 : Dc cX0_spanFor 87 (.iload 7) 2 89 := ⟨by decide +kernel, rfl⟩
theorem dX0_spanFor_89 : Dc cX0_spanFor 89 (.iload 6) 2 91 := ⟨by decide +kernel, rfl⟩
theorem dX0_spanFor_91 : Db cX0_spanFor 91 (.if_icmp .le 8) (8) 94 99 := ⟨by decide +kernel, rfl, rfl⟩
theorem dX0_spanFor_94 : Dc cX0_spanFor 94 (.iload 7) 2 96 := ⟨by decide +kernel, rfl⟩
theorem dX0_spanFor_96 : Db cX0_spanFor 96 (.goto 5) (5) 99 101 := ⟨by decide +kernel, rfl, rfl⟩
theorem dX0_spanFor_99 : Dc cX0_spanFor 99 (.iload 6) 2 101 := ⟨by decide +kernel, rfl⟩
theorem dX0_spanFor_101 : Dc cX0_spanFor 101 (.istore 6) 2 103 := ⟨by decide +kernel, rfl⟩
theorem dX0_spanFor_103 : Dc cX0_spanFor 103 (.iload 8) 2 105 := ⟨by decide +kernel, rfl⟩
theorem dX0_spanFor_105 : Dc cX0_spanFor 105 (.iload 6) 2 107 := ⟨by decide +kernel, rfl⟩
theorem dX0_spanFor_107 : Db cX0_spanFor 107 (.if_icmp .le 8) (8) 110 115 := ⟨by decide +kernel, rfl, rfl⟩
theorem dX0_spanFor_110 : Dc cX0_spanFor 110 (.iload 8) 2 112 := ⟨by decide +kernel, rfl⟩
theorem dX0_spanFor_112 : Db cX0_spanFor 112 (.goto 5) (5) 115 117 := ⟨by decide +kernel, rfl, rfl⟩
theorem dX0_spanFor_115 : Dc cX0_spanFor 115 (.iload 6) 2 117 := ⟨by decide +kernel, rfl⟩
theorem dX0_spanFor_117 : Dc cX0_spanFor 117 (.istore 6) 2 119 := ⟨by decide +kernel, rfl⟩
theorem dX0_spanFor_119 : Dc cX0_spanFor 119 (.iload 6) 2 121 := ⟨by decide +kernel, rfl⟩
theorem dX0_spanFor_121 : Dc cX0_spanFor 121 (.iload_n 3) 1 122 := ⟨by decide +kernel, rfl⟩
theorem dX0_spanFor_122 : Db cX0_spanFor 122 (.if_icmp .gt 12) (12) 125 134 := ⟨by decide +kernel, rfl, rfl⟩
theorem dX0_spanFor_125 : Dc cX0_spanFor 125 (.iload_n 3) 1 126 := ⟨by decide +kernel, rfl⟩
theorem dX0_spanFor_126 : Dc cX0_spanFor 126 (.iload 6) 2 128 := ⟨by decide +kernel, rfl⟩
theorem dX0_spanFor_128 : Dc cX0_spanFor 128 (.isub) 1 129 := ⟨by decide +kernel, rfl⟩
theorem dX0_spanFor_129 : Dc cX0_spanFor 129 (.iconst 1) 1 130 := ⟨by decide +kernel, rfl⟩
theorem dX0_spanFor_130 : Dc cX0_spanFor 130 (.iadd) 1 131 := ⟨by decide +kernel, rfl⟩
theorem dX0_spanFor_131 : Db cX0_spanFor 131 (.goto 4) (4) 134 135 := ⟨by decide +kernel, rfl, rfl⟩
theorem dX0_spanFor_134 : Dc cX0_spanFor 134 (.iconst 0) 1 135 := ⟨by decide +kernel, rfl⟩
theorem dX0_spanFor_135 : Dc cX0_spanFor 135 (.ireturn) 1 136 := ⟨by decide +kernel, rfl⟩
theorem dX0_next_0 : Dc cX0_next 0 (.iload_n 1) 1 1 := ⟨by decide +kernel, rfl⟩
theorem dX0_next_1 : Dc cX0_next 1 (.invokestatic 24) 3 4 := ⟨by decide +kernel, rfl⟩
theorem dX0_next_4 : Db cX0_next 4 (.ifCond .ne 5) (5) 7 9 := ⟨by decide +kernel, rfl, rfl⟩
theorem dX0_next_7 : Dc cX0_next 7 (.iconst (-1)) 1 8 := ⟨by decide +kernel, rfl⟩
theorem dX0_next_8 : Dc cX0_next 8 (.ireturn) 1 9 := ⟨by decide +kernel, rfl⟩
theorem dX0_next_9 : Dc cX0_next 9 (.aload_n 0) 1 10 := ⟨by decide +kernel, rfl⟩
theorem dX0_next_10 : Dc cX0_next 10 (.getfield 13) 3 13 := ⟨by decide +kernel, rfl⟩
theorem dX0_next_13 : Dc cX0_next 13 (.iload_n 1) 1 14 := ⟨by decide +kernel, rfl⟩
theorem dX0_next_14 : Dc cX0_next 14 (.baload) 1 15 := ⟨by decide +kernel, rfl⟩
theorem dX0_next_15 : Db cX0_next 15 (.ifCond .ne 10) (10) 18 25 := ⟨by decide +kernel, rfl, rfl⟩
theorem dX0_next_18 : Dc cX0_next 18 (.iload_n 2) 1 19 := ⟨by decide +kernel, rfl⟩
theorem dX0_next_19 : Dc cX0_next 19 (.sipush 2196) 3 22 := ⟨by decide +kernel, rfl⟩
theorem dX0_next_22 : Db cX0_next 22 (.if_icmp .lt 6) (6) 25 28 := ⟨by decide +kernel, rfl, rfl⟩
theorem dX0_next_25 : Dc cX0_next 25 (.bipush (-2)) 2 27 := ⟨by decide +kernel, rfl⟩
theorem dX0_next_27 : Dc cX0_next 27 (.ireturn) 1 28 := ⟨by decide +kernel, rfl⟩
theorem dX0_next_28 : Dc cX0_next 28 (.iload_n 2) 1 29 := ⟨by decide +kernel, rfl⟩
theorem dX0_next_29 : Db cX0_next 29 (.ifCond .ge 7) (7) 32 36 := ⟨by decide +kernel, rfl, rfl⟩
theorem dX0_next_32 : Dc cX0_next 32 (.iconst 0) 1 33 := ⟨by decide +kernel, rfl⟩
theorem dX0_next_33 : Db cX0_next 33 (.goto 6) (6) 36 39 := ⟨by decide +kernel, rfl, rfl⟩
theorem dX0_next_36 : Dc cX0_next 36 (.iload_n 2) 1 37 := ⟨by decide +kernel, rfl⟩
theorem dX0_next_37 : Dc cX0_next 37 (.iconst 1) 1 38 := ⟨by decide +kernel, rfl⟩
theorem dX0_next_38 : Dc cX0_next 38 (.iadd) 1 39 := ⟨by decide +kernel, rfl⟩
theorem dX0_next_39 : Dc cX0_next 39 (.istore_n 3) 1 40 := ⟨by decide +kernel, rfl⟩
theorem dX0_next_40 : Dc cX0_next 40 (.aload_n 0) 1 41 := ⟨by decide +kernel, rfl⟩
theorem dX0_next_41 : Dc cX0_next 41 (.iload_n 1) 1 42 := ⟨by decide +kernel, rfl⟩
theorem dX0_next_42 : Dc cX0_next 42 (.iload_n 3) 1 43 := ⟨by decide +kernel, rfl⟩
theorem dX0_next_43 : Dc cX0_next 43 (.sipush 169) 3 46 := ⟨by decide +kernel, rfl⟩
theorem dX0_next_46 : Dc cX0_next 46 (.idiv) 1 47 := ⟨by decide +kernel, rfl⟩
theorem dX0_next_47 : Dc cX0_next 47 (.iload_n 3) 1 48 := ⟨by decide +kernel, rfl⟩
theorem dX0_next_48 : Dc cX0_next 48 (.bipush 13) 2 50 := ⟨by decide +kernel, rfl⟩
theorem dX0_next_50 : Dc cX0_next 50 (.idiv) 1 51 := ⟨by decide +kernel, rfl⟩
theorem dX0_next_51 : Dc cX0_next 51 (.bipush 13) 2 53 := ⟨by decide +kernel, rfl⟩
theorem dX0_next_53 : Dc cX0_next 53 (.irem) 1 54 := ⟨by decide +kernel, rfl⟩
theorem dX0_next_54 : Dc cX0_next 54 (.iload_n 3) 1 55 := ⟨by decide +kernel, rfl⟩
theorem dX0_next_55 : Dc cX0_next 55 (.bipush 13) 2 57 := ⟨by decide +kernel, rfl⟩
theorem dX0_next_57 : Dc cX0_next 57 (.irem) 1 58 := ⟨by decide +kernel, rfl⟩
theorem dX0_next_58 : Dc cX0_next 58 (.invokevirtual 62) 3 61 := ⟨by decide +kernel, rfl⟩
theorem dX0_next_61 : Dc cX0_next 61 (.istore 4) 2 63 := ⟨by decide +kernel, rfl⟩
theorem dX0_next_63 : Dc cX0_next 63 (.iload 4) 2 65 := ⟨by decide +kernel, rfl⟩
theorem dX0_next_65 : Db cX0_next 65 (.ifCond .lt 6) (6) 68 71 := ⟨by decide +kernel, rfl, rfl⟩
theorem dX0_next_68 : Dc cX0_next 68 (.iload 4) 2 70 := ⟨by decide +kernel, rfl⟩
theorem dX0_next_70 : Dc cX0_next 70 (.ireturn) 1 71 := ⟨by decide +kernel, rfl⟩
theorem dX0_next_71 : Dc cX0_next 71 (.aload_n 0) 1 72 := ⟨by decide +kernel, rfl⟩
theorem dX0_next_72 : Dc cX0_next 72 (.iload_n 1) 1 73 := ⟨by decide +kernel, rfl⟩
theorem dX0_next_73 : Dc cX0_next 73 (.iload_n 3) 1 74 := ⟨by decide +kernel, rfl⟩
theorem dX0_next_74 : Dc cX0_next 74 (.sipush 169) 3 77 := ⟨by decide +kernel, rfl⟩
theorem dX0_next_77 : Dc cX0_next 77 (.idiv) 1 78 := ⟨by decide +kernel, rfl⟩
theorem dX0_next_78 : Dc cX0_next 78 (.iload_n 3) 1 79 := ⟨by decide +kernel, rfl⟩
theorem dX0_next_79 : Dc cX0_next 79 (.bipush 13) 2 81 := ⟨by decide +kernel, rfl⟩
theorem dX0_next_81 : Dc cX0_next 81 (.idiv) 1 82 := ⟨by decide +kernel, rfl⟩
theorem dX0_next_82 : Dc cX0_next 82 (.bipush 13) 2 84 := ⟨by decide +kernel, rfl⟩
theorem dX0_next_84 : Dc cX0_next 84 (.irem) 1 85 := ⟨by decide +kernel, rfl⟩
theorem dX0_next_85 : Dc cX0_next 85 (.iconst 1) 1 86 := ⟨by decide +kernel, rfl⟩
theorem dX0_next_86 : Dc cX0_next 86 (.iadd) 1 87 := ⟨by decide +kernel, rfl⟩
theorem dX0_next_87 : Dc cX0_next 87 (.invokevirtual 66) 3 90 := ⟨by decide +kernel, rfl⟩
theorem dX0_next_90 : Dc cX0_next 90 (.istore 4) 2 92 := ⟨by decide +kernel, rfl⟩
theorem dX0_next_92 : Dc cX0_next 92 (.iload 4) 2 94 := ⟨by decide +kernel, rfl⟩
theorem dX0_next_94 : Db cX0_next 94 (.ifCond .lt 6) (6) 97 100 := ⟨by decide +kernel, rfl, rfl⟩
theorem dX0_next_97 : Dc cX0_next 97 (.iload 4) 2 99 := ⟨by decide +kernel, rfl⟩
theorem dX0_next_99 : Dc cX0_next 99 (.ireturn) 1 100 := ⟨by decide +kernel, rfl⟩
theorem dX0_next_100 : Dc cX0_next 100 (.aload_n 0) 1 101 := ⟨by decide +kernel, rfl⟩
theorem dX0_next_101 : Dc cX0_next 101 (.iload_n 1) 1 102 := ⟨by decide +kernel, rfl⟩
theorem dX0_next_102 : Dc cX0_next 102 (.iload_n 3) 1 103 := ⟨by decide +kernel, rfl⟩
theorem dX0_next_103 : Dc cX0_next 103 (.sipush 169) 3 106 := ⟨by decide +kernel, rfl⟩
theorem dX0_next_106 : Dc cX0_next 106 (.idiv) 1 107 := ⟨by decide +kernel, rfl⟩
theorem dX0_next_107 : Dc cX0_next 107 (.iconst 1) 1 108 := ⟨by decide +kernel, rfl⟩
theorem dX0_next_108 : Dc cX0_next 108 (.iadd) 1 109 := ⟨by decide +kernel, rfl⟩
theorem dX0_next_109 : Dc cX0_next 109 (.invokevirtual 70) 3 112 := ⟨by decide +kernel, rfl⟩
theorem dX0_next_112 : Dc cX0_next 112 (.ireturn) 1 113 := ⟨by decide +kernel, rfl⟩
theorem dX0_firstFrom_0 : Dc cX0_firstFrom 0 (.aload_n 0) 1 1 := ⟨by decide +kernel, rfl⟩
theorem dX0_firstFrom_1 : Dc cX0_firstFrom 1 (.iload_n 1) 1 2 := ⟨by decide +kernel, rfl⟩
theorem dX0_firstFrom_2 : Dc cX0_firstFrom 2 (.invokevirtual 53) 3 5 := ⟨by decide +kernel, rfl⟩
theorem dX0_firstFrom_5 : Dc cX0_firstFrom 5 (.aload_n 0) 1 6 := ⟨by decide +kernel, rfl⟩
theorem dX0_firstFrom_6 : Dc cX0_firstFrom 6 (.iconst 1) 1 7 := ⟨by decide +kernel, rfl⟩
theorem dX0_firstFrom_7 : Dc cX0_firstFrom 7 (.iload_n 2) 1 8 := ⟨by decide +kernel, rfl⟩
theorem dX0_firstFrom_8 : Dc cX0_firstFrom 8 (.invokevirtual 56) 3 11 := ⟨by decide +kernel, rfl⟩
theorem dX0_firstFrom_11 : Dc cX0_firstFrom 11 (.istore 5) 2 13 := ⟨by decide +kernel, rfl⟩
theorem dX0_firstFrom_13 : Dc cX0_firstFrom 13 (.iload 5) 2 15 := ⟨by decide +kernel, rfl⟩
theorem dX0_firstFrom_15 : Db cX0_firstFrom 15 (.ifCond .eq 16) (16) 18 31 := ⟨by decide +kernel, rfl, rfl⟩
theorem dX0_firstFrom_18 : Dc cX0_firstFrom 18 (.aload_n 0) 1 19 := ⟨by decide +kernel, rfl⟩
theorem dX0_firstFrom_19 : Dc cX0_firstFrom 19 (.iconst 2) 1 20 := ⟨by decide +kernel, rfl⟩
theorem dX0_firstFrom_20 : Dc cX0_firstFrom 20 (.iload_n 3) 1 21 := ⟨by decide +kernel, rfl⟩
theorem dX0_firstFrom_21 : Dc cX0_firstFrom 21 (.invokevirtual 56) 3 24 := ⟨by decide +kernel, rfl⟩
theorem dX0_firstFrom_24 : Db cX0_firstFrom 24 (.ifCond .eq 7) (7) 27 31 := ⟨by decide +kernel, rfl, rfl⟩
theorem dX0_firstFrom_27 : Dc cX0_firstFrom 27 (.iconst 1) 1 28 := ⟨by decide +kernel, rfl⟩
theorem dX0_firstFrom_28 : Db cX0_firstFrom 28 (.goto 4) (4) 31 32 := ⟨by decide +kernel, rfl, rfl⟩
theorem dX0_firstFrom_31 : Dc cX0_firstFrom 31 (.iconst 0) 1 32 := ⟨by decide +kernel, rfl⟩
theorem dX0_firstFrom_32 : Dc cX0_firstFrom 32 (.istore 6) 2 34 := ⟨by decide +kernel, rfl⟩
theorem dX0_firstFrom_34 : Dc cX0_firstFrom 34 (.iload 6) 2 36 := ⟨by decide +kernel, rfl⟩
theorem dX0_firstFrom_36 : Db cX0_firstFrom 36 (.ifCond .eq 19) (19) 39 55 := ⟨by decide +kernel, rfl, rfl⟩
theorem dX0_firstFrom_39 : Dc cX0_firstFrom 39 (.aload_n 0) 1 40 := ⟨by decide +kernel, rfl⟩
theorem dX0_firstFrom_40 : Dc cX0_firstFrom 40 (.iconst 0) 1 41 := ⟨by decide +kernel, rfl⟩
theorem dX0_firstFrom_41 : Dc cX0_firstFrom 41 (.iconst 3) 1 42 := ⟨by decide +kernel, rfl⟩
theorem dX0_firstFrom_42 : Dc cX0_firstFrom 42 (.iload 4) 2 44 := ⟨by decide +kernel, rfl⟩
theorem dX0_firstFrom_44 : Dc cX0_firstFrom 44 (.ineg) 1 45 := ⟨by decide +kernel, rfl⟩
theorem dX0_firstFrom_45 : Dc cX0_firstFrom 45 (.invokevirtual 73) 3 48 := ⟨by decide +kernel, rfl⟩
theorem dX0_firstFrom_48 : Db cX0_firstFrom 48 (.ifCond .eq 7) (7) 51 55 := ⟨by decide +kernel, rfl, rfl⟩
theorem dX0_firstFrom_51 : Dc cX0_firstFrom 51 (.iconst 1) 1 52 := ⟨by decide +kernel, rfl⟩
theorem dX0_firstFrom_52 : Db cX0_firstFrom 52 (.goto 4) (4) 55 56 := ⟨by decide +kernel, rfl, rfl⟩
theorem dX0_firstFrom_55 : Dc cX0_firstFrom 55 (.iconst 0) 1 56 := ⟨by decide +kernel, rfl⟩
theorem dX0_firstFrom_56 : Dc cX0_firstFrom 56 (.istore 7) 2 58 := ⟨by decide +kernel, rfl⟩
theorem dX0_firstFrom_58 : Dc cX0_firstFrom 58 (.iload 7) 2 60 := ⟨by decide +kernel, rfl⟩
theorem dX0_firstFrom_60 : Db cX0_firstFrom 60 (.ifCond .eq 23) (23) 63 83 := ⟨by decide +kernel, rfl, rfl⟩
theorem dX0_firstFrom_63 : Dc cX0_firstFrom 63 (.sipush 169) 3 66 := ⟨by decide +kernel, rfl⟩
theorem dX0_firstFrom_66 : Dc cX0_firstFrom 66 (.iload_n 2) 1 67 := ⟨by decide +kernel, rfl⟩
theorem dX0_firstFrom_67 : Dc cX0_firstFrom 67 (.imul) 1 68 := ⟨by decide +kernel, rfl⟩
theorem dX0_firstFrom_68 : Dc cX0_firstFrom 68 (.bipush 13) 2 70 := ⟨by decide +kernel, rfl⟩
theorem dX0_firstFrom_70 : Dc cX0_firstFrom 70 (.iload_n 3) 1 71 := ⟨by decide +kernel, rfl⟩
theorem dX0_firstFrom_71 : Dc cX0_firstFrom 71 (.imul) 1 72 := ⟨by decide +kernel, rfl⟩
theorem dX0_firstFrom_72 : Dc cX0_firstFrom 72 (.iadd) 1 73 := ⟨by decide +kernel, rfl⟩
theorem dX0_firstFrom_73 : Dc cX0_firstFrom 73 (.aload_n 0) 1 74 := ⟨by decide +kernel, rfl⟩
theorem dX0_firstFrom_74 : Dc cX0_firstFrom 74 (.getfield 17) 3 77 := ⟨by decide +kernel, rfl⟩
theorem dX0_firstFrom_77 : Dc cX0_firstFrom 77 (.iconst 3) 1 78 := ⟨by decide +kernel, rfl⟩
theorem dX0_firstFrom_78 : Dc cX0_firstFrom 78 (.iaload) 1 79 := ⟨by decide +kernel, rfl⟩
theorem dX0_firstFrom_79 : Dc cX0_firstFrom 79 (.isub) 1 80 := ⟨by decide +kernel, rfl⟩
theorem dX0_firstFrom_80 : Db cX0_firstFrom 80 (.goto 4) (4) 83 84 := ⟨by decide +kernel, rfl, rfl⟩
theorem dX0_firstFrom_83 : Dc cX0_firstFrom 83 (.iconst (-1)) 1 84 := ⟨by decide +kernel, rfl⟩
theorem dX0_firstFrom_84 : Dc cX0_firstFrom 84 (.ireturn) 1 85 := ⟨by decide +kernel, rfl⟩
theorem dX0_firstSecond_0 : Dc cX0_firstSecond 0 (.aload_n 0) 1 1 := ⟨by decide +kernel, rfl⟩
theorem dX0_firstSecond_1 : Dc cX0_firstSecond 1 (.iload_n 1) 1 2 := ⟨by decide +kernel, rfl⟩
theorem dX0_firstSecond_2 : Dc cX0_firstSecond 2 (.invokevirtual 53) 3 5 := ⟨by decide +kernel, rfl⟩
theorem dX0_firstSecond_5 : Dc cX0_firstSecond 5 (.aload_n 0) 1 6 := ⟨by decide +kernel, rfl⟩
theorem dX0_firstSecond_6 : Dc cX0_firstSecond 6 (.iconst 1) 1 7 := ⟨by decide +kernel, rfl⟩
theorem dX0_firstSecond_7 : Dc cX0_firstSecond 7 (.iload_n 2) 1 8 := ⟨by decide +kernel, rfl⟩
theorem dX0_firstSecond_8 : Dc cX0_firstSecond 8 (.invokevirtual 56) 3 11 := ⟨by decide +kernel, rfl⟩
theorem dX0_firstSecond_11 : Dc cX0_firstSecond 11 (.istore 4) 2 13 := ⟨by decide +kernel, rfl⟩
theorem dX0_firstSecond_13 : Dc cX0_firstSecond 13 (.iload 4) 2 15 := ⟨by decide +kernel, rfl⟩
theorem dX0_firstSecond_15 : Db cX0_firstSecond 15 (.ifCond .eq 24) (24) 18 39 := ⟨by decide +kernel, rfl, rfl⟩
theorem dX0_firstSecond_18 : Dc cX0_firstSecond 18 (.iload_n 3) 1 19 := ⟨by decide +kernel, rfl⟩
theorem dX0_firstSecond_19 : Dc cX0_firstSecond 19 (.bipush 12) 2 21 := ⟨by decide +kernel, rfl⟩
theorem dX0_firstSecond_21 : Db cX0_firstSecond 21 (.if_icmp .gt 18) (18) 24 39 := ⟨by decide +kernel, rfl, rfl⟩
theorem dX0_firstSecond_24 : Dc cX0_firstSecond 24 (.aload_n 0) 1 25 := ⟨by decide +kernel, rfl⟩
theorem dX0_firstSecond_25 : Dc cX0_firstSecond 25 (.iconst 0) 1 26 := ⟨by decide +kernel, rfl⟩
theorem dX0_firstSecond_26 : Dc cX0_firstSecond 26 (.iconst 2) 1 27 := ⟨by decide +kernel, rfl⟩
theorem dX0_firstSecond_27 : Dc cX0_firstSecond 27 (.iload_n 3) 1 28 := ⟨by decide +kernel, rfl⟩
theorem dX0_firstSecond_28 : Dc cX0_firstSecond 28 (.ineg) 1 29 := ⟨by decide +kernel, rfl⟩
theorem dX0_firstSecond_29 : Dc cX0_firstSecond 29 (.invokevirtual 73) 3 32 := ⟨by decide +kernel, rfl⟩
theorem dX0_firstSecond_32 : Db cX0_firstSecond 32 (.ifCond .eq 7) (7) 35 39 := ⟨by decide +kernel, rfl, rfl⟩
theorem dX0_firstSecond_35 : Dc cX0_firstSecond 35 (.iconst 1) 1 36 := ⟨by decide +kernel, rfl⟩
theorem dX0_firstSecond_36 : Db cX0_firstSecond 36 (.goto 4) (4) 39 40 := ⟨by decide +kernel, rfl, rfl⟩
theorem dX0_firstSecond_39 : Dc cX0_firstSecond 39 (.iconst 0) 1 40 := ⟨by decide +kernel, rfl⟩
theorem dX0_firstSecond_40 : Dc cX0_firstSecond 40 (.istore 5) 2 42 := ⟨by decide +kernel, rfl⟩
theorem dX0_firstSecond_42 : Dc cX0_firstSecond 42 (.iload 5) 2 44 := ⟨by decide +kernel, rfl⟩
theorem dX0_firstSecond_44 : Db cX0_firstSecond 44 (.ifCond .ne 5) (5) 47 49 := ⟨by decide +kernel, rfl, rfl⟩
theorem dX0_firstSecond_47 : Dc cX0_firstSecond 47 (.iconst (-1)) 1 48 := ⟨by decide +kernel, rfl⟩
theorem dX0_firstSecond_48 : Dc cX0_firstSecond 48 (.ireturn) 1 49 := ⟨by decide +kernel, rfl⟩
theorem dX0_firstSecond_49 : Dc cX0_firstSecond 49 (.aload_n 0) 1 50 := ⟨by decide +kernel, rfl⟩
theorem dX0_firstSecond_50 : Dc cX0_firstSecond 50 (.getfield 17) 3 53 := ⟨by decide +kernel, rfl⟩
theorem dX0_firstSecond_53 : Dc cX0_firstSecond 53 (.iconst 2) 1 54 := ⟨by decide +kernel, rfl⟩
theorem dX0_firstSecond_54 : Dc cX0_firstSecond 54 (.iaload) 1 55 := ⟨by decide +kernel, rfl⟩
theorem dX0_firstSecond_55 : Dc cX0_firstSecond 55 (.ineg) 1 56 := ⟨by decide +kernel, rfl⟩
theorem dX0_firstSecond_56 : Dc cX0_firstSecond 56 (.istore 6) 2 58 := ⟨by decide +kernel, rfl⟩
theorem dX0_firstSecond_58 : Dc cX0_firstSecond 58 (.aload_n 0) 1 59 := ⟨by decide +kernel, rfl⟩
theorem dX0_firstSecond_59 : Dc cX0_firstSecond 59 (.iconst 2) 1 60 := ⟨by decide +kernel, rfl⟩
theorem dX0_firstSecond_60 : Dc cX0_firstSecond 60 (.iload 6) 2 62 := ⟨by decide +kernel, rfl⟩
theorem dX0_firstSecond_62 : Dc cX0_firstSecond 62 (.invokevirtual 56) 3 65 := ⟨by decide +kernel, rfl⟩
theorem dX0_firstSecond_65 : Dc cX0_firstSecond 65 (.pop) 1 66 := ⟨by decide +kernel, rfl⟩
theorem dX0_firstSecond_66 : Dc cX0_firstSecond 66 (.sipush 169) 3 69 := ⟨by decide +kernel, rfl⟩
theorem dX0_firstSecond_69 : Dc cX0_firstSecond 69 (.iload_n 2) 1 70 := ⟨by decide +kernel, rfl⟩
theorem dX0_firstSecond_70 : Dc cX0_firstSecond 70 (.imul) 1 71 := ⟨by decide +kernel, rfl⟩
theorem dX0_firstSecond_71 : Dc cX0_firstSecond 71 (.bipush 13) 2 73 := ⟨by decide +kernel, rfl⟩
theorem dX0_firstSecond_73 : Dc cX0_firstSecond 73 (.iload 6) 2 75 := ⟨by decide +kernel, rfl⟩
theorem dX0_firstSecond_75 : Dc cX0_firstSecond 75 (.imul) 1 76 := ⟨by decide +kernel, rfl⟩
theorem dX0_firstSecond_76 : Dc cX0_firstSecond 76 (.iadd) 1 77 := ⟨by decide +kernel, rfl⟩
theorem dX0_firstSecond_77 : Dc cX0_firstSecond 77 (.aload_n 0) 1 78 := ⟨by decide +kernel, rfl⟩
theorem dX0_firstSecond_78 : Dc cX0_firstSecond 78 (.getfield 17) 3 81 := ⟨by decide +kernel, rfl⟩
theorem dX0_firstSecond_81 : Dc cX0_firstSecond 81 (.iconst 3) 1 82 := ⟨by decide +kernel, rfl⟩
theorem dX0_firstSecond_82 : Dc cX0_firstSecond 82 (.iaload) 1 83 := ⟨by decide +kernel, rfl⟩
theorem dX0_firstSecond_83 : Dc cX0_firstSecond 83 (.isub) 1 84 := ⟨by decide +kernel, rfl⟩
theorem dX0_firstSecond_84 : Dc cX0_firstSecond 84 (.ireturn) 1 85 := ⟨by decide +kernel, rfl⟩
theorem dX0_firstBehind_0 : Dc cX0_firstBehind 0 (.aload_n 0) 1 1 := ⟨by decide +kernel, rfl⟩
theorem dX0_firstBehind_1 : Dc cX0_firstBehind 1 (.iload_n 1) 1 2 := ⟨by decide +kernel, rfl⟩
theorem dX0_firstBehind_2 : Dc cX0_firstBehind 2 (.invokevirtual 53) 3 5 := ⟨by decide +kernel, rfl⟩
theorem dX0_firstBehind_5 : Dc cX0_firstBehind 5 (.iload_n 2) 1 6 := ⟨by decide +kernel, rfl⟩
theorem dX0_firstBehind_6 : Dc cX0_firstBehind 6 (.bipush 12) 2 8 := ⟨by decide +kernel, rfl⟩
theorem dX0_firstBehind_8 : Db cX0_firstBehind 8 (.if_icmp .gt 18) (18) 11 26 := ⟨by decide +kernel, rfl, rfl⟩
theorem dX0_firstBehind_11 : Dc cX0_firstBehind 11 (.aload_n 0) 1 12 := ⟨by decide +kernel, rfl⟩
theorem dX0_firstBehind_12 : Dc cX0_firstBehind 12 (.iconst 0) 1 13 := ⟨by decide +kernel, rfl⟩
theorem dX0_firstBehind_13 : Dc cX0_firstBehind 13 (.iconst 1) 1 14 := ⟨by decide +kernel, rfl⟩
theorem dX0_firstBehind_14 : Dc cX0_firstBehind 14 (.iload_n 2) 1 15 := ⟨by decide +kernel, rfl⟩
theorem dX0_firstBehind_15 : Dc cX0_firstBehind 15 (.ineg) 1 16 := ⟨by decide +kernel, rfl⟩
theorem dX0_firstBehind_16 : Dc cX0_firstBehind 16 (.invokevirtual 73) 3 19 := ⟨by decide +kernel, rfl⟩
theorem dX0_firstBehind_19 : Db cX0_firstBehind 19 (.ifCond .eq 7) (7) 22 26 := ⟨by decide +kernel, rfl, rfl⟩
theorem dX0_firstBehind_22 : Dc cX0_firstBehind 22 (.iconst 1) 1 23 := ⟨by decide +kernel, rfl⟩
theorem dX0_firstBehind_23 : Db cX0_firstBehind 23 (.goto 4) (4) 26 27 := ⟨by decide +kernel, rfl, rfl⟩
theorem dX0_firstBehind_26 : Dc cX0_firstBehind 26 (.iconst 0) 1 27 := ⟨by decide +kernel, rfl⟩
theorem dX0_firstBehind_27 : Dc cX0_firstBehind 27 (.istore_n 3) 1 28 := ⟨by decide +kernel, rfl⟩
theorem dX0_firstBehind_28 : Dc cX0_firstBehind 28 (.iload_n 3) 1 29 := ⟨by decide +kernel, rfl⟩
theorem dX0_firstBehind_29 : Db cX0_firstBehind 29 (.ifCond .ne 6) (6) 32 35 := ⟨by decide +kernel, rfl, rfl⟩
theorem dX0_firstBehind_32 : Dc cX0_firstBehind 32 (.bipush (-2)) 2 34 := ⟨by decide +kernel, rfl⟩
theorem dX0_firstBehind_34 : Dc cX0_firstBehind 34 (.ireturn) 1 35 := ⟨by decide +kernel, rfl⟩
theorem dX0_firstBehind_35 : Dc cX0_firstBehind 35 (.aload_n 0) 1 36 := ⟨by decide +kernel, rfl⟩
theorem dX0_firstBehind_36 : Dc cX0_firstBehind 36 (.getfield 17) 3 39 := ⟨by decide +kernel, rfl⟩
theorem dX0_firstBehind_39 : Dc cX0_firstBehind 39 (.iconst 1) 1 40 := ⟨by decide +kernel, rfl⟩
theorem dX0_firstBehind_40 : Dc cX0_firstBehind 40 (.iaload) 1 41 := ⟨by decide +kernel, rfl⟩
theorem dX0_firstBehind_41 : Dc cX0_firstBehind 41 (.ineg) 1 42 := ⟨by decide +kernel, rfl⟩
theorem dX0_firstBehind_42 : Dc cX0_firstBehind 42 (.istore 4) 2 44 := ⟨by decide +kernel, rfl⟩
theorem dX0_firstBehind_44 : Dc cX0_firstBehind 44 (.aload_n 0) 1 45 := ⟨by decide +kernel, rfl⟩
theorem dX0_firstBehind_45 : Dc cX0_firstBehind 45 (.iconst 1) 1 46 := ⟨by decide +kernel, rfl⟩
theorem dX0_firstBehind_46 : Dc cX0_firstBehind 46 (.iload 4) 2 48 := ⟨by decide +kernel, rfl⟩
theorem dX0_firstBehind_48 : Dc cX0_firstBehind 48 (.invokevirtual 56) 3 51 := ⟨by decide +kernel, rfl⟩
theorem dX0_firstBehind_51 : Dc cX0_firstBehind 51 (.pop) 1 52 := ⟨by decide +kernel, rfl⟩
theorem dX0_firstBehind_52 : Dc cX0_firstBehind 52 (.aload_n 0) 1 53 := ⟨by decide +kernel, rfl⟩
theorem dX0_firstBehind_53 : Dc cX0_firstBehind 53 (.getfield 17) 3 56 := ⟨by decide +kernel, rfl⟩
theorem dX0_firstBehind_56 : Dc cX0_firstBehind 56 (.iconst 2) 1 57 := ⟨by decide +kernel, rfl⟩
theorem dX0_firstBehind_57 : Dc cX0_firstBehind 57 (.iaload) 1 58 := ⟨by decide +kernel, rfl⟩
theorem dX0_firstBehind_58 : Dc cX0_firstBehind 58 (.ineg) 1 59 := ⟨by decide +kernel, rfl⟩
theorem dX0_firstBehind_59 : Dc cX0_firstBehind 59 (.istore 5) 2 61 := ⟨by decide +kernel, rfl⟩
theorem dX0_firstBehind_61 : Dc cX0_firstBehind 61 (.aload_n 0) 1 62 := ⟨by decide +kernel, rfl⟩
theorem dX0_firstBehind_62 : Dc cX0_firstBehind 62 (.iconst 2) 1 63 := ⟨by decide +kernel, rfl⟩
theorem dX0_firstBehind_63 : Dc cX0_firstBehind 63 (.iload 5) 2 65 := ⟨by decide +kernel, rfl⟩
theorem dX0_firstBehind_65 : Dc cX0_firstBehind 65 (.invokevirtual 56) 3 68 := ⟨by decide +kernel, rfl⟩
theorem dX0_firstBehind_68 : Dc cX0_firstBehind 68 (.pop) 1 69 := ⟨by decide +kernel, rfl⟩
theorem dX0_firstBehind_69 : Dc cX0_firstBehind 69 (.sipush 169) 3 72 := ⟨by decide +kernel, rfl⟩
theorem dX0_firstBehind_72 : Dc cX0_firstBehind 72 (.iload 4) 2 74 := ⟨by decide +kernel, rfl⟩
theorem dX0_firstBehind_74 : Dc cX0_firstBehind 74 (.imul) 1 75 := ⟨by decide +kernel, rfl⟩
theorem dX0_firstBehind_75 : Dc cX0_firstBehind 75 (.bipush 13) 2 77 := ⟨by decide +kernel, rfl⟩
theorem dX0_firstBehind_77 : Dc cX0_firstBehind 77 (.iload 5) 2 79 := ⟨by decide +kernel, rfl⟩
theorem dX0_firstBehind_79 : Dc cX0_firstBehind 79 (.imul) 1 80 := ⟨by decide +kernel, rfl⟩
theorem dX0_firstBehind_80 : Dc cX0_firstBehind 80 (.iadd) 1 81 := ⟨by decide +kernel, rfl⟩
theorem dX0_firstBehind_81 : Dc cX0_firstBehind 81 (.aload_n 0) 1 82 := ⟨by decide +kernel, rfl⟩
theorem dX0_firstBehind_82 : Dc cX0_firstBehind 82 (.getfield 17) 3 85 := ⟨by decide +kernel, rfl⟩
theorem dX0_firstBehind_85 : Dc cX0_firstBehind 85 (.iconst 3) 1 86 := ⟨by decide +kernel, rfl⟩
theorem dX0_firstBehind_86 : Dc cX0_firstBehind 86 (.iaload) 1 87 := ⟨by decide +kernel, rfl⟩
theorem dX0_firstBehind_87 : Dc cX0_firstBehind 87 (.isub) 1 88 := ⟨by decide +kernel, rfl⟩
theorem dX0_firstBehind_88 : Dc cX0_firstBehind 88 (.ireturn) 1 89 := ⟨by decide +kernel, rfl⟩
theorem dX0_within_0 : Dc cX0_within 0 (.iload_n 1) 1 1 := ⟨by decide +kernel, rfl⟩
theorem dX0_within_1 : Dc cX0_within 1 (.invokestatic 24) 3 4 := ⟨by decide +kernel, rfl⟩
theorem dX0_within_4 : Db cX0_within 4 (.ifCond .eq 10) (10) 7 14 := ⟨by decide +kernel, rfl, rfl⟩
theorem dX0_within_7 : Dc cX0_within 7 (.iload_n 2) 1 8 := ⟨by decide +kernel, rfl⟩
theorem dX0_within_8 : Dc cX0_within 8 (.invokestatic 24) 3 11 := ⟨by decide +kernel, rfl⟩
theorem dX0_within_11 : Db cX0_within 11 (.ifCond .ne 5) (5) 14 16 := ⟨by decide +kernel, rfl, rfl⟩
theorem dX0_within_14 : Dc cX0_within 14 (.iconst (-1)) 1 15 := ⟨by decide +kernel, rfl⟩
theorem dX0_within_15 : Dc cX0_within 15 (.ireturn) 1 16 := ⟨by decide +kernel, rfl⟩
theorem dX0_within_16 : Dc cX0_within 16 (.aload_n 0) 1 17 := ⟨by decide +kernel, rfl⟩
theorem dX0_within_17 : Dc cX0_within 17 (.getfield 13) 3 20 := ⟨by decide +kernel, rfl⟩
theorem dX0_within_20 : Dc cX0_within 20 (.iload_n 1) 1 21 := ⟨by decide +kernel, rfl⟩
theorem dX0_within_21 : Dc cX0_within 21 (.baload) 1 22 := ⟨by decide +kernel, rfl⟩
theorem dX0_within_22 : Db cX0_within 22 (.ifCond .ne 12) (12) 25 34 := ⟨by decide +kernel, rfl, rfl⟩
theorem dX0_within_25 : Dc cX0_within 25 (.aload_n 0) 1 26 := ⟨by decide +kernel, rfl⟩
theorem dX0_within_26 : Dc cX0_within 26 (.getfield 13) 3 29 := ⟨by decide +kernel, rfl⟩
theorem dX0_within_29 : Dc cX0_within 29 (.iload_n 2) 1 30 := ⟨by decide +kernel, rfl⟩
theorem dX0_within_30 : Dc cX0_within 30 (.baload) 1 31 := ⟨by decide +kernel, rfl⟩
theorem dX0_within_31 : Db cX0_within 31 (.ifCond .eq 18) (18) 34 49 := ⟨by decide +kernel, rfl, rfl⟩
theorem dX0_within_34 : Dc cX0_within 34 (.aload_n 0) 1 35 := ⟨by decide +kernel, rfl⟩
theorem dX0_within_35 : Dc cX0_within 35 (.getfield 13) 3 38 := ⟨by decide +kernel, rfl⟩
theorem dX0_within_38 : Dc cX0_within 38 (.iload_n 1) 1 39 := ⟨by decide +kernel, rfl⟩
theorem dX0_within_39 : Dc cX0_within 39 (.baload) 1 40 := ⟨by decide +kernel, rfl⟩
theorem dX0_within_40 : Db cX0_within 40 (.ifCond .eq 7) (7) 43 47 := ⟨by decide +kernel, rfl, rfl⟩
theorem dX0_within_43 : Dc cX0_within 43 (.iconst 1) 1 44 := ⟨by decide +kernel, rfl⟩
theorem dX0_within_44 : Db cX0_within 44 (.goto 4) (4) 47 48 := ⟨by decide +kernel, rfl, rfl⟩
theorem dX0_within_47 : Dc cX0_within 47 (.iconst 0) 1 48 := ⟨by decide +kernel, rfl⟩
theorem dX0_within_48 : Dc cX0_within 48 (.ireturn) 1 49 := ⟨by decide +kernel, rfl⟩
theorem dX0_within_49 : Dc cX0_within 49 (.iconst 0) 1 50 := ⟨by decide +kernel, rfl⟩
theorem dX0_within_50 : Dc cX0_within 50 (.istore_n 3) 1 51 := ⟨by decide +kernel, rfl⟩
theorem dX0_within_51 : Dc cX0_within 51 (.iload_n 3) 1 52 := ⟨by decide +kernel, rfl⟩
theorem dX0_within_52 : Dc cX0_within 52 (.bipush 16) 2 54 := ⟨by decide +kernel, rfl⟩
theorem dX0_within_54 : Db cX0_within 54 (.if_icmp .ge 36) (36) 57 90 := ⟨by decide +kernel, rfl, rfl⟩
theorem dX0_within_57 : Dc cX0_within 57 (.aload_n 0) 1 58 := ⟨by decide +kernel, rfl⟩
theorem dX0_within_58 : Dc cX0_within 58 (.getfield 7) 3 61 := ⟨by decide +kernel, rfl⟩
theorem dX0_within_61 : Dc cX0_within 61 (.bipush 16) 2 63 := ⟨by decide +kernel, rfl⟩
theorem dX0_within_63 : Dc cX0_within 63 (.iload_n 1) 1 64 := ⟨by decide +kernel, rfl⟩
theorem dX0_within_64 : Dc cX0_within 64 (.imul) 1 65 := ⟨by decide +kernel, rfl⟩
theorem dX0_within_65 : Dc cX0_within 65 (.iload_n 3) 1 66 := ⟨by decide +kernel, rfl⟩
theorem dX0_within_66 : Dc cX0_within 66 (.iadd) 1 67 := ⟨by decide +kernel, rfl⟩
theorem dX0_within_67 : Dc cX0_within 67 (.iaload) 1 68 := ⟨by decide +kernel, rfl⟩
theorem dX0_within_68 : Dc cX0_within 68 (.aload_n 0) 1 69 := ⟨by decide +kernel, rfl⟩
theorem dX0_within_69 : Dc cX0_within 69 (.getfield 7) 3 72 := ⟨by decide +kernel, rfl⟩
theorem dX0_within_72 : Dc cX0_within 72 (.bipush 16) 2 74 := ⟨by decide +kernel, rfl⟩
theorem dX0_within_74 : Dc cX0_within 74 (.iload_n 2) 1 75 := ⟨by decide +kernel, rfl⟩
theorem dX0_within_75 : Dc cX0_within 75 (.imul) 1 76 := ⟨by decide +kernel, rfl⟩
theorem dX0_within_76 : Dc cX0_within 76 (.iload_n 3) 1 77 := ⟨by decide +kernel, rfl⟩
theorem dX0_within_77 : Dc cX0_within 77 (.iadd) 1 78 := ⟨by decide +kernel, rfl⟩
theorem dX0_within_78 : Dc cX0_within 78 (.iaload) 1 79 := ⟨by decide +kernel, rfl⟩
theorem dX0_within_79 : Db cX0_within 79 (.if_icmp .le 5) (5) 82 84 := ⟨by decide +kernel, rfl, rfl⟩
theorem dX0_within_82 : Dc cX0_within 82 (.iconst 0) 1 83 := ⟨by decide +kernel, rfl⟩
theorem dX0_within_83 : Dc cX0_within 83 (.ireturn) 1 84 := ⟨by decide +kernel, rfl⟩
theorem dX0_within_84 : Dc cX0_within 84 (.iinc 3 1) 3 87 := ⟨by decide +kernel, rfl⟩
theorem dX0_within_87 : Db cX0_within 87 (.goto (-36)) (-36) 90 51 := ⟨by decide +kernel, rfl, rfl⟩
theorem dX0_within_90 : Dc cX0_within 90 (.iconst 1) 1 91 := ⟨by decide +kernel, rfl⟩
theorem dX0_within_91 : Dc cX0_within 91 (.ireturn) 1 92 := ⟨by decide +kernel, rfl⟩
theorem dX0_touch_0 : Dc cX0_touch 0 (.iload_n 1) 1 1 := ⟨by decide +kernel, rfl⟩
theorem dX0_touch_1 : Dc cX0_touch 1 (.invokestatic 24) 3 4 := ⟨by decide +kernel, rfl⟩
theorem dX0_touch_4 : Db cX0_touch 4 (.ifCond .eq 10) (10) 7 14 := ⟨by decide +kernel, rfl, rfl⟩
theorem dX0_touch_7 : Dc cX0_touch 7 (.iload_n 2) 1 8 := ⟨by decide +kernel, rfl⟩
theorem dX0_touch_8 : Dc cX0_touch 8 (.invokestatic 24) 3 11 := ⟨by decide +kernel, rfl⟩
theorem dX0_touch_11 : Db cX0_touch 11 (.ifCond .ne 5) (5) 14 16 := ⟨by decide +kernel, rfl, rfl⟩
theorem dX0_touch_14 : Dc cX0_touch 14 (.iconst (-1)) 1 15 := ⟨by decide +kernel, rfl⟩
theorem dX0_touch_15 : Dc cX0_touch 15 (.ireturn) 1 16 := ⟨by decide +kernel, rfl⟩
theorem dX0_touch_16 : Dc cX0_touch 16 (.aload_n 0) 1 17 := ⟨by decide +kernel, rfl⟩
theorem dX0_touch_17 : Dc cX0_touch 17 (.getfield 13) 3 20 := ⟨by decide +kernel, rfl⟩
theorem dX0_touch_20 : Dc cX0_touch 20 (.iload_n 1) 1 21 := ⟨by decide +kernel, rfl⟩
theorem dX0_touch_21 : Dc cX0_touch 21 (.baload) 1 22 := ⟨by decide +kernel, rfl⟩
theorem dX0_touch_22 : Db cX0_touch 22 (.ifCond .ne 12) (12) 25 34 := ⟨by decide +kernel, rfl, rfl⟩
theorem dX0_touch_25 : Dc cX0_touch 25 (.aload_n 0) 1 26 := ⟨by decide +kernel, rfl⟩
theorem dX0_touch_26 : Dc cX0_touch 26 (.getfield 13) 3 29 := ⟨by decide +kernel, rfl⟩
theorem dX0_touch_29 : Dc cX0_touch 29 (.iload_n 2) 1 30 := ⟨by decide +kernel, rfl⟩
theorem dX0_touch_30 : Dc cX0_touch 30 (.baload) 1 31 := ⟨by decide +kernel, rfl⟩
theorem dX0_touch_31 : Db cX0_touch 31 (.ifCond .eq 5) (5) 34 36 := ⟨by decide +kernel, rfl, rfl⟩
theorem dX0_touch_34 : Dc cX0_touch 34 (.iconst 0) 1 35 := ⟨by decide +kernel, rfl⟩
theorem dX0_touch_35 : Dc cX0_touch 35 (.ireturn) 1 36 := ⟨by decide +kernel, rfl⟩
theorem dX0_touch_36 : Dc cX0_touch 36 (.aload_n 0) 1 37 := ⟨by decide +kernel, rfl⟩
theorem dX0_touch_37 : Dc cX0_touch 37 (.iload_n 1) 1 38 := ⟨by decide +kernel, rfl⟩
theorem dX0_touch_38 : Dc cX0_touch 38 (.invokevirtual 53) 3 41 := ⟨by decide +kernel, rfl⟩
theorem dX0_touch_41 : Dc cX0_touch 41 (.iconst 0) 1 42 := ⟨by decide +kernel, rfl⟩
theorem dX0_touch_42 : Dc cX0_touch 42 (.istore_n 3) 1 43 := ⟨by decide +kernel, rfl⟩
theorem dX0_touch_43 : Dc cX0_touch 43 (.iload_n 3) 1 44 := ⟨by decide +kernel, rfl⟩
theorem dX0_touch_44 : Dc cX0_touch 44 (.bipush 16) 2 46 := ⟨by decide +kernel, rfl⟩
theorem dX0_touch_46 : Db cX0_touch 46 (.if_icmp .ge 39) (39) 49 85 := ⟨by decide +kernel, rfl, rfl⟩
theorem dX0_touch_49 : Dc cX0_touch 49 (.aload_n 0) 1 50 := ⟨by decide +kernel, rfl⟩
theorem dX0_touch_50 : Dc cX0_touch 50 (.iload_n 3) 1 51 := ⟨by decide +kernel, rfl⟩
theorem dX0_touch_51 : Dc cX0_touch 51 (.iconst 4) 1 52 := ⟨by decide +kernel, rfl⟩
theorem dX0_touch_52 : Dc cX0_touch 52 (.idiv) 1 53 := ⟨by decide +kernel, rfl⟩
theorem dX0_touch_53 : Dc cX0_touch 53 (.iload_n 3) 1 54 := ⟨by decide +kernel, rfl⟩
theorem dX0_touch_54 : Dc cX0_touch 54 (.iconst 4) 1 55 := ⟨by decide +kernel, rfl⟩
theorem dX0_touch_55 : Dc cX0_touch 55 (.irem) 1 56 := ⟨by decide +kernel, rfl⟩
theorem dX0_touch_56 : Dc cX0_touch 56 (.aload_n 0) 1 57 := ⟨by decide +kernel, rfl⟩
theorem dX0_touch_57 : Dc cX0_touch 57 (.getfield 7) 3 60 := ⟨by decide +kernel, rfl⟩
theorem dX0_touch_60 : Dc cX0_touch 60 (.bipush 16) 2 62 := ⟨by decide +kernel, rfl⟩
theorem dX0_touch_62 : Dc cX0_touch 62 (.iload_n 2) 1 63 := ⟨by decide +kernel, rfl⟩
theorem dX0_touch_63 : Dc cX0_touch 63 (.imul) 1 64 := ⟨by decide +kernel, rfl⟩
theorem dX0_touch_64 : Dc cX0_touch 64 (.iload_n 3) 1 65 := ⟨by decide +kernel, rfl⟩
theorem dX0_touch_65 : Dc cX0_touch 65 (.iadd) 1 66 := ⟨by decide +kernel, rfl⟩
theorem dX0_touch_66 : Dc cX0_touch 66 (.iaload) 1 67 := ⟨by decide +kernel, rfl⟩
theorem dX0_touch_67 : Dc cX0_touch 67 (.invokevirtual 73) 3 70 := ⟨by decide +kernel, rfl⟩
theorem dX0_touch_70 : Dc cX0_touch 70 (.istore 4) 2 72 := ⟨by decide +kernel, rfl⟩
theorem dX0_touch_72 : Dc cX0_touch 72 (.iload 4) 2 74 := ⟨by decide +kernel, rfl⟩
theorem dX0_touch_74 : Db cX0_touch 74 (.ifCond .ne 5) (5) 77 79 := ⟨by decide +kernel, rfl, rfl⟩
theorem dX0_touch_77 : Dc cX0_touch 77 (.iconst 0) 1 78 := ⟨by decide +kernel, rfl⟩
theorem dX0_touch_78 : Dc cX0_touch 78 (.ireturn) 1 79 := ⟨by decide +kernel, rfl⟩
theorem dX0_touch_79 : Dc cX0_touch 79 (.iinc 3 1) 3 82 := ⟨by decide +kernel, rfl⟩
theorem dX0_touch_82 : Db cX0_touch 82 (.goto (-39)) (-39) 85 43 := ⟨by decide +kernel, rfl, rfl⟩
theorem dX0_touch_85 : Dc cX0_touch 85 (.iconst 1) 1 86 := ⟨by decide +kernel, rfl⟩
theorem dX0_touch_86 : Dc cX0_touch 86 (.ireturn) 1 87 := ⟨by decide +kernel, rfl⟩
end
section
set_option maxRecDepth 100000
theorem dX1_init_0 : Dc cX1_init 0 (.aload_n 0) 1 1 := ⟨by decide +kernel, rfl⟩
theorem dX1_init_1 : Dc cX1_init 1 (.invokespecial 1) 3 4 := ⟨by decide +kernel, rfl⟩
theorem dX1_init_4 : Dc cX1_init 4 (.aload_n 0) 1 5 := ⟨by decide +kernel, rfl⟩
theorem dX1_init_5 : Dc cX1_init 5 (.sipush 6591) 3 8 := ⟨by decide +kernel, rfl⟩
theorem dX1_init_8 : Dc cX1_init 8 (.newarray .boolean) 2 10 := ⟨by decide +kernel, rfl⟩
theorem dX1_init_10 : Dc cX1_init 10 (.putfield 7) 3 13 := ⟨by decide +kernel, rfl⟩
theorem dX1_init_13 : Dc cX1_init 13 (.aload_n 0) 1 14 := ⟨by decide +kernel, rfl⟩
theorem dX1_init_14 : Dc cX1_init 14 (.sipush 2197) 3 17 := ⟨by decide +kernel, rfl⟩
theorem dX1_init_17 : Dc cX1_init 17 (.newarray .boolean) 2 19 := ⟨by decide +kernel, rfl⟩
theorem dX1_init_19 : Dc cX1_init 19 (.putfield 13) 3 22 := ⟨by decide +kernel, rfl⟩
theorem dX1_init_22 : Dc cX1_init 22 (.iconst 0) 1 23 := ⟨by decide +kernel, rfl⟩
theorem dX1_init_23 : Dc cX1_init 23 (.istore_n 1) 1 24 := ⟨by decide +kernel, rfl⟩
theorem dX1_init_24 : Dc cX1_init 24 (.iload_n 1) 1 25 := ⟨by decide +kernel, rfl⟩
theorem dX1_init_25 : Dc cX1_init 25 (.sipush 6591) 3 28 := ⟨by decide +kernel, rfl⟩
theorem dX1_init_28 : Db cX1_init 28 (.if_icmp .ge 16) (16) 31 44 := ⟨by decide +kernel, rfl, rfl⟩
theorem dX1_init_31 : Dc cX1_init 31 (.aload_n 0) 1 32 := ⟨by decide +kernel, rfl⟩
theorem dX1_init_32 : Dc cX1_init 32 (.getfield 7) 3 35 := ⟨by decide +kernel, rfl⟩
theorem dX1_init_35 : Dc cX1_init 35 (.iload_n 1) 1 36 := ⟨by decide +kernel, rfl⟩
theorem dX1_init_36 : Dc cX1_init 36 (.iconst 1) 1 37 := ⟨by decide +kernel, rfl⟩
theorem dX1_init_37 : Dc cX1_init 37 (.bastore) 1 38 := ⟨by decide +kernel, rfl⟩
theorem dX1_init_38 : Dc cX1_init 38 (.iinc 1 1) 3 41 := ⟨by decide +kernel, rfl⟩
theorem dX1_init_41 : Db cX1_init 41 (.goto (-17)) (-17) 44 24 := ⟨by decide +kernel, rfl, rfl⟩
theorem dX1_init_44 : Dc cX1_init 44 (.return_) 1 45 := ⟨by decide +kernel, rfl⟩
theorem dX1_all_0 : Dc cX1_all 0 (.aload_n 0) 1 1 := ⟨by decide +kernel, rfl⟩
theorem dX1_all_1 : Dc cX1_all 1 (.iload_n 1) 1 2 := ⟨by decide +kernel, rfl⟩
theorem dX1_all_2 : Dc cX1_all 2 (.invokevirtual 24) 3 5 := ⟨by decide +kernel, rfl⟩
theorem dX1_all_5 : Db cX1_all 5 (.ifCond .eq 5) (5) 8 10 := ⟨by decide +kernel, rfl, rfl⟩
theorem dX1_all_8 : Dc cX1_all 8 (.iconst (-1)) 1 9 := ⟨by decide +kernel, rfl⟩
theorem dX1_all_9 : Dc cX1_all 9 (.ireturn) 1 10 := ⟨by decide +kernel, rfl⟩
theorem dX1_all_10 : Dc cX1_all 10 (.iconst 0) 1 11 := ⟨by decide +kernel, rfl⟩
theorem dX1_all_11 : Dc cX1_all 11 (.istore_n 2) 1 12 := ⟨by decide +kernel, rfl⟩
theorem dX1_all_12 : Dc cX1_all 12 (.iload_n 2) 1 13 := ⟨by decide +kernel, rfl⟩
theorem dX1_all_13 : Dc cX1_all 13 (.sipush 2197) 3 16 := ⟨by decide +kernel, rfl⟩
theorem dX1_all_16 : Db cX1_all 16 (.if_icmp .ge 22) (22) 19 38 := ⟨by decide +kernel, rfl, rfl⟩
theorem dX1_all_19 : Dc cX1_all 19 (.aload_n 0) 1 20 := ⟨by decide +kernel, rfl⟩
theorem dX1_all_20 : Dc cX1_all 20 (.getfield 7) 3 23 := ⟨by decide +kernel, rfl⟩
theorem dX1_all_23 : Dc cX1_all 23 (.iload_n 1) 1 24 := ⟨by decide +kernel, rfl⟩
theorem dX1_all_24 : Dc cX1_all 24 (.sipush 2197) 3 27 := ⟨by decide +kernel, rfl⟩
theorem dX1_all_27 : Dc cX1_all 27 (.imul) 1 28 := ⟨by decide +kernel, rfl⟩
theorem dX1_all_28 : Dc cX1_all 28 (.iload_n 2) 1 29 := ⟨by decide +kernel, rfl⟩
theorem dX1_all_29 : Dc cX1_all 29 (.iadd) 1 30 := ⟨by decide +kernel, rfl⟩
theorem dX1_all_30 : Dc cX1_all 30 (.iconst 1) 1 31 := ⟨by decide +kernel, rfl⟩
theorem dX1_all_31 : Dc cX1_all 31 (.bastore) 1 32 := ⟨by decide +kernel, rfl⟩
theorem dX1_all_32 : Dc cX1_all 32 (.iinc 2 1) 3 35 := ⟨by decide +kernel, rfl⟩
theorem dX1_all_35 : Db cX1_all 35 (.goto (-23)) (-23) 38 12 := ⟨by decide +kernel, rfl, rfl⟩
theorem dX1_all_38 : Dc cX1_all 38 (.iconst 0) 1 39 := ⟨by decide +kernel, rfl⟩
theorem dX1_all_39 : Dc cX1_all 39 (.ireturn) 1 40 := ⟨by decide +kernel, rfl⟩
theorem dX1_badZone_0 : Dc cX1_badZone 0 (.iload_n 1) 1 1 := ⟨by decide +kernel, rfl⟩
theorem dX1_badZone_1 : Db cX1_badZone 1 (.ifCond .lt 8) (8) 4 9 := ⟨by decide +kernel, rfl, rfl⟩
theorem dX1_badZone_4 : Dc cX1_badZone 4 (.iload_n 1) 1 5 := ⟨by decide +kernel, rfl⟩
theorem dX1_badZone_5 : Dc cX1_badZone 5 (.iconst 2) 1 6 := ⟨by decide +kernel, rfl⟩
theorem dX1_badZone_6 : Db cX1_badZone 6 (.if_icmp .le 7) (7) 9 13 := ⟨by decide +kernel, rfl, rfl⟩
theorem dX1_badZone_9 : Dc cX1_badZone 9 (.iconst 1) 1 10 := ⟨by decide +kernel, rfl⟩
theorem dX1_badZone_10 : Db cX1_badZone 10 (.goto 4) (4) 13 14 := ⟨by decide +kernel, rfl, rfl⟩
theorem dX1_badZone_13 : Dc cX1_badZone 13 (.iconst 0) 1 14 := ⟨by decide +kernel, rfl⟩
theorem dX1_badZone_14 : Dc cX1_badZone 14 (.ireturn) 1 15 := ⟨by decide +kernel, rfl⟩
theorem dX1_zero_0 : Dc cX1_zero 0 (.aload_n 0) 1 1 := ⟨by decide +kernel, rfl⟩
theorem dX1_zero_1 : Dc cX1_zero 1 (.iload_n 1) 1 2 := ⟨by decide +kernel, rfl⟩
theorem dX1_zero_2 : Dc cX1_zero 2 (.invokevirtual 24) 3 5 := ⟨by decide +kernel, rfl⟩
theorem dX1_zero_5 : Db cX1_zero 5 (.ifCond .eq 5) (5) 8 10 := ⟨by decide +kernel, rfl, rfl⟩
theorem dX1_zero_8 : Dc cX1_zero 8 (.iconst (-1)) 1 9 := ⟨by decide +kernel, rfl⟩
theorem dX1_zero_9 : Dc cX1_zero 9 (.ireturn) 1 10 := ⟨by decide +kernel, rfl⟩
theorem dX1_zero_10 : Dc cX1_zero 10 (.iconst 0) 1 11 := ⟨by decide +kernel, rfl⟩
theorem dX1_zero_11 : Dc cX1_zero 11 (.istore_n 2) 1 12 := ⟨by decide +kernel, rfl⟩
theorem dX1_zero_12 : Dc cX1_zero 12 (.iload_n 2) 1 13 := ⟨by decide +kernel, rfl⟩
theorem dX1_zero_13 : Dc cX1_zero 13 (.sipush 2197) 3 16 := ⟨by decide +kernel, rfl⟩
theorem dX1_zero_16 : Db cX1_zero 16 (.if_icmp .ge 30) (30) 19 46 := ⟨by decide +kernel, rfl, rfl⟩
theorem dX1_zero_19 : Dc cX1_zero 19 (.aload_n 0) 1 20 := ⟨by decide +kernel, rfl⟩
theorem dX1_zero_20 : Dc cX1_zero 20 (.getfield 7) 3 23 := ⟨by decide +kernel, rfl⟩
theorem dX1_zero_23 : Dc cX1_zero 23 (.iload_n 1) 1 24 := ⟨by decide +kernel, rfl⟩
theorem dX1_zero_24 : Dc cX1_zero 24 (.sipush 2197) 3 27 := ⟨by decide +kernel, rfl⟩
theorem dX1_zero_27 : Dc cX1_zero 27 (.imul) 1 28 := ⟨by decide +kernel, rfl⟩
theorem dX1_zero_28 : Dc cX1_zero 28 (.iload_n 2) 1 29 := ⟨by decide +kernel, rfl⟩
theorem dX1_zero_29 : Dc cX1_zero 29 (.iadd) 1 30 := ⟨by decide +kernel, rfl⟩
theorem dX1_zero_30 : Dc cX1_zero 30 (.iload_n 2) 1 31 := ⟨by decide +kernel, rfl⟩
theorem dX1_zero_31 : Db cX1_zero 31 (.ifCond .ne 7) (7) 34 38 := ⟨by decide +kernel, rfl, rfl⟩
theorem dX1_zero_34 : Dc cX1_zero 34 (.iconst 1) 1 35 := ⟨by decide +kernel, rfl⟩
theorem dX1_zero_35 : Db cX1_zero 35 (.goto 4) (4) 38 39 := ⟨by decide +kernel, rfl, rfl⟩
theorem dX1_zero_38 : Dc cX1_zero 38 (.iconst 0) 1 39 := ⟨by decide +kernel, rfl⟩
theorem dX1_zero_39 : Dc cX1_zero 39 (.bastore) 1 40 := ⟨by decide +kernel, rfl⟩
theorem dX1_zero_40 : Dc cX1_zero 40 (.iinc 2 1) 3 43 := ⟨by decide +kernel, rfl⟩
theorem dX1_zero_43 : Db cX1_zero 43 (.goto (-31)) (-31) 46 12 := ⟨by decide +kernel, rfl, rfl⟩
theorem dX1_zero_46 : Dc cX1_zero 46 (.iconst 0) 1 47 := ⟨by decide +kernel, rfl⟩
theorem dX1_zero_47 : Dc cX1_zero 47 (.ireturn) 1 48 := ⟨by decide +kernel, rfl⟩
theorem dX1_keep_0 : Dc cX1_keep 0 (.aload_n 0) 1 1 := ⟨by decide +kernel, rfl⟩
theorem dX1_keep_1 : Dc cX1_keep 1 (.iload_n 1) 1 2 := ⟨by decide +kernel, rfl⟩
theorem dX1_keep_2 : Dc cX1_keep 2 (.invokevirtual 24) 3 5 := ⟨by decide +kernel, rfl⟩
theorem dX1_keep_5 : Db cX1_keep 5 (.ifCond .eq 5) (5) 8 10 := ⟨by decide +kernel, rfl, rfl⟩
theorem dX1_keep_8 : Dc cX1_keep 8 (.iconst (-1)) 1 9 := ⟨by decide +kernel, rfl⟩
theorem dX1_keep_9 : Dc cX1_keep 9 (.ireturn) 1 10 := ⟨by decide +kernel, rfl⟩
theorem dX1_keep_10 : Dc cX1_keep 10 (.aload_n 0) 1 11 := ⟨by decide +kernel, rfl⟩
theorem dX1_keep_11 : Dc cX1_keep 11 (.iload_n 2) 1 12 := ⟨by decide +kernel, rfl⟩
theorem dX1_keep_12 : Dc cX1_keep 12 (.iload_n 3) 1 13 := ⟨by decide +kernel, rfl⟩
theorem dX1_keep_13 : Dc cX1_keep 13 (.invokevirtual 28) 3 16 := ⟨by decide +kernel, rfl⟩
theorem dX1_keep_16 : Db cX1_keep 16 (.ifCond .eq 6) (6) 19 22 := ⟨by decide +kernel, rfl, rfl⟩
theorem dX1_keep_19 : Dc cX1_keep 19 (.bipush (-2)) 2 21 := ⟨by decide +kernel, rfl⟩
theorem dX1_keep_21 : Dc cX1_keep 21 (.ireturn) 1 22 := ⟨by decide +kernel, rfl⟩
theorem dX1_keep_22 : Dc cX1_keep 22 (.iload 4) 2 24 := ⟨by decide +kernel, rfl⟩
theorem dX1_keep_24 : Dc cX1_keep 24 (.bipush (-12)) 2 26 := ⟨by decide +kernel, rfl⟩
theorem dX1_keep_26 : Db cX1_keep 26 (.if_icmp .lt 10) (10) 29 36 := ⟨by decide +kernel, rfl, rfl⟩
theorem dX1_keep_29 : Dc cX1_keep 29 (.iload 4) 2 31 := ⟨by decide +kernel, rfl⟩
theorem dX1_keep_31 : Dc cX1_keep 31 (.bipush 12) 2 33 := ⟨by decide +kernel, rfl⟩
theorem dX1_keep_33 : Db cX1_keep 33 (.if_icmp .le 6) (6) 36 39 := ⟨by decide +kernel, rfl, rfl⟩
theorem dX1_keep_36 : Dc cX1_keep 36 (.bipush (-3)) 2 38 := ⟨by decide +kernel, rfl⟩
theorem dX1_keep_38 : Dc cX1_keep 38 (.ireturn) 1 39 := ⟨by decide +kernel, rfl⟩
theorem dX1_keep_39 : Dc cX1_keep 39 (.iconst 0) 1 40 := ⟨by decide +kernel, rfl⟩
theorem dX1_keep_40 : Dc cX1_keep 40 (.istore 5) 2 42 := ⟨by decide +kernel, rfl⟩
theorem dX1_keep_42 : Dc cX1_keep 42 (.iload 5) 2 44 := ⟨by decide +kernel, rfl⟩
theorem dX1_keep_44 : Dc cX1_keep 44 (.sipush 2197) 3 47 := ⟨by decide +kernel, rfl⟩
theorem dX1_keep_47 : Db cX1_keep 47 (.if_icmp .ge 65) (65) 50 112 := ⟨by decide +kernel, rfl, rfl⟩
theorem dX1_keep_50 : Dc cX1_keep 50 (.aload_n 0) 1 51 := ⟨by decide +kernel, rfl⟩
theorem dX1_keep_51 : Dc cX1_keep 51 (.iload 5) 2 53 := ⟨by decide +kernel, rfl⟩
theorem dX1_keep_53 : Dc cX1_keep 53 (.iload_n 2) 1 54 := ⟨by decide +kernel, rfl⟩
theorem dX1_keep_54 : Dc cX1_keep 54 (.invokevirtual 16) 3 57 := ⟨by decide +kernel, rfl⟩
theorem dX1_keep_57 : Dc cX1_keep 57 (.istore 6) 2 59 := ⟨by decide +kernel, rfl⟩
theorem dX1_keep_59 : Dc cX1_keep 59 (.aload_n 0) 1 60 := ⟨by decide +kernel, rfl⟩
theorem dX1_keep_60 : Dc cX1_keep 60 (.iload 5) 2 62 := ⟨by decide +kernel, rfl⟩
theorem dX1_keep_62 : Dc cX1_keep 62 (.iload_n 3) 1 63 := ⟨by decide +kernel, rfl⟩
theorem dX1_keep_63 : Dc cX1_keep 63 (.invokevirtual 16) 3 66 := ⟨by decide +kernel, rfl⟩
theorem dX1_keep_66 : Dc cX1_keep 66 (.istore 7) 2 68 := ⟨by decide +kernel, rfl⟩
theorem dX1_keep_68 : Dc cX1_keep 68 (.aload_n 0) 1 69 := ⟨by decide +kernel, rfl⟩
theorem dX1_keep_69 : Dc cX1_keep 69 (.getfield 13) 3 72 := ⟨by decide +kernel, rfl⟩
theorem dX1_keep_72 : Dc cX1_keep 72 (.iload 5) 2 74 := ⟨by decide +kernel, rfl⟩
theorem dX1_keep_74 : Dc cX1_keep 74 (.aload_n 0) 1 75 := ⟨by decide +kernel, rfl⟩
theorem dX1_keep_75 : Dc cX1_keep 75 (.getfield 7) 3 78 := ⟨by decide +kernel, rfl⟩
theorem dX1_keep_78 : Dc cX1_keep 78 (.iload_n 1) 1 79 := ⟨by decide +kernel, rfl⟩
theorem dX1_keep_79 : Dc cX1_keep 79 (.sipush 2197) 3 82 := ⟨by decide +kernel, rfl⟩
theorem dX1_keep_82 : Dc cX1_keep 82 (.imul) 1 83 := ⟨by decide +kernel, rfl⟩
theorem dX1_keep_83 : Dc cX1_keep 83 (.iload 5) 2 85 := ⟨by decide +kernel, rfl⟩
theorem dX1_keep_85 : Dc cX1_keep 85 (.iadd) 1 86 := ⟨by decide +kernel, rfl⟩
theorem dX1_keep_86 : Dc cX1_keep 86 (.baload) 1 87 := ⟨by decide +kernel, rfl⟩
theorem dX1_keep_87 : Db cX1_keep 87 (.ifCond .eq 17) (17) 90 104 := ⟨by decide +kernel, rfl, rfl⟩
theorem dX1_keep_90 : Dc cX1_keep 90 (.iload 6) 2 92 := ⟨by decide +kernel, rfl⟩
theorem dX1_keep_92 : Dc cX1_keep 92 (.iload 7) 2 94 := ⟨by decide +kernel, rfl⟩
theorem dX1_keep_94 : Dc cX1_keep 94 (.isub) 1 95 := ⟨by decide +kernel, rfl⟩
theorem dX1_keep_95 : Dc cX1_keep 95 (.iload 4) 2 97 := ⟨by decide +kernel, rfl⟩
theorem dX1_keep_97 : Db cX1_keep 97 (.if_icmp .gt 7) (7) 100 104 := ⟨by decide +kernel, rfl, rfl⟩
theorem dX1_keep_100 : Dc cX1_keep 100 (.iconst 1) 1 101 := ⟨by decide +kernel, rfl⟩
theorem dX1_keep_101 : Db cX1_keep 101 (.goto 4) (4) 104 105 := ⟨by decide +kernel, rfl, rfl⟩
theorem dX1_keep_104 : Dc cX1_keep 104 (.iconst 0) 1 105 := ⟨by decide +kernel, rfl⟩
theorem dX1_keep_105 : Dc cX1_keep 105 (.bastore) 1 106 := ⟨by decide +kernel, rfl⟩
theorem dX1_keep_106 : Dc cX1_keep 106 (.iinc 5 1) 3 109 := ⟨by decide +kernel, rfl⟩
theorem dX1_keep_109 : Db cX1_keep 109 (.goto (-67)) (-67) 112 42 := ⟨by decide +kernel, rfl, rfl⟩
theorem dX1_keep_112 : Dc cX1_keep 112 (.aload_n 0) 1 113 := ⟨by decide +kernel, rfl⟩
theorem dX1_keep_113 : Dc cX1_keep 113 (.iload_n 1) 1 114 := ⟨by decide +kernel, rfl⟩
theorem dX1_keep_114 : Dc cX1_keep 114 (.invokevirtual 32) 3 117 := ⟨by decide +kernel, rfl⟩
theorem dX1_keep_117 : Dc cX1_keep 117 (.ireturn) 1 118 := ⟨by decide +kernel, rfl⟩
theorem dX1_badPair_0 : Dc cX1_badPair 0 (.iload_n 1) 1 1 := ⟨by decide +kernel, rfl⟩
theorem dX1_badPair_1 : Db cX1_badPair 1 (.ifCond .lt 22) (22) 4 23 := ⟨by decide +kernel, rfl, rfl⟩
theorem dX1_badPair_4 : Dc cX1_badPair 4 (.iload_n 1) 1 5 := ⟨by decide +kernel, rfl⟩
theorem dX1_badPair_5 : Dc cX1_badPair 5 (.iconst 3) 1 6 := ⟨by decide +kernel, rfl⟩
theorem dX1_badPair_6 : Db cX1_badPair 6 (.if_icmp .gt 17) (17) 9 23 := ⟨by decide +kernel, rfl, rfl⟩
theorem dX1_badPair_9 : Dc cX1_badPair 9 (.iload_n 2) 1 10 := ⟨by decide +kernel, rfl⟩
theorem dX1_badPair_10 : Db cX1_badPair 10 (.ifCond .lt 13) (13) 13 23 := ⟨by decide +kernel, rfl, rfl⟩
theorem dX1_badPair_13 : Dc cX1_badPair 13 (.iload_n 2) 1 14 := ⟨by decide +kernel, rfl⟩
theorem dX1_badPair_14 : Dc cX1_badPair 14 (.iconst 3) 1 15 := ⟨by decide +kernel, rfl⟩
theorem dX1_badPair_15 : Db cX1_badPair 15 (.if_icmp .gt 8) (8) 18 23 := ⟨by decide +kernel, rfl, rfl⟩
theorem dX1_badPair_18 : Dc cX1_badPair 18 (.iload_n 1) 1 19 := ⟨by decide +kernel, rfl⟩
theorem dX1_badPair_19 : Dc cX1_badPair 19 (.iload_n 2) 1 20 := ⟨by decide +kernel, rfl⟩
theorem dX1_badPair_20 : Db cX1_badPair 20 (.if_icmp .ne 7) (7) 23 27 := ⟨by decide +kernel, rfl, rfl⟩
theorem dX1_badPair_23 : Dc cX1_badPair 23 (.iconst 1) 1 24 := ⟨by decide +kernel, rfl⟩
theorem dX1_badPair_24 : Db cX1_badPair 24 (.goto 4) (4) 27 28 := ⟨by decide +kernel, rfl, rfl⟩
theorem dX1_badPair_27 : Dc cX1_badPair 27 (.iconst 0) 1 28 := ⟨by decide +kernel, rfl⟩
theorem dX1_badPair_28 : Dc cX1_badPair 28 (.ireturn) 1 29 := ⟨by decide +kernel, rfl⟩
theorem dX1_value_0 : Dc cX1_value 0 (.iload_n 2) 1 1 := ⟨by decide +kernel, rfl⟩
theorem dX1_value_1 : Db cX1_value 1 (.ifCond .ne 5) (5) 4 6 := ⟨by decide +kernel, rfl, rfl⟩
theorem dX1_value_4 : Dc cX1_value 4 (.iconst 0) 1 5 := ⟨by decide +kernel, rfl⟩
theorem dX1_value_5 : Dc cX1_value 5 (.ireturn) 1 6 := ⟨by decide +kernel, rfl⟩
theorem dX1_value_6 : Dc cX1_value 6 (.iload_n 2) 1 7 := ⟨by decide +kernel, rfl⟩
theorem dX1_value_7 : Dc cX1_value 7 (.iconst 1) 1 8 := ⟨by decide +kernel, rfl⟩
theorem dX1_value_8 : Db cX1_value 8 (.if_icmp .ne 9) (9) 11 17 := ⟨by decide +kernel, rfl, rfl⟩
theorem dX1_value_11 : Dc cX1_value 11 (.iload_n 1) 1 12 := ⟨by decide +kernel, rfl⟩
theorem dX1_value_12 : Dc cX1_value 12 (.sipush 169) 3 15 := ⟨by decide +kernel, rfl⟩
theorem dX1_value_15 : Dc cX1_value 15 (.idiv) 1 16 := ⟨by decide +kernel, rfl⟩
theorem dX1_value_16 : Dc cX1_value 16 (.ireturn) 1 17 := ⟨by decide +kernel, rfl⟩
theorem dX1_value_17 : Dc cX1_value 17 (.iload_n 2) 1 18 := ⟨by decide +kernel, rfl⟩
theorem dX1_value_18 : Dc cX1_value 18 (.iconst 2) 1 19 := ⟨by decide +kernel, rfl⟩
theorem dX1_value_19 : Db cX1_value 19 (.if_icmp .ne 11) (11) 22 30 := ⟨by decide +kernel, rfl, rfl⟩
theorem dX1_value_22 : Dc cX1_value 22 (.iload_n 1) 1 23 := ⟨by decide +kernel, rfl⟩
theorem dX1_value_23 : Dc cX1_value 23 (.bipush 13) 2 25 := ⟨by decide +kernel, rfl⟩
theorem dX1_value_25 : Dc cX1_value 25 (.idiv) 1 26 := ⟨by decide +kernel, rfl⟩
theorem dX1_value_26 : Dc cX1_value 26 (.bipush 13) 2 28 := ⟨by decide +kernel, rfl⟩
theorem dX1_value_28 : Dc cX1_value 28 (.irem) 1 29 := ⟨by decide +kernel, rfl⟩
theorem dX1_value_29 : Dc cX1_value 29 (.ireturn) 1 30 := ⟨by decide +kernel, rfl⟩
theorem dX1_value_30 : Dc cX1_value 30 (.iload_n 1) 1 31 := ⟨by decide +kernel, rfl⟩
theorem dX1_value_31 : Dc cX1_value 31 (.bipush 13) 2 33 := ⟨by decide +kernel, rfl⟩
theorem dX1_value_33 : Dc cX1_value 33 (.irem) 1 34 := ⟨by decide +kernel, rfl⟩
theorem dX1_value_34 : Dc cX1_value 34 (.ireturn) 1 35 := ⟨by decide +kernel, rfl⟩
theorem dX1_store_0 : Dc cX1_store 0 (.iconst 0) 1 1 := ⟨by decide +kernel, rfl⟩
theorem dX1_store_1 : Dc cX1_store 1 (.istore_n 2) 1 2 := ⟨by decide +kernel, rfl⟩
theorem dX1_store_2 : Dc cX1_store 2 (.iload_n 2) 1 3 := ⟨by decide +kernel, rfl⟩
theorem dX1_store_3 : Dc cX1_store 3 (.sipush 2197) 3 6 := ⟨by decide +kernel, rfl⟩
theorem dX1_store_6 : Db cX1_store 6 (.if_icmp .ge 27) (27) 9 33 := ⟨by decide +kernel, rfl, rfl⟩
theorem dX1_store_9 : Dc cX1_store 9 (.aload_n 0) 1 10 := ⟨by decide +kernel, rfl⟩
theorem dX1_store_10 : Dc cX1_store 10 (.getfield 7) 3 13 := ⟨by decide +kernel, rfl⟩
theorem dX1_store_13 : Dc cX1_store 13 (.iload_n 1) 1 14 := ⟨by decide +kernel, rfl⟩
theorem dX1_store_14 : Dc cX1_store 14 (.sipush 2197) 3 17 := ⟨by decide +kernel, rfl⟩
theorem dX1_store_17 : Dc cX1_store 17 (.imul) 1 18 := ⟨by decide +kernel, rfl⟩
theorem dX1_store_18 : Dc cX1_store 18 (.iload_n 2) 1 19 := ⟨by decide +kernel, rfl⟩
theorem dX1_store_19 : Dc cX1_store 19 (.iadd) 1 20 := ⟨by decide +kernel, rfl⟩
theorem dX1_store_20 : Dc cX1_store 20 (.aload_n 0) 1 21 := ⟨by decide +kernel, rfl⟩
theorem dX1_store_21 : Dc cX1_store 21 (.getfield 13) 3 24 := ⟨by decide +kernel, rfl⟩
theorem dX1_store_24 : Dc cX1_store 24 (.iload_n 2) 1 25 := ⟨by decide +kernel, rfl⟩
theorem dX1_store_25 : Dc cX1_store 25 (.baload) 1 26 := ⟨by decide +kernel, rfl⟩
theorem dX1_store_26 : Dc cX1_store 26 (.bastore) 1 27 := ⟨by decide +kernel, rfl⟩
theorem dX1_store_27 : Dc cX1_store 27 (.iinc 2 1) 3 30 := ⟨by decide +kernel, rfl⟩
theorem dX1_store_30 : Db cX1_store 30 (.goto (-28)) (-28) 33 2 := ⟨by decide +kernel, rfl, rfl⟩
theorem dX1_store_33 : Dc cX1_store 33 (.aload_n 0) 1 34 := ⟨by decide +kernel, rfl⟩
theorem dX1_store_34 : Dc cX1_store 34 (.iload_n 1) 1 35 := ⟨by decide +kernel, rfl⟩
theorem dX1_store_35 : Dc cX1_store 35 (.invokevirtual 20) 3 38 := ⟨by decide +kernel, rfl⟩
theorem dX1_store_38 : Dc cX1_store 38 (.ireturn) 1 39 := ⟨by decide +kernel, rfl⟩
theorem dX1_some_0 : Dc cX1_some 0 (.iconst 0) 1 1 := ⟨by decide +kernel, rfl⟩
theorem dX1_some_1 : Dc cX1_some 1 (.istore_n 2) 1 2 := ⟨by decide +kernel, rfl⟩
theorem dX1_some_2 : Dc cX1_some 2 (.iload_n 2) 1 3 := ⟨by decide +kernel, rfl⟩
theorem dX1_some_3 : Dc cX1_some 3 (.sipush 2197) 3 6 := ⟨by decide +kernel, rfl⟩
theorem dX1_some_6 : Db cX1_some 6 (.if_icmp .ge 26) (26) 9 32 := ⟨by decide +kernel, rfl, rfl⟩
theorem dX1_some_9 : Dc cX1_some 9 (.aload_n 0) 1 10 := ⟨by decide +kernel, rfl⟩
theorem dX1_some_10 : Dc cX1_some 10 (.getfield 7) 3 13 := ⟨by decide +kernel, rfl⟩
theorem dX1_some_13 : Dc cX1_some 13 (.iload_n 1) 1 14 := ⟨by decide +kernel, rfl⟩
theorem dX1_some_14 : Dc cX1_some 14 (.sipush 2197) 3 17 := ⟨by decide +kernel, rfl⟩
theorem dX1_some_17 : Dc cX1_some 17 (.imul) 1 18 := ⟨by decide +kernel, rfl⟩
theorem dX1_some_18 : Dc cX1_some 18 (.iload_n 2) 1 19 := ⟨by decide +kernel, rfl⟩
theorem dX1_some_19 : Dc cX1_some 19 (.iadd) 1 20 := ⟨by decide +kernel, rfl⟩
theorem dX1_some_20 : Dc cX1_some 20 (.baload) 1 21 := ⟨by decide +kernel, rfl⟩
theorem dX1_some_21 : Db cX1_some 21 (.ifCond .eq 5) (5) 24 26 := ⟨by decide +kernel, rfl, rfl⟩
theorem dX1_some_24 : Dc cX1_some 24 (.iconst 1) 1 25 := ⟨by decide +kernel, rfl⟩
theorem dX1_some_25 : Dc cX1_some 25 (.ireturn) 1 26 := ⟨by decide +kernel, rfl⟩
theorem dX1_some_26 : Dc cX1_some 26 (.iinc 2 1) 3 29 := ⟨by decide +kernel, rfl⟩
theorem dX1_some_29 : Db cX1_some 29 (.goto (-27)) (-27) 32 2 := ⟨by decide +kernel, rfl, rfl⟩
theorem dX1_some_32 : Dc cX1_some 32 (.iconst 0) 1 33 := ⟨by decide +kernel, rfl⟩
theorem dX1_some_33 : Dc cX1_some 33 (.ireturn) 1 34 := ⟨by decide +kernel, rfl⟩
theorem dX1_pass_0 : Dc cX1_pass 0 (.aload_n 0) 1 1 := ⟨by decide +kernel, rfl⟩
theorem dX1_pass_1 : Dc cX1_pass 1 (.iload_n 1) 1 2 := ⟨by decide +kernel, rfl⟩
theorem dX1_pass_2 : Dc cX1_pass 2 (.invokevirtual 24) 3 5 := ⟨by decide +kernel, rfl⟩
theorem dX1_pass_5 : Db cX1_pass 5 (.ifCond .eq 5) (5) 8 10 := ⟨by decide +kernel, rfl, rfl⟩
theorem dX1_pass_8 : Dc cX1_pass 8 (.iconst (-1)) 1 9 := ⟨by decide +kernel, rfl⟩
theorem dX1_pass_9 : Dc cX1_pass 9 (.ireturn) 1 10 := ⟨by decide +kernel, rfl⟩
theorem dX1_pass_10 : Dc cX1_pass 10 (.iconst 0) 1 11 := ⟨by decide +kernel, rfl⟩
theorem dX1_pass_11 : Dc cX1_pass 11 (.istore_n 2) 1 12 := ⟨by decide +kernel, rfl⟩
theorem dX1_pass_12 : Dc cX1_pass 12 (.iload_n 2) 1 13 := ⟨by decide +kernel, rfl⟩
theorem dX1_pass_13 : Dc cX1_pass 13 (.sipush 2197) 3 16 := ⟨by decide +kernel, rfl⟩
theorem dX1_pass_16 : Db cX1_pass 16 (.if_icmp .ge 22) (22) 19 38 := ⟨by decide +kernel, rfl, rfl⟩
theorem dX1_pass_19 : Dc cX1_pass 19 (.aload_n 0) 1 20 := ⟨by decide +kernel, rfl⟩
theorem dX1_pass_20 : Dc cX1_pass 20 (.getfield 13) 3 23 := ⟨by decide +kernel, rfl⟩
theorem dX1_pass_23 : Dc cX1_pass 23 (.iload_n 2) 1 24 := ⟨by decide +kernel, rfl⟩
theorem dX1_pass_24 : Dc cX1_pass 24 (.aload_n 0) 1 25 := ⟨by decide +kernel, rfl⟩
theorem dX1_pass_25 : Dc cX1_pass 25 (.iload_n 1) 1 26 := ⟨by decide +kernel, rfl⟩
theorem dX1_pass_26 : Dc cX1_pass 26 (.iload_n 2) 1 27 := ⟨by decide +kernel, rfl⟩
theorem dX1_pass_27 : Dc cX1_pass 27 (.iconst (-1)) 1 28 := ⟨by decide +kernel, rfl⟩
theorem dX1_pass_28 : Dc cX1_pass 28 (.invokevirtual 35) 3 31 := ⟨by decide +kernel, rfl⟩
theorem dX1_pass_31 : Dc cX1_pass 31 (.bastore) 1 32 := ⟨by decide +kernel, rfl⟩
theorem dX1_pass_32 : Dc cX1_pass 32 (.iinc 2 1) 3 35 := ⟨by decide +kernel, rfl⟩
theorem dX1_pass_35 : Db cX1_pass 35 (.goto (-23)) (-23) 38 12 := ⟨by decide +kernel, rfl, rfl⟩
theorem dX1_pass_38 : Dc cX1_pass 38 (.aload_n 0) 1 39 := ⟨by decide +kernel, rfl⟩
theorem dX1_pass_39 : Dc cX1_pass 39 (.iload_n 1) 1 40 := ⟨by decide +kernel, rfl⟩
theorem dX1_pass_40 : Dc cX1_pass 40 (.invokevirtual 32) 3 43 := ⟨by decide +kernel, rfl⟩
theorem dX1_pass_43 : Dc cX1_pass 43 (.ireturn) 1 44 := ⟨by decide +kernel, rfl⟩
theorem dX1_shifted_0 : Dc cX1_shifted 0 (.aload_n 0) 1 1 := ⟨by decide +kernel, rfl⟩
theorem dX1_shifted_1 : Dc cX1_shifted 1 (.iload_n 2) 1 2 := ⟨by decide +kernel, rfl⟩
theorem dX1_shifted_2 : Dc cX1_shifted 2 (.iconst 1) 1 3 := ⟨by decide +kernel, rfl⟩
theorem dX1_shifted_3 : Dc cX1_shifted 3 (.invokevirtual 16) 3 6 := ⟨by decide +kernel, rfl⟩
theorem dX1_shifted_6 : Dc cX1_shifted 6 (.istore 4) 2 8 := ⟨by decide +kernel, rfl⟩
theorem dX1_shifted_8 : Dc cX1_shifted 8 (.aload_n 0) 1 9 := ⟨by decide +kernel, rfl⟩
theorem dX1_shifted_9 : Dc cX1_shifted 9 (.iload_n 2) 1 10 := ⟨by decide +kernel, rfl⟩
theorem dX1_shifted_10 : Dc cX1_shifted 10 (.iconst 2) 1 11 := ⟨by decide +kernel, rfl⟩
theorem dX1_shifted_11 : Dc cX1_shifted 11 (.invokevirtual 16) 3 14 := ⟨by decide +kernel, rfl⟩
theorem dX1_shifted_14 : Dc cX1_shifted 14 (.istore 5) 2 16 := ⟨by decide +kernel, rfl⟩
theorem dX1_shifted_16 : Dc cX1_shifted 16 (.aload_n 0) 1 17 := ⟨by decide +kernel, rfl⟩
theorem dX1_shifted_17 : Dc cX1_shifted 17 (.iload_n 2) 1 18 := ⟨by decide +kernel, rfl⟩
theorem dX1_shifted_18 : Dc cX1_shifted 18 (.iconst 3) 1 19 := ⟨by decide +kernel, rfl⟩
theorem dX1_shifted_19 : Dc cX1_shifted 19 (.invokevirtual 16) 3 22 := ⟨by decide +kernel, rfl⟩
theorem dX1_shifted_22 : Dc cX1_shifted 22 (.istore 6) 2 24 := ⟨by decide +kernel, rfl⟩
theorem dX1_shifted_24 : Dc cX1_shifted 24 (.iconst 0) 1 25 := ⟨by decide +kernel, rfl⟩
theorem dX1_shifted_25 : Dc cX1_shifted 25 (.istore 7) 2 27 := ⟨by decide +kernel, rfl⟩
theorem dX1_shifted_27 : Dc cX1_shifted 27 (.iload 7) 2 29 := ⟨by decide +kernel, rfl⟩
theorem dX1_shifted_29 : Dc cX1_shifted 29 (.bipush 12) 2 31 := ⟨by decide +kernel, rfl⟩
theorem dX1_shifted_31 : Db cX1_shifted 31 (.if_icmp .gt 105) (105) 34 136 := ⟨by decide +kernel, rfl, rfl⟩
theorem dX1_shifted_34 : Dc cX1_shifted 34 (.iload 7) 2 36 := ⟨by decide +kernel, rfl⟩
theorem dX1_shifted_36 : Dc cX1_shifted 36 (.iload_n 3) 1 37 := ⟨by decide +kernel, rfl⟩
theorem dX1_shifted_37 : Dc cX1_shifted 37 (.imul) 1 38 := ⟨by decide +kernel, rfl⟩
theorem dX1_shifted_38 : Dc cX1_shifted 38 (.istore 8) 2 40 := ⟨by decide +kernel, rfl⟩
theorem dX1_shifted_40 : Dc cX1_shifted 40 (.iload 4) 2 42 := ⟨by decide +kernel, rfl⟩
theorem dX1_shifted_42 : Dc cX1_shifted 42 (.iload 8) 2 44 := ⟨by decide +kernel, rfl⟩
theorem dX1_shifted_44 : Dc cX1_shifted 44 (.iadd) 1 45 := ⟨by decide +kernel, rfl⟩
theorem dX1_shifted_45 : Db cX1_shifted 45 (.ifCond .lt 53) (53) 48 98 := ⟨by decide +kernel, rfl, rfl⟩
theorem dX1_shifted_48 : Dc cX1_shifted 48 (.iload 4) 2 50 := ⟨by decide +kernel, rfl⟩
theorem dX1_shifted_50 : Dc cX1_shifted 50 (.iload 8) 2 52 := ⟨by decide +kernel, rfl⟩
theorem dX1_shifted_52 : Dc cX1_shifted 52 (.iadd) 1 53 := ⟨by decide +kernel, rfl⟩
theorem dX1_shifted_53 : Dc cX1_shifted 53 (.bipush 12) 2 55 := ⟨by decide +kernel, rfl⟩
theorem dX1_shifted_55 : Db cX1_shifted 55 (.if_icmp .gt 43) (43) 58 98 := ⟨by decide +kernel, rfl, rfl⟩
theorem dX1_shifted_58 : Dc cX1_shifted 58 (.iload 5) 2 60 := ⟨by decide +kernel, rfl⟩
theorem dX1_shifted_60 : Dc cX1_shifted 60 (.iload 8) 2 62 := ⟨by decide +kernel, rfl⟩
theorem dX1_shifted_62 : Dc cX1_shifted 62 (.iadd) 1 63 := ⟨by decide +kernel, rfl⟩
theorem dX1_shifted_63 : Db cX1_shifted 63 (.ifCond .lt 35) (35) 66 98 := ⟨by decide +kernel, rfl, rfl⟩
theorem dX1_shifted_66 : Dc cX1_shifted 66 (.iload 5) 2 68 := ⟨by decide +kernel, rfl⟩
theorem dX1_shifted_68 : Dc cX1_shifted 68 (.iload 8) 2 70 := ⟨by decide +kernel, rfl⟩
theorem dX1_shifted_70 : Dc cX1_shifted 70 (.iadd) 1 71 := ⟨by decide +kernel, rfl⟩
theorem dX1_shifted_71 : Dc cX1_shifted 71 (.bipush 12) 2 73 := ⟨by decide +kernel, rfl⟩
theorem dX1_shifted_73 : Db cX1_shifted 73 (.if_icmp .gt 25) (25) 76 98 := ⟨by decide +kernel, rfl, rfl⟩
theorem dX1_shifted_76 : Dc cX1_shifted 76 (.iload 6) 2 78 := ⟨by decide +kernel, rfl⟩
theorem dX1_shifted_78 : Dc cX1_shifted 78 (.iload 8) 2 80 := ⟨by decide +kernel, rfl⟩
theorem dX1_shifted_80 : Dc cX1_shifted 80 (.iadd) 1 81 := ⟨by decide +kernel, rfl⟩
theorem dX1_shifted_81 : Db cX1_shifted 81 (.ifCond .lt 17) (17) 84 98 := ⟨by decide +kernel, rfl, rfl⟩
theorem dX1_shifted_84 : Dc cX1_shifted 84 (.iload 6) 2 86 := ⟨by decide +kernel, rfl⟩
theorem dX1_shifted_86 : Dc cX1_shifted 86 (.iload 8) 2 88 := ⟨by decide +kernel, rfl⟩
theorem dX1_shifted_88 : Dc cX1_shifted 88 (.iadd) 1 89 := ⟨by decide +kernel, rfl⟩
theorem dX1_shifted_89 : Dc cX1_shifted 89 (.bipush 12) 2 91 := ⟨by decide +kernel, rfl⟩
theorem dX1_shifted_91 : Db cX1_shifted 91 (.if_icmp .gt 7) (7) 94 98 := ⟨by decide +kernel, rfl, rfl⟩
theorem dX1_shifted_94 : Dc cX1_shifted 94 (.iconst 1) 1 95 := ⟨by decide +kernel, rfl⟩
theorem dX1_shifted_95 : Db cX1_shifted 95 (.goto 4) (4) 98 99 := ⟨by decide +kernel, rfl, rfl⟩
theorem dX1_shifted_98 : Dc cX1_shifted 98 (.iconst 0) 1 99 := ⟨by decide +kernel, rfl⟩
theorem dX1_shifted_99 : Dc cX1_shifted 99 (.istore 9) 2 101 := ⟨by decide +kernel, rfl⟩
theorem dX1_shifted_101 : Dc cX1_shifted 101 (.iload 9) 2 103 := ⟨by decide +kernel, rfl⟩
theorem dX1_shifted_103 : Db cX1_shifted 103 (.ifCond .eq 27) (27) 106 130 := ⟨by decide +kernel, rfl, rfl⟩
theorem dX1_shifted_106 : Dc cX1_shifted 106 (.aload_n 0) 1 107 := ⟨by decide +kernel, rfl⟩
theorem dX1_shifted_107 : Dc cX1_shifted 107 (.getfield 7) 3 110 := ⟨by decide +kernel, rfl⟩
theorem dX1_shifted_110 : Dc cX1_shifted 110 (.iload_n 1) 1 111 := ⟨by decide +kernel, rfl⟩
theorem dX1_shifted_111 : Dc cX1_shifted 111 (.sipush 2197) 3 114 := ⟨by decide +kernel, rfl⟩
theorem dX1_shifted_114 : Dc cX1_shifted 114 (.imul) 1 115 := ⟨by decide +kernel, rfl⟩
theorem dX1_shifted_115 : Dc cX1_shifted 115 (.iload_n 2) 1 116 := ⟨by decide +kernel, rfl⟩
theorem dX1_shifted_116 : Dc cX1_shifted 116 (.iadd) 1 117 := ⟨by decide +kernel, rfl⟩
theorem dX1_shifted_117 : Dc cX1_shifted 117 (.sipush 183) 3 120 := ⟨by decide +kernel, rfl⟩
theorem dX1_shifted_120 : Dc cX1_shifted 120 (.iload 8) 2 122 := ⟨by decide +kernel, rfl⟩
theorem dX1_shifted_122 : Dc cX1_shifted 122 (.imul) 1 123 := ⟨by decide +kernel, rfl⟩
theorem dX1_shifted_123 : Dc cX1_shifted 123 (.iadd) 1 124 := ⟨by decide +kernel, rfl⟩
theorem dX1_shifted_124 : Dc cX1_shifted 124 (.baload) 1 125 := ⟨by decide +kernel, rfl⟩
theorem dX1_shifted_125 : Db cX1_shifted 125 (.ifCond .eq 5) (5) 128 130 := ⟨by decide +kernel, rfl, rfl⟩
theorem dX1_shifted_128 : Dc cX1_shifted 128 (.iconst 1) 1 129 := ⟨by decide +kernel, rfl⟩
theorem dX1_shifted_129 : Dc cX1_shifted 129 (.ireturn) 1 130 := ⟨by decide +kernel, rfl⟩
theorem dX1_shifted_130 : Dc cX1_shifted 130 (.iinc 7 1) 3 133 := ⟨by decide +kernel, rfl⟩
theorem dX1_shifted_133 : Db cX1_shifted 133 (.goto (-106)) (-106) 136 27 := ⟨by decide +kernel, rfl, rfl⟩
theorem dX1_shifted_136 : Dc cX1_shifted 136 (.iconst 0) 1 137 := ⟨by decide +kernel, rfl⟩
theorem dX1_shifted_137 : Dc cX1_shifted 137 (.ireturn) 1 138 := ⟨by decide +kernel, rfl⟩
theorem dX1_back_0 : Dc cX1_back 0 (.aload_n 0) 1 1 := ⟨by decide +kernel, rfl⟩
theorem dX1_back_1 : Dc cX1_back 1 (.iload_n 1) 1 2 := ⟨by decide +kernel, rfl⟩
theorem dX1_back_2 : Dc cX1_back 2 (.invokevirtual 24) 3 5 := ⟨by decide +kernel, rfl⟩
theorem dX1_back_5 : Db cX1_back 5 (.ifCond .eq 5) (5) 8 10 := ⟨by decide +kernel, rfl, rfl⟩
theorem dX1_back_8 : Dc cX1_back 8 (.iconst (-1)) 1 9 := ⟨by decide +kernel, rfl⟩
theorem dX1_back_9 : Dc cX1_back 9 (.ireturn) 1 10 := ⟨by decide +kernel, rfl⟩
theorem dX1_back_10 : Dc cX1_back 10 (.iconst 0) 1 11 := ⟨by decide +kernel, rfl⟩
theorem dX1_back_11 : Dc cX1_back 11 (.istore_n 2) 1 12 := ⟨by decide +kernel, rfl⟩
theorem dX1_back_12 : Dc cX1_back 12 (.iload_n 2) 1 13 := ⟨by decide +kernel, rfl⟩
theorem dX1_back_13 : Dc cX1_back 13 (.sipush 2197) 3 16 := ⟨by decide +kernel, rfl⟩
theorem dX1_back_16 : Db cX1_back 16 (.if_icmp .ge 22) (22) 19 38 := ⟨by decide +kernel, rfl, rfl⟩
theorem dX1_back_19 : Dc cX1_back 19 (.aload_n 0) 1 20 := ⟨by decide +kernel, rfl⟩
theorem dX1_back_20 : Dc cX1_back 20 (.getfield 13) 3 23 := ⟨by decide +kernel, rfl⟩
theorem dX1_back_23 : Dc cX1_back 23 (.iload_n 2) 1 24 := ⟨by decide +kernel, rfl⟩
theorem dX1_back_24 : Dc cX1_back 24 (.aload_n 0) 1 25 := ⟨by decide +kernel, rfl⟩
theorem dX1_back_25 : Dc cX1_back 25 (.iload_n 1) 1 26 := ⟨by decide +kernel, rfl⟩
theorem dX1_back_26 : Dc cX1_back 26 (.iload_n 2) 1 27 := ⟨by decide +kernel, rfl⟩
theorem dX1_back_27 : Dc cX1_back 27 (.iconst 1) 1 28 := ⟨by decide +kernel, rfl⟩
theorem dX1_back_28 : Dc cX1_back 28 (.invokevirtual 35) 3 31 := ⟨by decide +kernel, rfl⟩
theorem dX1_back_31 : Dc cX1_back 31 (.bastore) 1 32 := ⟨by decide +kernel, rfl⟩
theorem dX1_back_32 : Dc cX1_back 32 (.iinc 2 1) 3 35 := ⟨by decide +kernel, rfl⟩
theorem dX1_back_35 : Db cX1_back 35 (.goto (-23)) (-23) 38 12 := ⟨by decide +kernel, rfl, rfl⟩
theorem dX1_back_38 : Dc cX1_back 38 (.aload_n 0) 1 39 := ⟨by decide +kernel, rfl⟩
theorem dX1_back_39 : Dc cX1_back 39 (.iload_n 1) 1 40 := ⟨by decide +kernel, rfl⟩
theorem dX1_back_40 : Dc cX1_back 40 (.invokevirtual 32) 3 43 := ⟨by decide +kernel, rfl⟩
theorem dX1_back_43 : Dc cX1_back 43 (.ireturn) 1 44 := ⟨by decide +kernel, rfl⟩
theorem dX1_set_0 : Dc cX1_set 0 (.aload_n 0) 1 1 := ⟨by decide +kernel, rfl⟩
theorem dX1_set_1 : Dc cX1_set 1 (.iload_n 1) 1 2 := ⟨by decide +kernel, rfl⟩
theorem dX1_set_2 : Dc cX1_set 2 (.invokevirtual 24) 3 5 := ⟨by decide +kernel, rfl⟩
theorem dX1_set_5 : Db cX1_set 5 (.ifCond .eq 5) (5) 8 10 := ⟨by decide +kernel, rfl, rfl⟩
theorem dX1_set_8 : Dc cX1_set 8 (.iconst (-1)) 1 9 := ⟨by decide +kernel, rfl⟩
theorem dX1_set_9 : Dc cX1_set 9 (.ireturn) 1 10 := ⟨by decide +kernel, rfl⟩
theorem dX1_set_10 : Dc cX1_set 10 (.aload_n 0) 1 11 := ⟨by decide +kernel, rfl⟩
theorem dX1_set_11 : Dc cX1_set 11 (.iload_n 2) 1 12 := ⟨by decide +kernel, rfl⟩
theorem dX1_set_12 : Dc cX1_set 12 (.invokevirtual 43) 3 15 := ⟨by decide +kernel, rfl⟩
theorem dX1_set_15 : Db cX1_set 15 (.ifCond .eq 6) (6) 18 21 := ⟨by decide +kernel, rfl, rfl⟩
theorem dX1_set_18 : Dc cX1_set 18 (.bipush (-2)) 2 20 := ⟨by decide +kernel, rfl⟩
theorem dX1_set_20 : Dc cX1_set 20 (.ireturn) 1 21 := ⟨by decide +kernel, rfl⟩
theorem dX1_set_21 : Dc cX1_set 21 (.iload_n 3) 1 22 := ⟨by decide +kernel, rfl⟩
theorem dX1_set_22 : Db cX1_set 22 (.ifCond .lt 9) (9) 25 31 := ⟨by decide +kernel, rfl, rfl⟩
theorem dX1_set_25 : Dc cX1_set 25 (.iload_n 3) 1 26 := ⟨by decide +kernel, rfl⟩
theorem dX1_set_26 : Dc cX1_set 26 (.bipush 12) 2 28 := ⟨by decide +kernel, rfl⟩
theorem dX1_set_28 : Db cX1_set 28 (.if_icmp .le 6) (6) 31 34 := ⟨by decide +kernel, rfl, rfl⟩
theorem dX1_set_31 : Dc cX1_set 31 (.bipush (-3)) 2 33 := ⟨by decide +kernel, rfl⟩
theorem dX1_set_33 : Dc cX1_set 33 (.ireturn) 1 34 := ⟨by decide +kernel, rfl⟩
theorem dX1_set_34 : Dc cX1_set 34 (.iconst 0) 1 35 := ⟨by decide +kernel, rfl⟩
theorem dX1_set_35 : Dc cX1_set 35 (.istore 4) 2 37 := ⟨by decide +kernel, rfl⟩
theorem dX1_set_37 : Dc cX1_set 37 (.iload 4) 2 39 := ⟨by decide +kernel, rfl⟩
theorem dX1_set_39 : Dc cX1_set 39 (.sipush 2197) 3 42 := ⟨by decide +kernel, rfl⟩
theorem dX1_set_42 : Db cX1_set 42 (.if_icmp .ge 47) (47) 45 89 := ⟨by decide +kernel, rfl, rfl⟩
theorem dX1_set_45 : Dc cX1_set 45 (.aload_n 0) 1 46 := ⟨by decide +kernel, rfl⟩
theorem dX1_set_46 : Dc cX1_set 46 (.iload 4) 2 48 := ⟨by decide +kernel, rfl⟩
theorem dX1_set_48 : Dc cX1_set 48 (.iload_n 2) 1 49 := ⟨by decide +kernel, rfl⟩
theorem dX1_set_49 : Dc cX1_set 49 (.invokevirtual 16) 3 52 := ⟨by decide +kernel, rfl⟩
theorem dX1_set_52 : Dc cX1_set 52 (.istore 5) 2 54 := ⟨by decide +kernel, rfl⟩
theorem dX1_set_54 : Dc cX1_set 54 (.aload_n 0) 1 55 := ⟨by decide +kernel, rfl⟩
theorem dX1_set_55 : Dc cX1_set 55 (.getfield 13) 3 58 := ⟨by decide +kernel, rfl⟩
theorem dX1_set_58 : Dc cX1_set 58 (.iload 4) 2 60 := ⟨by decide +kernel, rfl⟩
theorem dX1_set_60 : Dc cX1_set 60 (.iload 5) 2 62 := ⟨by decide +kernel, rfl⟩
theorem dX1_set_62 : Dc cX1_set 62 (.iload_n 3) 1 63 := ⟨by decide +kernel, rfl⟩
theorem dX1_set_63 : Db cX1_set 63 (.if_icmp .ne 18) (18) 66 81 := ⟨by decide +kernel, rfl, rfl⟩
theorem dX1_set_66 : Dc cX1_set 66 (.aload_n 0) 1 67 := ⟨by decide +kernel, rfl⟩
theorem dX1_set_67 : Dc cX1_set 67 (.iload_n 1) 1 68 := ⟨by decide +kernel, rfl⟩
theorem dX1_set_68 : Dc cX1_set 68 (.iload 4) 2 70 := ⟨by decide +kernel, rfl⟩
theorem dX1_set_70 : Dc cX1_set 70 (.iload_n 2) 1 71 := ⟨by decide +kernel, rfl⟩
theorem dX1_set_71 : Dc cX1_set 71 (.invokevirtual 46) 3 74 := ⟨by decide +kernel, rfl⟩
theorem dX1_set_74 : Db cX1_set 74 (.ifCond .eq 7) (7) 77 81 := ⟨by decide +kernel, rfl, rfl⟩
theorem dX1_set_77 : Dc cX1_set 77 (.iconst 1) 1 78 := ⟨by decide +kernel, rfl⟩
theorem dX1_set_78 : Db cX1_set 78 (.goto 4) (4) 81 82 := ⟨by decide +kernel, rfl, rfl⟩
theorem dX1_set_81 : Dc cX1_set 81 (.iconst 0) 1 82 := ⟨by decide +kernel, rfl⟩
theorem dX1_set_82 : Dc cX1_set 82 (.bastore) 1 83 := ⟨by decide +kernel, rfl⟩
theorem dX1_set_83 : Dc cX1_set 83 (.iinc 4 1) 3 86 := ⟨by decide +kernel, rfl⟩
theorem dX1_set_86 : Db cX1_set 86 (.goto (-49)) (-49) 89 37 := ⟨by decide +kernel, rfl, rfl⟩
theorem dX1_set_89 : Dc cX1_set 89 (.aload_n 0) 1 90 := ⟨by decide +kernel, rfl⟩
theorem dX1_set_90 : Dc cX1_set 90 (.iload_n 1) 1 91 := ⟨by decide +kernel, rfl⟩
theorem dX1_set_91 : Dc cX1_set 91 (.invokevirtual 32) 3 94 := ⟨by decide +kernel, rfl⟩
theorem dX1_set_94 : Dc cX1_set 94 (.ireturn) 1 95 := ⟨by decide +kernel, rfl⟩
theorem dX1_badClock_0 : Dc cX1_badClock 0 (.iload_n 1) 1 1 := ⟨by decide +kernel, rfl⟩
theorem dX1_badClock_1 : Dc cX1_badClock 1 (.iconst 1) 1 2 := ⟨by decide +kernel, rfl⟩
theorem dX1_badClock_2 : Db cX1_badClock 2 (.if_icmp .lt 8) (8) 5 10 := ⟨by decide +kernel, rfl, rfl⟩
theorem dX1_badClock_5 : Dc cX1_badClock 5 (.iload_n 1) 1 6 := ⟨by decide +kernel, rfl⟩
theorem dX1_badClock_6 : Dc cX1_badClock 6 (.iconst 3) 1 7 := ⟨by decide +kernel, rfl⟩
theorem dX1_badClock_7 : Db cX1_badClock 7 (.if_icmp .le 7) (7) 10 14 := ⟨by decide +kernel, rfl, rfl⟩
theorem dX1_badClock_10 : Dc cX1_badClock 10 (.iconst 1) 1 11 := ⟨by decide +kernel, rfl⟩
theorem dX1_badClock_11 : Db cX1_badClock 11 (.goto 4) (4) 14 15 := ⟨by decide +kernel, rfl, rfl⟩
theorem dX1_badClock_14 : Dc cX1_badClock 14 (.iconst 0) 1 15 := ⟨by decide +kernel, rfl⟩
theorem dX1_badClock_15 : Dc cX1_badClock 15 (.ireturn) 1 16 := ⟨by decide +kernel, rfl⟩
theorem dX1_anyAt_0 : Dc cX1_anyAt 0 (.iconst 0) 1 1 := ⟨by decide +kernel, rfl⟩
theorem dX1_anyAt_1 : Dc cX1_anyAt 1 (.istore 4) 2 3 := ⟨by decide +kernel, rfl⟩
theorem dX1_anyAt_3 : Dc cX1_anyAt 3 (.iload 4) 2 5 := ⟨by decide +kernel, rfl⟩
theorem dX1_anyAt_5 : Dc cX1_anyAt 5 (.bipush 12) 2 7 := ⟨by decide +kernel, rfl⟩
theorem dX1_anyAt_7 : Db cX1_anyAt 7 (.if_icmp .gt 37) (37) 10 44 := ⟨by decide +kernel, rfl, rfl⟩
theorem dX1_anyAt_10 : Dc cX1_anyAt 10 (.aload_n 0) 1 11 := ⟨by decide +kernel, rfl⟩
theorem dX1_anyAt_11 : Dc cX1_anyAt 11 (.iload_n 2) 1 12 := ⟨by decide +kernel, rfl⟩
theorem dX1_anyAt_12 : Dc cX1_anyAt 12 (.iload_n 3) 1 13 := ⟨by decide +kernel, rfl⟩
theorem dX1_anyAt_13 : Dc cX1_anyAt 13 (.iload 4) 2 15 := ⟨by decide +kernel, rfl⟩
theorem dX1_anyAt_15 : Dc cX1_anyAt 15 (.invokevirtual 39) 3 18 := ⟨by decide +kernel, rfl⟩
theorem dX1_anyAt_18 : Dc cX1_anyAt 18 (.istore 5) 2 20 := ⟨by decide +kernel, rfl⟩
theorem dX1_anyAt_20 : Dc cX1_anyAt 20 (.aload_n 0) 1 21 := ⟨by decide +kernel, rfl⟩
theorem dX1_anyAt_21 : Dc cX1_anyAt 21 (.getfield 7) 3 24 := ⟨by decide +kernel, rfl⟩
theorem dX1_anyAt_24 : Dc cX1_anyAt 24 (.iload_n 1) 1 25 := ⟨by decide +kernel, rfl⟩
theorem dX1_anyAt_25 : Dc cX1_anyAt 25 (.sipush 2197) 3 28 := ⟨by decide +kernel, rfl⟩
theorem dX1_anyAt_28 : Dc cX1_anyAt 28 (.imul) 1 29 := ⟨by decide +kernel, rfl⟩
theorem dX1_anyAt_29 : Dc cX1_anyAt 29 (.iload 5) 2 31 := ⟨by decide +kernel, rfl⟩
theorem dX1_anyAt_31 : Dc cX1_anyAt 31 (.iadd) 1 32 := ⟨by decide +kernel, rfl⟩
theorem dX1_anyAt_32 : Dc cX1_anyAt 32 (.baload) 1 33 := ⟨by decide +kernel, rfl⟩
theorem dX1_anyAt_33 : Db cX1_anyAt 33 (.ifCond .eq 5) (5) 36 38 := ⟨by decide +kernel, rfl, rfl⟩
theorem dX1_anyAt_36 : Dc cX1_anyAt 36 (.iconst 1) 1 37 := ⟨by decide +kernel, rfl⟩
theorem dX1_anyAt_37 : Dc cX1_anyAt 37 (.ireturn) 1 38 := ⟨by decide +kernel, rfl⟩
theorem dX1_anyAt_38 : Dc cX1_anyAt 38 (.iinc 4 1) 3 41 := ⟨by decide +kernel, rfl⟩
theorem dX1_anyAt_41 : Db cX1_anyAt 41 (.goto (-38)) (-38) 44 3 := ⟨by decide +kernel, rfl, rfl⟩
theorem dX1_anyAt_44 : Dc cX1_anyAt 44 (.iconst 0) 1 45 := ⟨by decide +kernel, rfl⟩
theorem dX1_anyAt_45 : Dc cX1_anyAt 45 (.ireturn) 1 46 := ⟨by decide +kernel, rfl⟩
theorem dX1_with_0 : Dc cX1_with 0 (.iload_n 2) 1 1 := ⟨by decide +kernel, rfl⟩
theorem dX1_with_1 : Dc cX1_with 1 (.iconst 1) 1 2 := ⟨by decide +kernel, rfl⟩
theorem dX1_with_2 : Db cX1_with 2 (.if_icmp .ne 9) (9) 5 11 := ⟨by decide +kernel, rfl, rfl⟩
theorem dX1_with_5 : Dc cX1_with 5 (.sipush 169) 3 8 := ⟨by decide +kernel, rfl⟩
theorem dX1_with_8 : Db cX1_with 8 (.goto 14) (14) 11 22 := ⟨by decide +kernel, rfl, rfl⟩
theorem dX1_with_11 : Dc cX1_with 11 (.iload_n 2) 1 12 := ⟨by decide +kernel, rfl⟩
theorem dX1_with_12 : Dc cX1_with 12 (.iconst 2) 1 13 := ⟨by decide +kernel, rfl⟩
theorem dX1_with_13 : Db cX1_with 13 (.if_icmp .ne 8) (8) 16 21 := ⟨by decide +kernel, rfl, rfl⟩
theorem dX1_with_16 : Dc cX1_with 16 (.bipush 13) 2 18 := ⟨by decide +kernel, rfl⟩
theorem dX1_with_18 : Db cX1_with 18 (.goto 4) (4) 21 22 := ⟨by decide +kernel, rfl, rfl⟩
theorem dX1_with_21 : Dc cX1_with 21 (.iconst 1) 1 22 := ⟨by decide +kernel, rfl⟩
theorem dX1_with_22 : Dc cX1_with 22 (.istore 4) 2 24 := ⟨by decide +kernel, rfl⟩
theorem dX1_with_24 : Dc cX1_with 24 (.aload_n 0) 1 25 := ⟨by decide +kernel, rfl⟩
theorem dX1_with_25 : Dc cX1_with 25 (.iload_n 1) 1 26 := ⟨by decide +kernel, rfl⟩
theorem dX1_with_26 : Dc cX1_with 26 (.iload_n 2) 1 27 := ⟨by decide +kernel, rfl⟩
theorem dX1_with_27 : Dc cX1_with 27 (.invokevirtual 16) 3 30 := ⟨by decide +kernel, rfl⟩
theorem dX1_with_30 : Dc cX1_with 30 (.istore 5) 2 32 := ⟨by decide +kernel, rfl⟩
theorem dX1_with_32 : Dc cX1_with 32 (.iload_n 1) 1 33 := ⟨by decide +kernel, rfl⟩
theorem dX1_with_33 : Dc cX1_with 33 (.iload_n 3) 1 34 := ⟨by decide +kernel, rfl⟩
theorem dX1_with_34 : Dc cX1_with 34 (.iload 5) 2 36 := ⟨by decide +kernel, rfl⟩
theorem dX1_with_36 : Dc cX1_with 36 (.isub) 1 37 := ⟨by decide +kernel, rfl⟩
theorem dX1_with_37 : Dc cX1_with 37 (.iload 4) 2 39 := ⟨by decide +kernel, rfl⟩
theorem dX1_with_39 : Dc cX1_with 39 (.imul) 1 40 := ⟨by decide +kernel, rfl⟩
theorem dX1_with_40 : Dc cX1_with 40 (.iadd) 1 41 := ⟨by decide +kernel, rfl⟩
theorem dX1_with_41 : Dc cX1_with 41 (.ireturn) 1 42 := ⟨by decide +kernel, rfl⟩
theorem dX1_free_0 : Dc cX1_free 0 (.aload_n 0) 1 1 := ⟨by decide +kernel, rfl⟩
theorem dX1_free_1 : Dc cX1_free 1 (.iload_n 1) 1 2 := ⟨by decide +kernel, rfl⟩
theorem dX1_free_2 : Dc cX1_free 2 (.invokevirtual 24) 3 5 := ⟨by decide +kernel, rfl⟩
theorem dX1_free_5 : Db cX1_free 5 (.ifCond .eq 5) (5) 8 10 := ⟨by decide +kernel, rfl, rfl⟩
theorem dX1_free_8 : Dc cX1_free 8 (.iconst (-1)) 1 9 := ⟨by decide +kernel, rfl⟩
theorem dX1_free_9 : Dc cX1_free 9 (.ireturn) 1 10 := ⟨by decide +kernel, rfl⟩
theorem dX1_free_10 : Dc cX1_free 10 (.aload_n 0) 1 11 := ⟨by decide +kernel, rfl⟩
theorem dX1_free_11 : Dc cX1_free 11 (.iload_n 2) 1 12 := ⟨by decide +kernel, rfl⟩
theorem dX1_free_12 : Dc cX1_free 12 (.invokevirtual 43) 3 15 := ⟨by decide +kernel, rfl⟩
theorem dX1_free_15 : Db cX1_free 15 (.ifCond .eq 6) (6) 18 21 := ⟨by decide +kernel, rfl, rfl⟩
theorem dX1_free_18 : Dc cX1_free 18 (.bipush (-2)) 2 20 := ⟨by decide +kernel, rfl⟩
theorem dX1_free_20 : Dc cX1_free 20 (.ireturn) 1 21 := ⟨by decide +kernel, rfl⟩
theorem dX1_free_21 : Dc cX1_free 21 (.iconst 0) 1 22 := ⟨by decide +kernel, rfl⟩
theorem dX1_free_22 : Dc cX1_free 22 (.istore_n 3) 1 23 := ⟨by decide +kernel, rfl⟩
theorem dX1_free_23 : Dc cX1_free 23 (.iload_n 3) 1 24 := ⟨by decide +kernel, rfl⟩
theorem dX1_free_24 : Dc cX1_free 24 (.sipush 2197) 3 27 := ⟨by decide +kernel, rfl⟩
theorem dX1_free_27 : Db cX1_free 27 (.if_icmp .ge 22) (22) 30 49 := ⟨by decide +kernel, rfl, rfl⟩
theorem dX1_free_30 : Dc cX1_free 30 (.aload_n 0) 1 31 := ⟨by decide +kernel, rfl⟩
theorem dX1_free_31 : Dc cX1_free 31 (.getfield 13) 3 34 := ⟨by decide +kernel, rfl⟩
theorem dX1_free_34 : Dc cX1_free 34 (.iload_n 3) 1 35 := ⟨by decide +kernel, rfl⟩
theorem dX1_free_35 : Dc cX1_free 35 (.aload_n 0) 1 36 := ⟨by decide +kernel, rfl⟩
theorem dX1_free_36 : Dc cX1_free 36 (.iload_n 1) 1 37 := ⟨by decide +kernel, rfl⟩
theorem dX1_free_37 : Dc cX1_free 37 (.iload_n 3) 1 38 := ⟨by decide +kernel, rfl⟩
theorem dX1_free_38 : Dc cX1_free 38 (.iload_n 2) 1 39 := ⟨by decide +kernel, rfl⟩
theorem dX1_free_39 : Dc cX1_free 39 (.invokevirtual 46) 3 42 := ⟨by decide +kernel, rfl⟩
theorem dX1_free_42 : Dc cX1_free 42 (.bastore) 1 43 := ⟨by decide +kernel, rfl⟩
theorem dX1_free_43 : Dc cX1_free 43 (.iinc 3 1) 3 46 := ⟨by decide +kernel, rfl⟩
theorem dX1_free_46 : Db cX1_free 46 (.goto (-23)) (-23) 49 23 := ⟨by decide +kernel, rfl, rfl⟩
theorem dX1_free_49 : Dc cX1_free 49 (.aload_n 0) 1 50 := ⟨by decide +kernel, rfl⟩
theorem dX1_free_50 : Dc cX1_free 50 (.iload_n 1) 1 51 := ⟨by decide +kernel, rfl⟩
theorem dX1_free_51 : Dc cX1_free 51 (.invokevirtual 32) 3 54 := ⟨by decide +kernel, rfl⟩
theorem dX1_free_54 : Dc cX1_free 54 (.ireturn) 1 55 := ⟨by decide +kernel, rfl⟩
theorem dX1_follow_0 : Dc cX1_follow 0 (.aload_n 0) 1 1 := ⟨by decide +kernel, rfl⟩
theorem dX1_follow_1 : Dc cX1_follow 1 (.iload_n 1) 1 2 := ⟨by decide +kernel, rfl⟩
theorem dX1_follow_2 : Dc cX1_follow 2 (.invokevirtual 24) 3 5 := ⟨by decide +kernel, rfl⟩
theorem dX1_follow_5 : Db cX1_follow 5 (.ifCond .eq 5) (5) 8 10 := ⟨by decide +kernel, rfl, rfl⟩
theorem dX1_follow_8 : Dc cX1_follow 8 (.iconst (-1)) 1 9 := ⟨by decide +kernel, rfl⟩
theorem dX1_follow_9 : Dc cX1_follow 9 (.ireturn) 1 10 := ⟨by decide +kernel, rfl⟩
theorem dX1_follow_10 : Dc cX1_follow 10 (.aload_n 0) 1 11 := ⟨by decide +kernel, rfl⟩
theorem dX1_follow_11 : Dc cX1_follow 11 (.iload_n 2) 1 12 := ⟨by decide +kernel, rfl⟩
theorem dX1_follow_12 : Dc cX1_follow 12 (.invokevirtual 43) 3 15 := ⟨by decide +kernel, rfl⟩
theorem dX1_follow_15 : Db cX1_follow 15 (.ifCond .ne 11) (11) 18 26 := ⟨by decide +kernel, rfl, rfl⟩
theorem dX1_follow_18 : Dc cX1_follow 18 (.aload_n 0) 1 19 := ⟨by decide +kernel, rfl⟩
theorem dX1_follow_19 : Dc cX1_follow 19 (.iload_n 3) 1 20 := ⟨by decide +kernel, rfl⟩
theorem dX1_follow_20 : Dc cX1_follow 20 (.invokevirtual 43) 3 23 := ⟨by decide +kernel, rfl⟩
theorem dX1_follow_23 : Db cX1_follow 23 (.ifCond .eq 6) (6) 26 29 := ⟨by decide +kernel, rfl, rfl⟩
theorem dX1_follow_26 : Dc cX1_follow 26 (.bipush (-2)) 2 28 := ⟨by decide +kernel, rfl⟩
theorem dX1_follow_28 : Dc cX1_follow 28 (.ireturn) 1 29 := ⟨by decide +kernel, rfl⟩
theorem dX1_follow_29 : Dc cX1_follow 29 (.iload_n 2) 1 30 := ⟨by decide +kernel, rfl⟩
theorem dX1_follow_30 : Dc cX1_follow 30 (.iload_n 3) 1 31 := ⟨by decide +kernel, rfl⟩
theorem dX1_follow_31 : Db cX1_follow 31 (.if_icmp .ne 9) (9) 34 40 := ⟨by decide +kernel, rfl, rfl⟩
theorem dX1_follow_34 : Dc cX1_follow 34 (.aload_n 0) 1 35 := ⟨by decide +kernel, rfl⟩
theorem dX1_follow_35 : Dc cX1_follow 35 (.iload_n 1) 1 36 := ⟨by decide +kernel, rfl⟩
theorem dX1_follow_36 : Dc cX1_follow 36 (.invokevirtual 20) 3 39 := ⟨by decide +kernel, rfl⟩
theorem dX1_follow_39 : Dc cX1_follow 39 (.ireturn) 1 40 := ⟨by decide +kernel, rfl⟩
theorem dX1_follow_40 : Dc cX1_follow 40 (.iconst 0) 1 41 := ⟨by decide +kernel, rfl⟩
theorem dX1_follow_41 : Dc cX1_follow 41 (.istore 4) 2 43 := ⟨by decide +kernel, rfl⟩
theorem dX1_follow_43 : Dc cX1_follow 43 (.iload 4) 2 45 := ⟨by decide +kernel, rfl⟩
theorem dX1_follow_45 : Dc cX1_follow 45 (.sipush 2197) 3 48 := ⟨by decide +kernel, rfl⟩
theorem dX1_follow_48 : Db cX1_follow 48 (.if_icmp .ge 57) (57) 51 105 := ⟨by decide +kernel, rfl, rfl⟩
theorem dX1_follow_51 : Dc cX1_follow 51 (.aload_n 0) 1 52 := ⟨by decide +kernel, rfl⟩
theorem dX1_follow_52 : Dc cX1_follow 52 (.iload 4) 2 54 := ⟨by decide +kernel, rfl⟩
theorem dX1_follow_54 : Dc cX1_follow 54 (.iload_n 2) 1 55 := ⟨by decide +kernel, rfl⟩
theorem dX1_follow_55 : Dc cX1_follow 55 (.invokevirtual 16) 3 58 := ⟨by decide +kernel, rfl⟩
theorem dX1_follow_58 : Dc cX1_follow 58 (.istore 5) 2 60 := ⟨by decide +kernel, rfl⟩
theorem dX1_follow_60 : Dc cX1_follow 60 (.aload_n 0) 1 61 := ⟨by decide +kernel, rfl⟩
theorem dX1_follow_61 : Dc cX1_follow 61 (.iload 4) 2 63 := ⟨by decide +kernel, rfl⟩
theorem dX1_follow_63 : Dc cX1_follow 63 (.iload_n 3) 1 64 := ⟨by decide +kernel, rfl⟩
theorem dX1_follow_64 : Dc cX1_follow 64 (.invokevirtual 16) 3 67 := ⟨by decide +kernel, rfl⟩
theorem dX1_follow_67 : Dc cX1_follow 67 (.istore 6) 2 69 := ⟨by decide +kernel, rfl⟩
theorem dX1_follow_69 : Dc cX1_follow 69 (.aload_n 0) 1 70 := ⟨by decide +kernel, rfl⟩
theorem dX1_follow_70 : Dc cX1_follow 70 (.getfield 13) 3 73 := ⟨by decide +kernel, rfl⟩
theorem dX1_follow_73 : Dc cX1_follow 73 (.iload 4) 2 75 := ⟨by decide +kernel, rfl⟩
theorem dX1_follow_75 : Dc cX1_follow 75 (.iload 5) 2 77 := ⟨by decide +kernel, rfl⟩
theorem dX1_follow_77 : Dc cX1_follow 77 (.iload 6) 2 79 := ⟨by decide +kernel, rfl⟩
theorem dX1_follow_79 : Db cX1_follow 79 (.if_icmp .ne 18) (18) 82 97 := ⟨by decide +kernel, rfl, rfl⟩
theorem dX1_follow_82 : Dc cX1_follow 82 (.aload_n 0) 1 83 := ⟨by decide +kernel, rfl⟩
theorem dX1_follow_83 : Dc cX1_follow 83 (.iload_n 1) 1 84 := ⟨by decide +kernel, rfl⟩
theorem dX1_follow_84 : Dc cX1_follow 84 (.iload 4) 2 86 := ⟨by decide +kernel, rfl⟩
theorem dX1_follow_86 : Dc cX1_follow 86 (.iload_n 2) 1 87 := ⟨by decide +kernel, rfl⟩
theorem dX1_follow_87 : Dc cX1_follow 87 (.invokevirtual 46) 3 90 := ⟨by decide +kernel, rfl⟩
theorem dX1_follow_90 : Db cX1_follow 90 (.ifCond .eq 7) (7) 93 97 := ⟨by decide +kernel, rfl, rfl⟩
theorem dX1_follow_93 : Dc cX1_follow 93 (.iconst 1) 1 94 := ⟨by decide +kernel, rfl⟩
theorem dX1_follow_94 : Db cX1_follow 94 (.goto 4) (4) 97 98 := ⟨by decide +kernel, rfl, rfl⟩
theorem dX1_follow_97 : Dc cX1_follow 97 (.iconst 0) 1 98 := ⟨by decide +kernel, rfl⟩
theorem dX1_follow_98 : Dc cX1_follow 98 (.bastore) 1 99 := ⟨by decide +kernel, rfl⟩
theorem dX1_follow_99 : Dc cX1_follow 99 (.iinc 4 1) 3 102 := ⟨by decide +kernel, rfl⟩
theorem dX1_follow_102 : Db cX1_follow 102 (.goto (-59)) (-59) 105 43 := ⟨by decide +kernel, rfl, rfl⟩
theorem dX1_follow_105 : Dc cX1_follow 105 (.aload_n 0) 1 106 := ⟨by decide +kernel, rfl⟩
theorem dX1_follow_106 : Dc cX1_follow 106 (.iload_n 1) 1 107 := ⟨by decide +kernel, rfl⟩
theorem dX1_follow_107 : Dc cX1_follow 107 (.invokevirtual 32) 3 110 := ⟨by decide +kernel, rfl⟩
theorem dX1_follow_110 : Dc cX1_follow 110 (.ireturn) 1 111 := ⟨by decide +kernel, rfl⟩
theorem dX1_meet_0 : Dc cX1_meet 0 (.aload_n 0) 1 1 := ⟨by decide +kernel, rfl⟩
theorem dX1_meet_1 : Dc cX1_meet 1 (.iload_n 1) 1 2 := ⟨by decide +kernel, rfl⟩
theorem dX1_meet_2 : Dc cX1_meet 2 (.invokevirtual 24) 3 5 := ⟨by decide +kernel, rfl⟩
theorem dX1_meet_5 : Db cX1_meet 5 (.ifCond .ne 11) (11) 8 16 := ⟨by decide +kernel, rfl, rfl⟩
theorem dX1_meet_8 : Dc cX1_meet 8 (.aload_n 0) 1 9 := ⟨by decide +kernel, rfl⟩
theorem dX1_meet_9 : Dc cX1_meet 9 (.iload_n 2) 1 10 := ⟨by decide +kernel, rfl⟩
theorem dX1_meet_10 : Dc cX1_meet 10 (.invokevirtual 24) 3 13 := ⟨by decide +kernel, rfl⟩
theorem dX1_meet_13 : Db cX1_meet 13 (.ifCond .eq 5) (5) 16 18 := ⟨by decide +kernel, rfl, rfl⟩
theorem dX1_meet_16 : Dc cX1_meet 16 (.iconst (-1)) 1 17 := ⟨by decide +kernel, rfl⟩
theorem dX1_meet_17 : Dc cX1_meet 17 (.ireturn) 1 18 := ⟨by decide +kernel, rfl⟩
theorem dX1_meet_18 : Dc cX1_meet 18 (.iconst 0) 1 19 := ⟨by decide +kernel, rfl⟩
theorem dX1_meet_19 : Dc cX1_meet 19 (.istore_n 3) 1 20 := ⟨by decide +kernel, rfl⟩
theorem dX1_meet_20 : Dc cX1_meet 20 (.iload_n 3) 1 21 := ⟨by decide +kernel, rfl⟩
theorem dX1_meet_21 : Dc cX1_meet 21 (.sipush 2197) 3 24 := ⟨by decide +kernel, rfl⟩
theorem dX1_meet_24 : Db cX1_meet 24 (.if_icmp .ge 50) (50) 27 74 := ⟨by decide +kernel, rfl, rfl⟩
theorem dX1_meet_27 : Dc cX1_meet 27 (.aload_n 0) 1 28 := ⟨by decide +kernel, rfl⟩
theorem dX1_meet_28 : Dc cX1_meet 28 (.getfield 13) 3 31 := ⟨by decide +kernel, rfl⟩
theorem dX1_meet_31 : Dc cX1_meet 31 (.iload_n 3) 1 32 := ⟨by decide +kernel, rfl⟩
theorem dX1_meet_32 : Dc cX1_meet 32 (.aload_n 0) 1 33 := ⟨by decide +kernel, rfl⟩
theorem dX1_meet_33 : Dc cX1_meet 33 (.getfield 7) 3 36 := ⟨by decide +kernel, rfl⟩
theorem dX1_meet_36 : Dc cX1_meet 36 (.iload_n 1) 1 37 := ⟨by decide +kernel, rfl⟩
theorem dX1_meet_37 : Dc cX1_meet 37 (.sipush 2197) 3 40 := ⟨by decide +kernel, rfl⟩
theorem dX1_meet_40 : Dc cX1_meet 40 (.imul) 1 41 := ⟨by decide +kernel, rfl⟩
theorem dX1_meet_41 : Dc cX1_meet 41 (.iload_n 3) 1 42 := ⟨by decide +kernel, rfl⟩
theorem dX1_meet_42 : Dc cX1_meet 42 (.iadd) 1 43 := ⟨by decide +kernel, rfl⟩
theorem dX1_meet_43 : Dc cX1_meet 43 (.baload) 1 44 := ⟨by decide +kernel, rfl⟩
theorem dX1_meet_44 : Db cX1_meet 44 (.ifCond .eq 22) (22) 47 66 := ⟨by decide +kernel, rfl, rfl⟩
theorem dX1_meet_47 : Dc cX1_meet 47 (.aload_n 0) 1 48 := ⟨by decide +kernel, rfl⟩
theorem dX1_meet_48 : Dc cX1_meet 48 (.getfield 7) 3 51 := ⟨by decide +kernel, rfl⟩
theorem dX1_meet_51 : Dc cX1_meet 51 (.iload_n 2) 1 52 := ⟨by decide +kernel, rfl⟩
theorem dX1_meet_52 : Dc cX1_meet 52 (.sipush 2197) 3 55 := ⟨by decide +kernel, rfl⟩
theorem dX1_meet_55 : Dc cX1_meet 55 (.imul) 1 56 := ⟨by decide +kernel, rfl⟩
theorem dX1_meet_56 : Dc cX1_meet 56 (.iload_n 3) 1 57 := ⟨by decide +kernel, rfl⟩
theorem dX1_meet_57 : Dc cX1_meet 57 (.iadd) 1 58 := ⟨by decide +kernel, rfl⟩
theorem dX1_meet_58 : Dc cX1_meet 58 (.baload) 1 59 := ⟨by decide +kernel, rfl⟩
theorem dX1_meet_59 : Db cX1_meet 59 (.ifCond .eq 7) (7) 62 66 := ⟨by decide +kernel, rfl, rfl⟩
theorem dX1_meet_62 : Dc cX1_meet 62 (.iconst 1) 1 63 := ⟨by decide +kernel, rfl⟩
theorem dX1_meet_63 : Db cX1_meet 63 (.goto 4) (4) 66 67 := ⟨by decide +kernel, rfl, rfl⟩
theorem dX1_meet_66 : Dc cX1_meet 66 (.iconst 0) 1 67 := ⟨by decide +kernel, rfl⟩
theorem dX1_meet_67 : Dc cX1_meet 67 (.bastore) 1 68 := ⟨by decide +kernel, rfl⟩
theorem dX1_meet_68 : Dc cX1_meet 68 (.iinc 3 1) 3 71 := ⟨by decide +kernel, rfl⟩
theorem dX1_meet_71 : Db cX1_meet 71 (.goto (-51)) (-51) 74 20 := ⟨by decide +kernel, rfl, rfl⟩
theorem dX1_meet_74 : Dc cX1_meet 74 (.aload_n 0) 1 75 := ⟨by decide +kernel, rfl⟩
theorem dX1_meet_75 : Dc cX1_meet 75 (.iload_n 1) 1 76 := ⟨by decide +kernel, rfl⟩
theorem dX1_meet_76 : Dc cX1_meet 76 (.invokevirtual 32) 3 79 := ⟨by decide +kernel, rfl⟩
theorem dX1_meet_79 : Dc cX1_meet 79 (.ireturn) 1 80 := ⟨by decide +kernel, rfl⟩
theorem dX1_hull_0 : Dc cX1_hull 0 (.aload_n 0) 1 1 := ⟨by decide +kernel, rfl⟩
theorem dX1_hull_1 : Dc cX1_hull 1 (.iload_n 1) 1 2 := ⟨by decide +kernel, rfl⟩
theorem dX1_hull_2 : Dc cX1_hull 2 (.invokevirtual 24) 3 5 := ⟨by decide +kernel, rfl⟩
theorem dX1_hull_5 : Db cX1_hull 5 (.ifCond .ne 11) (11) 8 16 := ⟨by decide +kernel, rfl, rfl⟩
theorem dX1_hull_8 : Dc cX1_hull 8 (.aload_n 0) 1 9 := ⟨by decide +kernel, rfl⟩
theorem dX1_hull_9 : Dc cX1_hull 9 (.iload_n 2) 1 10 := ⟨by decide +kernel, rfl⟩
theorem dX1_hull_10 : Dc cX1_hull 10 (.invokevirtual 24) 3 13 := ⟨by decide +kernel, rfl⟩
theorem dX1_hull_13 : Db cX1_hull 13 (.ifCond .eq 5) (5) 16 18 := ⟨by decide +kernel, rfl, rfl⟩
theorem dX1_hull_16 : Dc cX1_hull 16 (.iconst (-1)) 1 17 := ⟨by decide +kernel, rfl⟩
theorem dX1_hull_17 : Dc cX1_hull 17 (.ireturn) 1 18 := ⟨by decide +kernel, rfl⟩
theorem dX1_hull_18 : Dc cX1_hull 18 (.iconst 0) 1 19 := ⟨by decide +kernel, rfl⟩
theorem dX1_hull_19 : Dc cX1_hull 19 (.istore_n 3) 1 20 := ⟨by decide +kernel, rfl⟩
theorem dX1_hull_20 : Dc cX1_hull 20 (.iload_n 3) 1 21 := ⟨by decide +kernel, rfl⟩
theorem dX1_hull_21 : Dc cX1_hull 21 (.sipush 2197) 3 24 := ⟨by decide +kernel, rfl⟩
theorem dX1_hull_24 : Db cX1_hull 24 (.if_icmp .ge 50) (50) 27 74 := ⟨by decide +kernel, rfl, rfl⟩
theorem dX1_hull_27 : Dc cX1_hull 27 (.aload_n 0) 1 28 := ⟨by decide +kernel, rfl⟩
theorem dX1_hull_28 : Dc cX1_hull 28 (.getfield 13) 3 31 := ⟨by decide +kernel, rfl⟩
theorem dX1_hull_31 : Dc cX1_hull 31 (.iload_n 3) 1 32 := ⟨by decide +kernel, rfl⟩
theorem dX1_hull_32 : Dc cX1_hull 32 (.aload_n 0) 1 33 := ⟨by decide +kernel, rfl⟩
theorem dX1_hull_33 : Dc cX1_hull 33 (.getfield 7) 3 36 := ⟨by decide +kernel, rfl⟩
theorem dX1_hull_36 : Dc cX1_hull 36 (.iload_n 1) 1 37 := ⟨by decide +kernel, rfl⟩
theorem dX1_hull_37 : Dc cX1_hull 37 (.sipush 2197) 3 40 := ⟨by decide +kernel, rfl⟩
theorem dX1_hull_40 : Dc cX1_hull 40 (.imul) 1 41 := ⟨by decide +kernel, rfl⟩
theorem dX1_hull_41 : Dc cX1_hull 41 (.iload_n 3) 1 42 := ⟨by decide +kernel, rfl⟩
theorem dX1_hull_42 : Dc cX1_hull 42 (.iadd) 1 43 := ⟨by decide +kernel, rfl⟩
theorem dX1_hull_43 : Dc cX1_hull 43 (.baload) 1 44 := ⟨by decide +kernel, rfl⟩
theorem dX1_hull_44 : Db cX1_hull 44 (.ifCond .ne 18) (18) 47 62 := ⟨by decide +kernel, rfl, rfl⟩
theorem dX1_hull_47 : Dc cX1_hull 47 (.aload_n 0) 1 48 := ⟨by decide +kernel, rfl⟩
theorem dX1_hull_48 : Dc cX1_hull 48 (.getfield 7) 3 51 := ⟨by decide +kernel, rfl⟩
theorem dX1_hull_51 : Dc cX1_hull 51 (.iload_n 2) 1 52 := ⟨by decide +kernel, rfl⟩
theorem dX1_hull_52 : Dc cX1_hull 52 (.sipush 2197) 3 55 := ⟨by decide +kernel, rfl⟩
theorem dX1_hull_55 : Dc cX1_hull 55 (.imul) 1 56 := ⟨by decide +kernel, rfl⟩
theorem dX1_hull_56 : Dc cX1_hull 56 (.iload_n 3) 1 57 := ⟨by decide +kernel, rfl⟩
theorem dX1_hull_57 : Dc cX1_hull 57 (.iadd) 1 58 := ⟨by decide +kernel, rfl⟩
theorem dX1_hull_58 : Dc cX1_hull 58 (.baload) 1 59 := ⟨by decide +kernel, rfl⟩
theorem dX1_hull_59 : Db cX1_hull 59 (.ifCond .eq 7) (7) 62 66 := ⟨by decide +kernel, rfl, rfl⟩
theorem dX1_hull_62 : Dc cX1_hull 62 (.iconst 1) 1 63 := ⟨by decide +kernel, rfl⟩
theorem dX1_hull_63 : Db cX1_hull 63 (.goto 4) (4) 66 67 := ⟨by decide +kernel, rfl, rfl⟩
theorem dX1_hull_66 : Dc cX1_hull 66 (.iconst 0) 1 67 := ⟨by decide +kernel, rfl⟩
theorem dX1_hull_67 : Dc cX1_hull 67 (.bastore) 1 68 := ⟨by decide +kernel, rfl⟩
theorem dX1_hull_68 : Dc cX1_hull 68 (.iinc 3 1) 3 71 := ⟨by decide +kernel, rfl⟩
theorem dX1_hull_71 : Db cX1_hull 71 (.goto (-51)) (-51) 74 20 := ⟨by decide +kernel, rfl, rfl⟩
theorem dX1_hull_74 : Dc cX1_hull 74 (.iconst 0) 1 75 := ⟨by decide +kernel, rfl⟩
theorem dX1_hull_75 : Dc cX1_hull 75 (.istore_n 3) 1 76 := ⟨by decide +kernel, rfl⟩
theorem dX1_hull_76 : Dc cX1_hull 76 (.iload_n 3) 1 77 := ⟨by decide +kernel, rfl⟩
theorem dX1_hull_77 : Dc cX1_hull 77 (.sipush 2197) 3 80 := ⟨by decide +kernel, rfl⟩
theorem dX1_hull_80 : Db cX1_hull 80 (.if_icmp .ge 22) (22) 83 102 := ⟨by decide +kernel, rfl, rfl⟩
theorem dX1_hull_83 : Dc cX1_hull 83 (.aload_n 0) 1 84 := ⟨by decide +kernel, rfl⟩
theorem dX1_hull_84 : Dc cX1_hull 84 (.getfield 7) 3 87 := ⟨by decide +kernel, rfl⟩
theorem dX1_hull_87 : Dc cX1_hull 87 (.iload_n 1) 1 88 := ⟨by decide +kernel, rfl⟩
theorem dX1_hull_88 : Dc cX1_hull 88 (.sipush 2197) 3 91 := ⟨by decide +kernel, rfl⟩
theorem dX1_hull_91 : Dc cX1_hull 91 (.imul) 1 92 := ⟨by decide +kernel, rfl⟩
theorem dX1_hull_92 : Dc cX1_hull 92 (.iload_n 3) 1 93 := ⟨by decide +kernel, rfl⟩
theorem dX1_hull_93 : Dc cX1_hull 93 (.iadd) 1 94 := ⟨by decide +kernel, rfl⟩
theorem dX1_hull_94 : Dc cX1_hull 94 (.iconst 1) 1 95 := ⟨by decide +kernel, rfl⟩
theorem dX1_hull_95 : Dc cX1_hull 95 (.bastore) 1 96 := ⟨by decide +kernel, rfl⟩
theorem dX1_hull_96 : Dc cX1_hull 96 (.iinc 3 1) 3 99 := ⟨by decide +kernel, rfl⟩
theorem dX1_hull_99 : Db cX1_hull 99 (.goto (-23)) (-23) 102 76 := ⟨by decide +kernel, rfl, rfl⟩
theorem dX1_hull_102 : Dc cX1_hull 102 (.iconst 0) 1 103 := ⟨by decide +kernel, rfl⟩
theorem dX1_hull_103 : Dc cX1_hull 103 (.istore_n 3) 1 104 := ⟨by decide +kernel, rfl⟩
theorem dX1_hull_104 : Dc cX1_hull 104 (.iload_n 3) 1 105 := ⟨by decide +kernel, rfl⟩
theorem dX1_hull_105 : Dc cX1_hull 105 (.bipush 16) 2 107 := ⟨by decide +kernel, rfl⟩
theorem dX1_hull_107 : Db cX1_hull 107 (.if_icmp .ge 40) (40) 110 147 := ⟨by decide +kernel, rfl, rfl⟩
theorem dX1_hull_110 : Dc cX1_hull 110 (.iload_n 3) 1 111 := ⟨by decide +kernel, rfl⟩
theorem dX1_hull_111 : Dc cX1_hull 111 (.iconst 4) 1 112 := ⟨by decide +kernel, rfl⟩
theorem dX1_hull_112 : Dc cX1_hull 112 (.idiv) 1 113 := ⟨by decide +kernel, rfl⟩
theorem dX1_hull_113 : Dc cX1_hull 113 (.istore 4) 2 115 := ⟨by decide +kernel, rfl⟩
theorem dX1_hull_115 : Dc cX1_hull 115 (.iload_n 3) 1 116 := ⟨by decide +kernel, rfl⟩
theorem dX1_hull_116 : Dc cX1_hull 116 (.iconst 4) 1 117 := ⟨by decide +kernel, rfl⟩
theorem dX1_hull_117 : Dc cX1_hull 117 (.irem) 1 118 := ⟨by decide +kernel, rfl⟩
theorem dX1_hull_118 : Dc cX1_hull 118 (.istore 5) 2 120 := ⟨by decide +kernel, rfl⟩
theorem dX1_hull_120 : Dc cX1_hull 120 (.aload_n 0) 1 121 := ⟨by decide +kernel, rfl⟩
theorem dX1_hull_121 : Dc cX1_hull 121 (.iload 4) 2 123 := ⟨by decide +kernel, rfl⟩
theorem dX1_hull_123 : Dc cX1_hull 123 (.iload 5) 2 125 := ⟨by decide +kernel, rfl⟩
theorem dX1_hull_125 : Dc cX1_hull 125 (.invokevirtual 49) 3 128 := ⟨by decide +kernel, rfl⟩
theorem dX1_hull_128 : Dc cX1_hull 128 (.istore 6) 2 130 := ⟨by decide +kernel, rfl⟩
theorem dX1_hull_130 : Dc cX1_hull 130 (.aload_n 0) 1 131 := ⟨by decide +kernel, rfl⟩
theorem dX1_hull_131 : Dc cX1_hull 131 (.iload_n 1) 1 132 := ⟨by decide +kernel, rfl⟩
theorem dX1_hull_132 : Dc cX1_hull 132 (.iload 4) 2 134 := ⟨by decide +kernel, rfl⟩
theorem dX1_hull_134 : Dc cX1_hull 134 (.iload 5) 2 136 := ⟨by decide +kernel, rfl⟩
theorem dX1_hull_136 : Dc cX1_hull 136 (.iload 6) 2 138 := ⟨by decide +kernel, rfl⟩
theorem dX1_hull_138 : Dc cX1_hull 138 (.invokevirtual 52) 3 141 := ⟨by decide +kernel, rfl⟩
theorem dX1_hull_141 : Dc cX1_hull 141 (.iinc 3 1) 3 144 := ⟨by decide +kernel, rfl⟩
theorem dX1_hull_144 : Db cX1_hull 144 (.goto (-40)) (-40) 147 104 := ⟨by decide +kernel, rfl, rfl⟩
theorem dX1_hull_147 : Dc cX1_hull 147 (.aload_n 0) 1 148 := ⟨by decide +kernel, rfl⟩
theorem dX1_hull_148 : Dc cX1_hull 148 (.iload_n 1) 1 149 := ⟨by decide +kernel, rfl⟩
theorem dX1_hull_149 : Dc cX1_hull 149 (.invokevirtual 20) 3 152 := ⟨by decide +kernel, rfl⟩
theorem dX1_hull_152 : Dc cX1_hull 152 (.ireturn) 1 153 := ⟨by decide +kernel, rfl⟩
theorem dX1_greatest_0 : Dc cX1_greatest 0 (.bipush (-100)) 2 2 := ⟨by decide +kernel, rfl⟩
theorem dX1_greatest_2 : Dc cX1_greatest 2 (.istore_n 3) 1 3 := ⟨by decide +kernel, rfl⟩
theorem dX1_greatest_3 : Dc cX1_greatest 3 (.iconst 0) 1 4 := ⟨by decide +kernel, rfl⟩
theorem dX1_greatest_4 : Dc cX1_greatest 4 (.istore 4) 2 6 := ⟨by decide +kernel, rfl⟩
theorem dX1_greatest_6 : Dc cX1_greatest 6 (.iload 4) 2 8 := ⟨by decide +kernel, rfl⟩
theorem dX1_greatest_8 : Dc cX1_greatest 8 (.sipush 2197) 3 11 := ⟨by decide +kernel, rfl⟩
theorem dX1_greatest_11 : Db cX1_greatest 11 (.if_icmp .ge 55) (55) 14 66 := ⟨by decide +kernel, rfl, rfl⟩
theorem dX1_greatest_14 : Dc cX1_greatest 14 (.aload_n 0) 1 15 := ⟨by decide +kernel, rfl⟩
theorem dX1_greatest_15 : Dc cX1_greatest 15 (.getfield 13) 3 18 := ⟨by decide +kernel, rfl⟩
theorem dX1_greatest_18 : Dc cX1_greatest 18 (.iload 4) 2 20 := ⟨by decide +kernel, rfl⟩
theorem dX1_greatest_20 : Dc cX1_greatest 20 (.baload) 1 21 := ⟨by decide +kernel, rfl⟩
theorem dX1_greatest_21 : Db cX1_greatest 21 (.ifCond .ne 6) (6) 24 27 := ⟨by decide +kernel, rfl, rfl⟩
theorem dX1_greatest_24 : Db cX1_greatest 24 (.goto 36) (36) 27 60 := ⟨by decide +kernel, rfl, rfl⟩
theorem dX1_greatest_27 : Dc cX1_greatest 27 (.aload_n 0) 1 28 := ⟨by decide +kernel, rfl⟩
theorem dX1_greatest_28 : Dc cX1_greatest 28 (.iload 4) 2 30 := ⟨by decide +kernel, rfl⟩
theorem dX1_greatest_30 : Dc cX1_greatest 30 (.iload_n 1) 1 31 := ⟨by decide +kernel, rfl⟩
theorem dX1_greatest_31 : Dc cX1_greatest 31 (.invokevirtual 16) 3 34 := ⟨by decide +kernel, rfl⟩
theorem dX1_greatest_34 : Dc cX1_greatest 34 (.istore 5) 2 36 := ⟨by decide +kernel, rfl⟩
theorem dX1_greatest_36 : Dc cX1_greatest 36 (.aload_n 0) 1 37 := ⟨by decide +kernel, rfl⟩
theorem dX1_greatest_37 : Dc cX1_greatest 37 (.iload 4) 2 39 := ⟨by decide +kernel, rfl⟩
theorem dX1_greatest_39 : Dc cX1_greatest 39 (.iload_n 2) 1 40 := ⟨by decide +kernel, rfl⟩
theorem dX1_greatest_40 : Dc cX1_greatest 40 (.invokevirtual 16) 3 43 := ⟨by decide +kernel, rfl⟩
theorem dX1_greatest_43 : Dc cX1_greatest 43 (.istore 6) 2 45 := ⟨by decide +kernel, rfl⟩
theorem dX1_greatest_45 : Dc cX1_greatest 45 (.iload 5) 2 47 := ⟨by decide +kernel, rfl⟩
theorem dX1_greatest_47 : Dc cX1_greatest 47 (.iload 6) 2 49 := ⟨by decide +kernel, rfl⟩
theorem dX1_greatest_49 : Dc cX1_greatest 49 (.isub) 1 50 := ⟨by decide +kernel, rfl⟩
theorem dX1_greatest_50 : Dc cX1_greatest 50 (.iload_n 3) 1 51 := ⟨by decide +kernel, rfl⟩
theorem dX1_greatest_51 : Db cX1_greatest 51 (.if_icmp .le 9) (9) 54 60 := ⟨by decide +kernel, rfl, rfl⟩
theorem dX1_greatest_54 : Dc cX1_greatest 54 (.iload 5) 2 56 := ⟨by decide +kernel, rfl⟩
theorem dX1_greatest_56 : Dc cX1_greatest 56 (.iload 6) 2 58 := ⟨by decide +kernel, rfl⟩
theorem dX1_greatest_58 : Dc cX1_greatest 58 (.isub) 1 59 := ⟨by decide +kernel, rfl⟩
theorem dX1_greatest_59 : Dc cX1_greatest 59 (.istore_n 3) 1 60 := ⟨by decide +kernel, rfl⟩
theorem dX1_greatest_60 : Dc cX1_greatest 60 (.iinc 4 1) 3 63 := ⟨by decide +kernel, rfl⟩
theorem dX1_greatest_63 : Db cX1_greatest 63 (.goto (-57)) (-57) 66 6 := ⟨by decide +kernel, rfl, rfl⟩
theorem dX1_greatest_66 : Dc cX1_greatest 66 (.iload_n 3) 1 67 := ⟨by decide +kernel, rfl⟩
theorem dX1_greatest_67 : Dc cX1_greatest 67 (.ireturn) 1 68 := ⟨by decide +kernel, rfl⟩
theorem dX1_drop_0 : Dc cX1_drop 0 (.iconst 0) 1 1 := ⟨by decide +kernel, rfl⟩
theorem dX1_drop_1 : Dc cX1_drop 1 (.istore 5) 2 3 := ⟨by decide +kernel, rfl⟩
theorem dX1_drop_3 : Dc cX1_drop 3 (.iload 5) 2 5 := ⟨by decide +kernel, rfl⟩
theorem dX1_drop_5 : Dc cX1_drop 5 (.sipush 2197) 3 8 := ⟨by decide +kernel, rfl⟩
theorem dX1_drop_8 : Db cX1_drop 8 (.if_icmp .ge 51) (51) 11 59 := ⟨by decide +kernel, rfl, rfl⟩
theorem dX1_drop_11 : Dc cX1_drop 11 (.aload_n 0) 1 12 := ⟨by decide +kernel, rfl⟩
theorem dX1_drop_12 : Dc cX1_drop 12 (.iload 5) 2 14 := ⟨by decide +kernel, rfl⟩
theorem dX1_drop_14 : Dc cX1_drop 14 (.iload_n 2) 1 15 := ⟨by decide +kernel, rfl⟩
theorem dX1_drop_15 : Dc cX1_drop 15 (.invokevirtual 16) 3 18 := ⟨by decide +kernel, rfl⟩
theorem dX1_drop_18 : Dc cX1_drop 18 (.istore 6) 2 20 := ⟨by decide +kernel, rfl⟩
theorem dX1_drop_20 : Dc cX1_drop 20 (.aload_n 0) 1 21 := ⟨by decide +kernel, rfl⟩
theorem dX1_drop_21 : Dc cX1_drop 21 (.iload 5) 2 23 := ⟨by decide +kernel, rfl⟩
theorem dX1_drop_23 : Dc cX1_drop 23 (.iload_n 3) 1 24 := ⟨by decide +kernel, rfl⟩
theorem dX1_drop_24 : Dc cX1_drop 24 (.invokevirtual 16) 3 27 := ⟨by decide +kernel, rfl⟩
theorem dX1_drop_27 : Dc cX1_drop 27 (.istore 7) 2 29 := ⟨by decide +kernel, rfl⟩
theorem dX1_drop_29 : Dc cX1_drop 29 (.iload 6) 2 31 := ⟨by decide +kernel, rfl⟩
theorem dX1_drop_31 : Dc cX1_drop 31 (.iload 7) 2 33 := ⟨by decide +kernel, rfl⟩
theorem dX1_drop_33 : Dc cX1_drop 33 (.isub) 1 34 := ⟨by decide +kernel, rfl⟩
theorem dX1_drop_34 : Dc cX1_drop 34 (.iload 4) 2 36 := ⟨by decide +kernel, rfl⟩
theorem dX1_drop_36 : Db cX1_drop 36 (.if_icmp .le 17) (17) 39 53 := ⟨by decide +kernel, rfl, rfl⟩
theorem dX1_drop_39 : Dc cX1_drop 39 (.aload_n 0) 1 40 := ⟨by decide +kernel, rfl⟩
theorem dX1_drop_40 : Dc cX1_drop 40 (.getfield 7) 3 43 := ⟨by decide +kernel, rfl⟩
theorem dX1_drop_43 : Dc cX1_drop 43 (.iload_n 1) 1 44 := ⟨by decide +kernel, rfl⟩
theorem dX1_drop_44 : Dc cX1_drop 44 (.sipush 2197) 3 47 := ⟨by decide +kernel, rfl⟩
theorem dX1_drop_47 : Dc cX1_drop 47 (.imul) 1 48 := ⟨by decide +kernel, rfl⟩
theorem dX1_drop_48 : Dc cX1_drop 48 (.iload 5) 2 50 := ⟨by decide +kernel, rfl⟩
theorem dX1_drop_50 : Dc cX1_drop 50 (.iadd) 1 51 := ⟨by decide +kernel, rfl⟩
theorem dX1_drop_51 : Dc cX1_drop 51 (.iconst 0) 1 52 := ⟨by decide +kernel, rfl⟩
theorem dX1_drop_52 : Dc cX1_drop 52 (.bastore) 1 53 := ⟨by decide +kernel, rfl⟩
theorem dX1_drop_53 : Dc cX1_drop 53 (.iinc 5 1) 3 56 := ⟨by decide +kernel, rfl⟩
theorem dX1_drop_56 : Db cX1_drop 56 (.goto (-53)) (-53) 59 3 := ⟨by decide +kernel, rfl, rfl⟩
theorem dX1_drop_59 : Dc cX1_drop 59 (.return_) 1 60 := ⟨by decide +kernel, rfl⟩
theorem dX1_copy_0 : Dc cX1_copy 0 (.aload_n 0) 1 1 := ⟨by decide +kernel, rfl⟩
theorem dX1_copy_1 : Dc cX1_copy 1 (.iload_n 1) 1 2 := ⟨by decide +kernel, rfl⟩
theorem dX1_copy_2 : Dc cX1_copy 2 (.invokevirtual 24) 3 5 := ⟨by decide +kernel, rfl⟩
theorem dX1_copy_5 : Db cX1_copy 5 (.ifCond .ne 11) (11) 8 16 := ⟨by decide +kernel, rfl, rfl⟩
theorem dX1_copy_8 : Dc cX1_copy 8 (.aload_n 0) 1 9 := ⟨by decide +kernel, rfl⟩
theorem dX1_copy_9 : Dc cX1_copy 9 (.iload_n 2) 1 10 := ⟨by decide +kernel, rfl⟩
theorem dX1_copy_10 : Dc cX1_copy 10 (.invokevirtual 24) 3 13 := ⟨by decide +kernel, rfl⟩
theorem dX1_copy_13 : Db cX1_copy 13 (.ifCond .eq 5) (5) 16 18 := ⟨by decide +kernel, rfl, rfl⟩
theorem dX1_copy_16 : Dc cX1_copy 16 (.iconst (-1)) 1 17 := ⟨by decide +kernel, rfl⟩
theorem dX1_copy_17 : Dc cX1_copy 17 (.ireturn) 1 18 := ⟨by decide +kernel, rfl⟩
theorem dX1_copy_18 : Dc cX1_copy 18 (.iconst 0) 1 19 := ⟨by decide +kernel, rfl⟩
theorem dX1_copy_19 : Dc cX1_copy 19 (.istore_n 3) 1 20 := ⟨by decide +kernel, rfl⟩
theorem dX1_copy_20 : Dc cX1_copy 20 (.iload_n 3) 1 21 := ⟨by decide +kernel, rfl⟩
theorem dX1_copy_21 : Dc cX1_copy 21 (.sipush 2197) 3 24 := ⟨by decide +kernel, rfl⟩
theorem dX1_copy_24 : Db cX1_copy 24 (.if_icmp .ge 33) (33) 27 57 := ⟨by decide +kernel, rfl, rfl⟩
theorem dX1_copy_27 : Dc cX1_copy 27 (.aload_n 0) 1 28 := ⟨by decide +kernel, rfl⟩
theorem dX1_copy_28 : Dc cX1_copy 28 (.getfield 7) 3 31 := ⟨by decide +kernel, rfl⟩
theorem dX1_copy_31 : Dc cX1_copy 31 (.iload_n 1) 1 32 := ⟨by decide +kernel, rfl⟩
theorem dX1_copy_32 : Dc cX1_copy 32 (.sipush 2197) 3 35 := ⟨by decide +kernel, rfl⟩
theorem dX1_copy_35 : Dc cX1_copy 35 (.imul) 1 36 := ⟨by decide +kernel, rfl⟩
theorem dX1_copy_36 : Dc cX1_copy 36 (.iload_n 3) 1 37 := ⟨by decide +kernel, rfl⟩
theorem dX1_copy_37 : Dc cX1_copy 37 (.iadd) 1 38 := ⟨by decide +kernel, rfl⟩
theorem dX1_copy_38 : Dc cX1_copy 38 (.aload_n 0) 1 39 := ⟨by decide +kernel, rfl⟩
theorem dX1_copy_39 : Dc cX1_copy 39 (.getfield 7) 3 42 := ⟨by decide +kernel, rfl⟩
theorem dX1_copy_42 : Dc cX1_copy 42 (.iload_n 2) 1 43 := ⟨by decide +kernel, rfl⟩
theorem dX1_copy_43 : Dc cX1_copy 43 (.sipush 2197) 3 46 := ⟨by decide +kernel, rfl⟩
theorem dX1_copy_46 : Dc cX1_copy 46 (.imul) 1 47 := ⟨by decide +kernel, rfl⟩
theorem dX1_copy_47 : Dc cX1_copy 47 (.iload_n 3) 1 48 := ⟨by decide +kernel, rfl⟩
theorem dX1_copy_48 : Dc cX1_copy 48 (.iadd) 1 49 := ⟨by decide +kernel, rfl⟩
theorem dX1_copy_49 : Dc cX1_copy 49 (.baload) 1 50 := ⟨by decide +kernel, rfl⟩
theorem dX1_copy_50 : Dc cX1_copy 50 (.bastore) 1 51 := ⟨by decide +kernel, rfl⟩
theorem dX1_copy_51 : Dc cX1_copy 51 (.iinc 3 1) 3 54 := ⟨by decide +kernel, rfl⟩
theorem dX1_copy_54 : Db cX1_copy 54 (.goto (-34)) (-34) 57 20 := ⟨by decide +kernel, rfl, rfl⟩
theorem dX1_copy_57 : Dc cX1_copy 57 (.iconst 0) 1 58 := ⟨by decide +kernel, rfl⟩
theorem dX1_copy_58 : Dc cX1_copy 58 (.ireturn) 1 59 := ⟨by decide +kernel, rfl⟩
theorem dX1_empty_0 : Dc cX1_empty 0 (.aload_n 0) 1 1 := ⟨by decide +kernel, rfl⟩
theorem dX1_empty_1 : Dc cX1_empty 1 (.iload_n 1) 1 2 := ⟨by decide +kernel, rfl⟩
theorem dX1_empty_2 : Dc cX1_empty 2 (.invokevirtual 24) 3 5 := ⟨by decide +kernel, rfl⟩
theorem dX1_empty_5 : Db cX1_empty 5 (.ifCond .eq 5) (5) 8 10 := ⟨by decide +kernel, rfl, rfl⟩
theorem dX1_empty_8 : Dc cX1_empty 8 (.iconst (-1)) 1 9 := ⟨by decide +kernel, rfl⟩
theorem dX1_empty_9 : Dc cX1_empty 9 (.ireturn) 1 10 := ⟨by decide +kernel, rfl⟩
theorem dX1_empty_10 : Dc cX1_empty 10 (.iconst 1) 1 11 := ⟨by decide +kernel, rfl⟩
theorem dX1_empty_11 : Dc cX1_empty 11 (.aload_n 0) 1 12 := ⟨by decide +kernel, rfl⟩
theorem dX1_empty_12 : Dc cX1_empty 12 (.iload_n 1) 1 13 := ⟨by decide +kernel, rfl⟩
theorem dX1_empty_13 : Dc cX1_empty 13 (.invokevirtual 20) 3 16 := ⟨by decide +kernel, rfl⟩
theorem dX1_empty_16 : Dc cX1_empty 16 (.isub) 1 17 := ⟨by decide +kernel, rfl⟩
theorem dX1_empty_17 : Dc cX1_empty 17 (.ireturn) 1 18 := ⟨by decide +kernel, rfl⟩
theorem dX1_widest_0 : Dc cX1_widest 0 (.aload_n 0) 1 1 := ⟨by decide +kernel, rfl⟩
theorem dX1_widest_1 : Dc cX1_widest 1 (.iload_n 1) 1 2 := ⟨by decide +kernel, rfl⟩
theorem dX1_widest_2 : Dc cX1_widest 2 (.invokevirtual 24) 3 5 := ⟨by decide +kernel, rfl⟩
theorem dX1_widest_5 : Db cX1_widest 5 (.ifCond .eq 6) (6) 8 11 := ⟨by decide +kernel, rfl, rfl⟩
theorem dX1_widest_8 : Dc cX1_widest 8 (.bipush (-100)) 2 10 := ⟨by decide +kernel, rfl⟩
theorem dX1_widest_10 : Dc cX1_widest 10 (.ireturn) 1 11 := ⟨by decide +kernel, rfl⟩
theorem dX1_widest_11 : Dc cX1_widest 11 (.aload_n 0) 1 12 := ⟨by decide +kernel, rfl⟩
theorem dX1_widest_12 : Dc cX1_widest 12 (.iload_n 2) 1 13 := ⟨by decide +kernel, rfl⟩
theorem dX1_widest_13 : Dc cX1_widest 13 (.iload_n 3) 1 14 := ⟨by decide +kernel, rfl⟩
theorem dX1_widest_14 : Dc cX1_widest 14 (.invokevirtual 28) 3 17 := ⟨by decide +kernel, rfl⟩
theorem dX1_widest_17 : Db cX1_widest 17 (.ifCond .eq 7) (7) 20 24 := ⟨by decide +kernel, rfl, rfl⟩
theorem dX1_widest_20 : Dc cX1_widest 20 (.sipush (-200)) 3 23 := ⟨by decide +kernel, rfl⟩
theorem dX1_widest_23 : Dc cX1_widest 23 (.ireturn) 1 24 := ⟨by decide +kernel, rfl⟩
theorem dX1_widest_24 : Dc cX1_widest 24 (.iconst 0) 1 25 := ⟨by decide +kernel, rfl⟩
theorem dX1_widest_25 : Dc cX1_widest 25 (.istore 4) 2 27 := ⟨by decide +kernel, rfl⟩
theorem dX1_widest_27 : Dc cX1_widest 27 (.iload 4) 2 29 := ⟨by decide +kernel, rfl⟩
theorem dX1_widest_29 : Dc cX1_widest 29 (.sipush 2197) 3 32 := ⟨by decide +kernel, rfl⟩
theorem dX1_widest_32 : Db cX1_widest 32 (.if_icmp .ge 29) (29) 35 61 := ⟨by decide +kernel, rfl, rfl⟩
theorem dX1_widest_35 : Dc cX1_widest 35 (.aload_n 0) 1 36 := ⟨by decide +kernel, rfl⟩
theorem dX1_widest_36 : Dc cX1_widest 36 (.getfield 13) 3 39 := ⟨by decide +kernel, rfl⟩
theorem dX1_widest_39 : Dc cX1_widest 39 (.iload 4) 2 41 := ⟨by decide +kernel, rfl⟩
theorem dX1_widest_41 : Dc cX1_widest 41 (.aload_n 0) 1 42 := ⟨by decide +kernel, rfl⟩
theorem dX1_widest_42 : Dc cX1_widest 42 (.getfield 7) 3 45 := ⟨by decide +kernel, rfl⟩
theorem dX1_widest_45 : Dc cX1_widest 45 (.iload_n 1) 1 46 := ⟨by decide +kernel, rfl⟩
theorem dX1_widest_46 : Dc cX1_widest 46 (.sipush 2197) 3 49 := ⟨by decide +kernel, rfl⟩
theorem dX1_widest_49 : Dc cX1_widest 49 (.imul) 1 50 := ⟨by decide +kernel, rfl⟩
theorem dX1_widest_50 : Dc cX1_widest 50 (.iload 4) 2 52 := ⟨by decide +kernel, rfl⟩
theorem dX1_widest_52 : Dc cX1_widest 52 (.iadd) 1 53 := ⟨by decide +kernel, rfl⟩
theorem dX1_widest_53 : Dc cX1_widest 53 (.baload) 1 54 := ⟨by decide +kernel, rfl⟩
theorem dX1_widest_54 : Dc cX1_widest 54 (.bastore) 1 55 := ⟨by decide +kernel, rfl⟩
theorem dX1_widest_55 : Dc cX1_widest 55 (.iinc 4 1) 3 58 := ⟨by decide +kernel, rfl⟩
theorem dX1_widest_58 : Db cX1_widest 58 (.goto (-31)) (-31) 61 27 := ⟨by decide +kernel, rfl, rfl⟩
theorem dX1_widest_61 : Dc cX1_widest 61 (.aload_n 0) 1 62 := ⟨by decide +kernel, rfl⟩
theorem dX1_widest_62 : Dc cX1_widest 62 (.iload_n 2) 1 63 := ⟨by decide +kernel, rfl⟩
theorem dX1_widest_63 : Dc cX1_widest 63 (.iload_n 3) 1 64 := ⟨by decide +kernel, rfl⟩
theorem dX1_widest_64 : Dc cX1_widest 64 (.invokevirtual 49) 3 67 := ⟨by decide +kernel, rfl⟩
theorem dX1_widest_67 : Dc cX1_widest 67 (.istore 4) 2 69 := ⟨by decide +kernel, rfl⟩
theorem dX1_widest_69 : Dc cX1_widest 69 (.iload 4) 2 71 := ⟨by decide +kernel, rfl⟩
theorem dX1_widest_71 : Dc cX1_widest 71 (.bipush (-100)) 2 73 := ⟨by decide +kernel, rfl⟩
theorem dX1_widest_73 : Db cX1_widest 73 (.if_icmp .ne 9) (9) 76 82 := ⟨by decide +kernel, rfl, rfl⟩
theorem dX1_widest_76 : Dc cX1_widest 76 (.sipush (-300)) 3 79 := ⟨by decide +kernel, rfl⟩
theorem dX1_widest_79 : Db cX1_widest 79 (.goto 5) (5) 82 84 := ⟨by decide +kernel, rfl, rfl⟩
theorem dX1_widest_82 : Dc cX1_widest 82 (.iload 4) 2 84 := ⟨by decide +kernel, rfl⟩
theorem dX1_widest_84 : Dc cX1_widest 84 (.ireturn) 1 85 := ⟨by decide +kernel, rfl⟩
theorem dX1_has_0 : Dc cX1_has 0 (.aload_n 0) 1 1 := ⟨by decide +kernel, rfl⟩
theorem dX1_has_1 : Dc cX1_has 1 (.iload_n 1) 1 2 := ⟨by decide +kernel, rfl⟩
theorem dX1_has_2 : Dc cX1_has 2 (.invokevirtual 24) 3 5 := ⟨by decide +kernel, rfl⟩
theorem dX1_has_5 : Db cX1_has 5 (.ifCond .eq 5) (5) 8 10 := ⟨by decide +kernel, rfl, rfl⟩
theorem dX1_has_8 : Dc cX1_has 8 (.iconst (-1)) 1 9 := ⟨by decide +kernel, rfl⟩
theorem dX1_has_9 : Dc cX1_has 9 (.ireturn) 1 10 := ⟨by decide +kernel, rfl⟩
theorem dX1_has_10 : Dc cX1_has 10 (.iload_n 2) 1 11 := ⟨by decide +kernel, rfl⟩
theorem dX1_has_11 : Db cX1_has 11 (.ifCond .lt 31) (31) 14 42 := ⟨by decide +kernel, rfl, rfl⟩
theorem dX1_has_14 : Dc cX1_has 14 (.iload_n 2) 1 15 := ⟨by decide +kernel, rfl⟩
theorem dX1_has_15 : Dc cX1_has 15 (.bipush 12) 2 17 := ⟨by decide +kernel, rfl⟩
theorem dX1_has_17 : Db cX1_has 17 (.if_icmp .gt 25) (25) 20 42 := ⟨by decide +kernel, rfl, rfl⟩
theorem dX1_has_20 : Dc cX1_has 20 (.iload_n 3) 1 21 := ⟨by decide +kernel, rfl⟩
theorem dX1_has_21 : Db cX1_has 21 (.ifCond .lt 21) (21) 24 42 := ⟨by decide +kernel, rfl, rfl⟩
theorem dX1_has_24 : Dc cX1_has 24 (.iload_n 3) 1 25 := ⟨by decide +kernel, rfl⟩
theorem dX1_has_25 : Dc cX1_has 25 (.bipush 12) 2 27 := ⟨by decide +kernel, rfl⟩
theorem dX1_has_27 : Db cX1_has 27 (.if_icmp .gt 15) (15) 30 42 := ⟨by decide +kernel, rfl, rfl⟩
theorem dX1_has_30 : Dc cX1_has 30 (.iload 4) 2 32 := ⟨by decide +kernel, rfl⟩
theorem dX1_has_32 : Db cX1_has 32 (.ifCond .lt 10) (10) 35 42 := ⟨by decide +kernel, rfl, rfl⟩
theorem dX1_has_35 : Dc cX1_has 35 (.iload 4) 2 37 := ⟨by decide +kernel, rfl⟩
theorem dX1_has_37 : Dc cX1_has 37 (.bipush 12) 2 39 := ⟨by decide +kernel, rfl⟩
theorem dX1_has_39 : Db cX1_has 39 (.if_icmp .le 5) (5) 42 44 := ⟨by decide +kernel, rfl, rfl⟩
theorem dX1_has_42 : Dc cX1_has 42 (.iconst 0) 1 43 := ⟨by decide +kernel, rfl⟩
theorem dX1_has_43 : Dc cX1_has 43 (.ireturn) 1 44 := ⟨by decide +kernel, rfl⟩
theorem dX1_has_44 : Dc cX1_has 44 (.aload_n 0) 1 45 := ⟨by decide +kernel, rfl⟩
theorem dX1_has_45 : Dc cX1_has 45 (.getfield 7) 3 48 := ⟨by decide +kernel, rfl⟩
theorem dX1_has_48 : Dc cX1_has 48 (.iload_n 1) 1 49 := ⟨by decide +kernel, rfl⟩
theorem dX1_has_49 : Dc cX1_has 49 (.sipush 2197) 3 52 := ⟨by decide +kernel, rfl⟩
theorem dX1_has_52 : Dc cX1_has 52 (.imul) 1 53 := ⟨by decide +kernel, rfl⟩
theorem dX1_has_53 : Dc cX1_has 53 (.sipush 169) 3 56 := ⟨by decide +kernel, rfl⟩
theorem dX1_has_56 : Dc cX1_has 56 (.iload_n 2) 1 57 := ⟨by decide +kernel, rfl⟩
theorem dX1_has_57 : Dc cX1_has 57 (.imul) 1 58 := ⟨by decide +kernel, rfl⟩
theorem dX1_has_58 : Dc cX1_has 58 (.iadd) 1 59 := ⟨by decide +kernel, rfl⟩
theorem dX1_has_59 : Dc cX1_has 59 (.bipush 13) 2 61 := ⟨by decide +kernel, rfl⟩
theorem dX1_has_61 : Dc cX1_has 61 (.iload_n 3) 1 62 := ⟨by decide +kernel, rfl⟩
theorem dX1_has_62 : Dc cX1_has 62 (.imul) 1 63 := ⟨by decide +kernel, rfl⟩
theorem dX1_has_63 : Dc cX1_has 63 (.iadd) 1 64 := ⟨by decide +kernel, rfl⟩
theorem dX1_has_64 : Dc cX1_has 64 (.iload 4) 2 66 := ⟨by decide +kernel, rfl⟩
theorem dX1_has_66 : Dc cX1_has 66 (.iadd) 1 67 := ⟨by decide +kernel, rfl⟩
theorem dX1_has_67 : Dc cX1_has 67 (.baload) 1 68 := ⟨by decide +kernel, rfl⟩
theorem dX1_has_68 : Db cX1_has 68 (.ifCond .eq 7) (7) 71 75 := ⟨by decide +kernel, rfl, rfl⟩
theorem dX1_has_71 : Dc cX1_has 71 (.iconst 1) 1 72 := ⟨by decide +kernel, rfl⟩
theorem dX1_has_72 : Db cX1_has 72 (.goto 4) (4) 75 76 := ⟨by decide +kernel, rfl, rfl⟩
theorem dX1_has_75 : Dc cX1_has 75 (.iconst 0) 1 76 := ⟨by decide +kernel, rfl⟩
theorem dX1_has_76 : Dc cX1_has 76 (.ireturn) 1 77 := ⟨by decide +kernel, rfl⟩
theorem dX1_size_0 : Dc cX1_size 0 (.aload_n 0) 1 1 := ⟨by decide +kernel, rfl⟩
theorem dX1_size_1 : Dc cX1_size 1 (.iload_n 1) 1 2 := ⟨by decide +kernel, rfl⟩
theorem dX1_size_2 : Dc cX1_size 2 (.invokevirtual 24) 3 5 := ⟨by decide +kernel, rfl⟩
theorem dX1_size_5 : Db cX1_size 5 (.ifCond .eq 5) (5) 8 10 := ⟨by decide +kernel, rfl, rfl⟩
theorem dX1_size_8 : Dc cX1_size 8 (.iconst (-1)) 1 9 := ⟨by decide +kernel, rfl⟩
theorem dX1_size_9 : Dc cX1_size 9 (.ireturn) 1 10 := ⟨by decide +kernel, rfl⟩
theorem dX1_size_10 : Dc cX1_size 10 (.iconst 0) 1 11 := ⟨by decide +kernel, rfl⟩
theorem dX1_size_11 : Dc cX1_size 11 (.istore_n 2) 1 12 := ⟨by decide +kernel, rfl⟩
theorem dX1_size_12 : Dc cX1_size 12 (.iconst 0) 1 13 := ⟨by decide +kernel, rfl⟩
theorem dX1_size_13 : Dc cX1_size 13 (.istore_n 3) 1 14 := ⟨by decide +kernel, rfl⟩
theorem dX1_size_14 : Dc cX1_size 14 (.iload_n 3) 1 15 := ⟨by decide +kernel, rfl⟩
theorem dX1_size_15 : Dc cX1_size 15 (.sipush 2197) 3 18 := ⟨by decide +kernel, rfl⟩
theorem dX1_size_18 : Db cX1_size 18 (.if_icmp .ge 27) (27) 21 45 := ⟨by decide +kernel, rfl, rfl⟩
theorem dX1_size_21 : Dc cX1_size 21 (.aload_n 0) 1 22 := ⟨by decide +kernel, rfl⟩
theorem dX1_size_22 : Dc cX1_size 22 (.getfield 7) 3 25 := ⟨by decide +kernel, rfl⟩
theorem dX1_size_25 : Dc cX1_size 25 (.iload_n 1) 1 26 := ⟨by decide +kernel, rfl⟩
theorem dX1_size_26 : Dc cX1_size 26 (.sipush 2197) 3 29 := ⟨by decide +kernel, rfl⟩
theorem dX1_size_29 : Dc cX1_size 29 (.imul) 1 30 := ⟨by decide +kernel, rfl⟩
theorem dX1_size_30 : Dc cX1_size 30 (.iload_n 3) 1 31 := ⟨by decide +kernel, rfl⟩
theorem dX1_size_31 : Dc cX1_size 31 (.iadd) 1 32 := ⟨by decide +kernel, rfl⟩
theorem dX1_size_32 : Dc cX1_size 32 (.baload) 1 33 := ⟨by decide +kernel, rfl⟩
theorem dX1_size_33 : Db cX1_size 33 (.ifCond .eq 6) (6) 36 39 := ⟨by decide +kernel, rfl, rfl⟩
theorem dX1_size_36 : Dc cX1_size 36 (.iinc 2 1) 3 39 := ⟨by decide +kernel, rfl⟩
theorem dX1_size_39 : Dc cX1_size 39 (.iinc 3 1) 3 42 := ⟨by decide +kernel, rfl⟩
theorem dX1_size_42 : Db cX1_size 42 (.goto (-28)) (-28) 45 14 := ⟨by decide +kernel, rfl, rfl⟩
theorem dX1_size_45 : Dc cX1_size 45 (.iload_n 2) 1 46 := ⟨by decide +kernel, rfl⟩
theorem dX1_size_46 : Dc cX1_size 46 (.ireturn) 1 47 := ⟨by decide +kernel, rfl⟩
theorem dX1_next_0 : Dc cX1_next 0 (.aload_n 0) 1 1 := ⟨by decide +kernel, rfl⟩
theorem dX1_next_1 : Dc cX1_next 1 (.iload_n 1) 1 2 := ⟨by decide +kernel, rfl⟩
theorem dX1_next_2 : Dc cX1_next 2 (.invokevirtual 24) 3 5 := ⟨by decide +kernel, rfl⟩
theorem dX1_next_5 : Db cX1_next 5 (.ifCond .eq 5) (5) 8 10 := ⟨by decide +kernel, rfl, rfl⟩
theorem dX1_next_8 : Dc cX1_next 8 (.iconst (-1)) 1 9 := ⟨by decide +kernel, rfl⟩
theorem dX1_next_9 : Dc cX1_next 9 (.ireturn) 1 10 := ⟨by decide +kernel, rfl⟩
theorem dX1_next_10 : Dc cX1_next 10 (.iconst 0) 1 11 := ⟨by decide +kernel, rfl⟩
theorem dX1_next_11 : Dc cX1_next 11 (.istore_n 3) 1 12 := ⟨by decide +kernel, rfl⟩
theorem dX1_next_12 : Dc cX1_next 12 (.iload_n 3) 1 13 := ⟨by decide +kernel, rfl⟩
theorem dX1_next_13 : Dc cX1_next 13 (.sipush 2197) 3 16 := ⟨by decide +kernel, rfl⟩
theorem dX1_next_16 : Db cX1_next 16 (.if_icmp .ge 31) (31) 19 47 := ⟨by decide +kernel, rfl, rfl⟩
theorem dX1_next_19 : Dc cX1_next 19 (.iload_n 3) 1 20 := ⟨by decide +kernel, rfl⟩
theorem dX1_next_20 : Dc cX1_next 20 (.iload_n 2) 1 21 := ⟨by decide +kernel, rfl⟩
theorem dX1_next_21 : Db cX1_next 21 (.if_icmp .le 20) (20) 24 41 := ⟨by decide +kernel, rfl, rfl⟩
theorem dX1_next_24 : Dc cX1_next 24 (.aload_n 0) 1 25 := ⟨by decide +kernel, rfl⟩
theorem dX1_next_25 : Dc cX1_next 25 (.getfield 7) 3 28 := ⟨by decide +kernel, rfl⟩
theorem dX1_next_28 : Dc cX1_next 28 (.iload_n 1) 1 29 := ⟨by decide +kernel, rfl⟩
theorem dX1_next_29 : Dc cX1_next 29 (.sipush 2197) 3 32 := ⟨by decide +kernel, rfl⟩
theorem dX1_next_32 : Dc cX1_next 32 (.imul) 1 33 := ⟨by decide +kernel, rfl⟩
theorem dX1_next_33 : Dc cX1_next 33 (.iload_n 3) 1 34 := ⟨by decide +kernel, rfl⟩
theorem dX1_next_34 : Dc cX1_next 34 (.iadd) 1 35 := ⟨by decide +kernel, rfl⟩
theorem dX1_next_35 : Dc cX1_next 35 (.baload) 1 36 := ⟨by decide +kernel, rfl⟩
theorem dX1_next_36 : Db cX1_next 36 (.ifCond .eq 5) (5) 39 41 := ⟨by decide +kernel, rfl, rfl⟩
theorem dX1_next_39 : Dc cX1_next 39 (.iload_n 3) 1 40 := ⟨by decide +kernel, rfl⟩
theorem dX1_next_40 : Dc cX1_next 40 (.ireturn) 1 41 := ⟨by decide +kernel, rfl⟩
theorem dX1_next_41 : Dc cX1_next 41 (.iinc 3 1) 3 44 := ⟨by decide +kernel, rfl⟩
theorem dX1_next_44 : Db cX1_next 44 (.goto (-32)) (-32) 47 12 := ⟨by decide +kernel, rfl, rfl⟩
theorem dX1_next_47 : Dc cX1_next 47 (.bipush (-2)) 2 49 := ⟨by decide +kernel, rfl⟩
theorem dX1_next_49 : Dc cX1_next 49 (.ireturn) 1 50 := ⟨by decide +kernel, rfl⟩
theorem dX1_within_0 : Dc cX1_within 0 (.aload_n 0) 1 1 := ⟨by decide +kernel, rfl⟩
theorem dX1_within_1 : Dc cX1_within 1 (.iload_n 1) 1 2 := ⟨by decide +kernel, rfl⟩
theorem dX1_within_2 : Dc cX1_within 2 (.invokevirtual 24) 3 5 := ⟨by decide +kernel, rfl⟩
theorem dX1_within_5 : Db cX1_within 5 (.ifCond .ne 11) (11) 8 16 := ⟨by decide +kernel, rfl, rfl⟩
theorem dX1_within_8 : Dc cX1_within 8 (.aload_n 0) 1 9 := ⟨by decide +kernel, rfl⟩
theorem dX1_within_9 : Dc cX1_within 9 (.iload_n 2) 1 10 := ⟨by decide +kernel, rfl⟩
theorem dX1_within_10 : Dc cX1_within 10 (.invokevirtual 24) 3 13 := ⟨by decide +kernel, rfl⟩
theorem dX1_within_13 : Db cX1_within 13 (.ifCond .eq 5) (5) 16 18 := ⟨by decide +kernel, rfl, rfl⟩
theorem dX1_within_16 : Dc cX1_within 16 (.iconst (-1)) 1 17 := ⟨by decide +kernel, rfl⟩
theorem dX1_within_17 : Dc cX1_within 17 (.ireturn) 1 18 := ⟨by decide +kernel, rfl⟩
theorem dX1_within_18 : Dc cX1_within 18 (.iconst 0) 1 19 := ⟨by decide +kernel, rfl⟩
theorem dX1_within_19 : Dc cX1_within 19 (.istore_n 3) 1 20 := ⟨by decide +kernel, rfl⟩
theorem dX1_within_20 : Dc cX1_within 20 (.iload_n 3) 1 21 := ⟨by decide +kernel, rfl⟩
theorem dX1_within_21 : Dc cX1_within 21 (.sipush 2197) 3 24 := ⟨by decide +kernel, rfl⟩
theorem dX1_within_24 : Db cX1_within 24 (.if_icmp .ge 41) (41) 27 65 := ⟨by decide +kernel, rfl, rfl⟩
theorem dX1_within_27 : Dc cX1_within 27 (.aload_n 0) 1 28 := ⟨by decide +kernel, rfl⟩
theorem dX1_within_28 : Dc cX1_within 28 (.getfield 7) 3 31 := ⟨by decide +kernel, rfl⟩
theorem dX1_within_31 : Dc cX1_within 31 (.iload_n 1) 1 32 := ⟨by decide +kernel, rfl⟩
theorem dX1_within_32 : Dc cX1_within 32 (.sipush 2197) 3 35 := ⟨by decide +kernel, rfl⟩
theorem dX1_within_35 : Dc cX1_within 35 (.imul) 1 36 := ⟨by decide +kernel, rfl⟩
theorem dX1_within_36 : Dc cX1_within 36 (.iload_n 3) 1 37 := ⟨by decide +kernel, rfl⟩
theorem dX1_within_37 : Dc cX1_within 37 (.iadd) 1 38 := ⟨by decide +kernel, rfl⟩
theorem dX1_within_38 : Dc cX1_within 38 (.baload) 1 39 := ⟨by decide +kernel, rfl⟩
theorem dX1_within_39 : Db cX1_within 39 (.ifCond .eq 20) (20) 42 59 := ⟨by decide +kernel, rfl, rfl⟩
theorem dX1_within_42 : Dc cX1_within 42 (.aload_n 0) 1 43 := ⟨by decide +kernel, rfl⟩
theorem dX1_within_43 : Dc cX1_within 43 (.getfield 7) 3 46 := ⟨by decide +kernel, rfl⟩
theorem dX1_within_46 : Dc cX1_within 46 (.iload_n 2) 1 47 := ⟨by decide +kernel, rfl⟩
theorem dX1_within_47 : Dc cX1_within 47 (.sipush 2197) 3 50 := ⟨by decide +kernel, rfl⟩
theorem dX1_within_50 : Dc cX1_within 50 (.imul) 1 51 := ⟨by decide +kernel, rfl⟩
theorem dX1_within_51 : Dc cX1_within 51 (.iload_n 3) 1 52 := ⟨by decide +kernel, rfl⟩
theorem dX1_within_52 : Dc cX1_within 52 (.iadd) 1 53 := ⟨by decide +kernel, rfl⟩
theorem dX1_within_53 : Dc cX1_within 53 (.baload) 1 54 := ⟨by decide +kernel, rfl⟩
theorem dX1_within_54 : Db cX1_within 54 (.ifCond .ne 5) (5) 57 59 := ⟨by decide +kernel, rfl, rfl⟩
theorem dX1_within_57 : Dc cX1_within 57 (.iconst 0) 1 58 := ⟨by decide +kernel, rfl⟩
theorem dX1_within_58 : Dc cX1_within 58 (.ireturn) 1 59 := ⟨by decide +kernel, rfl⟩
theorem dX1_within_59 : Dc cX1_within 59 (.iinc 3 1) 3 62 := ⟨by decide +kernel, rfl⟩
theorem dX1_within_62 : Db cX1_within 62 (.goto (-42)) (-42) 65 20 := ⟨by decide +kernel, rfl, rfl⟩
theorem dX1_within_65 : Dc cX1_within 65 (.iconst 1) 1 66 := ⟨by decide +kernel, rfl⟩
theorem dX1_within_66 : Dc cX1_within 66 (.ireturn) 1 67 := ⟨by decide +kernel, rfl⟩
theorem dX1_touch_0 : Dc cX1_touch 0 (.aload_n 0) 1 1 := ⟨by decide +kernel, rfl⟩
theorem dX1_touch_1 : Dc cX1_touch 1 (.iload_n 1) 1 2 := ⟨by decide +kernel, rfl⟩
theorem dX1_touch_2 : Dc cX1_touch 2 (.invokevirtual 24) 3 5 := ⟨by decide +kernel, rfl⟩
theorem dX1_touch_5 : Db cX1_touch 5 (.ifCond .ne 11) (11) 8 16 := ⟨by decide +kernel, rfl, rfl⟩
theorem dX1_touch_8 : Dc cX1_touch 8 (.aload_n 0) 1 9 := ⟨by decide +kernel, rfl⟩
theorem dX1_touch_9 : Dc cX1_touch 9 (.iload_n 2) 1 10 := ⟨by decide +kernel, rfl⟩
theorem dX1_touch_10 : Dc cX1_touch 10 (.invokevirtual 24) 3 13 := ⟨by decide +kernel, rfl⟩
theorem dX1_touch_13 : Db cX1_touch 13 (.ifCond .eq 5) (5) 16 18 := ⟨by decide +kernel, rfl, rfl⟩
theorem dX1_touch_16 : Dc cX1_touch 16 (.iconst (-1)) 1 17 := ⟨by decide +kernel, rfl⟩
theorem dX1_touch_17 : Dc cX1_touch 17 (.ireturn) 1 18 := ⟨by decide +kernel, rfl⟩
theorem dX1_touch_18 : Dc cX1_touch 18 (.iconst 0) 1 19 := ⟨by decide +kernel, rfl⟩
theorem dX1_touch_19 : Dc cX1_touch 19 (.istore_n 3) 1 20 := ⟨by decide +kernel, rfl⟩
theorem dX1_touch_20 : Dc cX1_touch 20 (.iload_n 3) 1 21 := ⟨by decide +kernel, rfl⟩
theorem dX1_touch_21 : Dc cX1_touch 21 (.sipush 2197) 3 24 := ⟨by decide +kernel, rfl⟩
theorem dX1_touch_24 : Db cX1_touch 24 (.if_icmp .ge 41) (41) 27 65 := ⟨by decide +kernel, rfl, rfl⟩
theorem dX1_touch_27 : Dc cX1_touch 27 (.aload_n 0) 1 28 := ⟨by decide +kernel, rfl⟩
theorem dX1_touch_28 : Dc cX1_touch 28 (.getfield 7) 3 31 := ⟨by decide +kernel, rfl⟩
theorem dX1_touch_31 : Dc cX1_touch 31 (.iload_n 1) 1 32 := ⟨by decide +kernel, rfl⟩
theorem dX1_touch_32 : Dc cX1_touch 32 (.sipush 2197) 3 35 := ⟨by decide +kernel, rfl⟩
theorem dX1_touch_35 : Dc cX1_touch 35 (.imul) 1 36 := ⟨by decide +kernel, rfl⟩
theorem dX1_touch_36 : Dc cX1_touch 36 (.iload_n 3) 1 37 := ⟨by decide +kernel, rfl⟩
theorem dX1_touch_37 : Dc cX1_touch 37 (.iadd) 1 38 := ⟨by decide +kernel, rfl⟩
theorem dX1_touch_38 : Dc cX1_touch 38 (.baload) 1 39 := ⟨by decide +kernel, rfl⟩
theorem dX1_touch_39 : Db cX1_touch 39 (.ifCond .eq 20) (20) 42 59 := ⟨by decide +kernel, rfl, rfl⟩
theorem dX1_touch_42 : Dc cX1_touch 42 (.aload_n 0) 1 43 := ⟨by decide +kernel, rfl⟩
theorem dX1_touch_43 : Dc cX1_touch 43 (.getfield 7) 3 46 := ⟨by decide +kernel, rfl⟩
theorem dX1_touch_46 : Dc cX1_touch 46 (.iload_n 2) 1 47 := ⟨by decide +kernel, rfl⟩
theorem dX1_touch_47 : Dc cX1_touch 47 (.sipush 2197) 3 50 := ⟨by decide +kernel, rfl⟩
theorem dX1_touch_50 : Dc cX1_touch 50 (.imul) 1 51 := ⟨by decide +kernel, rfl⟩
theorem dX1_touch_51 : Dc cX1_touch 51 (.iload_n 3) 1 52 := ⟨by decide +kernel, rfl⟩
theorem dX1_touch_52 : Dc cX1_touch 52 (.iadd) 1 53 := ⟨by decide +kernel, rfl⟩
theorem dX1_touch_53 : Dc cX1_touch 53 (.baload) 1 54 := ⟨by decide +kernel, rfl⟩
theorem dX1_touch_54 : Db cX1_touch 54 (.ifCond .eq 5) (5) 57 59 := ⟨by decide +kernel, rfl, rfl⟩
theorem dX1_touch_57 : Dc cX1_touch 57 (.iconst 1) 1 58 := ⟨by decide +kernel, rfl⟩
theorem dX1_touch_58 : Dc cX1_touch 58 (.ireturn) 1 59 := ⟨by decide +kernel, rfl⟩
theorem dX1_touch_59 : Dc cX1_touch 59 (.iinc 3 1) 3 62 := ⟨by decide +kernel, rfl⟩
theorem dX1_touch_62 : Db cX1_touch 62 (.goto (-42)) (-42) 65 20 := ⟨by decide +kernel, rfl, rfl⟩
theorem dX1_touch_65 : Dc cX1_touch 65 (.iconst 0) 1 66 := ⟨by decide +kernel, rfl⟩
theorem dX1_touch_66 : Dc cX1_touch 66 (.ireturn) 1 67 := ⟨by decide +kernel, rfl⟩
end
section
set_option maxRecDepth 100000
theorem dL_law_0 : Dc cL_law 0 (.new 7) 3 3 := ⟨by decide +kernel, rfl⟩
theorem dL_law_3 : Dc cL_law 3 (.dup) 1 4 := ⟨by decide +kernel, rfl⟩
theorem dL_law_4 : Dc cL_law 4 (.invokespecial 9) 3 7 := ⟨by decide +kernel, rfl⟩
theorem dL_law_7 : Dc cL_law 7 (.astore_n 1) 1 8 := ⟨by decide +kernel, rfl⟩
theorem dL_law_8 : Dc cL_law 8 (.new 10) 3 11 := ⟨by decide +kernel, rfl⟩
theorem dL_law_11 : Dc cL_law 11 (.dup) 1 12 := ⟨by decide +kernel, rfl⟩
theorem dL_law_12 : Dc cL_law 12 (.invokespecial 12) 3 15 := ⟨by decide +kernel, rfl⟩
theorem dL_law_15 : Dc cL_law 15 (.astore_n 2) 1 16 := ⟨by decide +kernel, rfl⟩
theorem dL_law_16 : Dc cL_law 16 (.iconst 0) 1 17 := ⟨by decide +kernel, rfl⟩
theorem dL_law_17 : Dc cL_law 17 (.istore_n 3) 1 18 := ⟨by decide +kernel, rfl⟩
theorem dL_law_18 : Dc cL_law 18 (.iload_n 3) 1 19 := ⟨by decide +kernel, rfl⟩
theorem dL_law_19 : Dc cL_law 19 (.aload_n 0) 1 20 := ⟨by decide +kernel, rfl⟩
theorem dL_law_20 : Dc cL_law 20 (.arraylength) 1 21 := ⟨by decide +kernel, rfl⟩
theorem dL_law_21 : Dc cL_law 21 (.iconst 5) 1 22 := ⟨by decide +kernel, rfl⟩
theorem dL_law_22 : Dc cL_law 22 (.isub) 1 23 := ⟨by decide +kernel, rfl⟩
theorem dL_law_23 : Db cL_law 23 (.if_icmp .gt 707) (707) 26 730 := ⟨by decide +kernel, rfl, rfl⟩
theorem dL_law_26 : Dc cL_law 26 (.aload_n 0) 1 27 := ⟨by decide +kernel, rfl⟩
theorem dL_law_27 : Dc cL_law 27 (.iload_n 3) 1 28 := ⟨by decide +kernel, rfl⟩
theorem dL_law_28 : Dc cL_law 28 (.iaload) 1 29 := ⟨by decide +kernel, rfl⟩
theorem dL_law_29 : Dc cL_law 29 (.bipush 31) 2 31 := ⟨by decide +kernel, rfl⟩
theorem dL_law_31 : Dc cL_law 31 (.iand) 1 32 := ⟨by decide +kernel, rfl⟩
theorem dL_law_32 : Dc cL_law 32 (.tableswitch 692 0 17 #[88, 111, 134, 187, 210, 233, 276, 309, 352, 385, 418, 451, 474, 517, 570, 593, 626, 659]) 88 120 := ⟨by decide +kernel, rfl⟩
theorem dL_law_120 : Dc cL_law 120 (.aload_n 1) 1 121 := ⟨by decide +kernel, rfl⟩
theorem dL_law_121 : Dc cL_law 121 (.aload_n 0) 1 122 := ⟨by decide +kernel, rfl⟩
theorem dL_law_122 : Dc cL_law 122 (.iload_n 3) 1 123 := ⟨by decide +kernel, rfl⟩
theorem dL_law_123 : Dc cL_law 123 (.iconst 1) 1 124 := ⟨by decide +kernel, rfl⟩
theorem dL_law_124 : Dc cL_law 124 (.iadd) 1 125 := ⟨by decide +kernel, rfl⟩
theorem dL_law_125 : Dc cL_law 125 (.iaload) 1 126 := ⟨by decide +kernel, rfl⟩
theorem dL_law_126 : Dc cL_law 126 (.invokevirtual 13) 3 129 := ⟨by decide +kernel, rfl⟩
theorem dL_law_129 : Dc cL_law 129 (.aload_n 2) 1 130 := ⟨by decide +kernel, rfl⟩
theorem dL_law_130 : Dc cL_law 130 (.aload_n 0) 1 131 := ⟨by decide +kernel, rfl⟩
theorem dL_law_131 : Dc cL_law 131 (.iload_n 3) 1 132 := ⟨by decide +kernel, rfl⟩
theorem dL_law_132 : Dc cL_law 132 (.iconst 1) 1 133 := ⟨by decide +kernel, rfl⟩
theorem dL_law_133 : Dc cL_law 133 (.iadd) 1 134 := ⟨by decide +kernel, rfl⟩
theorem dL_law_134 : Dc cL_law 134 (.iaload) 1 135 := ⟨by decide +kernel, rfl⟩
theorem dL_law_135 : Dc cL_law 135 (.invokevirtual 17) 3 138 := ⟨by decide +kernel, rfl⟩
theorem dL_law_138 : Db cL_law 138 (.if_icmp .eq 586) (586) 141 724 := ⟨by decide +kernel, rfl, rfl⟩
theorem dL_law_141 : Dc cL_law 141 (.iconst 0) 1 142 := ⟨by decide +kernel, rfl⟩
theorem dL_law_142 : Dc cL_law 142 (.ireturn) 1 143 := ⟨by decide +kernel, rfl⟩
theorem dL_law_143 : Dc cL_law 143 (.aload_n 1) 1 144 := ⟨by decide +kernel, rfl⟩
theorem dL_law_144 : Dc cL_law 144 (.aload_n 0) 1 145 := ⟨by decide +kernel, rfl⟩
theorem dL_law_145 : Dc cL_law 145 (.iload_n 3) 1 146 := ⟨by decide +kernel, rfl⟩
theorem dL_law_146 : Dc cL_law 146 (.iconst 1) 1 147 := ⟨by decide +kernel, rfl⟩
theorem dL_law_147 : Dc cL_law 147 (.iadd) 1 148 := ⟨by decide +kernel, rfl⟩
theorem dL_law_148 : Dc cL_law 148 (.iaload) 1 149 := ⟨by decide +kernel, rfl⟩
theorem dL_law_149 : Dc cL_law 149 (.invokevirtual 18) 3 152 := ⟨by decide +kernel, rfl⟩
theorem dL_law_152 : Dc cL_law 152 (.aload_n 2) 1 153 := ⟨by decide +kernel, rfl⟩
theorem dL_law_153 : Dc cL_law 153 (.aload_n 0) 1 154 := ⟨by decide +kernel, rfl⟩
theorem dL_law_154 : Dc cL_law 154 (.iload_n 3) 1 155 := ⟨by decide +kernel, rfl⟩
theorem dL_law_155 : Dc cL_law 155 (.iconst 1) 1 156 := ⟨by decide +kernel, rfl⟩
theorem dL_law_156 : Dc cL_law 156 (.iadd) 1 157 := ⟨by decide +kernel, rfl⟩
theorem dL_law_157 : Dc cL_law 157 (.iaload) 1 158 := ⟨by decide +kernel, rfl⟩
theorem dL_law_158 : Dc cL_law 158 (.invokevirtual 21) 3 161 := ⟨by decide +kernel, rfl⟩
theorem dL_law_161 : Db cL_law 161 (.if_icmp .eq 563) (563) 164 724 := ⟨by decide +kernel, rfl, rfl⟩
theorem dL_law_164 : Dc cL_law 164 (.iconst 0) 1 165 := ⟨by decide +kernel, rfl⟩
theorem dL_law_165 : Dc cL_law 165 (.ireturn) 1 166 := ⟨by decide +kernel, rfl⟩
theorem dL_law_166 : Dc cL_law 166 (.aload_n 1) 1 167 := ⟨by decide +kernel, rfl⟩
theorem dL_law_167 : Dc cL_law 167 (.aload_n 0) 1 168 := ⟨by decide +kernel, rfl⟩
theorem dL_law_168 : Dc cL_law 168 (.iload_n 3) 1 169 := ⟨by decide +kernel, rfl⟩
theorem dL_law_169 : Dc cL_law 169 (.iconst 1) 1 170 := ⟨by decide +kernel, rfl⟩
theorem dL_law_170 : Dc cL_law 170 (.iadd) 1 171 := ⟨by decide +kernel, rfl⟩
theorem dL_law_171 : Dc cL_law 171 (.iaload) 1 172 := ⟨by decide +kernel, rfl⟩
theorem dL_law_172 : Dc cL_law 172 (.aload_n 0) 1 173 := ⟨by decide +kernel, rfl⟩
theorem dL_law_173 : Dc cL_law 173 (.iload_n 3) 1 174 := ⟨by decide +kernel, rfl⟩
theorem dL_law_174 : Dc cL_law 174 (.iconst 2) 1 175 := ⟨by decide +kernel, rfl⟩
theorem dL_law_175 : Dc cL_law 175 (.iadd) 1 176 := ⟨by decide +kernel, rfl⟩
theorem dL_law_176 : Dc cL_law 176 (.iaload) 1 177 := ⟨by decide +kernel, rfl⟩
theorem dL_law_177 : Dc cL_law 177 (.aload_n 0) 1 178 := ⟨by decide +kernel, rfl⟩
theorem dL_law_178 : Dc cL_law 178 (.iload_n 3) 1 179 := ⟨by decide +kernel, rfl⟩
theorem dL_law_179 : Dc cL_law 179 (.iconst 3) 1 180 := ⟨by decide +kernel, rfl⟩
theorem dL_law_180 : Dc cL_law 180 (.iadd) 1 181 := ⟨by decide +kernel, rfl⟩
theorem dL_law_181 : Dc cL_law 181 (.iaload) 1 182 := ⟨by decide +kernel, rfl⟩
theorem dL_law_182 : Dc cL_law 182 (.aload_n 0) 1 183 := ⟨by decide +kernel, rfl⟩
theorem dL_law_183 : Dc cL_law 183 (.iload_n 3) 1 184 := ⟨by decide +kernel, rfl⟩
theorem dL_law_184 : Dc cL_law 184 (.iconst 4) 1 185 := ⟨by decide +kernel, rfl⟩
theorem dL_law_185 : Dc cL_law 185 (.iadd) 1 186 := ⟨by decide +kernel, rfl⟩
theorem dL_law_186 : Dc cL_law 186 (.iaload) 1 187 := ⟨by decide +kernel, rfl⟩
theorem dL_law_187 : Dc cL_law 187 (.invokevirtual 22) 3 190 := ⟨by decide +kernel, rfl⟩
theorem dL_law_190 : Dc cL_law 190 (.aload_n 2) 1 191 := ⟨by decide +kernel, rfl⟩
theorem dL_law_191 : Dc cL_law 191 (.aload_n 0) 1 192 := ⟨by decide +kernel, rfl⟩
theorem dL_law_192 : Dc cL_law 192 (.iload_n 3) 1 193 := ⟨by decide +kernel, rfl⟩
theorem dL_law_193 : Dc cL_law 193 (.iconst 1) 1 194 := ⟨by decide +kernel, rfl⟩
theorem dL_law_194 : Dc cL_law 194 (.iadd) 1 195 := ⟨by decide +kernel, rfl⟩
theorem dL_law_195 : Dc cL_law 195 (.iaload) 1 196 := ⟨by decide +kernel, rfl⟩
theorem dL_law_196 : Dc cL_law 196 (.aload_n 0) 1 197 := ⟨by decide +kernel, rfl⟩
theorem dL_law_197 : Dc cL_law 197 (.iload_n 3) 1 198 := ⟨by decide +kernel, rfl⟩
theorem dL_law_198 : Dc cL_law 198 (.iconst 2) 1 199 := ⟨by decide +kernel, rfl⟩
theorem dL_law_199 : Dc cL_law 199 (.iadd) 1 200 := ⟨by decide +kernel, rfl⟩
theorem dL_law_200 : Dc cL_law 200 (.iaload) 1 201 := ⟨by decide +kernel, rfl⟩
theorem dL_law_201 : Dc cL_law 201 (.aload_n 0) 1 202 := ⟨by decide +kernel, rfl⟩
theorem dL_law_202 : Dc cL_law 202 (.iload_n 3) 1 203 := ⟨by decide +kernel, rfl⟩
theorem dL_law_203 : Dc cL_law 203 (.iconst 3) 1 204 := ⟨by decide +kernel, rfl⟩
theorem dL_law_204 : Dc cL_law 204 (.iadd) 1 205 := ⟨by decide +kernel, rfl⟩
theorem dL_law_205 : Dc cL_law 205 (.iaload) 1 206 := ⟨by decide +kernel, rfl⟩
theorem dL_law_206 : Dc cL_law 206 (.aload_n 0) 1 207 := ⟨by decide +kernel, rfl⟩
theorem dL_law_207 : Dc cL_law 207 (.iload_n 3) 1 208 := ⟨by decide +kernel, rfl⟩
theorem dL_law_208 : Dc cL_law 208 (.iconst 4) 1 209 := ⟨by decide +kernel, rfl⟩
theorem dL_law_209 : Dc cL_law 209 (.iadd) 1 210 := ⟨by decide +kernel, rfl⟩
theorem dL_law_210 : Dc cL_law 210 (.iaload) 1 211 := ⟨by decide +kernel, rfl⟩
theorem dL_law_211 : Dc cL_law 211 (.invokevirtual 26) 3 214 := ⟨by decide +kernel, rfl⟩
theorem dL_law_214 : Db cL_law 214 (.if_icmp .eq 510) (510) 217 724 := ⟨by decide +kernel, rfl, rfl⟩
theorem dL_law_217 : Dc cL_law 217 (.iconst 0) 1 218 := ⟨by decide +kernel, rfl⟩
theorem dL_law_218 : Dc cL_law 218 (.ireturn) 1 219 := ⟨by decide +kernel, rfl⟩
theorem dL_law_219 : Dc cL_law 219 (.aload_n 1) 1 220 := ⟨by decide +kernel, rfl⟩
theorem dL_law_220 : Dc cL_law 220 (.aload_n 0) 1 221 := ⟨by decide +kernel, rfl⟩
theorem dL_law_221 : Dc cL_law 221 (.iload_n 3) 1 222 := ⟨by decide +kernel, rfl⟩
theorem dL_law_222 : Dc cL_law 222 (.iconst 1) 1 223 := ⟨by decide +kernel, rfl⟩
theorem dL_law_223 : Dc cL_law 223 (.iadd) 1 224 := ⟨by decide +kernel, rfl⟩
theorem dL_law_224 : Dc cL_law 224 (.iaload) 1 225 := ⟨by decide +kernel, rfl⟩
theorem dL_law_225 : Dc cL_law 225 (.invokevirtual 27) 3 228 := ⟨by decide +kernel, rfl⟩
theorem dL_law_228 : Dc cL_law 228 (.aload_n 2) 1 229 := ⟨by decide +kernel, rfl⟩
theorem dL_law_229 : Dc cL_law 229 (.aload_n 0) 1 230 := ⟨by decide +kernel, rfl⟩
theorem dL_law_230 : Dc cL_law 230 (.iload_n 3) 1 231 := ⟨by decide +kernel, rfl⟩
theorem dL_law_231 : Dc cL_law 231 (.iconst 1) 1 232 := ⟨by decide +kernel, rfl⟩
theorem dL_law_232 : Dc cL_law 232 (.iadd) 1 233 := ⟨by decide +kernel, rfl⟩
theorem dL_law_233 : Dc cL_law 233 (.iaload) 1 234 := ⟨by decide +kernel, rfl⟩
theorem dL_law_234 : Dc cL_law 234 (.invokevirtual 30) 3 237 := ⟨by decide +kernel, rfl⟩
theorem dL_law_237 : Db cL_law 237 (.if_icmp .eq 487) (487) 240 724 := ⟨by decide +kernel, rfl, rfl⟩
theorem dL_law_240 : Dc cL_law 240 (.iconst 0) 1 241 := ⟨by decide +kernel, rfl⟩
theorem dL_law_241 : Dc cL_law 241 (.ireturn) 1 242 := ⟨by decide +kernel, rfl⟩
theorem dL_law_242 : Dc cL_law 242 (.aload_n 1) 1 243 := ⟨by decide +kernel, rfl⟩
theorem dL_law_243 : Dc cL_law 243 (.aload_n 0) 1 244 := ⟨by decide +kernel, rfl⟩
theorem dL_law_244 : Dc cL_law 244 (.iload_n 3) 1 245 := ⟨by decide +kernel, rfl⟩
theorem dL_law_245 : Dc cL_law 245 (.iconst 1) 1 246 := ⟨by decide +kernel, rfl⟩
theorem dL_law_246 : Dc cL_law 246 (.iadd) 1 247 := ⟨by decide +kernel, rfl⟩
theorem dL_law_247 : Dc cL_law 247 (.iaload) 1 248 := ⟨by decide +kernel, rfl⟩
theorem dL_law_248 : Dc cL_law 248 (.invokevirtual 31) 3 251 := ⟨by decide +kernel, rfl⟩
theorem dL_law_251 : Dc cL_law 251 (.aload_n 2) 1 252 := ⟨by decide +kernel, rfl⟩
theorem dL_law_252 : Dc cL_law 252 (.aload_n 0) 1 253 := ⟨by decide +kernel, rfl⟩
theorem dL_law_253 : Dc cL_law 253 (.iload_n 3) 1 254 := ⟨by decide +kernel, rfl⟩
theorem dL_law_254 : Dc cL_law 254 (.iconst 1) 1 255 := ⟨by decide +kernel, rfl⟩
theorem dL_law_255 : Dc cL_law 255 (.iadd) 1 256 := ⟨by decide +kernel, rfl⟩
theorem dL_law_256 : Dc cL_law 256 (.iaload) 1 257 := ⟨by decide +kernel, rfl⟩
theorem dL_law_257 : Dc cL_law 257 (.invokevirtual 34) 3 260 := ⟨by decide +kernel, rfl⟩
theorem dL_law_260 : Db cL_law 260 (.if_icmp .eq 464) (464) 263 724 := ⟨by decide +kernel, rfl, rfl⟩
theorem dL_law_263 : Dc cL_law 263 (.iconst 0) 1 264 := ⟨by decide +kernel, rfl⟩
theorem dL_law_264 : Dc cL_law 264 (.ireturn) 1 265 := ⟨by decide +kernel, rfl⟩
theorem dL_law_265 : Dc cL_law 265 (.aload_n 1) 1 266 := ⟨by decide +kernel, rfl⟩
theorem dL_law_266 : Dc cL_law 266 (.aload_n 0) 1 267 := ⟨by decide +kernel, rfl⟩
theorem dL_law_267 : Dc cL_law 267 (.iload_n 3) 1 268 := ⟨by decide +kernel, rfl⟩
theorem dL_law_268 : Dc cL_law 268 (.iconst 1) 1 269 := ⟨by decide +kernel, rfl⟩
theorem dL_law_269 : Dc cL_law 269 (.iadd) 1 270 := ⟨by decide +kernel, rfl⟩
theorem dL_law_270 : Dc cL_law 270 (.iaload) 1 271 := ⟨by decide +kernel, rfl⟩
theorem dL_law_271 : Dc cL_law 271 (.aload_n 0) 1 272 := ⟨by decide +kernel, rfl⟩
theorem dL_law_272 : Dc cL_law 272 (.iload_n 3) 1 273 := ⟨by decide +kernel, rfl⟩
theorem dL_law_273 : Dc cL_law 273 (.iconst 2) 1 274 := ⟨by decide +kernel, rfl⟩
theorem dL_law_274 : Dc cL_law 274 (.iadd) 1 275 := ⟨by decide +kernel, rfl⟩
theorem dL_law_275 : Dc cL_law 275 (.iaload) 1 276 := ⟨by decide +kernel, rfl⟩
theorem dL_law_276 : Dc cL_law 276 (.aload_n 0) 1 277 := ⟨by decide +kernel, rfl⟩
theorem dL_law_277 : Dc cL_law 277 (.iload_n 3) 1 278 := ⟨by decide +kernel, rfl⟩
theorem dL_law_278 : Dc cL_law 278 (.iconst 3) 1 279 := ⟨by decide +kernel, rfl⟩
theorem dL_law_279 : Dc cL_law 279 (.iadd) 1 280 := ⟨by decide +kernel, rfl⟩
theorem dL_law_280 : Dc cL_law 280 (.iaload) 1 281 := ⟨by decide +kernel, rfl⟩
theorem dL_law_281 : Dc cL_law 281 (.invokevirtual 35) 3 284 := ⟨by decide +kernel, rfl⟩
theorem dL_law_284 : Dc cL_law 284 (.aload_n 2) 1 285 := ⟨by decide +kernel, rfl⟩
theorem dL_law_285 : Dc cL_law 285 (.aload_n 0) 1 286 := ⟨by decide +kernel, rfl⟩
theorem dL_law_286 : Dc cL_law 286 (.iload_n 3) 1 287 := ⟨by decide +kernel, rfl⟩
theorem dL_law_287 : Dc cL_law 287 (.iconst 1) 1 288 := ⟨by decide +kernel, rfl⟩
theorem dL_law_288 : Dc cL_law 288 (.iadd) 1 289 := ⟨by decide +kernel, rfl⟩
theorem dL_law_289 : Dc cL_law 289 (.iaload) 1 290 := ⟨by decide +kernel, rfl⟩
theorem dL_law_290 : Dc cL_law 290 (.aload_n 0) 1 291 := ⟨by decide +kernel, rfl⟩
theorem dL_law_291 : Dc cL_law 291 (.iload_n 3) 1 292 := ⟨by decide +kernel, rfl⟩
theorem dL_law_292 : Dc cL_law 292 (.iconst 2) 1 293 := ⟨by decide +kernel, rfl⟩
theorem dL_law_293 : Dc cL_law 293 (.iadd) 1 294 := ⟨by decide +kernel, rfl⟩
theorem dL_law_294 : Dc cL_law 294 (.iaload) 1 295 := ⟨by decide +kernel, rfl⟩
theorem dL_law_295 : Dc cL_law 295 (.aload_n 0) 1 296 := ⟨by decide +kernel, rfl⟩
theorem dL_law_296 : Dc cL_law 296 (.iload_n 3) 1 297 := ⟨by decide +kernel, rfl⟩
theorem dL_law_297 : Dc cL_law 297 (.iconst 3) 1 298 := ⟨by decide +kernel, rfl⟩
theorem dL_law_298 : Dc cL_law 298 (.iadd) 1 299 := ⟨by decide +kernel, rfl⟩
theorem dL_law_299 : Dc cL_law 299 (.iaload) 1 300 := ⟨by decide +kernel, rfl⟩
theorem dL_law_300 : Dc cL_law 300 (.invokevirtual 39) 3 303 := ⟨by decide +kernel, rfl⟩
theorem dL_law_303 : Db cL_law 303 (.if_icmp .eq 421) (421) 306 724 := ⟨by decide +kernel, rfl, rfl⟩
theorem dL_law_306 : Dc cL_law 306 (.iconst 0) 1 307 := ⟨by decide +kernel, rfl⟩
theorem dL_law_307 : Dc cL_law 307 (.ireturn) 1 308 := ⟨by decide +kernel, rfl⟩
theorem dL_law_308 : Dc cL_law 308 (.aload_n 1) 1 309 := ⟨by decide +kernel, rfl⟩
theorem dL_law_309 : Dc cL_law 309 (.aload_n 0) 1 310 := ⟨by decide +kernel, rfl⟩
theorem dL_law_310 : Dc cL_law 310 (.iload_n 3) 1 311 := ⟨by decide +kernel, rfl⟩
theorem dL_law_311 : Dc cL_law 311 (.iconst 1) 1 312 := ⟨by decide +kernel, rfl⟩
theorem dL_law_312 : Dc cL_law 312 (.iadd) 1 313 := ⟨by decide +kernel, rfl⟩
theorem dL_law_313 : Dc cL_law 313 (.iaload) 1 314 := ⟨by decide +kernel, rfl⟩
theorem dL_law_314 : Dc cL_law 314 (.aload_n 0) 1 315 := ⟨by decide +kernel, rfl⟩
theorem dL_law_315 : Dc cL_law 315 (.iload_n 3) 1 316 := ⟨by decide +kernel, rfl⟩
theorem dL_law_316 : Dc cL_law 316 (.iconst 2) 1 317 := ⟨by decide +kernel, rfl⟩
theorem dL_law_317 : Dc cL_law 317 (.iadd) 1 318 := ⟨by decide +kernel, rfl⟩
theorem dL_law_318 : Dc cL_law 318 (.iaload) 1 319 := ⟨by decide +kernel, rfl⟩
theorem dL_law_319 : Dc cL_law 319 (.invokevirtual 40) 3 322 := ⟨by decide +kernel, rfl⟩
theorem dL_law_322 : Dc cL_law 322 (.aload_n 2) 1 323 := ⟨by decide +kernel, rfl⟩
theorem dL_law_323 : Dc cL_law 323 (.aload_n 0) 1 324 := ⟨by decide +kernel, rfl⟩
theorem dL_law_324 : Dc cL_law 324 (.iload_n 3) 1 325 := ⟨by decide +kernel, rfl⟩
theorem dL_law_325 : Dc cL_law 325 (.iconst 1) 1 326 := ⟨by decide +kernel, rfl⟩
theorem dL_law_326 : Dc cL_law 326 (.iadd) 1 327 := ⟨by decide +kernel, rfl⟩
theorem dL_law_327 : Dc cL_law 327 (.iaload) 1 328 := ⟨by decide +kernel, rfl⟩
theorem dL_law_328 : Dc cL_law 328 (.aload_n 0) 1 329 := ⟨by decide +kernel, rfl⟩
theorem dL_law_329 : Dc cL_law 329 (.iload_n 3) 1 330 := ⟨by decide +kernel, rfl⟩
theorem dL_law_330 : Dc cL_law 330 (.iconst 2) 1 331 := ⟨by decide +kernel, rfl⟩
theorem dL_law_331 : Dc cL_law 331 (.iadd) 1 332 := ⟨by decide +kernel, rfl⟩
theorem dL_law_332 : Dc cL_law 332 (.iaload) 1 333 := ⟨by decide +kernel, rfl⟩
theorem dL_law_333 : Dc cL_law 333 (.invokevirtual 44) 3 336 := ⟨by decide +kernel, rfl⟩
theorem dL_law_336 : Db cL_law 336 (.if_icmp .eq 388) (388) 339 724 := ⟨by decide +kernel, rfl, rfl⟩
theorem dL_law_339 : Dc cL_law 339 (.iconst 0) 1 340 := ⟨by decide +kernel, rfl⟩
theorem dL_law_340 : Dc cL_law 340 (.ireturn) 1 341 := ⟨by decide +kernel, rfl⟩
theorem dL_law_341 : Dc cL_law 341 (.aload_n 1) 1 342 := ⟨by decide +kernel, rfl⟩
theorem dL_law_342 : Dc cL_law 342 (.aload_n 0) 1 343 := ⟨by decide +kernel, rfl⟩
theorem dL_law_343 : Dc cL_law 343 (.iload_n 3) 1 344 := ⟨by decide +kernel, rfl⟩
theorem dL_law_344 : Dc cL_law 344 (.iconst 1) 1 345 := ⟨by decide +kernel, rfl⟩
theorem dL_law_345 : Dc cL_law 345 (.iadd) 1 346 := ⟨by decide +kernel, rfl⟩
theorem dL_law_346 : Dc cL_law 346 (.iaload) 1 347 := ⟨by decide +kernel, rfl⟩
theorem dL_law_347 : Dc cL_law 347 (.aload_n 0) 1 348 := ⟨by decide +kernel, rfl⟩
theorem dL_law_348 : Dc cL_law 348 (.iload_n 3) 1 349 := ⟨by decide +kernel, rfl⟩
theorem dL_law_349 : Dc cL_law 349 (.iconst 2) 1 350 := ⟨by decide +kernel, rfl⟩
theorem dL_law_350 : Dc cL_law 350 (.iadd) 1 351 := ⟨by decide +kernel, rfl⟩
theorem dL_law_351 : Dc cL_law 351 (.iaload) 1 352 := ⟨by decide +kernel, rfl⟩
theorem dL_law_352 : Dc cL_law 352 (.aload_n 0) 1 353 := ⟨by decide +kernel, rfl⟩
theorem dL_law_353 : Dc cL_law 353 (.iload_n 3) 1 354 := ⟨by decide +kernel, rfl⟩
theorem dL_law_354 : Dc cL_law 354 (.iconst 3) 1 355 := ⟨by decide +kernel, rfl⟩
theorem dL_law_355 : Dc cL_law 355 (.iadd) 1 356 := ⟨by decide +kernel, rfl⟩
theorem dL_law_356 : Dc cL_law 356 (.iaload) 1 357 := ⟨by decide +kernel, rfl⟩
theorem dL_law_357 : Dc cL_law 357 (.invokevirtual 45) 3 360 := ⟨by decide +kernel, rfl⟩
theorem dL_law_360 : Dc cL_law 360 (.aload_n 2) 1 361 := ⟨by decide +kernel, rfl⟩
theorem dL_law_361 : Dc cL_law 361 (.aload_n 0) 1 362 := ⟨by decide +kernel, rfl⟩
theorem dL_law_362 : Dc cL_law 362 (.iload_n 3) 1 363 := ⟨by decide +kernel, rfl⟩
theorem dL_law_363 : Dc cL_law 363 (.iconst 1) 1 364 := ⟨by decide +kernel, rfl⟩
theorem dL_law_364 : Dc cL_law 364 (.iadd) 1 365 := ⟨by decide +kernel, rfl⟩
theorem dL_law_365 : Dc cL_law 365 (.iaload) 1 366 := ⟨by decide +kernel, rfl⟩
theorem dL_law_366 : Dc cL_law 366 (.aload_n 0) 1 367 := ⟨by decide +kernel, rfl⟩
theorem dL_law_367 : Dc cL_law 367 (.iload_n 3) 1 368 := ⟨by decide +kernel, rfl⟩
theorem dL_law_368 : Dc cL_law 368 (.iconst 2) 1 369 := ⟨by decide +kernel, rfl⟩
theorem dL_law_369 : Dc cL_law 369 (.iadd) 1 370 := ⟨by decide +kernel, rfl⟩
theorem dL_law_370 : Dc cL_law 370 (.iaload) 1 371 := ⟨by decide +kernel, rfl⟩
theorem dL_law_371 : Dc cL_law 371 (.aload_n 0) 1 372 := ⟨by decide +kernel, rfl⟩
theorem dL_law_372 : Dc cL_law 372 (.iload_n 3) 1 373 := ⟨by decide +kernel, rfl⟩
theorem dL_law_373 : Dc cL_law 373 (.iconst 3) 1 374 := ⟨by decide +kernel, rfl⟩
theorem dL_law_374 : Dc cL_law 374 (.iadd) 1 375 := ⟨by decide +kernel, rfl⟩
theorem dL_law_375 : Dc cL_law 375 (.iaload) 1 376 := ⟨by decide +kernel, rfl⟩
theorem dL_law_376 : Dc cL_law 376 (.invokevirtual 48) 3 379 := ⟨by decide +kernel, rfl⟩
theorem dL_law_379 : Db cL_law 379 (.if_icmp .eq 345) (345) 382 724 := ⟨by decide +kernel, rfl, rfl⟩
theorem dL_law_382 : Dc cL_law 382 (.iconst 0) 1 383 := ⟨by decide +kernel, rfl⟩
theorem dL_law_383 : Dc cL_law 383 (.ireturn) 1 384 := ⟨by decide +kernel, rfl⟩
theorem dL_law_384 : Dc cL_law 384 (.aload_n 1) 1 385 := ⟨by decide +kernel, rfl⟩
theorem dL_law_385 : Dc cL_law 385 (.aload_n 0) 1 386 := ⟨by decide +kernel, rfl⟩
theorem dL_law_386 : Dc cL_law 386 (.iload_n 3) 1 387 := ⟨by decide +kernel, rfl⟩
theorem dL_law_387 : Dc cL_law 387 (.iconst 1) 1 388 := ⟨by decide +kernel, rfl⟩
theorem dL_law_388 : Dc cL_law 388 (.iadd) 1 389 := ⟨by decide +kernel, rfl⟩
theorem dL_law_389 : Dc cL_law 389 (.iaload) 1 390 := ⟨by decide +kernel, rfl⟩
theorem dL_law_390 : Dc cL_law 390 (.aload_n 0) 1 391 := ⟨by decide +kernel, rfl⟩
theorem dL_law_391 : Dc cL_law 391 (.iload_n 3) 1 392 := ⟨by decide +kernel, rfl⟩
theorem dL_law_392 : Dc cL_law 392 (.iconst 2) 1 393 := ⟨by decide +kernel, rfl⟩
theorem dL_law_393 : Dc cL_law 393 (.iadd) 1 394 := ⟨by decide +kernel, rfl⟩
theorem dL_law_394 : Dc cL_law 394 (.iaload) 1 395 := ⟨by decide +kernel, rfl⟩
theorem dL_law_395 : Dc cL_law 395 (.invokevirtual 49) 3 398 := ⟨by decide +kernel, rfl⟩
theorem dL_law_398 : Dc cL_law 398 (.aload_n 2) 1 399 := ⟨by decide +kernel, rfl⟩
theorem dL_law_399 : Dc cL_law 399 (.aload_n 0) 1 400 := ⟨by decide +kernel, rfl⟩
theorem dL_law_400 : Dc cL_law 400 (.iload_n 3) 1 401 := ⟨by decide +kernel, rfl⟩
theorem dL_law_401 : Dc cL_law 401 (.iconst 1) 1 402 := ⟨by decide +kernel, rfl⟩
theorem dL_law_402 : Dc cL_law 402 (.iadd) 1 403 := ⟨by decide +kernel, rfl⟩
theorem dL_law_403 : Dc cL_law 403 (.iaload) 1 404 := ⟨by decide +kernel, rfl⟩
theorem dL_law_404 : Dc cL_law 404 (.aload_n 0) 1 405 := ⟨by decide +kernel, rfl⟩
theorem dL_law_405 : Dc cL_law 405 (.iload_n 3) 1 406 := ⟨by decide +kernel, rfl⟩
theorem dL_law_406 : Dc cL_law 406 (.iconst 2) 1 407 := ⟨by decide +kernel, rfl⟩
theorem dL_law_407 : Dc cL_law 407 (.iadd) 1 408 := ⟨by decide +kernel, rfl⟩
theorem dL_law_408 : Dc cL_law 408 (.iaload) 1 409 := ⟨by decide +kernel, rfl⟩
theorem dL_law_409 : Dc cL_law 409 (.invokevirtual 52) 3 412 := ⟨by decide +kernel, rfl⟩
theorem dL_law_412 : Db cL_law 412 (.if_icmp .eq 312) (312) 415 724 := ⟨by decide +kernel, rfl, rfl⟩
theorem dL_law_415 : Dc cL_law 415 (.iconst 0) 1 416 := ⟨by decide +kernel, rfl⟩
theorem dL_law_416 : Dc cL_law 416 (.ireturn) 1 417 := ⟨by decide +kernel, rfl⟩
theorem dL_law_417 : Dc cL_law 417 (.aload_n 1) 1 418 := ⟨by decide +kernel, rfl⟩
theorem dL_law_418 : Dc cL_law 418 (.aload_n 0) 1 419 := ⟨by decide +kernel, rfl⟩
theorem dL_law_419 : Dc cL_law 419 (.iload_n 3) 1 420 := ⟨by decide +kernel, rfl⟩
theorem dL_law_420 : Dc cL_law 420 (.iconst 1) 1 421 := ⟨by decide +kernel, rfl⟩
theorem dL_law_421 : Dc cL_law 421 (.iadd) 1 422 := ⟨by decide +kernel, rfl⟩
theorem dL_law_422 : Dc cL_law 422 (.iaload) 1 423 := ⟨by decide +kernel, rfl⟩
theorem dL_law_423 : Dc cL_law 423 (.aload_n 0) 1 424 := ⟨by decide +kernel, rfl⟩
theorem dL_law_424 : Dc cL_law 424 (.iload_n 3) 1 425 := ⟨by decide +kernel, rfl⟩
theorem dL_law_425 : Dc cL_law 425 (.iconst 2) 1 426 := ⟨by decide +kernel, rfl⟩
theorem dL_law_426 : Dc cL_law 426 (.iadd) 1 427 := ⟨by decide +kernel, rfl⟩
theorem dL_law_427 : Dc cL_law 427 (.iaload) 1 428 := ⟨by decide +kernel, rfl⟩
theorem dL_law_428 : Dc cL_law 428 (.invokevirtual 53) 3 431 := ⟨by decide +kernel, rfl⟩
theorem dL_law_431 : Dc cL_law 431 (.aload_n 2) 1 432 := ⟨by decide +kernel, rfl⟩
theorem dL_law_432 : Dc cL_law 432 (.aload_n 0) 1 433 := ⟨by decide +kernel, rfl⟩
theorem dL_law_433 : Dc cL_law 433 (.iload_n 3) 1 434 := ⟨by decide +kernel, rfl⟩
theorem dL_law_434 : Dc cL_law 434 (.iconst 1) 1 435 := ⟨by decide +kernel, rfl⟩
theorem dL_law_435 : Dc cL_law 435 (.iadd) 1 436 := ⟨by decide +kernel, rfl⟩
theorem dL_law_436 : Dc cL_law 436 (.iaload) 1 437 := ⟨by decide +kernel, rfl⟩
theorem dL_law_437 : Dc cL_law 437 (.aload_n 0) 1 438 := ⟨by decide +kernel, rfl⟩
theorem dL_law_438 : Dc cL_law 438 (.iload_n 3) 1 439 := ⟨by decide +kernel, rfl⟩
theorem dL_law_439 : Dc cL_law 439 (.iconst 2) 1 440 := ⟨by decide +kernel, rfl⟩
theorem dL_law_440 : Dc cL_law 440 (.iadd) 1 441 := ⟨by decide +kernel, rfl⟩
theorem dL_law_441 : Dc cL_law 441 (.iaload) 1 442 := ⟨by decide +kernel, rfl⟩
theorem dL_law_442 : Dc cL_law 442 (.invokevirtual 56) 3 445 := ⟨by decide +kernel, rfl⟩
theorem dL_law_445 : Db cL_law 445 (.if_icmp .eq 279) (279) 448 724 := ⟨by decide +kernel, rfl, rfl⟩
theorem dL_law_448 : Dc cL_law 448 (.iconst 0) 1 449 := ⟨by decide +kernel, rfl⟩
theorem dL_law_449 : Dc cL_law 449 (.ireturn) 1 450 := ⟨by decide +kernel, rfl⟩
theorem dL_law_450 : Dc cL_law 450 (.aload_n 1) 1 451 := ⟨by decide +kernel, rfl⟩
theorem dL_law_451 : Dc cL_law 451 (.aload_n 0) 1 452 := ⟨by decide +kernel, rfl⟩
theorem dL_law_452 : Dc cL_law 452 (.iload_n 3) 1 453 := ⟨by decide +kernel, rfl⟩
theorem dL_law_453 : Dc cL_law 453 (.iconst 1) 1 454 := ⟨by decide +kernel, rfl⟩
theorem dL_law_454 : Dc cL_law 454 (.iadd) 1 455 := ⟨by decide +kernel, rfl⟩
theorem dL_law_455 : Dc cL_law 455 (.iaload) 1 456 := ⟨by decide +kernel, rfl⟩
theorem dL_law_456 : Dc cL_law 456 (.aload_n 0) 1 457 := ⟨by decide +kernel, rfl⟩
theorem dL_law_457 : Dc cL_law 457 (.iload_n 3) 1 458 := ⟨by decide +kernel, rfl⟩
theorem dL_law_458 : Dc cL_law 458 (.iconst 2) 1 459 := ⟨by decide +kernel, rfl⟩
theorem dL_law_459 : Dc cL_law 459 (.iadd) 1 460 := ⟨by decide +kernel, rfl⟩
theorem dL_law_460 : Dc cL_law 460 (.iaload) 1 461 := ⟨by decide +kernel, rfl⟩
theorem dL_law_461 : Dc cL_law 461 (.invokevirtual 57) 3 464 := ⟨by decide +kernel, rfl⟩
theorem dL_law_464 : Dc cL_law 464 (.aload_n 2) 1 465 := ⟨by decide +kernel, rfl⟩
theorem dL_law_465 : Dc cL_law 465 (.aload_n 0) 1 466 := ⟨by decide +kernel, rfl⟩
theorem dL_law_466 : Dc cL_law 466 (.iload_n 3) 1 467 := ⟨by decide +kernel, rfl⟩
theorem dL_law_467 : Dc cL_law 467 (.iconst 1) 1 468 := ⟨by decide +kernel, rfl⟩
theorem dL_law_468 : Dc cL_law 468 (.iadd) 1 469 := ⟨by decide +kernel, rfl⟩
theorem dL_law_469 : Dc cL_law 469 (.iaload) 1 470 := ⟨by decide +kernel, rfl⟩
theorem dL_law_470 : Dc cL_law 470 (.aload_n 0) 1 471 := ⟨by decide +kernel, rfl⟩
theorem dL_law_471 : Dc cL_law 471 (.iload_n 3) 1 472 := ⟨by decide +kernel, rfl⟩
theorem dL_law_472 : Dc cL_law 472 (.iconst 2) 1 473 := ⟨by decide +kernel, rfl⟩
theorem dL_law_473 : Dc cL_law 473 (.iadd) 1 474 := ⟨by decide +kernel, rfl⟩
theorem dL_law_474 : Dc cL_law 474 (.iaload) 1 475 := ⟨by decide +kernel, rfl⟩
theorem dL_law_475 : Dc cL_law 475 (.invokevirtual 60) 3 478 := ⟨by decide +kernel, rfl⟩
theorem dL_law_478 : Db cL_law 478 (.if_icmp .eq 246) (246) 481 724 := ⟨by decide +kernel, rfl, rfl⟩
theorem dL_law_481 : Dc cL_law 481 (.iconst 0) 1 482 := ⟨by decide +kernel, rfl⟩
theorem dL_law_482 : Dc cL_law 482 (.ireturn) 1 483 := ⟨by decide +kernel, rfl⟩
theorem dL_law_483 : Dc cL_law 483 (.aload_n 1) 1 484 := ⟨by decide +kernel, rfl⟩
theorem dL_law_484 : Dc cL_law 484 (.aload_n 0) 1 485 := ⟨by decide +kernel, rfl⟩
theorem dL_law_485 : Dc cL_law 485 (.iload_n 3) 1 486 := ⟨by decide +kernel, rfl⟩
theorem dL_law_486 : Dc cL_law 486 (.iconst 1) 1 487 := ⟨by decide +kernel, rfl⟩
theorem dL_law_487 : Dc cL_law 487 (.iadd) 1 488 := ⟨by decide +kernel, rfl⟩
theorem dL_law_488 : Dc cL_law 488 (.iaload) 1 489 := ⟨by decide +kernel, rfl⟩
theorem dL_law_489 : Dc cL_law 489 (.invokevirtual 61) 3 492 := ⟨by decide +kernel, rfl⟩
theorem dL_law_492 : Dc cL_law 492 (.aload_n 2) 1 493 := ⟨by decide +kernel, rfl⟩
theorem dL_law_493 : Dc cL_law 493 (.aload_n 0) 1 494 := ⟨by decide +kernel, rfl⟩
theorem dL_law_494 : Dc cL_law 494 (.iload_n 3) 1 495 := ⟨by decide +kernel, rfl⟩
theorem dL_law_495 : Dc cL_law 495 (.iconst 1) 1 496 := ⟨by decide +kernel, rfl⟩
theorem dL_law_496 : Dc cL_law 496 (.iadd) 1 497 := ⟨by decide +kernel, rfl⟩
theorem dL_law_497 : Dc cL_law 497 (.iaload) 1 498 := ⟨by decide +kernel, rfl⟩
theorem dL_law_498 : Dc cL_law 498 (.invokevirtual 64) 3 501 := ⟨by decide +kernel, rfl⟩
theorem dL_law_501 : Db cL_law 501 (.if_icmp .eq 223) (223) 504 724 := ⟨by decide +kernel, rfl, rfl⟩
theorem dL_law_504 : Dc cL_law 504 (.iconst 0) 1 505 := ⟨by decide +kernel, rfl⟩
theorem dL_law_505 : Dc cL_law 505 (.ireturn) 1 506 := ⟨by decide +kernel, rfl⟩
theorem dL_law_506 : Dc cL_law 506 (.aload_n 1) 1 507 := ⟨by decide +kernel, rfl⟩
theorem dL_law_507 : Dc cL_law 507 (.aload_n 0) 1 508 := ⟨by decide +kernel, rfl⟩
theorem dL_law_508 : Dc cL_law 508 (.iload_n 3) 1 509 := ⟨by decide +kernel, rfl⟩
theorem dL_law_509 : Dc cL_law 509 (.iconst 1) 1 510 := ⟨by decide +kernel, rfl⟩
theorem dL_law_510 : Dc cL_law 510 (.iadd) 1 511 := ⟨by decide +kernel, rfl⟩
theorem dL_law_511 : Dc cL_law 511 (.iaload) 1 512 := ⟨by decide +kernel, rfl⟩
theorem dL_law_512 : Dc cL_law 512 (.aload_n 0) 1 513 := ⟨by decide +kernel, rfl⟩
theorem dL_law_513 : Dc cL_law 513 (.iload_n 3) 1 514 := ⟨by decide +kernel, rfl⟩
theorem dL_law_514 : Dc cL_law 514 (.iconst 2) 1 515 := ⟨by decide +kernel, rfl⟩
theorem dL_law_515 : Dc cL_law 515 (.iadd) 1 516 := ⟨by decide +kernel, rfl⟩
theorem dL_law_516 : Dc cL_law 516 (.iaload) 1 517 := ⟨by decide +kernel, rfl⟩
theorem dL_law_517 : Dc cL_law 517 (.aload_n 0) 1 518 := ⟨by decide +kernel, rfl⟩
theorem dL_law_518 : Dc cL_law 518 (.iload_n 3) 1 519 := ⟨by decide +kernel, rfl⟩
theorem dL_law_519 : Dc cL_law 519 (.iconst 3) 1 520 := ⟨by decide +kernel, rfl⟩
theorem dL_law_520 : Dc cL_law 520 (.iadd) 1 521 := ⟨by decide +kernel, rfl⟩
theorem dL_law_521 : Dc cL_law 521 (.iaload) 1 522 := ⟨by decide +kernel, rfl⟩
theorem dL_law_522 : Dc cL_law 522 (.invokevirtual 65) 3 525 := ⟨by decide +kernel, rfl⟩
theorem dL_law_525 : Dc cL_law 525 (.aload_n 2) 1 526 := ⟨by decide +kernel, rfl⟩
theorem dL_law_526 : Dc cL_law 526 (.aload_n 0) 1 527 := ⟨by decide +kernel, rfl⟩
theorem dL_law_527 : Dc cL_law 527 (.iload_n 3) 1 528 := ⟨by decide +kernel, rfl⟩
theorem dL_law_528 : Dc cL_law 528 (.iconst 1) 1 529 := ⟨by decide +kernel, rfl⟩
theorem dL_law_529 : Dc cL_law 529 (.iadd) 1 530 := ⟨by decide +kernel, rfl⟩
theorem dL_law_530 : Dc cL_law 530 (.iaload) 1 531 := ⟨by decide +kernel, rfl⟩
theorem dL_law_531 : Dc cL_law 531 (.aload_n 0) 1 532 := ⟨by decide +kernel, rfl⟩
theorem dL_law_532 : Dc cL_law 532 (.iload_n 3) 1 533 := ⟨by decide +kernel, rfl⟩
theorem dL_law_533 : Dc cL_law 533 (.iconst 2) 1 534 := ⟨by decide +kernel, rfl⟩
theorem dL_law_534 : Dc cL_law 534 (.iadd) 1 535 := ⟨by decide +kernel, rfl⟩
theorem dL_law_535 : Dc cL_law 535 (.iaload) 1 536 := ⟨by decide +kernel, rfl⟩
theorem dL_law_536 : Dc cL_law 536 (.aload_n 0) 1 537 := ⟨by decide +kernel, rfl⟩
theorem dL_law_537 : Dc cL_law 537 (.iload_n 3) 1 538 := ⟨by decide +kernel, rfl⟩
theorem dL_law_538 : Dc cL_law 538 (.iconst 3) 1 539 := ⟨by decide +kernel, rfl⟩
theorem dL_law_539 : Dc cL_law 539 (.iadd) 1 540 := ⟨by decide +kernel, rfl⟩
theorem dL_law_540 : Dc cL_law 540 (.iaload) 1 541 := ⟨by decide +kernel, rfl⟩
theorem dL_law_541 : Dc cL_law 541 (.invokevirtual 68) 3 544 := ⟨by decide +kernel, rfl⟩
theorem dL_law_544 : Db cL_law 544 (.if_icmp .eq 180) (180) 547 724 := ⟨by decide +kernel, rfl, rfl⟩
theorem dL_law_547 : Dc cL_law 547 (.iconst 0) 1 548 := ⟨by decide +kernel, rfl⟩
theorem dL_law_548 : Dc cL_law 548 (.ireturn) 1 549 := ⟨by decide +kernel, rfl⟩
theorem dL_law_549 : Dc cL_law 549 (.aload_n 1) 1 550 := ⟨by decide +kernel, rfl⟩
theorem dL_law_550 : Dc cL_law 550 (.aload_n 0) 1 551 := ⟨by decide +kernel, rfl⟩
theorem dL_law_551 : Dc cL_law 551 (.iload_n 3) 1 552 := ⟨by decide +kernel, rfl⟩
theorem dL_law_552 : Dc cL_law 552 (.iconst 1) 1 553 := ⟨by decide +kernel, rfl⟩
theorem dL_law_553 : Dc cL_law 553 (.iadd) 1 554 := ⟨by decide +kernel, rfl⟩
theorem dL_law_554 : Dc cL_law 554 (.iaload) 1 555 := ⟨by decide +kernel, rfl⟩
theorem dL_law_555 : Dc cL_law 555 (.aload_n 0) 1 556 := ⟨by decide +kernel, rfl⟩
theorem dL_law_556 : Dc cL_law 556 (.iload_n 3) 1 557 := ⟨by decide +kernel, rfl⟩
theorem dL_law_557 : Dc cL_law 557 (.iconst 2) 1 558 := ⟨by decide +kernel, rfl⟩
theorem dL_law_558 : Dc cL_law 558 (.iadd) 1 559 := ⟨by decide +kernel, rfl⟩
theorem dL_law_559 : Dc cL_law 559 (.iaload) 1 560 := ⟨by decide +kernel, rfl⟩
theorem dL_law_560 : Dc cL_law 560 (.aload_n 0) 1 561 := ⟨by decide +kernel, rfl⟩
theorem dL_law_561 : Dc cL_law 561 (.iload_n 3) 1 562 := ⟨by decide +kernel, rfl⟩
theorem dL_law_562 : Dc cL_law 562 (.iconst 3) 1 563 := ⟨by decide +kernel, rfl⟩
theorem dL_law_563 : Dc cL_law 563 (.iadd) 1 564 := ⟨by decide +kernel, rfl⟩
theorem dL_law_564 : Dc cL_law 564 (.iaload) 1 565 := ⟨by decide +kernel, rfl⟩
theorem dL_law_565 : Dc cL_law 565 (.aload_n 0) 1 566 := ⟨by decide +kernel, rfl⟩
theorem dL_law_566 : Dc cL_law 566 (.iload_n 3) 1 567 := ⟨by decide +kernel, rfl⟩
theorem dL_law_567 : Dc cL_law 567 (.iconst 4) 1 568 := ⟨by decide +kernel, rfl⟩
theorem dL_law_568 : Dc cL_law 568 (.iadd) 1 569 := ⟨by decide +kernel, rfl⟩
theorem dL_law_569 : Dc cL_law 569 (.iaload) 1 570 := ⟨by decide +kernel, rfl⟩
theorem dL_law_570 : Dc cL_law 570 (.invokevirtual 69) 3 573 := ⟨by decide +kernel, rfl⟩
theorem dL_law_573 : Dc cL_law 573 (.aload_n 2) 1 574 := ⟨by decide +kernel, rfl⟩
theorem dL_law_574 : Dc cL_law 574 (.aload_n 0) 1 575 := ⟨by decide +kernel, rfl⟩
theorem dL_law_575 : Dc cL_law 575 (.iload_n 3) 1 576 := ⟨by decide +kernel, rfl⟩
theorem dL_law_576 : Dc cL_law 576 (.iconst 1) 1 577 := ⟨by decide +kernel, rfl⟩
theorem dL_law_577 : Dc cL_law 577 (.iadd) 1 578 := ⟨by decide +kernel, rfl⟩
theorem dL_law_578 : Dc cL_law 578 (.iaload) 1 579 := ⟨by decide +kernel, rfl⟩
theorem dL_law_579 : Dc cL_law 579 (.aload_n 0) 1 580 := ⟨by decide +kernel, rfl⟩
theorem dL_law_580 : Dc cL_law 580 (.iload_n 3) 1 581 := ⟨by decide +kernel, rfl⟩
theorem dL_law_581 : Dc cL_law 581 (.iconst 2) 1 582 := ⟨by decide +kernel, rfl⟩
theorem dL_law_582 : Dc cL_law 582 (.iadd) 1 583 := ⟨by decide +kernel, rfl⟩
theorem dL_law_583 : Dc cL_law 583 (.iaload) 1 584 := ⟨by decide +kernel, rfl⟩
theorem dL_law_584 : Dc cL_law 584 (.aload_n 0) 1 585 := ⟨by decide +kernel, rfl⟩
theorem dL_law_585 : Dc cL_law 585 (.iload_n 3) 1 586 := ⟨by decide +kernel, rfl⟩
theorem dL_law_586 : Dc cL_law 586 (.iconst 3) 1 587 := ⟨by decide +kernel, rfl⟩
theorem dL_law_587 : Dc cL_law 587 (.iadd) 1 588 := ⟨by decide +kernel, rfl⟩
theorem dL_law_588 : Dc cL_law 588 (.iaload) 1 589 := ⟨by decide +kernel, rfl⟩
theorem dL_law_589 : Dc cL_law 589 (.aload_n 0) 1 590 := ⟨by decide +kernel, rfl⟩
theorem dL_law_590 : Dc cL_law 590 (.iload_n 3) 1 591 := ⟨by decide +kernel, rfl⟩
theorem dL_law_591 : Dc cL_law 591 (.iconst 4) 1 592 := ⟨by decide +kernel, rfl⟩
theorem dL_law_592 : Dc cL_law 592 (.iadd) 1 593 := ⟨by decide +kernel, rfl⟩
theorem dL_law_593 : Dc cL_law 593 (.iaload) 1 594 := ⟨by decide +kernel, rfl⟩
theorem dL_law_594 : Dc cL_law 594 (.invokevirtual 72) 3 597 := ⟨by decide +kernel, rfl⟩
theorem dL_law_597 : Db cL_law 597 (.if_icmp .eq 127) (127) 600 724 := ⟨by decide +kernel, rfl, rfl⟩
theorem dL_law_600 : Dc cL_law 600 (.iconst 0) 1 601 := ⟨by decide +kernel, rfl⟩
theorem dL_law_601 : Dc cL_law 601 (.ireturn) 1 602 := ⟨by decide +kernel, rfl⟩
theorem dL_law_602 : Dc cL_law 602 (.aload_n 1) 1 603 := ⟨by decide +kernel, rfl⟩
theorem dL_law_603 : Dc cL_law 603 (.aload_n 0) 1 604 := ⟨by decide +kernel, rfl⟩
theorem dL_law_604 : Dc cL_law 604 (.iload_n 3) 1 605 := ⟨by decide +kernel, rfl⟩
theorem dL_law_605 : Dc cL_law 605 (.iconst 1) 1 606 := ⟨by decide +kernel, rfl⟩
theorem dL_law_606 : Dc cL_law 606 (.iadd) 1 607 := ⟨by decide +kernel, rfl⟩
theorem dL_law_607 : Dc cL_law 607 (.iaload) 1 608 := ⟨by decide +kernel, rfl⟩
theorem dL_law_608 : Dc cL_law 608 (.invokevirtual 73) 3 611 := ⟨by decide +kernel, rfl⟩
theorem dL_law_611 : Dc cL_law 611 (.aload_n 2) 1 612 := ⟨by decide +kernel, rfl⟩
theorem dL_law_612 : Dc cL_law 612 (.aload_n 0) 1 613 := ⟨by decide +kernel, rfl⟩
theorem dL_law_613 : Dc cL_law 613 (.iload_n 3) 1 614 := ⟨by decide +kernel, rfl⟩
theorem dL_law_614 : Dc cL_law 614 (.iconst 1) 1 615 := ⟨by decide +kernel, rfl⟩
theorem dL_law_615 : Dc cL_law 615 (.iadd) 1 616 := ⟨by decide +kernel, rfl⟩
theorem dL_law_616 : Dc cL_law 616 (.iaload) 1 617 := ⟨by decide +kernel, rfl⟩
theorem dL_law_617 : Dc cL_law 617 (.invokevirtual 76) 3 620 := ⟨by decide +kernel, rfl⟩
theorem dL_law_620 : Db cL_law 620 (.if_icmp .eq 104) (104) 623 724 := ⟨by decide +kernel, rfl, rfl⟩
theorem dL_law_623 : Dc cL_law 623 (.iconst 0) 1 624 := ⟨by decide +kernel, rfl⟩
theorem dL_law_624 : Dc cL_law 624 (.ireturn) 1 625 := ⟨by decide +kernel, rfl⟩
theorem dL_law_625 : Dc cL_law 625 (.aload_n 1) 1 626 := ⟨by decide +kernel, rfl⟩
theorem dL_law_626 : Dc cL_law 626 (.aload_n 0) 1 627 := ⟨by decide +kernel, rfl⟩
theorem dL_law_627 : Dc cL_law 627 (.iload_n 3) 1 628 := ⟨by decide +kernel, rfl⟩
theorem dL_law_628 : Dc cL_law 628 (.iconst 1) 1 629 := ⟨by decide +kernel, rfl⟩
theorem dL_law_629 : Dc cL_law 629 (.iadd) 1 630 := ⟨by decide +kernel, rfl⟩
theorem dL_law_630 : Dc cL_law 630 (.iaload) 1 631 := ⟨by decide +kernel, rfl⟩
theorem dL_law_631 : Dc cL_law 631 (.aload_n 0) 1 632 := ⟨by decide +kernel, rfl⟩
theorem dL_law_632 : Dc cL_law 632 (.iload_n 3) 1 633 := ⟨by decide +kernel, rfl⟩
theorem dL_law_633 : Dc cL_law 633 (.iconst 2) 1 634 := ⟨by decide +kernel, rfl⟩
theorem dL_law_634 : Dc cL_law 634 (.iadd) 1 635 := ⟨by decide +kernel, rfl⟩
theorem dL_law_635 : Dc cL_law 635 (.iaload) 1 636 := ⟨by decide +kernel, rfl⟩
theorem dL_law_636 : Dc cL_law 636 (.invokevirtual 77) 3 639 := ⟨by decide +kernel, rfl⟩
theorem dL_law_639 : Dc cL_law 639 (.aload_n 2) 1 640 := ⟨by decide +kernel, rfl⟩
theorem dL_law_640 : Dc cL_law 640 (.aload_n 0) 1 641 := ⟨by decide +kernel, rfl⟩
theorem dL_law_641 : Dc cL_law 641 (.iload_n 3) 1 642 := ⟨by decide +kernel, rfl⟩
theorem dL_law_642 : Dc cL_law 642 (.iconst 1) 1 643 := ⟨by decide +kernel, rfl⟩
theorem dL_law_643 : Dc cL_law 643 (.iadd) 1 644 := ⟨by decide +kernel, rfl⟩
theorem dL_law_644 : Dc cL_law 644 (.iaload) 1 645 := ⟨by decide +kernel, rfl⟩
theorem dL_law_645 : Dc cL_law 645 (.aload_n 0) 1 646 := ⟨by decide +kernel, rfl⟩
theorem dL_law_646 : Dc cL_law 646 (.iload_n 3) 1 647 := ⟨by decide +kernel, rfl⟩
theorem dL_law_647 : Dc cL_law 647 (.iconst 2) 1 648 := ⟨by decide +kernel, rfl⟩
theorem dL_law_648 : Dc cL_law 648 (.iadd) 1 649 := ⟨by decide +kernel, rfl⟩
theorem dL_law_649 : Dc cL_law 649 (.iaload) 1 650 := ⟨by decide +kernel, rfl⟩
theorem dL_law_650 : Dc cL_law 650 (.invokevirtual 80) 3 653 := ⟨by decide +kernel, rfl⟩
theorem dL_law_653 : Db cL_law 653 (.if_icmp .eq 71) (71) 656 724 := ⟨by decide +kernel, rfl, rfl⟩
theorem dL_law_656 : Dc cL_law 656 (.iconst 0) 1 657 := ⟨by decide +kernel, rfl⟩
theorem dL_law_657 : Dc cL_law 657 (.ireturn) 1 658 := ⟨by decide +kernel, rfl⟩
theorem dL_law_658 : Dc cL_law 658 (.aload_n 1) 1 659 := ⟨by decide +kernel, rfl⟩
theorem dL_law_659 : Dc cL_law 659 (.aload_n 0) 1 660 := ⟨by decide +kernel, rfl⟩
theorem dL_law_660 : Dc cL_law 660 (.iload_n 3) 1 661 := ⟨by decide +kernel, rfl⟩
theorem dL_law_661 : Dc cL_law 661 (.iconst 1) 1 662 := ⟨by decide +kernel, rfl⟩
theorem dL_law_662 : Dc cL_law 662 (.iadd) 1 663 := ⟨by decide +kernel, rfl⟩
theorem dL_law_663 : Dc cL_law 663 (.iaload) 1 664 := ⟨by decide +kernel, rfl⟩
theorem dL_law_664 : Dc cL_law 664 (.aload_n 0) 1 665 := ⟨by decide +kernel, rfl⟩
theorem dL_law_665 : Dc cL_law 665 (.iload_n 3) 1 666 := ⟨by decide +kernel, rfl⟩
theorem dL_law_666 : Dc cL_law 666 (.iconst 2) 1 667 := ⟨by decide +kernel, rfl⟩
theorem dL_law_667 : Dc cL_law 667 (.iadd) 1 668 := ⟨by decide +kernel, rfl⟩
theorem dL_law_668 : Dc cL_law 668 (.iaload) 1 669 := ⟨by decide +kernel, rfl⟩
theorem dL_law_669 : Dc cL_law 669 (.invokevirtual 81) 3 672 := ⟨by decide +kernel, rfl⟩
theorem dL_law_672 : Dc cL_law 672 (.aload_n 2) 1 673 := ⟨by decide +kernel, rfl⟩
theorem dL_law_673 : Dc cL_law 673 (.aload_n 0) 1 674 := ⟨by decide +kernel, rfl⟩
theorem dL_law_674 : Dc cL_law 674 (.iload_n 3) 1 675 := ⟨by decide +kernel, rfl⟩
theorem dL_law_675 : Dc cL_law 675 (.iconst 1) 1 676 := ⟨by decide +kernel, rfl⟩
theorem dL_law_676 : Dc cL_law 676 (.iadd) 1 677 := ⟨by decide +kernel, rfl⟩
theorem dL_law_677 : Dc cL_law 677 (.iaload) 1 678 := ⟨by decide +kernel, rfl⟩
theorem dL_law_678 : Dc cL_law 678 (.aload_n 0) 1 679 := ⟨by decide +kernel, rfl⟩
theorem dL_law_679 : Dc cL_law 679 (.iload_n 3) 1 680 := ⟨by decide +kernel, rfl⟩
theorem dL_law_680 : Dc cL_law 680 (.iconst 2) 1 681 := ⟨by decide +kernel, rfl⟩
theorem dL_law_681 : Dc cL_law 681 (.iadd) 1 682 := ⟨by decide +kernel, rfl⟩
theorem dL_law_682 : Dc cL_law 682 (.iaload) 1 683 := ⟨by decide +kernel, rfl⟩
theorem dL_law_683 : Dc cL_law 683 (.invokevirtual 84) 3 686 := ⟨by decide +kernel, rfl⟩
theorem dL_law_686 : Db cL_law 686 (.if_icmp .eq 38) (38) 689 724 := ⟨by decide +kernel, rfl, rfl⟩
theorem dL_law_689 : Dc cL_law 689 (.iconst 0) 1 690 := ⟨by decide +kernel, rfl⟩
theorem dL_law_690 : Dc cL_law 690 (.ireturn) 1 691 := ⟨by decide +kernel, rfl⟩
theorem dL_law_691 : Dc cL_law 691 (.aload_n 1) 1 692 := ⟨by decide +kernel, rfl⟩
theorem dL_law_692 : Dc cL_law 692 (.aload_n 0) 1 693 := ⟨by decide +kernel, rfl⟩
theorem dL_law_693 : Dc cL_law 693 (.iload_n 3) 1 694 := ⟨by decide +kernel, rfl⟩
theorem dL_law_694 : Dc cL_law 694 (.iconst 1) 1 695 := ⟨by decide +kernel, rfl⟩
theorem dL_law_695 : Dc cL_law 695 (.iadd) 1 696 := ⟨by decide +kernel, rfl⟩
theorem dL_law_696 : Dc cL_law 696 (.iaload) 1 697 := ⟨by decide +kernel, rfl⟩
theorem dL_law_697 : Dc cL_law 697 (.aload_n 0) 1 698 := ⟨by decide +kernel, rfl⟩
theorem dL_law_698 : Dc cL_law 698 (.iload_n 3) 1 699 := ⟨by decide +kernel, rfl⟩
theorem dL_law_699 : Dc cL_law 699 (.iconst 2) 1 700 := ⟨by decide +kernel, rfl⟩
theorem dL_law_700 : Dc cL_law 700 (.iadd) 1 701 := ⟨by decide +kernel, rfl⟩
theorem dL_law_701 : Dc cL_law 701 (.iaload) 1 702 := ⟨by decide +kernel, rfl⟩
theorem dL_law_702 : Dc cL_law 702 (.invokevirtual 85) 3 705 := ⟨by decide +kernel, rfl⟩
theorem dL_law_705 : Dc cL_law 705 (.aload_n 2) 1 706 := ⟨by decide +kernel, rfl⟩
theorem dL_law_706 : Dc cL_law 706 (.aload_n 0) 1 707 := ⟨by decide +kernel, rfl⟩
theorem dL_law_707 : Dc cL_law 707 (.iload_n 3) 1 708 := ⟨by decide +kernel, rfl⟩
theorem dL_law_708 : Dc cL_law 708 (.iconst 1) 1 709 := ⟨by decide +kernel, rfl⟩
theorem dL_law_709 : Dc cL_law 709 (.iadd) 1 710 := ⟨by decide +kernel, rfl⟩
theorem dL_law_710 : Dc cL_law 710 (.iaload) 1 711 := ⟨by decide +kernel, rfl⟩
theorem dL_law_711 : Dc cL_law 711 (.aload_n 0) 1 712 := ⟨by decide +kernel, rfl⟩
theorem dL_law_712 : Dc cL_law 712 (.iload_n 3) 1 713 := ⟨by decide +kernel, rfl⟩
theorem dL_law_713 : Dc cL_law 713 (.iconst 2) 1 714 := ⟨by decide +kernel, rfl⟩
theorem dL_law_714 : Dc cL_law 714 (.iadd) 1 715 := ⟨by decide +kernel, rfl⟩
theorem dL_law_715 : Dc cL_law 715 (.iaload) 1 716 := ⟨by decide +kernel, rfl⟩
theorem dL_law_716 : Dc cL_law 716 (.invokevirtual 88) 3 719 := ⟨by decide +kernel, rfl⟩
theorem dL_law_719 : Db cL_law 719 (.if_icmp .eq 5) (5) 722 724 := ⟨by decide +kernel, rfl, rfl⟩
theorem dL_law_722 : Dc cL_law 722 (.iconst 0) 1 723 := ⟨by decide +kernel, rfl⟩
theorem dL_law_723 : Dc cL_law 723 (.ireturn) 1 724 := ⟨by decide +kernel, rfl⟩
theorem dL_law_724 : Dc cL_law 724 (.iinc 3 5) 3 727 := ⟨by decide +kernel, rfl⟩
theorem dL_law_727 : Db cL_law 727 (.goto (-709)) (-709) 730 18 := ⟨by decide +kernel, rfl, rfl⟩
theorem dL_law_730 : Dc cL_law 730 (.iconst 1) 1 731 := ⟨by decide +kernel, rfl⟩
theorem dL_law_731 : Dc cL_law 731 (.ireturn) 1 732 := ⟨by decide +kernel, rfl⟩
end
section
/-! the abstract machine: K pc locals stack state; one rule an instruction -/
set_option maxRecDepth 100000
/-- booleans on the stack and in arrays -/
def zI (b : Bool) : Int32 := match b with
  | true => 1
  | false => 0
theorem zI_eq0 (b : Bool) : zI b = 0 ↔ b = false := by cases b <;> decide
theorem zI_nar (b : Bool) : vp_nar .boolean (zI b) = zI b := by cases b <;> decide +kernel
theorem zI_narrow (b : Bool) : narrow .boolean (.int (zI b)) = .int (zI b) := by cases b <;> decide +kernel
theorem zI_0 : nI 0 = zI false := by decide
theorem zI_1 : nI 1 = zI true := by decide
def updB (f : Nat → Bool) (k : Nat) (x : Bool) : Nat → Bool := fun j => if j = k then x else f j
theorem zI_upd (f : Nat → Bool) (k : Nat) (x : Bool) : upd (fun j => zI (f j)) k (zI x) = fun j => zI (updB f k x j) := by
  funext j
  simp only [upd, updB]
  split <;> rfl
/-- locals by place -/
def xl_pr : Nat → List (Option Value) → List (Nat × Value)
  | _, [] => []
  | k, none :: r => xl_pr (k + 1) r
  | k, some v :: r => (k, v) :: xl_pr (k + 1) r
theorem xl_mem {v : Value} {i : Nat} : ∀ (r : List (Option Value)) (k : Nat), (i, v) ∈ xl_pr k r ↔ ∃ j, i = k + j ∧ r[j]? = some (some v)
  | [], k => by simp [xl_pr]
  | none :: r, k => by
    rw [xl_pr, xl_mem r (k + 1)]
    constructor
    · rintro ⟨j, h1, h2⟩
      exact ⟨j + 1, by omega, by simpa using h2⟩
    · rintro ⟨j, h1, h2⟩
      cases j with
      | zero => simp at h2
      | succ j => exact ⟨j, by omega, by simpa using h2⟩
  | some w :: r, k => by
    rw [xl_pr, List.mem_cons, xl_mem r (k + 1)]
    constructor
    · rintro (h | ⟨j, h1, h2⟩)
      · cases h
        exact ⟨0, rfl, rfl⟩
      · exact ⟨j + 1, by omega, by simpa using h2⟩
    · rintro ⟨j, h1, h2⟩
      cases j with
      | zero =>
        simp at h2
        subst h2
        left
        rw [h1]
        rfl
      | succ j => exact Or.inr ⟨j, by omega, by simpa using h2⟩
def xl (ls : Array Slot) (nL : Nat) (lv : List (Option Value)) : Prop := lv_has ls nL (xl_pr 0 lv) ∧ lv.length = nL ∧ ∀ (i : Nat) (v : Value), lv[i]? = some (some v) → v.category = 1
theorem xl_at {ls : Array Slot} {nL : Nat} {lv : List (Option Value)} (h : xl ls nL lv) {i : Nat} {v : Value} (hi : lv[i]? = some (some v)) : ls[i]? = some (.val v) := h.1.2.2 (i, v) ((xl_mem _ _).mpr ⟨i, by omega, hi⟩)
theorem xl_set {ls ls' : Array Slot} {nL : Nat} {lv : List (Option Value)} (h : xl ls nL lv) {i : Nat} {v : Value} (hc : v.category = 1)
    (h' : lv_has ls' nL ((i, v) :: (xl_pr 0 lv).filter (fun q => !(q.1 == i) && !(q.1 + 1 == i && q.2.category == 2)))) : xl ls' nL (lv.set i (some v)) := by
  refine ⟨⟨h'.1, h'.2.1, fun q hq => ?_⟩, by rw [List.length_set]; exact h.2.1, fun j w hj => ?_⟩
  · obtain ⟨j, w⟩ := q
    obtain ⟨j', e, hj⟩ := (xl_mem _ _).mp hq
    have e : j = j' := by omega
    subst e
    by_cases hji : i = j
    · subst hji
      rw [List.getElem?_set] at hj
      simp only [if_true] at hj
      split at hj
      · cases hj
        exact h'.2.2 _ List.mem_cons_self
      · cases hj
    · rw [List.getElem?_set_ne hji] at hj
      refine h'.2.2 (j, w) (List.mem_cons_of_mem _ (List.mem_filter.mpr ⟨(xl_mem _ _).mpr ⟨j, by omega, hj⟩, ?_⟩))
      have hw := h.2.2 j w hj
      have hji' : ¬ j = i := fun q => hji q.symm
      simp [hw, hji']
  · by_cases hji : i = j
    · subst hji
      rw [List.getElem?_set] at hj
      simp only [if_true] at hj
      split at hj
      · cases hj
        exact hc
      · cases hj
    · rw [List.getElem?_set_ne hji] at hj
      exact h.2.2 j w hj
theorem xl_lt {ls : Array Slot} {nL : Nat} {lv : List (Option Value)} (h : xl ls nL lv) {i : Nat} {o : Option Value} (hi : lv[i]? = some o) : i < nL := by
  have := (List.getElem?_eq_some_iff.mp hi).1
  rw [h.2.1] at this
  exact this
theorem xl_args : ∀ (av : List Value) (k : Nat), (∀ v ∈ av, v.category = 1) → ∀ n : Nat, lv_args k av = xl_pr k (av.map some ++ List.replicate n none)
  | [], k, _, n => by
    rw [lv_args, List.map_nil, List.nil_append]
    induction n generalizing k with
    | zero => rfl
    | succ n ih => rw [List.replicate_succ, xl_pr]; exact ih (k + 1)
  | v :: av, k, h, n => by
    have hv : ¬ v.category = 2 := by rw [h v List.mem_cons_self]; decide
    rw [lv_args, if_neg hv, List.map_cons, List.cons_append, xl_pr, xl_args av (k + 1) (fun w hw => h w (List.mem_cons_of_mem _ hw)) n]
theorem xl_slots : ∀ (av : List Value), (∀ v ∈ av, v.category = 1) → (lg_sl av).length = av.length
  | [], _ => rfl
  | v :: av, h => by
    have hv : ¬ v.category = 2 := by rw [h v List.mem_cons_self]; decide
    have := xl_slots av (fun w hw => h w (List.mem_cons_of_mem _ hw))
    simp only [lg_sl, List.flatMap_cons, if_neg hv, List.length_append, List.length_cons, List.length_nil] at this ⊢
    omega
theorem xl_entry {av : List Value} {n : Nat} (hc : ∀ v ∈ av, v.category = 1) (hn : av.length ≤ n) : xl ((lg_sl av ++ List.replicate (n - (lg_sl av).length) Slot.unset).toArray) n (av.map some ++ List.replicate (n - av.length) none) := by
  have h1 := lv_entry av (n := n) (by rw [xl_slots av hc]; exact hn)
  refine ⟨by rw [← xl_args av 0 hc]; exact h1, by simp; omega, fun i v hi => ?_⟩
  have hm := List.mem_of_getElem? hi
  rcases List.mem_append.mp hm with h | h
  · obtain ⟨w, hw, e⟩ := List.mem_map.mp h
    cases e
    exact hc _ hw
  · have := List.eq_of_mem_replicate h
    cases this
/-- cells' addresses alone say that they are apart -/
theorem va_D_addr {A : Nat → Prop} {w1 w2 : va_W} (h : va_D A w1) (e : w1.map Prod.fst = w2.map Prod.fst) : va_D A w2 := by
  have key : ∀ (k : Nat) (q : Nat × va_E), w2[k]? = some q → ∃ q1, w1[k]? = some q1 ∧ q1.1 = q.1 := by
    intro k q hk
    have h1 : (w2.map Prod.fst)[k]? = some q.1 := by rw [List.getElem?_map, hk]; rfl
    rw [← e, List.getElem?_map] at h1
    cases hw : w1[k]? with
    | none => rw [hw] at h1; cases h1
    | some q1 => rw [hw] at h1; exact ⟨q1, rfl, Option.some.inj h1⟩
  refine ⟨fun i j x y hi hj hxy => ?_, fun k q hk => ?_⟩
  · obtain ⟨x1, a1, b1⟩ := key i x hi
    obtain ⟨y1, a2, b2⟩ := key j y hj
    exact h.1 i j x1 y1 a1 a2 (b1.trans (hxy.trans b2.symm))
  · obtain ⟨q1, a1, b1⟩ := key k q hk
    rw [← b1]
    exact h.2 k q1 a1
/-- the machine in a method's body, as a predicate on place, locals, stack and the world's state -/
def Mach {S : Type} (wsf : S → va_W) (l : Launch) (R : Room) (cc : ByteArray) (nL : Nat) (own : String) (D : va_G) (cl : List vw_C) (tys : List (ClassId × FieldType)) (K : Nat → List (Option Value) → List Value → S → Prop) : Prop :=
  ∃ (p : Program) (e : Env) (s : State) (m : MethodId) (args : Array Value) (below : List Frame) (meth : Method) (c : Code) (A : Nat → Prop) (cells slots : Nat) (Q : State → Prop),
    (p.tables.exec = Jvm.exec ∧ c.code = cc ∧ c.maxLocals = nL ∧ s.vm.findClass own = some m.cls ∧ ∀ w ∈ lw_all, w.before args s = true) ∧ (∀ q, s.heap.size ≤ q → A q) ∧ va_K D cl tys s ∧ (∀ σ, va_D A (wsf σ)) ∧ (cells ≤ R.cells ∧ slots ≤ R.slots) ∧
    K = fun pc lv st σ => ∀ (H : Heap) (locs : List Loc) (ls : Array Slot), va_P D cl (wsf σ) H → va_S A s.heap H locs → xl ls nL lv → W p l e R s m args below meth c H locs cells slots Q (F0 m pc ls st)
section MR
variable {S : Type} {wsf : S → va_W} {l : Launch} {R : Room} {cc : ByteArray} {nL : Nat} {own : String} {D : va_G} {cl : List vw_C} {tys : List (ClassId × FieldType)} {K : Nat → List (Option Value) → List Value → S → Prop}
variable {pc nx tgt : Nat} {off : Int} {lv lv' : List (Option Value)} {st : List Value} {σ : S}
theorem x_iconst (O : Mach wsf l R cc nL own D cl tys K) {n : Int} {v : Int32} (d : Dc cc pc (.iconst n) 1 nx) (hv : Int32.ofInt n = v) (k : K nx lv (.int v :: st) σ) : K pc lv st σ := by
  obtain ⟨p, e, s, m, args, below, meth, c, A, cells, slots, Q, ⟨hx, hb, hml, hown, hts⟩, hA, hK, hD, hR, rfl⟩ := O
  obtain ⟨d, rfl⟩ := d
  intro H locs ls hP hS hl
  exact lv_iconst hx hb d hv (k H locs ls hP hS hl)
theorem x_bipush (O : Mach wsf l R cc nL own D cl tys K) {n : Int} {v : Int32} (d : Dc cc pc (.bipush n) 2 nx) (hv : (Int8.ofInt n).toInt32 = v) (k : K nx lv (.int v :: st) σ) : K pc lv st σ := by
  obtain ⟨p, e, s, m, args, below, meth, c, A, cells, slots, Q, ⟨hx, hb, hml, hown, hts⟩, hA, hK, hD, hR, rfl⟩ := O
  obtain ⟨d, rfl⟩ := d
  intro H locs ls hP hS hl
  exact lv_bipush hx hb d hv (k H locs ls hP hS hl)
theorem x_sipush (O : Mach wsf l R cc nL own D cl tys K) {n : Int} {v : Int32} (d : Dc cc pc (.sipush n) 3 nx) (hv : (Int16.ofInt n).toInt32 = v) (k : K nx lv (.int v :: st) σ) : K pc lv st σ := by
  obtain ⟨p, e, s, m, args, below, meth, c, A, cells, slots, Q, ⟨hx, hb, hml, hown, hts⟩, hA, hK, hD, hR, rfl⟩ := O
  obtain ⟨d, rfl⟩ := d
  intro H locs ls hP hS hl
  exact lv_sipush hx hb d hv (k H locs ls hP hS hl)
theorem x_iload_n (O : Mach wsf l R cc nL own D cl tys K) {i : Fin 4} {x : Int32} (d : Dc cc pc (.iload_n i) 1 nx) (hi : lv[(i : Nat)]? = some (some (.int x))) (k : K nx lv (.int x :: st) σ) : K pc lv st σ := by
  obtain ⟨p, e, s, m, args, below, meth, c, A, cells, slots, Q, ⟨hx, hb, hml, hown, hts⟩, hA, hK, hD, hR, rfl⟩ := O
  obtain ⟨d, rfl⟩ := d
  intro H locs ls hP hS hl
  exact lv_iload_n hx hb d rfl (xl_at hl hi) (k H locs ls hP hS hl)
theorem x_iload (O : Mach wsf l R cc nL own D cl tys K) {i : Nat} {x : Int32} (d : Dc cc pc (.iload i) 2 nx) (hi : lv[i]? = some (some (.int x))) (k : K nx lv (.int x :: st) σ) : K pc lv st σ := by
  obtain ⟨p, e, s, m, args, below, meth, c, A, cells, slots, Q, ⟨hx, hb, hml, hown, hts⟩, hA, hK, hD, hR, rfl⟩ := O
  obtain ⟨d, rfl⟩ := d
  intro H locs ls hP hS hl
  exact lv_iload hx hb d (xl_at hl hi) (k H locs ls hP hS hl)
theorem x_aload_n (O : Mach wsf l R cc nL own D cl tys K) {i : Fin 4} {x : Nat} (d : Dc cc pc (.aload_n i) 1 nx) (hi : lv[(i : Nat)]? = some (some (.ref x))) (k : K nx lv (.ref x :: st) σ) : K pc lv st σ := by
  obtain ⟨p, e, s, m, args, below, meth, c, A, cells, slots, Q, ⟨hx, hb, hml, hown, hts⟩, hA, hK, hD, hR, rfl⟩ := O
  obtain ⟨d, rfl⟩ := d
  intro H locs ls hP hS hl
  exact lv_aload_n hx hb d rfl (xl_at hl hi) (k H locs ls hP hS hl)
theorem x_istore_n (lv' : List (Option Value)) (O : Mach wsf l R cc nL own D cl tys K) {i : Fin 4} {x : Int32} {o : Option Value} (d : Dc cc pc (.istore_n i) 1 nx) (ho : lv[(i : Nat)]? = some o) (he : lv.set (i : Nat) (some (.int x)) = lv') (k : K nx lv' st σ) : K pc lv (.int x :: st) σ := by
  obtain ⟨p, e, s, m, args, below, meth, c, A, cells, slots, Q, ⟨hx, hb, hml, hown, hts⟩, hA, hK, hD, hR, rfl⟩ := O
  obtain ⟨d, rfl⟩ := d
  subst he
  intro H locs ls hP hS hl
  exact lv_istore_n hx hb d rfl hl.1 (xl_lt hl ho) rfl (fun ls' h' => k H locs ls' hP hS (xl_set hl rfl h'))
theorem x_istore (lv' : List (Option Value)) (O : Mach wsf l R cc nL own D cl tys K) {i : Nat} {x : Int32} {o : Option Value} (d : Dc cc pc (.istore i) 2 nx) (ho : lv[i]? = some o) (he : lv.set i (some (.int x)) = lv') (k : K nx lv' st σ) : K pc lv (.int x :: st) σ := by
  obtain ⟨p, e, s, m, args, below, meth, c, A, cells, slots, Q, ⟨hx, hb, hml, hown, hts⟩, hA, hK, hD, hR, rfl⟩ := O
  obtain ⟨d, rfl⟩ := d
  subst he
  intro H locs ls hP hS hl
  exact lv_istore hx hb d hl.1 (xl_lt hl ho) rfl (fun ls' h' => k H locs ls' hP hS (xl_set hl rfl h'))
theorem x_iinc (lv' : List (Option Value)) (O : Mach wsf l R cc nL own D cl tys K) {i : Nat} {n : Int} {x v : Int32} (d : Dc cc pc (.iinc i n) 3 nx) (hi : lv[i]? = some (some (.int x))) (hv : x + Int32.ofInt n = v) (he : lv.set i (some (.int v)) = lv') (k : K nx lv' st σ) : K pc lv st σ := by
  obtain ⟨p, e, s, m, args, below, meth, c, A, cells, slots, Q, ⟨hx, hb, hml, hown, hts⟩, hA, hK, hD, hR, rfl⟩ := O
  obtain ⟨d, rfl⟩ := d
  subst he
  intro H locs ls hP hS hl
  obtain ⟨kk, hkk⟩ := List.getElem?_of_mem ((xl_mem lv 0).mpr ⟨i, (Nat.zero_add i).symm, hi⟩)
  exact lv_iinc hx hb d hl.1 hkk hv (xl_lt hl hi) rfl (fun ls' h' => k H locs ls' hP hS (xl_set hl rfl h'))
theorem x_iincN (lv' : List (Option Value)) (O : Mach wsf l R cc nL own D cl tys K) {i a : Nat} (d : Dc cc pc (.iinc i 1) 3 nx) (hi : lv[i]? = some (some (.int (nI a)))) (he : lv.set i (some (.int (nI (a + 1)))) = lv') (k : K nx lv' st σ) : K pc lv st σ :=
  x_iinc lv' O d hi (nI_1 a) he k
theorem x_pop (O : Mach wsf l R cc nL own D cl tys K) {x : Int32} (d : Dc cc pc .pop 1 nx) (k : K nx lv st σ) : K pc lv (.int x :: st) σ := by
  obtain ⟨p, e, s, m, args, below, meth, c, A, cells, slots, Q, ⟨hx, hb, hml, hown, hts⟩, hA, hK, hD, hR, rfl⟩ := O
  obtain ⟨d, rfl⟩ := d
  intro H locs ls hP hS hl
  exact lv_pop hx hb d rfl (k H locs ls hP hS hl)
theorem x_iadd (O : Mach wsf l R cc nL own D cl tys K) {x y : Int32} (d : Dc cc pc .iadd 1 nx) (k : K nx lv (.int (x + y) :: st) σ) : K pc lv (.int y :: .int x :: st) σ := by
  obtain ⟨p, e, s, m, args, below, meth, c, A, cells, slots, Q, ⟨hx, hb, hml, hown, hts⟩, hA, hK, hD, hR, rfl⟩ := O
  obtain ⟨d, rfl⟩ := d
  intro H locs ls hP hS hl
  exact lv_iadd hx hb d (k H locs ls hP hS hl)
theorem x_isub (O : Mach wsf l R cc nL own D cl tys K) {x y : Int32} (d : Dc cc pc .isub 1 nx) (k : K nx lv (.int (x - y) :: st) σ) : K pc lv (.int y :: .int x :: st) σ := by
  obtain ⟨p, e, s, m, args, below, meth, c, A, cells, slots, Q, ⟨hx, hb, hml, hown, hts⟩, hA, hK, hD, hR, rfl⟩ := O
  obtain ⟨d, rfl⟩ := d
  intro H locs ls hP hS hl
  exact lv_isub hx hb d (k H locs ls hP hS hl)
theorem x_imul (O : Mach wsf l R cc nL own D cl tys K) {x y : Int32} (d : Dc cc pc .imul 1 nx) (k : K nx lv (.int (x * y) :: st) σ) : K pc lv (.int y :: .int x :: st) σ := by
  obtain ⟨p, e, s, m, args, below, meth, c, A, cells, slots, Q, ⟨hx, hb, hml, hown, hts⟩, hA, hK, hD, hR, rfl⟩ := O
  obtain ⟨d, rfl⟩ := d
  intro H locs ls hP hS hl
  exact lv_imul hx hb d (k H locs ls hP hS hl)
theorem x_idiv (O : Mach wsf l R cc nL own D cl tys K) {x y : Int32} (d : Dc cc pc .idiv 1 nx) (hy : ¬ y = 0) (k : K nx lv (.int (x / y) :: st) σ) : K pc lv (.int y :: .int x :: st) σ := by
  obtain ⟨p, e, s, m, args, below, meth, c, A, cells, slots, Q, ⟨hx, hb, hml, hown, hts⟩, hA, hK, hD, hR, rfl⟩ := O
  obtain ⟨d, rfl⟩ := d
  intro H locs ls hP hS hl
  exact lv_idiv hx hb d hy (k H locs ls hP hS hl)
theorem x_irem (O : Mach wsf l R cc nL own D cl tys K) {x y : Int32} (d : Dc cc pc .irem 1 nx) (hy : ¬ y = 0) (k : K nx lv (.int (x - x / y * y) :: st) σ) : K pc lv (.int y :: .int x :: st) σ := by
  obtain ⟨p, e, s, m, args, below, meth, c, A, cells, slots, Q, ⟨hx, hb, hml, hown, hts⟩, hA, hK, hD, hR, rfl⟩ := O
  obtain ⟨d, rfl⟩ := d
  intro H locs ls hP hS hl
  exact lv_irem hx hb d hy (k H locs ls hP hS hl)
theorem x_iand (O : Mach wsf l R cc nL own D cl tys K) {x y : Int32} (d : Dc cc pc .iand 1 nx) (k : K nx lv (.int (x &&& y) :: st) σ) : K pc lv (.int y :: .int x :: st) σ := by
  obtain ⟨p, e, s, m, args, below, meth, c, A, cells, slots, Q, ⟨hx, hb, hml, hown, hts⟩, hA, hK, hD, hR, rfl⟩ := O
  obtain ⟨d, rfl⟩ := d
  intro H locs ls hP hS hl
  exact lv_iand hx hb d (k H locs ls hP hS hl)
theorem x_ineg (O : Mach wsf l R cc nL own D cl tys K) {x : Int32} (d : Dc cc pc .ineg 1 nx) (k : K nx lv (.int (-x) :: st) σ) : K pc lv (.int x :: st) σ := by
  obtain ⟨p, e, s, m, args, below, meth, c, A, cells, slots, Q, ⟨hx, hb, hml, hown, hts⟩, hA, hK, hD, hR, rfl⟩ := O
  obtain ⟨d, rfl⟩ := d
  intro H locs ls hP hS hl
  exact lv_ineg hx hb d (k H locs ls hP hS hl)
theorem x_iaddN (O : Mach wsf l R cc nL own D cl tys K) {a b : Nat} (d : Dc cc pc .iadd 1 nx) (k : K nx lv (.int (nI (a + b)) :: st) σ) : K pc lv (.int (nI b) :: .int (nI a) :: st) σ :=
  x_iadd O d (by rw [nI_add]; exact k)
theorem x_imulN (O : Mach wsf l R cc nL own D cl tys K) {a b : Nat} (d : Dc cc pc .imul 1 nx) (k : K nx lv (.int (nI (a * b)) :: st) σ) : K pc lv (.int (nI b) :: .int (nI a) :: st) σ :=
  x_imul O d (by rw [pk_mul]; exact k)
theorem x_isubN (O : Mach wsf l R cc nL own D cl tys K) {a b : Nat} (d : Dc cc pc .isub 1 nx) (h : b ≤ a) (k : K nx lv (.int (nI (a - b)) :: st) σ) : K pc lv (.int (nI b) :: .int (nI a) :: st) σ :=
  x_isub O d (by rw [pk_sub h]; exact k)
theorem x_idivN (O : Mach wsf l R cc nL own D cl tys K) {a b : Nat} (d : Dc cc pc .idiv 1 nx) (ha : a < 2147483648) (hb : 0 < b ∧ b < 2147483648) (k : K nx lv (.int (nI (a / b)) :: st) σ) : K pc lv (.int (nI b) :: .int (nI a) :: st) σ :=
  x_idiv O d (nI_ne0 hb.1 hb.2) (by rw [pk_div ha hb.1 hb.2]; exact k)
theorem x_iremN (O : Mach wsf l R cc nL own D cl tys K) {a b : Nat} (d : Dc cc pc .irem 1 nx) (ha : a < 2147483648) (hb : 0 < b ∧ b < 2147483648) (k : K nx lv (.int (nI (a % b)) :: st) σ) : K pc lv (.int (nI b) :: .int (nI a) :: st) σ :=
  x_irem O d (nI_ne0 hb.1 hb.2) (by rw [pk_rem ha hb.1 hb.2]; exact k)
theorem x_goto (O : Mach wsf l R cc nL own D cl tys K) (d : Db cc pc (.goto off) off nx tgt) (k : K tgt lv st σ) : K pc lv st σ := by
  obtain ⟨p, e, s, m, args, below, meth, c, A, cells, slots, Q, ⟨hx, hb, hml, hown, hts⟩, hA, hK, hD, hR, rfl⟩ := O
  obtain ⟨d, rfl, ht⟩ := d
  intro H locs ls hP hS hl
  exact lv_goto hx hb d ht (k H locs ls hP hS hl)
/-- the value on top is another -/
theorem x_top {x y : Int32} (h : x = y) (k : K pc lv (.int y :: st) σ) : K pc lv (.int x :: st) σ := by rw [h]; exact k
theorem x_icmp_eq (O : Mach wsf l R cc nL own D cl tys K) {x y : Int32} (d : Db cc pc (.if_icmp .eq off) off nx tgt) (kt : x = y → K tgt lv st σ) (kf : ¬ x = y → K nx lv st σ) : K pc lv (.int y :: .int x :: st) σ := by
  obtain ⟨p, e, s, m, args, below, meth, c, A, cells, slots, Q, ⟨hx, hb, hml, hown, hts⟩, hA, hK, hD, hR, rfl⟩ := O
  obtain ⟨d, rfl, ht⟩ := d
  intro H locs ls hP hS hl
  exact lv_icmp_eq hx hb d ht (fun h => kt h H locs ls hP hS hl) (fun h => kf h H locs ls hP hS hl)
theorem x_icmp_eqN (O : Mach wsf l R cc nL own D cl tys K) {a b : Nat} (d : Db cc pc (.if_icmp .eq off) off nx tgt) (hb : a < 2147483648 ∧ b < 2147483648) (kt : a = b → K tgt lv st σ) (kf : a ≠ b → K nx lv st σ) : K pc lv (.int (nI b) :: .int (nI a) :: st) σ := by
  have hc := nI_eq hb.1 hb.2
  exact x_icmp_eq O d (fun h => kt (hc.mp h)) (fun h => kf (fun q => h (hc.mpr q)))
theorem x_if_eq (O : Mach wsf l R cc nL own D cl tys K) {x : Int32} (d : Db cc pc (.ifCond .eq off) off nx tgt) (kt : x = 0 → K tgt lv st σ) (kf : ¬ x = 0 → K nx lv st σ) : K pc lv (.int x :: st) σ := by
  obtain ⟨p, e, s, m, args, below, meth, c, A, cells, slots, Q, ⟨hx, hb, hml, hown, hts⟩, hA, hK, hD, hR, rfl⟩ := O
  obtain ⟨d, rfl, ht⟩ := d
  intro H locs ls hP hS hl
  exact lv_if_eq hx hb d ht (fun h => kt h H locs ls hP hS hl) (fun h => kf h H locs ls hP hS hl)
theorem x_if_eqN (O : Mach wsf l R cc nL own D cl tys K) {a : Nat} (d : Db cc pc (.ifCond .eq off) off nx tgt) (hb : a < 2147483648) (kt : a = 0 → K tgt lv st σ) (kf : a ≠ 0 → K nx lv st σ) : K pc lv (.int (nI a) :: st) σ := by
  have hc := show nI a = 0 ↔ a = 0 from nI_eq (b := 0) hb (by decide)
  exact x_if_eq O d (fun h => kt (hc.mp h)) (fun h => kf (fun q => h (hc.mpr q)))
theorem x_icmp_ne (O : Mach wsf l R cc nL own D cl tys K) {x y : Int32} (d : Db cc pc (.if_icmp .ne off) off nx tgt) (kt : ¬ x = y → K tgt lv st σ) (kf : x = y → K nx lv st σ) : K pc lv (.int y :: .int x :: st) σ := by
  obtain ⟨p, e, s, m, args, below, meth, c, A, cells, slots, Q, ⟨hx, hb, hml, hown, hts⟩, hA, hK, hD, hR, rfl⟩ := O
  obtain ⟨d, rfl, ht⟩ := d
  intro H locs ls hP hS hl
  exact lv_icmp_ne hx hb d ht (fun h => kt h H locs ls hP hS hl) (fun h => kf h H locs ls hP hS hl)
theorem x_icmp_neN (O : Mach wsf l R cc nL own D cl tys K) {a b : Nat} (d : Db cc pc (.if_icmp .ne off) off nx tgt) (hb : a < 2147483648 ∧ b < 2147483648) (kt : a ≠ b → K tgt lv st σ) (kf : a = b → K nx lv st σ) : K pc lv (.int (nI b) :: .int (nI a) :: st) σ := by
  have hc := nI_eq hb.1 hb.2
  exact x_icmp_ne O d (fun h => kt (fun q => h (hc.mpr q))) (fun h => kf (hc.mp h))
theorem x_if_ne (O : Mach wsf l R cc nL own D cl tys K) {x : Int32} (d : Db cc pc (.ifCond .ne off) off nx tgt) (kt : ¬ x = 0 → K tgt lv st σ) (kf : x = 0 → K nx lv st σ) : K pc lv (.int x :: st) σ := by
  obtain ⟨p, e, s, m, args, below, meth, c, A, cells, slots, Q, ⟨hx, hb, hml, hown, hts⟩, hA, hK, hD, hR, rfl⟩ := O
  obtain ⟨d, rfl, ht⟩ := d
  intro H locs ls hP hS hl
  exact lv_if_ne hx hb d ht (fun h => kt h H locs ls hP hS hl) (fun h => kf h H locs ls hP hS hl)
theorem x_if_neN (O : Mach wsf l R cc nL own D cl tys K) {a : Nat} (d : Db cc pc (.ifCond .ne off) off nx tgt) (hb : a < 2147483648) (kt : a ≠ 0 → K tgt lv st σ) (kf : a = 0 → K nx lv st σ) : K pc lv (.int (nI a) :: st) σ := by
  have hc := show nI a = 0 ↔ a = 0 from nI_eq (b := 0) hb (by decide)
  exact x_if_ne O d (fun h => kt (fun q => h (hc.mpr q))) (fun h => kf (hc.mp h))
theorem x_icmp_lt (O : Mach wsf l R cc nL own D cl tys K) {x y : Int32} (d : Db cc pc (.if_icmp .lt off) off nx tgt) (kt : x.toInt < y.toInt → K tgt lv st σ) (kf : y.toInt ≤ x.toInt → K nx lv st σ) : K pc lv (.int y :: .int x :: st) σ := by
  obtain ⟨p, e, s, m, args, below, meth, c, A, cells, slots, Q, ⟨hx, hb, hml, hown, hts⟩, hA, hK, hD, hR, rfl⟩ := O
  obtain ⟨d, rfl, ht⟩ := d
  intro H locs ls hP hS hl
  exact lv_icmp_lt hx hb d ht (fun h => kt (by rw [Int32.lt_iff_toInt_lt] at h; omega) H locs ls hP hS hl) (fun h => kf (by rw [Int32.lt_iff_toInt_lt] at h; omega) H locs ls hP hS hl)
theorem x_icmp_ltN (O : Mach wsf l R cc nL own D cl tys K) {a b : Nat} (d : Db cc pc (.if_icmp .lt off) off nx tgt) (hb : a < 2147483648 ∧ b < 2147483648) (kt : a < b → K tgt lv st σ) (kf : b ≤ a → K nx lv st σ) : K pc lv (.int (nI b) :: .int (nI a) :: st) σ := by
  exact x_icmp_lt O d (fun h => kt (by rw [nI_toInt hb.1, nI_toInt hb.2] at h; omega)) (fun h => kf (by rw [nI_toInt hb.1, nI_toInt hb.2] at h; omega))
theorem x_if_lt (O : Mach wsf l R cc nL own D cl tys K) {x : Int32} (d : Db cc pc (.ifCond .lt off) off nx tgt) (kt : x.toInt < 0 → K tgt lv st σ) (kf : 0 ≤ x.toInt → K nx lv st σ) : K pc lv (.int x :: st) σ := by
  obtain ⟨p, e, s, m, args, below, meth, c, A, cells, slots, Q, ⟨hx, hb, hml, hown, hts⟩, hA, hK, hD, hR, rfl⟩ := O
  obtain ⟨d, rfl, ht⟩ := d
  intro H locs ls hP hS hl
  exact lv_if_lt hx hb d ht (fun h => kt (by rw [Int32.lt_iff_toInt_lt, Int32.toInt_zero] at h; omega) H locs ls hP hS hl) (fun h => kf (by rw [Int32.lt_iff_toInt_lt, Int32.toInt_zero] at h; omega) H locs ls hP hS hl)
theorem x_if_ltN (O : Mach wsf l R cc nL own D cl tys K) {a : Nat} (d : Db cc pc (.ifCond .lt off) off nx tgt) (hb : a < 2147483648) (kt : a < 0 → K tgt lv st σ) (kf : 0 ≤ a → K nx lv st σ) : K pc lv (.int (nI a) :: st) σ := by
  exact x_if_lt O d (fun h => kt (by rw [nI_toInt hb] at h; omega)) (fun h => kf (by rw [nI_toInt hb] at h; omega))
theorem x_icmp_ge (O : Mach wsf l R cc nL own D cl tys K) {x y : Int32} (d : Db cc pc (.if_icmp .ge off) off nx tgt) (kt : y.toInt ≤ x.toInt → K tgt lv st σ) (kf : x.toInt < y.toInt → K nx lv st σ) : K pc lv (.int y :: .int x :: st) σ := by
  obtain ⟨p, e, s, m, args, below, meth, c, A, cells, slots, Q, ⟨hx, hb, hml, hown, hts⟩, hA, hK, hD, hR, rfl⟩ := O
  obtain ⟨d, rfl, ht⟩ := d
  intro H locs ls hP hS hl
  exact lv_icmp_ge hx hb d ht (fun h => kt (by rw [Int32.le_iff_toInt_le] at h; omega) H locs ls hP hS hl) (fun h => kf (by rw [Int32.le_iff_toInt_le] at h; omega) H locs ls hP hS hl)
theorem x_icmp_geN (O : Mach wsf l R cc nL own D cl tys K) {a b : Nat} (d : Db cc pc (.if_icmp .ge off) off nx tgt) (hb : a < 2147483648 ∧ b < 2147483648) (kt : b ≤ a → K tgt lv st σ) (kf : a < b → K nx lv st σ) : K pc lv (.int (nI b) :: .int (nI a) :: st) σ := by
  exact x_icmp_ge O d (fun h => kt (by rw [nI_toInt hb.1, nI_toInt hb.2] at h; omega)) (fun h => kf (by rw [nI_toInt hb.1, nI_toInt hb.2] at h; omega))
theorem x_if_ge (O : Mach wsf l R cc nL own D cl tys K) {x : Int32} (d : Db cc pc (.ifCond .ge off) off nx tgt) (kt : 0 ≤ x.toInt → K tgt lv st σ) (kf : x.toInt < 0 → K nx lv st σ) : K pc lv (.int x :: st) σ := by
  obtain ⟨p, e, s, m, args, below, meth, c, A, cells, slots, Q, ⟨hx, hb, hml, hown, hts⟩, hA, hK, hD, hR, rfl⟩ := O
  obtain ⟨d, rfl, ht⟩ := d
  intro H locs ls hP hS hl
  exact lv_if_ge hx hb d ht (fun h => kt (by rw [Int32.le_iff_toInt_le, Int32.toInt_zero] at h; omega) H locs ls hP hS hl) (fun h => kf (by rw [Int32.le_iff_toInt_le, Int32.toInt_zero] at h; omega) H locs ls hP hS hl)
theorem x_if_geN (O : Mach wsf l R cc nL own D cl tys K) {a : Nat} (d : Db cc pc (.ifCond .ge off) off nx tgt) (hb : a < 2147483648) (kt : 0 ≤ a → K tgt lv st σ) (kf : a < 0 → K nx lv st σ) : K pc lv (.int (nI a) :: st) σ := by
  exact x_if_ge O d (fun h => kt (by rw [nI_toInt hb] at h; omega)) (fun h => kf (by rw [nI_toInt hb] at h; omega))
theorem x_icmp_gt (O : Mach wsf l R cc nL own D cl tys K) {x y : Int32} (d : Db cc pc (.if_icmp .gt off) off nx tgt) (kt : y.toInt < x.toInt → K tgt lv st σ) (kf : x.toInt ≤ y.toInt → K nx lv st σ) : K pc lv (.int y :: .int x :: st) σ := by
  obtain ⟨p, e, s, m, args, below, meth, c, A, cells, slots, Q, ⟨hx, hb, hml, hown, hts⟩, hA, hK, hD, hR, rfl⟩ := O
  obtain ⟨d, rfl, ht⟩ := d
  intro H locs ls hP hS hl
  exact lv_icmp_gt hx hb d ht (fun h => kt (by rw [Int32.lt_iff_toInt_lt] at h; omega) H locs ls hP hS hl) (fun h => kf (by rw [Int32.lt_iff_toInt_lt] at h; omega) H locs ls hP hS hl)
theorem x_icmp_gtN (O : Mach wsf l R cc nL own D cl tys K) {a b : Nat} (d : Db cc pc (.if_icmp .gt off) off nx tgt) (hb : a < 2147483648 ∧ b < 2147483648) (kt : b < a → K tgt lv st σ) (kf : a ≤ b → K nx lv st σ) : K pc lv (.int (nI b) :: .int (nI a) :: st) σ := by
  exact x_icmp_gt O d (fun h => kt (by rw [nI_toInt hb.1, nI_toInt hb.2] at h; omega)) (fun h => kf (by rw [nI_toInt hb.1, nI_toInt hb.2] at h; omega))
theorem x_if_gt (O : Mach wsf l R cc nL own D cl tys K) {x : Int32} (d : Db cc pc (.ifCond .gt off) off nx tgt) (kt : 0 < x.toInt → K tgt lv st σ) (kf : x.toInt ≤ 0 → K nx lv st σ) : K pc lv (.int x :: st) σ := by
  obtain ⟨p, e, s, m, args, below, meth, c, A, cells, slots, Q, ⟨hx, hb, hml, hown, hts⟩, hA, hK, hD, hR, rfl⟩ := O
  obtain ⟨d, rfl, ht⟩ := d
  intro H locs ls hP hS hl
  exact lv_if_gt hx hb d ht (fun h => kt (by rw [Int32.lt_iff_toInt_lt, Int32.toInt_zero] at h; omega) H locs ls hP hS hl) (fun h => kf (by rw [Int32.lt_iff_toInt_lt, Int32.toInt_zero] at h; omega) H locs ls hP hS hl)
theorem x_if_gtN (O : Mach wsf l R cc nL own D cl tys K) {a : Nat} (d : Db cc pc (.ifCond .gt off) off nx tgt) (hb : a < 2147483648) (kt : 0 < a → K tgt lv st σ) (kf : a ≤ 0 → K nx lv st σ) : K pc lv (.int (nI a) :: st) σ := by
  exact x_if_gt O d (fun h => kt (by rw [nI_toInt hb] at h; omega)) (fun h => kf (by rw [nI_toInt hb] at h; omega))
theorem x_icmp_le (O : Mach wsf l R cc nL own D cl tys K) {x y : Int32} (d : Db cc pc (.if_icmp .le off) off nx tgt) (kt : x.toInt ≤ y.toInt → K tgt lv st σ) (kf : y.toInt < x.toInt → K nx lv st σ) : K pc lv (.int y :: .int x :: st) σ := by
  obtain ⟨p, e, s, m, args, below, meth, c, A, cells, slots, Q, ⟨hx, hb, hml, hown, hts⟩, hA, hK, hD, hR, rfl⟩ := O
  obtain ⟨d, rfl, ht⟩ := d
  intro H locs ls hP hS hl
  exact lv_icmp_le hx hb d ht (fun h => kt (by rw [Int32.le_iff_toInt_le] at h; omega) H locs ls hP hS hl) (fun h => kf (by rw [Int32.le_iff_toInt_le] at h; omega) H locs ls hP hS hl)
theorem x_icmp_leN (O : Mach wsf l R cc nL own D cl tys K) {a b : Nat} (d : Db cc pc (.if_icmp .le off) off nx tgt) (hb : a < 2147483648 ∧ b < 2147483648) (kt : a ≤ b → K tgt lv st σ) (kf : b < a → K nx lv st σ) : K pc lv (.int (nI b) :: .int (nI a) :: st) σ := by
  exact x_icmp_le O d (fun h => kt (by rw [nI_toInt hb.1, nI_toInt hb.2] at h; omega)) (fun h => kf (by rw [nI_toInt hb.1, nI_toInt hb.2] at h; omega))
theorem x_if_le (O : Mach wsf l R cc nL own D cl tys K) {x : Int32} (d : Db cc pc (.ifCond .le off) off nx tgt) (kt : x.toInt ≤ 0 → K tgt lv st σ) (kf : 0 < x.toInt → K nx lv st σ) : K pc lv (.int x :: st) σ := by
  obtain ⟨p, e, s, m, args, below, meth, c, A, cells, slots, Q, ⟨hx, hb, hml, hown, hts⟩, hA, hK, hD, hR, rfl⟩ := O
  obtain ⟨d, rfl, ht⟩ := d
  intro H locs ls hP hS hl
  exact lv_if_le hx hb d ht (fun h => kt (by rw [Int32.le_iff_toInt_le, Int32.toInt_zero] at h; omega) H locs ls hP hS hl) (fun h => kf (by rw [Int32.le_iff_toInt_le, Int32.toInt_zero] at h; omega) H locs ls hP hS hl)
theorem x_if_leN (O : Mach wsf l R cc nL own D cl tys K) {a : Nat} (d : Db cc pc (.ifCond .le off) off nx tgt) (hb : a < 2147483648) (kt : a ≤ 0 → K tgt lv st σ) (kf : 0 < a → K nx lv st σ) : K pc lv (.int (nI a) :: st) σ := by
  exact x_if_le O d (fun h => kt (by rw [nI_toInt hb] at h; omega)) (fun h => kf (by rw [nI_toInt hb] at h; omega))
theorem x_if_eqZ (O : Mach wsf l R cc nL own D cl tys K) {b : Bool} (d : Db cc pc (.ifCond .eq off) off nx tgt) (kt : b = false → K tgt lv st σ) (kf : b = true → K nx lv st σ) : K pc lv (.int (zI b) :: st) σ := by
  exact x_if_eq O d (fun h => kt ((zI_eq0 b).mp h)) (fun h => kf (by cases b with | true => rfl | false => exact absurd rfl h))
theorem x_if_eqT (O : Mach wsf l R cc nL own D cl tys K) (d : Db cc pc (.ifCond .eq off) off nx tgt) (k : K nx lv st σ) : K pc lv (.int (zI true) :: st) σ := by
  exact x_if_eqZ O d (fun h => by cases h) (fun _ => k)
theorem x_if_eqF (O : Mach wsf l R cc nL own D cl tys K) (d : Db cc pc (.ifCond .eq off) off nx tgt) (k : K tgt lv st σ) : K pc lv (.int (zI false) :: st) σ := by
  exact x_if_eqZ O d (fun _ => k) (fun h => by cases h)
theorem x_if_neZ (O : Mach wsf l R cc nL own D cl tys K) {b : Bool} (d : Db cc pc (.ifCond .ne off) off nx tgt) (kt : b = true → K tgt lv st σ) (kf : b = false → K nx lv st σ) : K pc lv (.int (zI b) :: st) σ := by
  exact x_if_ne O d (fun h => kt (by cases b with | true => rfl | false => exact absurd rfl h)) (fun h => kf ((zI_eq0 b).mp h))
theorem x_if_neT (O : Mach wsf l R cc nL own D cl tys K) (d : Db cc pc (.ifCond .ne off) off nx tgt) (k : K tgt lv st σ) : K pc lv (.int (zI true) :: st) σ := by
  exact x_if_neZ O d (fun _ => k) (fun h => by cases h)
theorem x_if_neF (O : Mach wsf l R cc nL own D cl tys K) (d : Db cc pc (.ifCond .ne off) off nx tgt) (k : K nx lv st σ) : K pc lv (.int (zI false) :: st) σ := by
  exact x_if_neZ O d (fun h => by cases h) (fun _ => k)
end MR
end
section
/-! contracts over a world's state; calls; the two classes' worlds -/
set_option maxRecDepth 100000
/-- a contract: int-like answer -/
def Ct {S : Type} (wsf : S → va_W) (D : va_G) (cl : List vw_C) (tys : List (ClassId × FieldType)) (l : Launch) (y : MethodName) (code : ByteArray) (maxL : Nat) (ty : FieldType) (rm : Room) (av : List Value) (σ : S) (post : Int32 → S → Prop) : Prop :=
  ∀ sz : Nat, Met l y (ws_ y code maxL (some ty)) rm (va_Pc av (fun U => U.heap.size = sz ∧ va_P D cl (wsf σ) U.heap ∧ va_K D cl tys U ∧ va_D (fun _ => True) (wsf σ))) (va_Qi post (fun u t => va_P D cl (wsf u) t.heap) (va_A (wsf σ) sz)) 0 0 (va_A (wsf σ) sz)
/-- a contract: no answer -/
def CtV {S : Type} (wsf : S → va_W) (D : va_G) (cl : List vw_C) (tys : List (ClassId × FieldType)) (l : Launch) (y : MethodName) (code : ByteArray) (maxL : Nat) (rm : Room) (av : List Value) (σ : S) (post : S → Prop) : Prop :=
  ∀ sz : Nat, Met l y (ws_ y code maxL none) rm (va_Pc av (fun U => U.heap.size = sz ∧ va_P D cl (wsf σ) U.heap ∧ va_K D cl tys U ∧ va_D (fun _ => True) (wsf σ))) (va_Qv post (fun u t => va_P D cl (wsf u) t.heap) (va_A (wsf σ) sz)) 0 0 (va_A (wsf σ) sz)
/-- what the end of a method asks -/
def EndI {S : Type} (cc : ByteArray) (ty : FieldType) (K : Nat → List (Option Value) → List Value → S → Prop) (post : Int32 → S → Prop) : Prop := ∀ (pc nx : Nat) (lv : List (Option Value)) (r : Int32) (u : S), Dc cc pc .ireturn 1 nx → narrow ty (.int r) = .int r → post r u → K pc lv [.int r] u
def EndV {S : Type} (cc : ByteArray) (K : Nat → List (Option Value) → List Value → S → Prop) (post : S → Prop) : Prop := ∀ (pc nx : Nat) (lv : List (Option Value)) (u : S), Dc cc pc .return_ 1 nx → post u → K pc lv [] u
section CE
variable {S : Type} {wsf : S → va_W} {D : va_G} {cl : List vw_C} {tys : List (ClassId × FieldType)} {l : Launch} {y : MethodName} {code : ByteArray} {maxL : Nat} {ty : FieldType} {rm : Room} {av : List Value} {σ : S}
theorem ct_entry {post : Int32 → S → Prop} (hw : ∀ σ σ', (wsf σ).map Prod.fst = (wsf σ').map Prod.fst) (hy : plainName y.cls = true) (hav : ∀ v ∈ av, v.category = 1) (hn : av.length ≤ maxL) (hrm : rm.cells = 0 ∧ rm.slots = 0)
    (walk : ∀ K, Mach wsf l rm code maxL y.cls D cl tys K → EndI code ty K post → K 0 (av.map some ++ List.replicate (maxL - av.length) none) [] σ) : Ct wsf D cl tys l y code maxL ty rm av σ post := by
  intro sz
  refine Met.ofW (cc := code) (maxL := maxL) (ret := some ty) hy rfl ?_
  intro p e s m args below meth c s₁ B hml hv
  obtain ⟨rfl, hsz, hP, hK, hD0⟩ := hv
  have hx := B.exec
  have hb := B.bytes
  have hr := B.returns
  have hts := atoms_spec (ws := ws_ y code maxL (some ty)) B.pre
  have hts : ∀ w ∈ lw_all, w.before _ s = true := fun w h => hts w (List.mem_cons_of_mem _ h)
  have hown : s.vm.findClass y.cls = some m.cls := findClass_of_methodNamed B.named
  have hlocks := B.notSynchronized
  subst hsz
  have hD := hD0.self (sz := s.heap.size)
  generalize hAe : va_A (wsf σ) s.heap.size = A at hD ⊢
  have hA : ∀ q : Nat, s.heap.size ≤ q → A q := fun q h => by rw [← hAe]; exact Or.inr h
  rw [lg_entry_eq]
  refine walk _ ⟨p, e, s, m, av.toArray, below, meth, c, A, 0, 0, _, ⟨hx, hb, hml, hown, hts⟩, hA, hK, fun σ' => va_D_addr hD (hw σ σ'), ⟨Nat.zero_le _, Nat.zero_le _⟩, rfl⟩ ?_ s.heap [] _ hP va_S.rf (xl_entry hav hn)
  intro pc nx lv r u d hnr hpost H locs ls hP hS hl
  have hst : ls.size = maxL := hl.1.1
  exact W.zret (v := r) hx hb hr hnr (fun t ht hW => ⟨⟨r, u, rfl, hpost, by subst ht; exact hP⟩, hS.F ht⟩) hS.2.2 d.1
theorem ct_entryV {post : S → Prop} (hw : ∀ σ σ', (wsf σ).map Prod.fst = (wsf σ').map Prod.fst) (hy : plainName y.cls = true) (hav : ∀ v ∈ av, v.category = 1) (hn : av.length ≤ maxL) (hrm : rm.cells = 0 ∧ rm.slots = 0)
    (walk : ∀ K, Mach wsf l rm code maxL y.cls D cl tys K → EndV code K post → K 0 (av.map some ++ List.replicate (maxL - av.length) none) [] σ) : CtV wsf D cl tys l y code maxL rm av σ post := by
  intro sz
  refine Met.ofW (cc := code) (maxL := maxL) (ret := none) hy rfl ?_
  intro p e s m args below meth c s₁ B hml hv
  obtain ⟨rfl, hsz, hP, hK, hD0⟩ := hv
  have hx := B.exec
  have hb := B.bytes
  have hr := B.returns
  have hts := atoms_spec (ws := ws_ y code maxL none) B.pre
  have hts : ∀ w ∈ lw_all, w.before _ s = true := fun w h => hts w (List.mem_cons_of_mem _ h)
  have hown : s.vm.findClass y.cls = some m.cls := findClass_of_methodNamed B.named
  have hlocks := B.notSynchronized
  subst hsz
  have hD := hD0.self (sz := s.heap.size)
  generalize hAe : va_A (wsf σ) s.heap.size = A at hD ⊢
  have hA : ∀ q : Nat, s.heap.size ≤ q → A q := fun q h => by rw [← hAe]; exact Or.inr h
  rw [lg_entry_eq]
  refine walk _ ⟨p, e, s, m, av.toArray, below, meth, c, A, 0, 0, _, ⟨hx, hb, hml, hown, hts⟩, hA, hK, fun σ' => va_D_addr hD (hw σ σ'), ⟨Nat.zero_le _, Nat.zero_le _⟩, rfl⟩ ?_ s.heap [] _ hP va_S.rf (xl_entry hav hn)
  intro pc nx lv u d hpost H locs ls hP hS hl
  exact W.vret hx hb hr (fun t ht hW => ⟨⟨u, rfl, hpost, by subst ht; exact hP⟩, hS.F ht⟩) hS.2.2 d.1
theorem ct_weaken {post post' : Int32 → S → Prop} (h : Ct wsf D cl tys l y code maxL ty rm av σ post) (hp : ∀ r u, post r u → post' r u) : Ct wsf D cl tys l y code maxL ty rm av σ post' := by
  intro sz p e ha hc hk s m args below hf happ hpre htr
  obtain ⟨k, o, h1, h2, h3, ⟨⟨r, u, q1, q2, q3⟩, q4⟩, q5⟩ := h sz p e ha hc hk s m args below hf happ hpre htr
  exact ⟨k, o, h1, h2, h3, ⟨⟨r, u, q1, hp r u q2, q3⟩, q4⟩, q5⟩
end CE
section CC
variable {S : Type} {wsf : S → va_W} {l : Launch} {R : Room} {cc : ByteArray} {nL : Nat} {own : String} {D : va_G} {cl : List vw_C} {tys : List (ClassId × FieldType)} {K : Nat → List (Option Value) → List Value → S → Prop}
variable {pc nx : Nat} {lv : List (Option Value)} {st stk : List Value} {σ : S} {y : MethodName} {code : ByteArray} {maxL idx h n : Nat} {ty : FieldType} {rm : Room} {As : List Value}
theorem x_callV {C : String} {post : Int32 → S → Prop} (O : Mach wsf l R cc nL own D cl tys K) (hM : Ct wsf D cl tys l y code maxL ty rm (.ref h :: As) σ post) (hlw : GoodIn lw_all (wsV own idx C y (ws_ y code maxL (some ty)))) (hrm : rm.cells = 0 ∧ rm.slots = 0)
    (hd : y.cls = C ∧ y.cls ≠ "java/lang/invoke/MethodHandle" ∧ y.cls ≠ "java/lang/invoke/VarHandle" ∧ (parseMethodDescriptor y.desc).map (fun d => d.parameters.length) = some n) (hnn : As.length = n) (hR : rm.frames + 1 ≤ R.frames ∧ 8 + (maxL + 11) + rm.locals ≤ R.locals)
    (hc : ∃ ci fs q, (wsf σ)[0]? = some (h, .inr (ci, fs)) ∧ cl[ci]? = some q ∧ q.1 = C) (hst : (st.map fun v => v.category).sum ≤ 8) (hstk : stk = As.reverse ++ .ref h :: st) (d : Dc cc pc (.invokevirtual idx) 3 nx)
    (k : ∀ r u, post r u → K nx lv (.int r :: st) u) : K pc lv stk σ := by
  obtain ⟨p, e, s, m, args, below, meth, c, A, cells, slots, Q, hF, hA, hK, hD, hRm, rfl⟩ := O
  obtain ⟨d, rfl⟩ := d
  subst hstk
  intro H locs ls hP hS hl
  obtain ⟨ci, fs, q, hc1, hc2, rfl⟩ := hc
  have hts := hF.2.2.2.2
  have hfr : ∀ a, va_A (wsf σ) H.size a → A a := fun a ha => by
    rcases ha with ⟨kk, ee, hkk⟩ | ha
    · exact (hD σ).2 kk _ hkk
    · exact hA a (Nat.le_trans hS.1 ha)
  refine va_calli (va_runV (As := As) (rest := st) hF (hM H.size) (cwV n hts hlw rfl hrm.1 hrm.2 hd hR) ⟨fun a U g mk q => by obtain ⟨q0, q1, qP, qK, qD⟩ := q; exact ⟨q0, q1, qP, va_K.moved (u := U) (U := U.calling g mk a) (Vm.Alike.refl U.vm) qK, qD⟩, va_recv hK hP hc2 hc1, fun U hU hW => ⟨rfl, by rw [hU], by rw [hU]; exact hP, va_K.moved hW.alike hK, (hD σ).weaken (fun _ _ _ _ => trivial)⟩⟩ rfl hnn hl.1.1 rfl (lv_room hst) d ⟨hRm.1, hRm.2⟩) hS (fun q _ h => hfr q h) hfr (fun r u t H1 locs1 ht hvm hp hB hz1 hk1 hS1 => ?_)
  exact k r u hp H1 locs1 ls (by rw [← ht]; exact hB) hS1 hl
theorem x_callVV {C : String} {post : S → Prop} (O : Mach wsf l R cc nL own D cl tys K) (hM : CtV wsf D cl tys l y code maxL rm (.ref h :: As) σ post) (hlw : GoodIn lw_all (wsV own idx C y (ws_ y code maxL none))) (hrm : rm.cells = 0 ∧ rm.slots = 0)
    (hd : y.cls = C ∧ y.cls ≠ "java/lang/invoke/MethodHandle" ∧ y.cls ≠ "java/lang/invoke/VarHandle" ∧ (parseMethodDescriptor y.desc).map (fun d => d.parameters.length) = some n) (hnn : As.length = n) (hR : rm.frames + 1 ≤ R.frames ∧ 8 + (maxL + 11) + rm.locals ≤ R.locals)
    (hc : ∃ ci fs q, (wsf σ)[0]? = some (h, .inr (ci, fs)) ∧ cl[ci]? = some q ∧ q.1 = C) (hst : (st.map fun v => v.category).sum ≤ 8) (hstk : stk = As.reverse ++ .ref h :: st) (d : Dc cc pc (.invokevirtual idx) 3 nx)
    (k : ∀ u, post u → K nx lv st u) : K pc lv stk σ := by
  obtain ⟨p, e, s, m, args, below, meth, c, A, cells, slots, Q, hF, hA, hK, hD, hRm, rfl⟩ := O
  obtain ⟨d, rfl⟩ := d
  subst hstk
  intro H locs ls hP hS hl
  obtain ⟨ci, fs, q, hc1, hc2, rfl⟩ := hc
  have hts := hF.2.2.2.2
  have hfr : ∀ a, va_A (wsf σ) H.size a → A a := fun a ha => by
    rcases ha with ⟨kk, ee, hkk⟩ | ha
    · exact (hD σ).2 kk _ hkk
    · exact hA a (Nat.le_trans hS.1 ha)
  refine va_callv (va_runV (As := As) (rest := st) hF (hM H.size) (cwV n hts hlw rfl hrm.1 hrm.2 hd hR) ⟨fun a U g mk q => by obtain ⟨q0, q1, qP, qK, qD⟩ := q; exact ⟨q0, q1, qP, va_K.moved (u := U) (U := U.calling g mk a) (Vm.Alike.refl U.vm) qK, qD⟩, va_recv hK hP hc2 hc1, fun U hU hW => ⟨rfl, by rw [hU], by rw [hU]; exact hP, va_K.moved hW.alike hK, (hD σ).weaken (fun _ _ _ _ => trivial)⟩⟩ rfl hnn hl.1.1 rfl (lv_room hst) d ⟨hRm.1, hRm.2⟩) hS (fun q _ h => hfr q h) hfr (fun u t H1 locs1 ht hvm hp hB hz1 hk1 hS1 => ?_)
  exact k u hp H1 locs1 ls (by rw [← ht]; exact hB) hS1 hl
theorem x_callS {post : Int32 → S → Prop} (O : Mach wsf l R cc nL own D cl tys K) (hM : Ct wsf D cl tys l y code maxL ty rm As σ post) (hlw : GoodIn lw_all (va_wsS own idx y (ws_ y code maxL (some ty)))) (hrm : rm.cells = 0 ∧ rm.slots = 0)
    (hd : y.cls ≠ "java/lang/invoke/MethodHandle" ∧ y.cls ≠ "java/lang/invoke/VarHandle" ∧ (parseMethodDescriptor y.desc).map (fun d => d.parameters.length) = some n) (hnn : As.length = n) (hR : rm.frames + 1 ≤ R.frames ∧ 8 + (maxL + 11) + rm.locals ≤ R.locals)
    (hst : (st.map fun v => v.category).sum ≤ 8) (hstk : stk = As.reverse ++ st) (d : Dc cc pc (.invokestatic idx) 3 nx)
    (k : ∀ r u, post r u → K nx lv (.int r :: st) u) : K pc lv stk σ := by
  obtain ⟨p, e, s, m, args, below, meth, c, A, cells, slots, Q, hF, hA, hK, hD, hRm, rfl⟩ := O
  obtain ⟨d, rfl⟩ := d
  subst hstk
  intro H locs ls hP hS hl
  have hts := hF.2.2.2.2
  have hfr : ∀ a, va_A (wsf σ) H.size a → A a := fun a ha => by
    rcases ha with ⟨kk, ee, hkk⟩ | ha
    · exact (hD σ).2 kk _ hkk
    · exact hA a (Nat.le_trans hS.1 ha)
  refine va_calli (va_runS (As := As) (rest := st) hF (hM H.size) (va_cwS n hts hlw rfl hrm.1 hrm.2 hd hR) ⟨fun a U g mk q => by obtain ⟨q0, q1, qP, qK, qD⟩ := q; exact ⟨q0, q1, qP, va_K.moved (u := U) (U := U.calling g mk a) (Vm.Alike.refl U.vm) qK, qD⟩, fun U hU hW => ⟨rfl, by rw [hU], by rw [hU]; exact hP, va_K.moved hW.alike hK, (hD σ).weaken (fun _ _ _ _ => trivial)⟩⟩ rfl hnn hl.1.1 rfl (lv_room hst) d ⟨hRm.1, hRm.2⟩) hS (fun q _ h => hfr q h) hfr (fun r u t H1 locs1 ht hvm hp hB hz1 hk1 hS1 => ?_)
  exact k r u hp H1 locs1 ls (by rw [← ht]; exact hB) hS1 hl
end CC
/-! the class ClockZones: bounds, none, work -/
abbrev SX : Type := (Nat → Int32) × (Nat → Bool) × (Nat → Int32)
def wX (h hB hN hW : Nat) (cB cN cW : ClassId) (σ : SX) : va_W := [(h, .inr (0, [.ref hB, .ref hN, .ref hW])), (hB, .inl (cB, 48, .inl σ.1)), (hN, .inl (cN, 3, .inl (fun j => zI (σ.2.1 j)))), (hW, .inl (cW, 16, .inl σ.2.2))]
abbrev tX (cB cN cW : ClassId) : List (ClassId × FieldType) := [(cB, .int), (cN, .boolean), (cW, .int)]
theorem wX_addr {h hB hN hW : Nat} {cB cN cW : ClassId} : ∀ σ σ', (wX h hB hN hW cB cN cW σ).map Prod.fst = (wX h hB hN hW cB cN cW σ').map Prod.fst := fun _ _ => rfl
section FX
variable {l : Launch} {R : Room} {cc : ByteArray} {nL : Nat} {D : va_G} {h hB hN hW : Nat} {cB cN cW : ClassId} {K : Nat → List (Option Value) → List Value → SX → Prop}
variable {pc nx : Nat} {lv : List (Option Value)} {st : List Value} {σ : SX} {fB fW : Nat → Int32} {fN : Nat → Bool}
abbrev MachX (l : Launch) (R : Room) (cc : ByteArray) (nL : Nat) (D : va_G) (h hB hN hW : Nat) (cB cN cW : ClassId) (K : Nat → List (Option Value) → List Value → SX → Prop) : Prop := Mach (wX h hB hN hW cB cN cW) l R cc nL RX0 D vwCl (tX cB cN cW) K
theorem fX_B (O : MachX l R cc nL D h hB hN hW cB cN cW K) (d : Dc cc pc (.getfield 7) 3 nx) (k : K nx lv (.ref hB :: st) σ) : K pc lv (.ref h :: st) σ := by
  obtain ⟨p, e, s, m, args, below, meth, c, A, cells, slots, Q, ⟨hx, hb, hml, hown, hts⟩, hA, hK, hD, hR, rfl⟩ := O
  obtain ⟨d, rfl⟩ := d
  intro H locs ls hP hS hl
  exact va_get (D := D) (ci := 0) (v := .ref hB) (C := RX0) (T := TX0) (N := 3) hx hb hts in_X0 hown hK hP 0 rfl rfl 0 (by decide) (hts _ q42) (fun _ h9 => h9) rfl d (k H locs ls hP hS hl)
theorem fX_N (O : MachX l R cc nL D h hB hN hW cB cN cW K) (d : Dc cc pc (.getfield 13) 3 nx) (k : K nx lv (.ref hN :: st) σ) : K pc lv (.ref h :: st) σ := by
  obtain ⟨p, e, s, m, args, below, meth, c, A, cells, slots, Q, ⟨hx, hb, hml, hown, hts⟩, hA, hK, hD, hR, rfl⟩ := O
  obtain ⟨d, rfl⟩ := d
  intro H locs ls hP hS hl
  exact va_get (D := D) (ci := 0) (v := .ref hN) (C := RX0) (T := TX0) (N := 3) hx hb hts in_X0 hown hK hP 0 rfl rfl 1 (by decide) (hts _ q43) (fun _ h9 => h9) rfl d (k H locs ls hP hS hl)
theorem fX_W (O : MachX l R cc nL D h hB hN hW cB cN cW K) (d : Dc cc pc (.getfield 17) 3 nx) (k : K nx lv (.ref hW :: st) σ) : K pc lv (.ref h :: st) σ := by
  obtain ⟨p, e, s, m, args, below, meth, c, A, cells, slots, Q, ⟨hx, hb, hml, hown, hts⟩, hA, hK, hD, hR, rfl⟩ := O
  obtain ⟨d, rfl⟩ := d
  intro H locs ls hP hS hl
  exact va_get (D := D) (ci := 0) (v := .ref hW) (C := RX0) (T := TX0) (N := 3) hx hb hts in_X0 hown hK hP 0 rfl rfl 2 (by decide) (hts _ q44) (fun _ h9 => h9) rfl d (k H locs ls hP hS hl)
theorem ldB (O : MachX l R cc nL D h hB hN hW cB cN cW K) {n : Nat} (hn : n < 48) (d : Dc cc pc .iaload 1 nx) (k : K nx lv (.int (fB n) :: st) (fB, fN, fW)) : K pc lv (.int (nI n) :: .ref hB :: st) (fB, fN, fW) := by
  obtain ⟨p, e, s, m, args, below, meth, c, A, cells, slots, Q, ⟨hx, hb, hml, hown, hts⟩, hA, hK, hD, hR, rfl⟩ := O
  obtain ⟨d, rfl⟩ := d
  intro H locs ls hP hS hl
  refine va_iald hx hb hK hP 1 0 rfl rfl (vp_in_nI hn (by decide)) d ?_
  rw [nI_clamp (by omega)]
  exact k H locs ls hP hS hl
theorem ldW (O : MachX l R cc nL D h hB hN hW cB cN cW K) {n : Nat} (hn : n < 16) (d : Dc cc pc .iaload 1 nx) (k : K nx lv (.int (fW n) :: st) (fB, fN, fW)) : K pc lv (.int (nI n) :: .ref hW :: st) (fB, fN, fW) := by
  obtain ⟨p, e, s, m, args, below, meth, c, A, cells, slots, Q, ⟨hx, hb, hml, hown, hts⟩, hA, hK, hD, hR, rfl⟩ := O
  obtain ⟨d, rfl⟩ := d
  intro H locs ls hP hS hl
  refine va_iald hx hb hK hP 3 2 rfl rfl (vp_in_nI hn (by decide)) d ?_
  rw [nI_clamp (by omega)]
  exact k H locs ls hP hS hl
theorem ldN (O : MachX l R cc nL D h hB hN hW cB cN cW K) {n : Nat} (hn : n < 3) (d : Dc cc pc .baload 1 nx) (k : K nx lv (.int (zI (fN n)) :: st) (fB, fN, fW)) : K pc lv (.int (nI n) :: .ref hN :: st) (fB, fN, fW) := by
  obtain ⟨p, e, s, m, args, below, meth, c, A, cells, slots, Q, ⟨hx, hb, hml, hown, hts⟩, hA, hK, hD, hR, rfl⟩ := O
  obtain ⟨d, rfl⟩ := d
  intro H locs ls hP hS hl
  refine va_zald hx hb hK hP 2 1 rfl rfl (vp_in_nI hn (by decide)) d ?_
  rw [nI_clamp (by omega)]
  exact k H locs ls hP hS hl
theorem stB (O : MachX l R cc nL D h hB hN hW cB cN cW K) {n : Nat} {x : Int32} (hn : n < 48) (d : Dc cc pc .iastore 1 nx) (k : K nx lv st (upd fB n x, fN, fW)) : K pc lv (.int x :: .int (nI n) :: .ref hB :: st) (fB, fN, fW) := by
  obtain ⟨p, e, s, m, args, below, meth, c, A, cells, slots, Q, ⟨hx, hb, hml, hown, hts⟩, hA, hK, hD, hR, rfl⟩ := O
  obtain ⟨d, rfl⟩ := d
  intro H locs ls hP hS hl
  refine va_iast hx hb hK hP (hD (fB, fN, fW)) hS 1 0 rfl rfl (vp_in_nI hn (by decide)) d (fun H1 locs1 hP1 hD1 hS1 => ?_)
  rw [nI_clamp (by omega)] at hP1
  exact k H1 locs1 ls hP1 hS1 hl
theorem stW (O : MachX l R cc nL D h hB hN hW cB cN cW K) {n : Nat} {x : Int32} (hn : n < 16) (d : Dc cc pc .iastore 1 nx) (k : K nx lv st (fB, fN, upd fW n x)) : K pc lv (.int x :: .int (nI n) :: .ref hW :: st) (fB, fN, fW) := by
  obtain ⟨p, e, s, m, args, below, meth, c, A, cells, slots, Q, ⟨hx, hb, hml, hown, hts⟩, hA, hK, hD, hR, rfl⟩ := O
  obtain ⟨d, rfl⟩ := d
  intro H locs ls hP hS hl
  refine va_iast hx hb hK hP (hD (fB, fN, fW)) hS 3 2 rfl rfl (vp_in_nI hn (by decide)) d (fun H1 locs1 hP1 hD1 hS1 => ?_)
  rw [nI_clamp (by omega)] at hP1
  exact k H1 locs1 ls hP1 hS1 hl
theorem stN (O : MachX l R cc nL D h hB hN hW cB cN cW K) {n : Nat} {x : Int32} {b : Bool} (hn : n < 3) (hb0 : x = zI b) (d : Dc cc pc .bastore 1 nx) (k : K nx lv st (fB, updB fN n b, fW)) : K pc lv (.int x :: .int (nI n) :: .ref hN :: st) (fB, fN, fW) := by
  subst hb0
  obtain ⟨p, e, s, m, args, below, meth, c, A, cells, slots, Q, ⟨hx, hb, hml, hown, hts⟩, hA, hK, hD, hR, rfl⟩ := O
  obtain ⟨d, rfl⟩ := d
  intro H locs ls hP hS hl
  refine va_zast hx hb hK hP (hD (fB, fN, fW)) hS 2 1 rfl rfl (vp_in_nI hn (by decide)) d (fun H1 locs1 hP1 hD1 hS1 => ?_)
  rw [nI_clamp (by omega), zI_nar, zI_upd] at hP1
  exact k H1 locs1 ls hP1 hS1 hl
end FX
/-! the class ClockZonesModel: mark, made -/
abbrev SM : Type := (Nat → Bool) × (Nat → Bool)
def wM (h hM hD : Nat) (cM cD : ClassId) (τ : SM) : va_W := [(h, .inr (1, [.ref hM, .ref hD])), (hM, .inl (cM, 6591, .inl (fun j => zI (τ.1 j)))), (hD, .inl (cD, 2197, .inl (fun j => zI (τ.2 j))))]
abbrev tM (cM cD : ClassId) : List (ClassId × FieldType) := [(cM, .boolean), (cD, .boolean)]
theorem wM_addr {h hM hD : Nat} {cM cD : ClassId} : ∀ σ σ', (wM h hM hD cM cD σ).map Prod.fst = (wM h hM hD cM cD σ').map Prod.fst := fun _ _ => rfl
section FM
variable {l : Launch} {R : Room} {cc : ByteArray} {nL : Nat} {D : va_G} {h hM hD : Nat} {cM cD : ClassId} {K : Nat → List (Option Value) → List Value → SM → Prop}
variable {pc nx : Nat} {lv : List (Option Value)} {st : List Value} {τ : SM} {fM fD : Nat → Bool}
abbrev MachM (l : Launch) (R : Room) (cc : ByteArray) (nL : Nat) (D : va_G) (h hM hD : Nat) (cM cD : ClassId) (K : Nat → List (Option Value) → List Value → SM → Prop) : Prop := Mach (wM h hM hD cM cD) l R cc nL RX1 D vwCl (tM cM cD) K
theorem fM_M (O : MachM l R cc nL D h hM hD cM cD K) (d : Dc cc pc (.getfield 7) 3 nx) (k : K nx lv (.ref hM :: st) τ) : K pc lv (.ref h :: st) τ := by
  obtain ⟨p, e, s, m, args, below, meth, c, A, cells, slots, Q, ⟨hx, hb, hml, hown, hts⟩, hA, hK, hDD, hR, rfl⟩ := O
  obtain ⟨d, rfl⟩ := d
  intro H locs ls hP hS hl
  exact va_get (D := D) (ci := 1) (v := .ref hM) (C := RX1) (T := TX1) (N := 2) hx hb hts in_X1 hown hK hP 0 rfl rfl 0 (by decide) (hts _ q176) (fun _ h9 => h9) rfl d (k H locs ls hP hS hl)
theorem fM_D (O : MachM l R cc nL D h hM hD cM cD K) (d : Dc cc pc (.getfield 13) 3 nx) (k : K nx lv (.ref hD :: st) τ) : K pc lv (.ref h :: st) τ := by
  obtain ⟨p, e, s, m, args, below, meth, c, A, cells, slots, Q, ⟨hx, hb, hml, hown, hts⟩, hA, hK, hDD, hR, rfl⟩ := O
  obtain ⟨d, rfl⟩ := d
  intro H locs ls hP hS hl
  exact va_get (D := D) (ci := 1) (v := .ref hD) (C := RX1) (T := TX1) (N := 2) hx hb hts in_X1 hown hK hP 0 rfl rfl 1 (by decide) (hts _ q177) (fun _ h9 => h9) rfl d (k H locs ls hP hS hl)
theorem ldM (O : MachM l R cc nL D h hM hD cM cD K) {n : Nat} (hn : n < 6591) (d : Dc cc pc .baload 1 nx) (k : K nx lv (.int (zI (fM n)) :: st) (fM, fD)) : K pc lv (.int (nI n) :: .ref hM :: st) (fM, fD) := by
  obtain ⟨p, e, s, m, args, below, meth, c, A, cells, slots, Q, ⟨hx, hb, hml, hown, hts⟩, hA, hK, hDD, hR, rfl⟩ := O
  obtain ⟨d, rfl⟩ := d
  intro H locs ls hP hS hl
  refine va_zald hx hb hK hP 1 0 rfl rfl (vp_in_nI hn (by decide)) d ?_
  rw [nI_clamp (by omega)]
  exact k H locs ls hP hS hl
theorem ldD (O : MachM l R cc nL D h hM hD cM cD K) {n : Nat} (hn : n < 2197) (d : Dc cc pc .baload 1 nx) (k : K nx lv (.int (zI (fD n)) :: st) (fM, fD)) : K pc lv (.int (nI n) :: .ref hD :: st) (fM, fD) := by
  obtain ⟨p, e, s, m, args, below, meth, c, A, cells, slots, Q, ⟨hx, hb, hml, hown, hts⟩, hA, hK, hDD, hR, rfl⟩ := O
  obtain ⟨d, rfl⟩ := d
  intro H locs ls hP hS hl
  refine va_zald hx hb hK hP 2 1 rfl rfl (vp_in_nI hn (by decide)) d ?_
  rw [nI_clamp (by omega)]
  exact k H locs ls hP hS hl
theorem stM (O : MachM l R cc nL D h hM hD cM cD K) {n : Nat} {x : Int32} {b : Bool} (hn : n < 6591) (hb0 : x = zI b) (d : Dc cc pc .bastore 1 nx) (k : K nx lv st (updB fM n b, fD)) : K pc lv (.int x :: .int (nI n) :: .ref hM :: st) (fM, fD) := by
  subst hb0
  obtain ⟨p, e, s, m, args, below, meth, c, A, cells, slots, Q, ⟨hx, hb, hml, hown, hts⟩, hA, hK, hDD, hR, rfl⟩ := O
  obtain ⟨d, rfl⟩ := d
  intro H locs ls hP hS hl
  refine va_zast hx hb hK hP (hDD (fM, fD)) hS 1 0 rfl rfl (vp_in_nI hn (by decide)) d (fun H1 locs1 hP1 hD1 hS1 => ?_)
  rw [nI_clamp (by omega), zI_nar, zI_upd] at hP1
  exact k H1 locs1 ls hP1 hS1 hl
theorem stD (O : MachM l R cc nL D h hM hD cM cD K) {n : Nat} {x : Int32} {b : Bool} (hn : n < 2197) (hb0 : x = zI b) (d : Dc cc pc .bastore 1 nx) (k : K nx lv st (fM, updB fD n b)) : K pc lv (.int x :: .int (nI n) :: .ref hD :: st) (fM, fD) := by
  subst hb0
  obtain ⟨p, e, s, m, args, below, meth, c, A, cells, slots, Q, ⟨hx, hb, hml, hown, hts⟩, hA, hK, hDD, hR, rfl⟩ := O
  obtain ⟨d, rfl⟩ := d
  intro H locs ls hP hS hl
  refine va_zast hx hb hK hP (hDD (fM, fD)) hS 2 1 rfl rfl (vp_in_nI hn (by decide)) d (fun H1 locs1 hP1 hD1 hS1 => ?_)
  rw [nI_clamp (by omega), zI_nar, zI_upd] at hP1
  exact k H1 locs1 ls hP1 hS1 hl
end FM
end
section
/-! constants, blocks of arrays, numbers -/
set_option maxRecDepth 100000
theorem kc_m1 : Int32.ofInt (-1) = (-1) := by decide
theorem kc_0 : Int32.ofInt (0) = nI 0 := by decide
theorem kc_1 : Int32.ofInt (1) = nI 1 := by decide
theorem kc_2 : Int32.ofInt (2) = nI 2 := by decide
theorem kc_3 : Int32.ofInt (3) = nI 3 := by decide
theorem kc_4 : Int32.ofInt (4) = nI 4 := by decide
theorem kc_5 : Int32.ofInt (5) = nI 5 := by decide
theorem kb_m100 : (Int8.ofInt (-100)).toInt32 = (-100) := by decide
theorem kb_m12 : (Int8.ofInt (-12)).toInt32 = (-12) := by decide
theorem kb_m3 : (Int8.ofInt (-3)).toInt32 = (-3) := by decide
theorem kb_m2 : (Int8.ofInt (-2)).toInt32 = (-2) := by decide
theorem kb_7 : (Int8.ofInt (7)).toInt32 = nI 7 := by decide
theorem kb_8 : (Int8.ofInt (8)).toInt32 = nI 8 := by decide
theorem kb_11 : (Int8.ofInt (11)).toInt32 = nI 11 := by decide
theorem kb_12 : (Int8.ofInt (12)).toInt32 = nI 12 := by decide
theorem kb_13 : (Int8.ofInt (13)).toInt32 = nI 13 := by decide
theorem kb_14 : (Int8.ofInt (14)).toInt32 = nI 14 := by decide
theorem kb_16 : (Int8.ofInt (16)).toInt32 = nI 16 := by decide
theorem kb_31 : (Int8.ofInt (31)).toInt32 = nI 31 := by decide
theorem kb_48 : (Int8.ofInt (48)).toInt32 = nI 48 := by decide
theorem ks_m300 : (Int16.ofInt (-300)).toInt32 = (-300) := by decide
theorem ks_m200 : (Int16.ofInt (-200)).toInt32 = (-200) := by decide
theorem ks_169 : (Int16.ofInt (169)).toInt32 = nI 169 := by decide
theorem ks_183 : (Int16.ofInt (183)).toInt32 = nI 183 := by decide
theorem ks_2196 : (Int16.ofInt (2196)).toInt32 = nI 2196 := by decide
theorem ks_2197 : (Int16.ofInt (2197)).toInt32 = nI 2197 := by decide
theorem ks_6591 : (Int16.ofInt (6591)).toInt32 = nI 6591 := by decide
def blk {α : Type} (f : Nat → α) (o n : Nat) (g : Nat → α) : Nat → α := fun t => if o ≤ t ∧ t < o + n then g (t - o) else f t
theorem blk_0 {α : Type} {f g : Nat → α} {o : Nat} : f = blk f o 0 g := by
  funext t
  unfold blk
  rw [if_neg (by omega)]
theorem blk_s {f f' g : Nat → Int32} {o k : Nat} {x : Int32} (h : f' = blk f o k g) (hx : x = g k) : upd f' (o + k) x = blk f o (k + 1) g := by
  subst h; subst hx
  funext t
  unfold upd blk
  by_cases h1 : t = o + k
  · subst h1
    rw [if_pos rfl, if_pos (by omega), Nat.add_sub_cancel_left]
  · rw [if_neg h1]
    by_cases h2 : o ≤ t ∧ t < o + k
    · rw [if_pos h2, if_pos (by omega)]
    · rw [if_neg h2, if_neg (by omega)]
theorem blkB_s {f f' g : Nat → Bool} {o k : Nat} {x : Bool} (h : f' = blk f o k g) (hx : x = g k) : updB f' (o + k) x = blk f o (k + 1) g := by
  subst h; subst hx
  funext t
  unfold updB blk
  by_cases h1 : t = o + k
  · subst h1
    rw [if_pos rfl, if_pos (by omega), Nat.add_sub_cancel_left]
  · rw [if_neg h1]
    by_cases h2 : o ≤ t ∧ t < o + k
    · rw [if_pos h2, if_pos (by omega)]
    · rw [if_neg h2, if_neg (by omega)]
theorem blk_s0 {f f' g : Nat → Int32} {k : Nat} {x : Int32} (h : f' = blk f 0 k g) (hx : x = g k) : upd f' k x = blk f 0 (k + 1) g := by
  have := blk_s h hx
  rwa [Nat.zero_add] at this
theorem blkB_s0 {f f' g : Nat → Bool} {k : Nat} {x : Bool} (h : f' = blk f 0 k g) (hx : x = g k) : updB f' k x = blk f 0 (k + 1) g := by
  have := blkB_s h hx
  rwa [Nat.zero_add] at this
theorem blk_in {α : Type} {f g : Nat → α} {o n t : Nat} (h : t < n) : blk f o n g (o + t) = g t := by
  unfold blk
  rw [if_pos (by omega), Nat.add_sub_cancel_left]
theorem blk_out {α : Type} {f g : Nat → α} {o n t : Nat} (h : t < o ∨ o + n ≤ t) : blk f o n g t = f t := by
  unfold blk
  rw [if_neg (by omega)]
theorem blk_at {α : Type} {f f' g : Nat → α} {o n t : Nat} (h : f' = blk f o n g) (hh : t < o ∨ o + n ≤ t) : f' t = f t := by rw [h]; exact blk_out hh
/-- which zone, clock, pair a number names -/
def inZ (z0 : Int32) (good : Nat → Prop) (bad : Prop) : Prop := (∃ z, z < 3 ∧ z0 = nI z ∧ good z) ∨ ((z0.toInt < 0 ∨ 2 < z0.toInt) ∧ bad)
def inC (k0 : Int32) (good : Nat → Prop) (bad : Prop) : Prop := (∃ k, (1 ≤ k ∧ k < 4) ∧ k0 = nI k ∧ good k) ∨ ((k0.toInt < 1 ∨ 3 < k0.toInt) ∧ bad)
def inP (i0 j0 : Int32) (good : Nat → Nat → Prop) (bad : Prop) : Prop := (∃ i j, (i < 4 ∧ j < 4 ∧ i ≠ j) ∧ i0 = nI i ∧ j0 = nI j ∧ good i j) ∨ ((i0.toInt < 0 ∨ 3 < i0.toInt ∨ j0.toInt < 0 ∨ 3 < j0.toInt ∨ i0 = j0) ∧ bad)
theorem nI_ofT {x : Int32} {b : Nat} (h : 0 ≤ x.toInt) (h2 : x.toInt ≤ b) : ∃ z : Nat, z ≤ b ∧ x = nI z := by
  have hb : x.toInt < 2147483648 := Int32.toInt_lt x
  refine ⟨x.toInt.toNat, by omega, ?_⟩
  apply Int32.toInt_inj.mp
  rw [nI_toInt (by omega)]
  omega
section KR
variable {S : Type} {wsf : S → va_W} {l : Launch} {R : Room} {cc : ByteArray} {nL : Nat} {own : String} {D : va_G} {cl : List vw_C} {tys : List (ClassId × FieldType)} {K : Nat → List (Option Value) → List Value → S → Prop}
variable {pc nx tgt : Nat} {off : Int} {lv lv' : List (Option Value)} {st : List Value} {σ : S}
theorem x_icmp_ltK (O : Mach wsf l R cc nL own D cl tys K) {x : Int32} {b : Nat} (d : Db cc pc (.if_icmp .lt off) off nx tgt) (hb : b < 2147483648) (kt : x.toInt < b → K tgt lv st σ) (kf : (b : Int) ≤ x.toInt → K nx lv st σ) : K pc lv (.int (nI b) :: .int x :: st) σ :=
  x_icmp_lt O d (fun h => kt (by rw [nI_toInt hb] at h; omega)) (fun h => kf (by rw [nI_toInt hb] at h; omega))
theorem x_icmp_geK (O : Mach wsf l R cc nL own D cl tys K) {x : Int32} {b : Nat} (d : Db cc pc (.if_icmp .ge off) off nx tgt) (hb : b < 2147483648) (kt : (b : Int) ≤ x.toInt → K tgt lv st σ) (kf : x.toInt < b → K nx lv st σ) : K pc lv (.int (nI b) :: .int x :: st) σ :=
  x_icmp_ge O d (fun h => kt (by rw [nI_toInt hb] at h; omega)) (fun h => kf (by rw [nI_toInt hb] at h; omega))
theorem x_icmp_gtK (O : Mach wsf l R cc nL own D cl tys K) {x : Int32} {b : Nat} (d : Db cc pc (.if_icmp .gt off) off nx tgt) (hb : b < 2147483648) (kt : (b : Int) < x.toInt → K tgt lv st σ) (kf : x.toInt ≤ b → K nx lv st σ) : K pc lv (.int (nI b) :: .int x :: st) σ :=
  x_icmp_gt O d (fun h => kt (by rw [nI_toInt hb] at h; omega)) (fun h => kf (by rw [nI_toInt hb] at h; omega))
theorem x_icmp_leK (O : Mach wsf l R cc nL own D cl tys K) {x : Int32} {b : Nat} (d : Db cc pc (.if_icmp .le off) off nx tgt) (hb : b < 2147483648) (kt : x.toInt ≤ b → K tgt lv st σ) (kf : (b : Int) < x.toInt → K nx lv st σ) : K pc lv (.int (nI b) :: .int x :: st) σ :=
  x_icmp_le O d (fun h => kt (by rw [nI_toInt hb] at h; omega)) (fun h => kf (by rw [nI_toInt hb] at h; omega))
def lvle : List (Option Value) → List (Option Value) → Prop
  | [], [] => True
  | none :: a, _ :: b => lvle a b
  | some v :: a, some w :: b => v = w ∧ lvle a b
  | _, _ => False
theorem lvle_spec : ∀ (a b : List (Option Value)), lvle a b → a.length = b.length ∧ ∀ (i : Nat) (v : Value), a[i]? = some (some v) → b[i]? = some (some v)
  | [], [], _ => ⟨rfl, fun i v h => by simp at h⟩
  | none :: a, x :: b, h => by
    obtain ⟨h1, h2⟩ := lvle_spec a b (by simpa [lvle] using h)
    refine ⟨by simp [h1], fun i v hi => ?_⟩
    cases i with
    | zero => simp at hi
    | succ i => simpa using h2 i v (by simpa using hi)
  | some v :: a, some w :: b, h => by
    have h0 : v = w ∧ lvle a b := by simpa [lvle] using h
    clear h
    obtain ⟨rfl, h9⟩ := h0
    obtain ⟨h1, h2⟩ := lvle_spec a b h9
    refine ⟨by simp [h1], fun i x hi => ?_⟩
    cases i with
    | zero => simpa using hi
    | succ i => simpa using h2 i x (by simpa using hi)
  | [], _ :: _, h => by simp [lvle] at h
  | none :: _, [], h => by simp [lvle] at h
  | some _ :: _, [], h => by simp [lvle] at h
  | some _ :: _, none :: _, h => by simp [lvle] at h
theorem x_forget (lv' : List (Option Value)) (O : Mach wsf l R cc nL own D cl tys K) (h : lvle lv' lv) (k : K pc lv' st σ) : K pc lv st σ := by
  obtain ⟨p, e, s, m, args, below, meth, c, A, cells, slots, Q, ⟨hx, hb, hml, hown, hts⟩, hA, hK, hD, hR, rfl⟩ := O
  intro H locs ls hP hS hl
  obtain ⟨h1, h2⟩ := lvle_spec _ _ h
  refine k H locs ls hP hS ⟨⟨hl.1.1, hl.1.2.1, fun q hq => ?_⟩, h1.trans hl.2.1, fun i v hi => hl.2.2 i v (h2 i v hi)⟩
  obtain ⟨i, v⟩ := q
  obtain ⟨j, e, hj⟩ := (xl_mem _ _).mp hq
  exact hl.1.2.2 (i, v) ((xl_mem _ _).mpr ⟨j, e, h2 j v hj⟩)
end KR
theorem bool_tf (b : Bool) : b = true ∨ b = false := by cases b <;> simp
theorem updB_self (f : Nat → Bool) (k : Nat) (x : Bool) : updB f k x k = x := by simp [updB]
theorem updB_ne {f : Nat → Bool} {k j : Nat} {x : Bool} (h : j ≠ k) : updB f k x j = f j := by simp [updB, h]
theorem arrV_congr {cA : ClassId} {n : Nat} {f g : Nat → Value} (h : ∀ k, k < n → f k = g k) : arrV cA n f = arrV cA n g := by
  unfold arrV
  congr 1
  apply Array.ext
  · simp
  · intro i h1 h2
    simp at h1 h2 ⊢
    exact h i h1
/-- the work table counts below 16 only -/
theorem x_congW {l : Launch} {R : Room} {cc : ByteArray} {nL : Nat} {D : va_G} {h hB hN hW : Nat} {cB cN cW : ClassId} {K : Nat → List (Option Value) → List Value → SX → Prop} {pc : Nat} {lv : List (Option Value)} {st : List Value} {fB fW fW' : Nat → Int32} {fN : Nat → Bool}
    (O : MachX l R cc nL D h hB hN hW cB cN cW K) (he : ∀ k, k < 16 → fW k = fW' k) (k : K pc lv st (fB, fN, fW')) : K pc lv st (fB, fN, fW) := by
  obtain ⟨p, e, s, m, args, below, meth, c, A, cells, slots, Q, ⟨hx, hb, hml, hown, hts⟩, hA, hK, hD, hR, rfl⟩ := O
  intro H locs ls hP hS hl
  refine k H locs ls (fun i q hi => ?_) hS hl
  match i, hi with
  | 0, hi => exact hP 0 q hi
  | 1, hi => exact hP 1 q hi
  | 2, hi => exact hP 2 q hi
  | 3, hi =>
    cases hi
    have h3 : H[hW]? = some (vp_cell cW (16, .inl fW)) := hP 3 _ rfl
    show H[hW]? = some (vp_cell cW (16, .inl fW'))
    rw [h3, vp_cell_i, vp_cell_i, arrV_congr (fun k hk => by rw [he k hk])]
  | i + 4, hi => simp [wX] at hi
theorem inZ_nI {z : Nat} {g : Nat → Prop} {b : Prop} (hz : z < 3) (h : inZ (nI z) g b) : g z := by
  rcases h with ⟨z', h1, h2, h3⟩ | ⟨h1, -⟩
  · have := (nI_eq (by omega) (by omega)).mp h2
    subst this
    exact h3
  · rw [nI_toInt (by omega)] at h1
    omega
end
section
/-! what the methods of ClockZones compute, as functions -/
set_option maxRecDepth 100000
def lfI (b : Bool) : Int32 := match b with
  | true => nI 0
  | false => nI 1
def boxV (i j : Nat) : Int32 := if i = j ∨ i = 0 then nI 0 else nI 12
/-- narrow: one way, one cell, all cells -/
def nwWay (W : Nat → Int32) (i j : Nat) (c : Int32) (k : Nat) : Int32 := W (4 * (k / 4) + i) + c + W (4 * j + k % 4)
def nwIt (W : Nat → Int32) (i j : Nat) (c : Int32) : Nat → (Nat → Int32)
  | 0 => W
  | n + 1 => upd (nwIt W i j c n) n (if (nwWay (nwIt W i j c n) i j c n).toInt < (nwIt W i j c n n).toInt then nwWay (nwIt W i j c n) i j c n else nwIt W i j c n n)
def nwOk (W : Nat → Int32) (i j : Nat) (c : Int32) : Bool := decide ((W (4 * i + j)).toInt ≤ c.toInt ∨ 0 ≤ (c + W (4 * j + i)).toInt)
def nwW (W : Nat → Int32) (i j : Nat) (c : Int32) : Nat → Int32 := if (W (4 * i + j)).toInt ≤ c.toInt ∨ (c + W (4 * j + i)).toInt < 0 then W else nwIt W i j c 16
def fxOk (W : Nat → Int32) (k : Nat) (v : Int32) : Bool := nwOk W k 0 v && nwOk (nwW W k 0 v) 0 k (-v)
def fxW (W : Nat → Int32) (k : Nat) (v : Int32) : Nat → Int32 := if nwOk W k 0 v then nwW (nwW W k 0 v) 0 k (-v) else nwW W k 0 v
def tkW (fB : Nat → Int32) (z : Nat) : Nat → Int32 := fun k => fB (16 * z + k)
def tgS (fB : Nat → Int32) (fN : Nat → Bool) (fW : Nat → Int32) (z i j : Nat) (c : Int32) : SX :=
  if fN z then (fB, fN, fW) else if nwOk (tkW fB z) i j c then (blk fB (16 * z) 16 (nwW (tkW fB z) i j c), updB fN z false, nwW (tkW fB z) i j c) else (fB, updB fN z true, nwW (tkW fB z) i j c)
/-- close: one way, one cell, a round, all rounds -/
def clWay (f : Nat → Int32) (z o k : Nat) : Int32 := f (16 * z + 4 * (k / 4) + o) + f (16 * z + 4 * o + k % 4)
def clIn (f : Nat → Int32) (z o : Nat) : Nat → (Nat → Int32)
  | 0 => f
  | n + 1 => upd (clIn f z o n) (16 * z + n) (if (clWay (clIn f z o n) z o n).toInt < (clIn f z o n (16 * z + n)).toInt then clWay (clIn f z o n) z o n else clIn f z o n (16 * z + n))
def clOut (f : Nat → Int32) (z : Nat) : Nat → (Nat → Int32)
  | 0 => f
  | n + 1 => clIn (clOut f z n) z n 16
def clN (f : Nat → Int32) (fN : Nat → Bool) (z : Nat) : Nat → (Nat → Bool)
  | 0 => fN
  | n + 1 => updB (clN f fN z n) z (clN f fN z n z || decide ((f (16 * z + 4 * n + n)).toInt < 0))
def clS (fB : Nat → Int32) (fN : Nat → Bool) (fW : Nat → Int32) (z : Nat) : SX := (clOut fB z 4, clN (clOut fB z 4) fN z 4, fW)
theorem nwIt_s1 {W W1 : Nat → Int32} {i j k : Nat} {c : Int32} (h : W1 = nwIt W i j c k) (hc : (W1 (4 * (k / 4) + i) + c + W1 (4 * j + k % 4)).toInt < (W1 k).toInt) : upd W1 k (W1 (4 * (k / 4) + i) + c + W1 (4 * j + k % 4)) = nwIt W i j c (k + 1) := by
  subst h
  show _ = upd _ _ (if _ then _ else _)
  rw [if_pos (show (nwWay (nwIt W i j c k) i j c k).toInt < _ from hc)]; rfl
theorem nwIt_s2 {W W1 : Nat → Int32} {i j k : Nat} {c : Int32} (h : W1 = nwIt W i j c k) (hc : (W1 k).toInt ≤ (W1 (4 * (k / 4) + i) + c + W1 (4 * j + k % 4)).toInt) : upd W1 k (W1 k) = nwIt W i j c (k + 1) := by
  subst h
  show _ = upd _ _ (if _ then _ else _)
  rw [if_neg (show ¬ (nwWay (nwIt W i j c k) i j c k).toInt < _ from Int.not_lt.mpr hc)]
theorem clIn_s1 {f B1 : Nat → Int32} {z o k : Nat} (h : B1 = clIn f z o k) (hc : (B1 (16 * z + 4 * (k / 4) + o) + B1 (16 * z + 4 * o + k % 4)).toInt < (B1 (16 * z + k)).toInt) : upd B1 (16 * z + k) (B1 (16 * z + 4 * (k / 4) + o) + B1 (16 * z + 4 * o + k % 4)) = clIn f z o (k + 1) := by
  subst h
  show _ = upd _ _ (if _ then _ else _)
  rw [if_pos (show (clWay (clIn f z o k) z o k).toInt < _ from hc)]; rfl
theorem clIn_s2 {f B1 : Nat → Int32} {z o k : Nat} (h : B1 = clIn f z o k) (hc : (B1 (16 * z + k)).toInt ≤ (B1 (16 * z + 4 * (k / 4) + o) + B1 (16 * z + 4 * o + k % 4)).toInt) : upd B1 (16 * z + k) (B1 (16 * z + k)) = clIn f z o (k + 1) := by
  subst h
  show _ = upd _ _ (if _ then _ else _)
  rw [if_neg (show ¬ (clWay (clIn f z o k) z o k).toInt < _ from Int.not_lt.mpr hc)]
theorem clN_s {f : Nat → Int32} {fN N1 : Nat → Bool} {z k : Nat} {b : Bool} (h : N1 = clN f fN z k) (hb : b = (N1 z || decide ((f (16 * z + 4 * k + k)).toInt < 0))) : updB N1 z b = clN f fN z (k + 1) := by
  subst h; subst hb
  rfl
end
section
set_option maxRecDepth 100000
set_option maxHeartbeats 4000000 in
theorem mX0_isZone {l : Launch} {D : va_G} {h hB hN hW : Nat} {cB cN cW : ClassId} (fB : Nat → Int32) (fN : Nat → Bool) (fW : Nat → Int32) (z0 : Int32) : Ct (wX h hB hN hW cB cN cW) D vwCl (tX cB cN cW) l yX0_isZone cX0_isZone 1 .boolean { frames := 0, cells := 0, slots := 0, locals := 0 } [.int z0] (fB, fN, fW) (fun r u => inZ z0 (fun _ => r = zI true ∧ u = (fB, fN, fW)) (r = zI false ∧ u = (fB, fN, fW))) := by
  refine ct_entry wX_addr (by decide) (by simp [Value.category]) (Nat.le_of_ble_eq_true rfl) ⟨rfl, rfl⟩ ?_
  intro K O E
  show K 0 [some (.int z0)] [] (fB, fN, fW)
  refine x_iload_n O dX0_isZone_0 rfl ?_
  refine x_if_lt O dX0_isZone_1 (fun c1 => ?_) (fun c1 => ?_)
  · refine x_iconst O dX0_isZone_13 kc_0 ?_
    refine x_top zI_0 ?_
    exact E _ _ _ _ _ dX0_isZone_14 (zI_narrow _) (by exact Or.inr ⟨by omega, rfl, rfl⟩)
  · refine x_iload_n O dX0_isZone_4 rfl ?_
    refine x_iconst O dX0_isZone_5 kc_2 ?_
    refine x_icmp_gtK O dX0_isZone_6 (by omega) (fun c2 => ?_) (fun c2 => ?_)
    · refine x_iconst O dX0_isZone_13 kc_0 ?_
      refine x_top zI_0 ?_
      exact E _ _ _ _ _ dX0_isZone_14 (zI_narrow _) (by exact Or.inr ⟨by omega, rfl, rfl⟩)
    · refine x_iconst O dX0_isZone_9 kc_1 ?_
      refine x_goto O dX0_isZone_10 ?_
      refine x_top zI_1 ?_
      exact E _ _ _ _ _ dX0_isZone_14 (zI_narrow _) (by exact Or.inl (by obtain ⟨z, hz, e⟩ := nI_ofT (x := z0) (b := 2) (by omega) (by omega); exact ⟨z, by omega, e, rfl, rfl⟩))
theorem callX0_isZone {l : Launch} {D : va_G} {h hB hN hW : Nat} {cB cN cW : ClassId} {fB : Nat → Int32} {fN : Nat → Bool} {fW : Nat → Int32} {R : Room} {cc : ByteArray} {nL : Nat} {K : Nat → List (Option Value) → List Value → SX → Prop} {pc nx : Nat} {lv : List (Option Value)} {st : List Value} (O : MachX l R cc nL D h hB hN hW cB cN cW K) (hR : 0 + 1 ≤ R.frames ∧ 8 + (1 + 11) + 0 ≤ R.locals) (hst : (st.map fun v => v.category).sum ≤ 8) (d : Dc cc pc (.invokestatic 24) 3 nx) (z0 : Int32) (kont : ∀ r u, (inZ z0 (fun _ => r = zI true ∧ u = (fB, fN, fW)) (r = zI false ∧ u = (fB, fN, fW))) → K nx lv (.int r :: st) u) : K pc lv (.int z0 :: st) (fB, fN, fW) :=
  x_callS (n := 1) O (mX0_isZone fB fN fW z0) (lw_S q36 q37 q22 q38) ⟨rfl, rfl⟩ (by decide +kernel) rfl hR hst rfl d kont
set_option maxHeartbeats 4000000 in
theorem mX0_isClock {l : Launch} {D : va_G} {h hB hN hW : Nat} {cB cN cW : ClassId} (fB : Nat → Int32) (fN : Nat → Bool) (fW : Nat → Int32) (k0 : Int32) : Ct (wX h hB hN hW cB cN cW) D vwCl (tX cB cN cW) l yX0_isClock cX0_isClock 1 .boolean { frames := 0, cells := 0, slots := 0, locals := 0 } [.int k0] (fB, fN, fW) (fun r u => inC k0 (fun _ => r = zI true ∧ u = (fB, fN, fW)) (r = zI false ∧ u = (fB, fN, fW))) := by
  refine ct_entry wX_addr (by decide) (by simp [Value.category]) (Nat.le_of_ble_eq_true rfl) ⟨rfl, rfl⟩ ?_
  intro K O E
  show K 0 [some (.int k0)] [] (fB, fN, fW)
  refine x_iload_n O dX0_isClock_0 rfl ?_
  refine x_iconst O dX0_isClock_1 kc_1 ?_
  refine x_icmp_ltK O dX0_isClock_2 (by omega) (fun c1 => ?_) (fun c1 => ?_)
  · refine x_iconst O dX0_isClock_14 kc_0 ?_
    refine x_top zI_0 ?_
    exact E _ _ _ _ _ dX0_isClock_15 (zI_narrow _) (by exact Or.inr ⟨by omega, rfl, rfl⟩)
  · refine x_iload_n O dX0_isClock_5 rfl ?_
    refine x_iconst O dX0_isClock_6 kc_3 ?_
    refine x_icmp_gtK O dX0_isClock_7 (by omega) (fun c2 => ?_) (fun c2 => ?_)
    · refine x_iconst O dX0_isClock_14 kc_0 ?_
      refine x_top zI_0 ?_
      exact E _ _ _ _ _ dX0_isClock_15 (zI_narrow _) (by exact Or.inr ⟨by omega, rfl, rfl⟩)
    · refine x_iconst O dX0_isClock_10 kc_1 ?_
      refine x_goto O dX0_isClock_11 ?_
      refine x_top zI_1 ?_
      exact E _ _ _ _ _ dX0_isClock_15 (zI_narrow _) (by obtain ⟨z, hz, rfl⟩ := nI_ofT (x := k0) (b := 3) (by omega) (by omega); rw [nI_toInt (by omega)] at *; exact Or.inl ⟨z, by omega, rfl, rfl, rfl⟩)
theorem callX0_isClock {l : Launch} {D : va_G} {h hB hN hW : Nat} {cB cN cW : ClassId} {fB : Nat → Int32} {fN : Nat → Bool} {fW : Nat → Int32} {R : Room} {cc : ByteArray} {nL : Nat} {K : Nat → List (Option Value) → List Value → SX → Prop} {pc nx : Nat} {lv : List (Option Value)} {st : List Value} (O : MachX l R cc nL D h hB hN hW cB cN cW K) (hR : 0 + 1 ≤ R.frames ∧ 8 + (1 + 11) + 0 ≤ R.locals) (hst : (st.map fun v => v.category).sum ≤ 8) (d : Dc cc pc (.invokestatic 47) 3 nx) (k0 : Int32) (kont : ∀ r u, (inC k0 (fun _ => r = zI true ∧ u = (fB, fN, fW)) (r = zI false ∧ u = (fB, fN, fW))) → K nx lv (.int r :: st) u) : K pc lv (.int k0 :: st) (fB, fN, fW) :=
  x_callS (n := 1) O (mX0_isClock fB fN fW k0) (lw_S q98 q99 q22 q100) ⟨rfl, rfl⟩ (by decide +kernel) rfl hR hst rfl d kont
set_option maxHeartbeats 4000000 in
theorem mX0_isPair {l : Launch} {D : va_G} {h hB hN hW : Nat} {cB cN cW : ClassId} (fB : Nat → Int32) (fN : Nat → Bool) (fW : Nat → Int32) (i0 : Int32) (j0 : Int32) : Ct (wX h hB hN hW cB cN cW) D vwCl (tX cB cN cW) l yX0_isPair cX0_isPair 2 .boolean { frames := 0, cells := 0, slots := 0, locals := 0 } [.int i0, .int j0] (fB, fN, fW) (fun r u => inP i0 j0 (fun _ _ => r = zI true ∧ u = (fB, fN, fW)) (r = zI false ∧ u = (fB, fN, fW))) := by
  refine ct_entry wX_addr (by decide) (by simp [Value.category]) (Nat.le_of_ble_eq_true rfl) ⟨rfl, rfl⟩ ?_
  intro K O E
  show K 0 [some (.int i0), some (.int j0)] [] (fB, fN, fW)
  refine x_iload_n O dX0_isPair_0 rfl ?_
  refine x_if_lt O dX0_isPair_1 (fun c1 => ?_) (fun c1 => ?_)
  · refine x_iconst O dX0_isPair_27 kc_0 ?_
    refine x_top zI_0 ?_
    exact E _ _ _ _ _ dX0_isPair_28 (zI_narrow _) (by exact Or.inr ⟨Or.inl c1, rfl, rfl⟩)
  · refine x_iload_n O dX0_isPair_4 rfl ?_
    refine x_iconst O dX0_isPair_5 kc_3 ?_
    refine x_icmp_gtK O dX0_isPair_6 (by omega) (fun c2 => ?_) (fun c2 => ?_)
    · refine x_iconst O dX0_isPair_27 kc_0 ?_
      refine x_top zI_0 ?_
      exact E _ _ _ _ _ dX0_isPair_28 (zI_narrow _) (by exact Or.inr ⟨Or.inr (Or.inl c2), rfl, rfl⟩)
    · refine x_iload_n O dX0_isPair_9 rfl ?_
      refine x_if_lt O dX0_isPair_10 (fun c3 => ?_) (fun c3 => ?_)
      · refine x_iconst O dX0_isPair_27 kc_0 ?_
        refine x_top zI_0 ?_
        exact E _ _ _ _ _ dX0_isPair_28 (zI_narrow _) (by exact Or.inr ⟨Or.inr (Or.inr (Or.inl c3)), rfl, rfl⟩)
      · refine x_iload_n O dX0_isPair_13 rfl ?_
        refine x_iconst O dX0_isPair_14 kc_3 ?_
        refine x_icmp_gtK O dX0_isPair_15 (by omega) (fun c4 => ?_) (fun c4 => ?_)
        · refine x_iconst O dX0_isPair_27 kc_0 ?_
          refine x_top zI_0 ?_
          exact E _ _ _ _ _ dX0_isPair_28 (zI_narrow _) (by exact Or.inr ⟨Or.inr (Or.inr (Or.inr (Or.inl c4))), rfl, rfl⟩)
        · refine x_iload_n O dX0_isPair_18 rfl ?_
          refine x_iload_n O dX0_isPair_19 rfl ?_
          refine x_icmp_eq O dX0_isPair_20 (fun c5 => ?_) (fun c5 => ?_)
          · refine x_iconst O dX0_isPair_27 kc_0 ?_
            refine x_top zI_0 ?_
            exact E _ _ _ _ _ dX0_isPair_28 (zI_narrow _) (by exact Or.inr ⟨Or.inr (Or.inr (Or.inr (Or.inr c5))), rfl, rfl⟩)
          · refine x_iconst O dX0_isPair_23 kc_1 ?_
            refine x_goto O dX0_isPair_24 ?_
            refine x_top zI_1 ?_
            exact E _ _ _ _ _ dX0_isPair_28 (zI_narrow _) (by obtain ⟨i, hi, rfl⟩ := nI_ofT (x := i0) (b := 3) (by omega) (by omega); obtain ⟨j, hj, rfl⟩ := nI_ofT (x := j0) (b := 3) (by omega) (by omega); exact Or.inl ⟨i, j, ⟨by omega, by omega, fun q => c5 (by rw [q])⟩, rfl, rfl, rfl, rfl⟩)
theorem callX0_isPair {l : Launch} {D : va_G} {h hB hN hW : Nat} {cB cN cW : ClassId} {fB : Nat → Int32} {fN : Nat → Bool} {fW : Nat → Int32} {R : Room} {cc : ByteArray} {nL : Nat} {K : Nat → List (Option Value) → List Value → SX → Prop} {pc nx : Nat} {lv : List (Option Value)} {st : List Value} (O : MachX l R cc nL D h hB hN hW cB cN cW K) (hR : 0 + 1 ≤ R.frames ∧ 8 + (2 + 11) + 0 ≤ R.locals) (hst : (st.map fun v => v.category).sum ≤ 8) (d : Dc cc pc (.invokestatic 32) 3 nx) (i0 : Int32) (j0 : Int32) (kont : ∀ r u, (inP i0 j0 (fun _ _ => r = zI true ∧ u = (fB, fN, fW)) (r = zI false ∧ u = (fB, fN, fW))) → K nx lv (.int r :: st) u) : K pc lv (.int j0 :: .int i0 :: st) (fB, fN, fW) :=
  x_callS (n := 2) O (mX0_isPair fB fN fW i0 j0) (lw_S q63 q64 q22 q65) ⟨rfl, rfl⟩ (by decide +kernel) rfl hR hst rfl d kont
set_option maxHeartbeats 4000000 in
theorem mX0_boxBound {l : Launch} {D : va_G} {h hB hN hW : Nat} {cB cN cW : ClassId} (fB : Nat → Int32) (fN : Nat → Bool) (fW : Nat → Int32) (i : Nat) (j : Nat) (hij : i < 4 ∧ j < 4) : Ct (wX h hB hN hW cB cN cW) D vwCl (tX cB cN cW) l yX0_boxBound cX0_boxBound 2 .int { frames := 0, cells := 0, slots := 0, locals := 0 } [.int (nI i), .int (nI j)] (fB, fN, fW) (fun r u => r = boxV i j ∧ u = (fB, fN, fW)) := by
  refine ct_entry wX_addr (by decide) (by simp [Value.category]) (Nat.le_of_ble_eq_true rfl) ⟨rfl, rfl⟩ ?_
  intro K O E
  show K 0 [some (.int (nI i)), some (.int (nI j))] [] (fB, fN, fW)
  refine x_iload_n O dX0_boxBound_0 rfl ?_
  refine x_iload_n O dX0_boxBound_1 rfl ?_
  refine x_icmp_eqN O dX0_boxBound_2 (by omega) (fun c1 => ?_) (fun c1 => ?_)
  · refine x_iconst O dX0_boxBound_9 kc_0 ?_
    refine x_goto O dX0_boxBound_10 ?_
    exact E _ _ _ _ _ dX0_boxBound_15 rfl (by exact ⟨by unfold boxV; simp only [*, ne_eq, not_false_eq_true, true_or, or_true, or_self, if_true, if_false], rfl⟩)
  · refine x_iload_n O dX0_boxBound_5 rfl ?_
    refine x_if_neN O dX0_boxBound_6 (by omega) (fun c2 => ?_) (fun c2 => ?_)
    · refine x_bipush O dX0_boxBound_13 kb_12 ?_
      exact E _ _ _ _ _ dX0_boxBound_15 rfl (by exact ⟨by unfold boxV; simp only [*, ne_eq, not_false_eq_true, true_or, or_true, or_self, if_true, if_false], rfl⟩)
    · refine x_iconst O dX0_boxBound_9 kc_0 ?_
      refine x_goto O dX0_boxBound_10 ?_
      exact E _ _ _ _ _ dX0_boxBound_15 rfl (by exact ⟨by unfold boxV; simp only [*, ne_eq, not_false_eq_true, true_or, or_true, or_self, if_true, if_false], rfl⟩)
theorem callX0_boxBound {l : Launch} {D : va_G} {h hB hN hW : Nat} {cB cN cW : ClassId} {fB : Nat → Int32} {fN : Nat → Bool} {fW : Nat → Int32} {R : Room} {cc : ByteArray} {nL : Nat} {K : Nat → List (Option Value) → List Value → SX → Prop} {pc nx : Nat} {lv : List (Option Value)} {st : List Value} (O : MachX l R cc nL D h hB hN hW cB cN cW K) (hR : 0 + 1 ≤ R.frames ∧ 8 + (2 + 11) + 0 ≤ R.locals) (hst : (st.map fun v => v.category).sum ≤ 8) (d : Dc cc pc (.invokestatic 28) 3 nx) (i : Nat) (j : Nat) (hij : i < 4 ∧ j < 4) (kont : ∀ r u, (r = boxV i j ∧ u = (fB, fN, fW)) → K nx lv (.int r :: st) u) : K pc lv (.int (nI j) :: .int (nI i) :: st) (fB, fN, fW) :=
  x_callS (n := 2) O (mX0_boxBound fB fN fW i j hij) (lw_S q39 q40 q22 q41) ⟨rfl, rfl⟩ (by decide +kernel) rfl hR hst rfl d kont
set_option maxHeartbeats 4000000 in
theorem mX0_left {l : Launch} {D : va_G} {h hB hN hW : Nat} {cB cN cW : ClassId} (fB : Nat → Int32) (fN : Nat → Bool) (fW : Nat → Int32) (z : Nat) (hz : z < 3) : Ct (wX h hB hN hW cB cN cW) D vwCl (tX cB cN cW) l yX0_left cX0_left 2 .int { frames := 0, cells := 0, slots := 0, locals := 0 } [.ref h, .int (nI z)] (fB, fN, fW) (fun r u => r = lfI (fN z) ∧ u = (fB, fN, fW)) := by
  refine ct_entry wX_addr (by decide) (by simp [Value.category]) (Nat.le_of_ble_eq_true rfl) ⟨rfl, rfl⟩ ?_
  intro K O E
  show K 0 [some (.ref h), some (.int (nI z))] [] (fB, fN, fW)
  refine x_aload_n O dX0_left_0 rfl ?_
  refine fX_N O dX0_left_1 ?_
  refine x_iload_n O dX0_left_4 rfl ?_
  refine ldN O (by omega) dX0_left_5 ?_
  refine x_if_eqZ O dX0_left_6 (fun c1 => ?_) (fun c1 => ?_)
  · refine x_iconst O dX0_left_13 kc_1 ?_
    exact E _ _ _ _ _ dX0_left_14 rfl (by exact ⟨by rw [c1]; rfl, rfl⟩)
  · refine x_iconst O dX0_left_9 kc_0 ?_
    refine x_goto O dX0_left_10 ?_
    exact E _ _ _ _ _ dX0_left_14 rfl (by exact ⟨by rw [c1]; rfl, rfl⟩)
theorem callX0_left {l : Launch} {D : va_G} {h hB hN hW : Nat} {cB cN cW : ClassId} {fB : Nat → Int32} {fN : Nat → Bool} {fW : Nat → Int32} {R : Room} {cc : ByteArray} {nL : Nat} {K : Nat → List (Option Value) → List Value → SX → Prop} {pc nx : Nat} {lv : List (Option Value)} {st : List Value} (O : MachX l R cc nL D h hB hN hW cB cN cW K) (hR : 0 + 1 ≤ R.frames ∧ 8 + (2 + 11) + 0 ≤ R.locals) (hst : (st.map fun v => v.category).sum ≤ 8) (d : Dc cc pc (.invokevirtual 40) 3 nx) (z : Nat) (hz : z < 3) (kont : ∀ r u, (r = lfI (fN z) ∧ u = (fB, fN, fW)) → K nx lv (.int r :: st) u) : K pc lv (.int (nI z) :: .ref h :: st) (fB, fN, fW) :=
  x_callV (n := 1) O (mX0_left fB fN fW z hz) (lw_V q78 q80 qs3 q22 q81) ⟨rfl, rfl⟩ (by decide +kernel) rfl hR ⟨0, [.ref hB, .ref hN, .ref hW], (RX0, TX0, 3), rfl, rfl, rfl⟩ hst rfl d kont
set_option maxHeartbeats 4000000 in
theorem mX0_take {l : Launch} {D : va_G} {h hB hN hW : Nat} {cB cN cW : ClassId} (fB : Nat → Int32) (fN : Nat → Bool) (fW : Nat → Int32) (z : Nat) (hz : z < 3) : CtV (wX h hB hN hW cB cN cW) D vwCl (tX cB cN cW) l yX0_take cX0_take 3 { frames := 0, cells := 0, slots := 0, locals := 0 } [.ref h, .int (nI z)] (fB, fN, fW) (fun u => u = (fB, fN, tkW fB z)) := by
  refine ct_entryV wX_addr (by decide) (by simp [Value.category]) (Nat.le_of_ble_eq_true rfl) ⟨rfl, rfl⟩ ?_
  intro K O E
  show K 0 [some (.ref h), some (.int (nI z)), none] [] (fB, fN, fW)
  refine x_iconst O dX0_take_0 kc_0 ?_
  refine x_istore_n [some (.ref h), some (.int (nI z)), some (.int (nI 0))] O dX0_take_1 rfl rfl ?_
  have lp2 : ∀ (n k : Nat) (W1 : Nat → Int32), 16 - k = n → k ≤ 16 → W1 = blk fW 0 k (fun k => fB (16 * z + k)) → K 2 [some (.ref h), some (.int (nI z)), some (.int (nI k))] [] (fB, fN, W1) := by
    intro n
    induction n using Nat.strongRecOn with
    | _ n ih2 =>
      intro k W1 hn2 hk2 hW1
      refine x_iload_n O dX0_take_2 rfl ?_
      refine x_bipush O dX0_take_3 kb_16 ?_
      refine x_icmp_geN O dX0_take_5 (by omega) (fun c1 => ?_) (fun c1 => ?_)
      · obtain rfl : k = 16 := by omega
        subst hW1
        refine x_congW O (fW' := tkW fB z) (fun k hk => by rw [blk, if_pos (by omega)]; rfl) ?_
        exact E _ _ _ _ dX0_take_31 (by rfl)
      · refine x_aload_n O dX0_take_8 rfl ?_
        refine fX_W O dX0_take_9 ?_
        refine x_iload_n O dX0_take_12 rfl ?_
        refine x_aload_n O dX0_take_13 rfl ?_
        refine fX_B O dX0_take_14 ?_
        refine x_bipush O dX0_take_17 kb_16 ?_
        refine x_iload_n O dX0_take_19 rfl ?_
        refine x_imulN O dX0_take_20 ?_
        refine x_iload_n O dX0_take_21 rfl ?_
        refine x_iaddN O dX0_take_22 ?_
        refine ldB O (by omega) dX0_take_23 ?_
        refine stW O (by omega) dX0_take_24 ?_
        refine x_iincN [some (.ref h), some (.int (nI z)), some (.int (nI (k + 1)))] O dX0_take_25 rfl rfl ?_
        refine x_goto O dX0_take_28 ?_
        exact ih2 _ (by omega) (k + 1) _ rfl (by omega) (by exact blk_s0 hW1 rfl)
  exact lp2 _ 0 _ rfl (by omega) (by exact blk_0)
theorem callX0_take {l : Launch} {D : va_G} {h hB hN hW : Nat} {cB cN cW : ClassId} {fB : Nat → Int32} {fN : Nat → Bool} {fW : Nat → Int32} {R : Room} {cc : ByteArray} {nL : Nat} {K : Nat → List (Option Value) → List Value → SX → Prop} {pc nx : Nat} {lv : List (Option Value)} {st : List Value} (O : MachX l R cc nL D h hB hN hW cB cN cW K) (hR : 0 + 1 ≤ R.frames ∧ 8 + (3 + 11) + 0 ≤ R.locals) (hst : (st.map fun v => v.category).sum ≤ 8) (d : Dc cc pc (.invokevirtual 53) 3 nx) (z : Nat) (hz : z < 3) (kont : ∀ u, (u = (fB, fN, tkW fB z)) → K nx lv st u) : K pc lv (.int (nI z) :: .ref h :: st) (fB, fN, fW) :=
  x_callVV (n := 1) O (mX0_take fB fN fW z hz) (lw_V q70 q72 qs1 q22 q73) ⟨rfl, rfl⟩ (by decide +kernel) rfl hR ⟨0, [.ref hB, .ref hN, .ref hW], (RX0, TX0, 3), rfl, rfl, rfl⟩ hst rfl d kont
set_option maxHeartbeats 4000000 in
theorem mX0_narrow {l : Launch} {D : va_G} {h hB hN hW : Nat} {cB cN cW : ClassId} (fB : Nat → Int32) (fN : Nat → Bool) (fW : Nat → Int32) (i : Nat) (j : Nat) (hij : i < 4 ∧ j < 4) (c : Int32) : Ct (wX h hB hN hW cB cN cW) D vwCl (tX cB cN cW) l yX0_narrow cX0_narrow 8 .boolean { frames := 0, cells := 0, slots := 0, locals := 0 } [.ref h, .int (nI i), .int (nI j), .int c] (fB, fN, fW) (fun r u => r = zI (nwOk fW i j c) ∧ u = (fB, fN, nwW fW i j c)) := by
  refine ct_entry wX_addr (by decide) (by simp [Value.category]) (Nat.le_of_ble_eq_true rfl) ⟨rfl, rfl⟩ ?_
  intro K O E
  show K 0 [some (.ref h), some (.int (nI i)), some (.int (nI j)), some (.int c), none, none, none, none] [] (fB, fN, fW)
  refine x_iload_n O dX0_narrow_0 rfl ?_
  refine x_aload_n O dX0_narrow_1 rfl ?_
  refine fX_W O dX0_narrow_2 ?_
  refine x_iconst O dX0_narrow_5 kc_4 ?_
  refine x_iload_n O dX0_narrow_6 rfl ?_
  refine x_imulN O dX0_narrow_7 ?_
  refine x_iload_n O dX0_narrow_8 rfl ?_
  refine x_iaddN O dX0_narrow_9 ?_
  refine ldW O (by omega) dX0_narrow_10 ?_
  refine x_icmp_lt O dX0_narrow_11 (fun c1 => ?_) (fun c1 => ?_)
  · refine x_iload_n O dX0_narrow_16 rfl ?_
    refine x_aload_n O dX0_narrow_17 rfl ?_
    refine fX_W O dX0_narrow_18 ?_
    refine x_iconst O dX0_narrow_21 kc_4 ?_
    refine x_iload_n O dX0_narrow_22 rfl ?_
    refine x_imulN O dX0_narrow_23 ?_
    refine x_iload_n O dX0_narrow_24 rfl ?_
    refine x_iaddN O dX0_narrow_25 ?_
    refine ldW O (by omega) dX0_narrow_26 ?_
    refine x_iadd O dX0_narrow_27 ?_
    refine x_if_ge O dX0_narrow_28 (fun c2 => ?_) (fun c2 => ?_)
    · refine x_iconst O dX0_narrow_33 kc_0 ?_
      refine x_istore [some (.ref h), some (.int (nI i)), some (.int (nI j)), some (.int c), some (.int (nI 0)), none, none, none] O dX0_narrow_34 rfl rfl ?_
      have lp36 : ∀ (n k : Nat) (W1 : Nat → Int32), 16 - k = n → k ≤ 16 → W1 = nwIt fW i j c k → K 36 [some (.ref h), some (.int (nI i)), some (.int (nI j)), some (.int c), some (.int (nI k)), none, none, none] [] (fB, fN, W1) := by
        intro n
        induction n using Nat.strongRecOn with
        | _ n ih36 =>
          intro k W1 hn36 hk36 hW1
          refine x_iload O dX0_narrow_36 rfl ?_
          refine x_bipush O dX0_narrow_38 kb_16 ?_
          refine x_icmp_geN O dX0_narrow_40 (by omega) (fun c3 => ?_) (fun c3 => ?_)
          · obtain rfl : k = 16 := by omega
            subst hW1
            refine x_iconst O dX0_narrow_119 kc_1 ?_
            refine x_top zI_1 ?_
            exact E _ _ _ _ _ dX0_narrow_120 (zI_narrow _) (by exact ⟨by unfold nwOk; rw [decide_eq_true (Or.inr (by omega))], by unfold nwW; rw [if_neg (by omega)]⟩)
          · refine x_iload O dX0_narrow_43 rfl ?_
            refine x_iconst O dX0_narrow_45 kc_4 ?_
            refine x_idivN O dX0_narrow_46 (by omega) (by omega) ?_
            refine x_istore [some (.ref h), some (.int (nI i)), some (.int (nI j)), some (.int c), some (.int (nI k)), some (.int (nI (k / 4))), none, none] O dX0_narrow_47 rfl rfl ?_
            refine x_iload O dX0_narrow_49 rfl ?_
            refine x_iconst O dX0_narrow_51 kc_4 ?_
            refine x_iremN O dX0_narrow_52 (by omega) (by omega) ?_
            refine x_istore [some (.ref h), some (.int (nI i)), some (.int (nI j)), some (.int c), some (.int (nI k)), some (.int (nI (k / 4))), some (.int (nI (k % 4))), none] O dX0_narrow_53 rfl rfl ?_
            refine x_aload_n O dX0_narrow_55 rfl ?_
            refine fX_W O dX0_narrow_56 ?_
            refine x_iconst O dX0_narrow_59 kc_4 ?_
            refine x_iload O dX0_narrow_60 rfl ?_
            refine x_imulN O dX0_narrow_62 ?_
            refine x_iload_n O dX0_narrow_63 rfl ?_
            refine x_iaddN O dX0_narrow_64 ?_
            refine ldW O (by omega) dX0_narrow_65 ?_
            refine x_iload_n O dX0_narrow_66 rfl ?_
            refine x_iadd O dX0_narrow_67 ?_
            refine x_aload_n O dX0_narrow_68 rfl ?_
            refine fX_W O dX0_narrow_69 ?_
            refine x_iconst O dX0_narrow_72 kc_4 ?_
            refine x_iload_n O dX0_narrow_73 rfl ?_
            refine x_imulN O dX0_narrow_74 ?_
            refine x_iload O dX0_narrow_75 rfl ?_
            refine x_iaddN O dX0_narrow_77 ?_
            refine ldW O (by omega) dX0_narrow_78 ?_
            refine x_iadd O dX0_narrow_79 ?_
            refine x_istore [some (.ref h), some (.int (nI i)), some (.int (nI j)), some (.int c), some (.int (nI k)), some (.int (nI (k / 4))), some (.int (nI (k % 4))), some (.int (W1 (4 * (k / 4) + i) + c + (W1 (4 * j + (k % 4)))))] O dX0_narrow_80 rfl rfl ?_
            refine x_aload_n O dX0_narrow_82 rfl ?_
            refine fX_W O dX0_narrow_83 ?_
            refine x_iload O dX0_narrow_86 rfl ?_
            refine x_iload O dX0_narrow_88 rfl ?_
            refine x_aload_n O dX0_narrow_90 rfl ?_
            refine fX_W O dX0_narrow_91 ?_
            refine x_iload O dX0_narrow_94 rfl ?_
            refine ldW O (by omega) dX0_narrow_96 ?_
            refine x_icmp_ge O dX0_narrow_97 (fun c4 => ?_) (fun c4 => ?_)
            · refine x_aload_n O dX0_narrow_105 rfl ?_
              refine fX_W O dX0_narrow_106 ?_
              refine x_iload O dX0_narrow_109 rfl ?_
              refine ldW O (by omega) dX0_narrow_111 ?_
              refine stW O (by omega) dX0_narrow_112 ?_
              refine x_iincN [some (.ref h), some (.int (nI i)), some (.int (nI j)), some (.int c), some (.int (nI (k + 1))), some (.int (nI (k / 4))), some (.int (nI (k % 4))), some (.int (W1 (4 * (k / 4) + i) + c + (W1 (4 * j + (k % 4)))))] O dX0_narrow_113 rfl rfl ?_
              refine x_goto O dX0_narrow_116 ?_
              refine x_forget [some (.ref h), some (.int (nI i)), some (.int (nI j)), some (.int c), some (.int (nI (k + 1))), none, none, none] O ⟨rfl, rfl, rfl, rfl, rfl, trivial⟩ ?_
              exact ih36 _ (by omega) (k + 1) _ rfl (by omega) (by exact nwIt_s2 hW1 c4)
            · refine x_iload O dX0_narrow_100 rfl ?_
              refine x_goto O dX0_narrow_102 ?_
              refine stW O (by omega) dX0_narrow_112 ?_
              refine x_iincN [some (.ref h), some (.int (nI i)), some (.int (nI j)), some (.int c), some (.int (nI (k + 1))), some (.int (nI (k / 4))), some (.int (nI (k % 4))), some (.int (W1 (4 * (k / 4) + i) + c + (W1 (4 * j + (k % 4)))))] O dX0_narrow_113 rfl rfl ?_
              refine x_goto O dX0_narrow_116 ?_
              refine x_forget [some (.ref h), some (.int (nI i)), some (.int (nI j)), some (.int c), some (.int (nI (k + 1))), none, none, none] O ⟨rfl, rfl, rfl, rfl, rfl, trivial⟩ ?_
              exact ih36 _ (by omega) (k + 1) _ rfl (by omega) (by exact nwIt_s1 hW1 c4)
      exact lp36 _ 0 _ rfl (by omega) (by rfl)
    · refine x_iconst O dX0_narrow_31 kc_0 ?_
      refine x_top zI_0 ?_
      exact E _ _ _ _ _ dX0_narrow_32 (zI_narrow _) (by exact ⟨by unfold nwOk; rw [decide_eq_false (by omega)], by unfold nwW; rw [if_pos (Or.inr (by omega))]⟩)
  · refine x_iconst O dX0_narrow_14 kc_1 ?_
    refine x_top zI_1 ?_
    exact E _ _ _ _ _ dX0_narrow_15 (zI_narrow _) (by exact ⟨by unfold nwOk; rw [decide_eq_true (Or.inl (by omega))], by unfold nwW; rw [if_pos (Or.inl (by omega))]⟩)
theorem callX0_narrow {l : Launch} {D : va_G} {h hB hN hW : Nat} {cB cN cW : ClassId} {fB : Nat → Int32} {fN : Nat → Bool} {fW : Nat → Int32} {R : Room} {cc : ByteArray} {nL : Nat} {K : Nat → List (Option Value) → List Value → SX → Prop} {pc nx : Nat} {lv : List (Option Value)} {st : List Value} (O : MachX l R cc nL D h hB hN hW cB cN cW K) (hR : 0 + 1 ≤ R.frames ∧ 8 + (8 + 11) + 0 ≤ R.locals) (hst : (st.map fun v => v.category).sum ≤ 8) (d : Dc cc pc (.invokevirtual 73) 3 nx) (i : Nat) (j : Nat) (hij : i < 4 ∧ j < 4) (c : Int32) (kont : ∀ r u, (r = zI (nwOk fW i j c) ∧ u = (fB, fN, nwW fW i j c)) → K nx lv (.int r :: st) u) : K pc lv (.int c :: .int (nI j) :: .int (nI i) :: .ref h :: st) (fB, fN, fW) :=
  x_callV (n := 3) O (mX0_narrow fB fN fW i j hij c) (lw_V q74 q76 qs2 q22 q77) ⟨rfl, rfl⟩ (by decide +kernel) rfl hR ⟨0, [.ref hB, .ref hN, .ref hW], (RX0, TX0, 3), rfl, rfl, rfl⟩ hst rfl d kont
set_option maxHeartbeats 4000000 in
theorem mX0_fix {l : Launch} {D : va_G} {h hB hN hW : Nat} {cB cN cW : ClassId} (fB : Nat → Int32) (fN : Nat → Bool) (fW : Nat → Int32) (k : Nat) (hk : k < 4) (v : Int32) : Ct (wX h hB hN hW cB cN cW) D vwCl (tX cB cN cW) l yX0_fix cX0_fix 4 .boolean { frames := 1, cells := 0, slots := 0, locals := 27 } [.ref h, .int (nI k), .int v] (fB, fN, fW) (fun r u => r = zI (fxOk fW k v) ∧ u = (fB, fN, fxW fW k v)) := by
  refine ct_entry wX_addr (by decide) (by simp [Value.category]) (Nat.le_of_ble_eq_true rfl) ⟨rfl, rfl⟩ ?_
  intro K O E
  show K 0 [some (.ref h), some (.int (nI k)), some (.int v), none] [] (fB, fN, fW)
  refine x_aload_n O dX0_fix_0 rfl ?_
  refine x_iload_n O dX0_fix_1 rfl ?_
  refine x_iconst O dX0_fix_2 kc_0 ?_
  refine x_iload_n O dX0_fix_3 rfl ?_
  refine callX0_narrow O ⟨Nat.le_of_ble_eq_true rfl, Nat.le_of_ble_eq_true rfl⟩ (Nat.le_of_ble_eq_true rfl) dX0_fix_4 _ _ (by omega) _ (fun r u hp => ?_)
  obtain ⟨rfl, rfl⟩ := hp
  refine x_istore_n [some (.ref h), some (.int (nI k)), some (.int v), some (.int (zI (nwOk fW k 0 v)))] O dX0_fix_7 rfl rfl ?_
  refine x_iload_n O dX0_fix_8 rfl ?_
  refine x_if_eqZ O dX0_fix_9 (fun c1 => ?_) (fun c1 => ?_)
  · refine x_iconst O dX0_fix_27 kc_0 ?_
    refine x_top zI_0 ?_
    exact E _ _ _ _ _ dX0_fix_28 (zI_narrow _) (by exact ⟨by unfold fxOk; rw [c1]; rfl, by unfold fxW; rw [if_neg (by rw [c1]; exact Bool.false_ne_true)]⟩)
  · refine x_aload_n O dX0_fix_12 rfl ?_
    refine x_iconst O dX0_fix_13 kc_0 ?_
    refine x_iload_n O dX0_fix_14 rfl ?_
    refine x_iload_n O dX0_fix_15 rfl ?_
    refine x_ineg O dX0_fix_16 ?_
    refine callX0_narrow O ⟨Nat.le_of_ble_eq_true rfl, Nat.le_of_ble_eq_true rfl⟩ (Nat.le_of_ble_eq_true rfl) dX0_fix_17 _ _ (by omega) _ (fun r u hp => ?_)
    obtain ⟨rfl, rfl⟩ := hp
    refine x_if_eqZ O dX0_fix_20 (fun c2 => ?_) (fun c2 => ?_)
    · refine x_iconst O dX0_fix_27 kc_0 ?_
      refine x_top zI_0 ?_
      exact E _ _ _ _ _ dX0_fix_28 (zI_narrow _) (by exact ⟨by unfold fxOk; rw [c1, c2]; rfl, by unfold fxW; rw [if_pos c1]⟩)
    · refine x_iconst O dX0_fix_23 kc_1 ?_
      refine x_goto O dX0_fix_24 ?_
      refine x_top zI_1 ?_
      exact E _ _ _ _ _ dX0_fix_28 (zI_narrow _) (by exact ⟨by unfold fxOk; rw [c1, c2]; rfl, by unfold fxW; rw [if_pos c1]⟩)
theorem callX0_fix {l : Launch} {D : va_G} {h hB hN hW : Nat} {cB cN cW : ClassId} {fB : Nat → Int32} {fN : Nat → Bool} {fW : Nat → Int32} {R : Room} {cc : ByteArray} {nL : Nat} {K : Nat → List (Option Value) → List Value → SX → Prop} {pc nx : Nat} {lv : List (Option Value)} {st : List Value} (O : MachX l R cc nL D h hB hN hW cB cN cW K) (hR : 1 + 1 ≤ R.frames ∧ 8 + (4 + 11) + 27 ≤ R.locals) (hst : (st.map fun v => v.category).sum ≤ 8) (d : Dc cc pc (.invokevirtual 56) 3 nx) (k : Nat) (hk : k < 4) (v : Int32) (kont : ∀ r u, (r = zI (fxOk fW k v) ∧ u = (fB, fN, fxW fW k v)) → K nx lv (.int r :: st) u) : K pc lv (.int v :: .int (nI k) :: .ref h :: st) (fB, fN, fW) :=
  x_callV (n := 2) O (mX0_fix fB fN fW k hk v) (lw_V q134 q136 qs5 q22 q137) ⟨rfl, rfl⟩ (by decide +kernel) rfl hR ⟨0, [.ref hB, .ref hN, .ref hW], (RX0, TX0, 3), rfl, rfl, rfl⟩ hst rfl d kont
set_option maxHeartbeats 4000000 in
theorem mX0_tighten {l : Launch} {D : va_G} {h hB hN hW : Nat} {cB cN cW : ClassId} (fB : Nat → Int32) (fN : Nat → Bool) (fW : Nat → Int32) (z : Nat) (i : Nat) (j : Nat) (hij : z < 3 ∧ i < 4 ∧ j < 4) (c : Int32) : CtV (wX h hB hN hW cB cN cW) D vwCl (tX cB cN cW) l yX0_tighten cX0_tighten 7 { frames := 1, cells := 0, slots := 0, locals := 27 } [.ref h, .int (nI z), .int (nI i), .int (nI j), .int c] (fB, fN, fW) (fun u => u = tgS fB fN fW z i j c) := by
  refine ct_entryV wX_addr (by decide) (by simp [Value.category]) (Nat.le_of_ble_eq_true rfl) ⟨rfl, rfl⟩ ?_
  intro K O E
  show K 0 [some (.ref h), some (.int (nI z)), some (.int (nI i)), some (.int (nI j)), some (.int c), none, none] [] (fB, fN, fW)
  refine x_aload_n O dX0_tighten_0 rfl ?_
  refine fX_N O dX0_tighten_1 ?_
  refine x_iload_n O dX0_tighten_4 rfl ?_
  refine ldN O (by omega) dX0_tighten_5 ?_
  refine x_if_eqZ O dX0_tighten_6 (fun c1 => ?_) (fun c1 => ?_)
  · refine x_aload_n O dX0_tighten_10 rfl ?_
    refine x_iload_n O dX0_tighten_11 rfl ?_
    refine callX0_take O ⟨Nat.le_of_ble_eq_true rfl, Nat.le_of_ble_eq_true rfl⟩ (Nat.le_of_ble_eq_true rfl) dX0_tighten_12 _ (by omega) (fun u hp => ?_)
    subst hp
    refine x_aload_n O dX0_tighten_15 rfl ?_
    refine x_iload_n O dX0_tighten_16 rfl ?_
    refine x_iload_n O dX0_tighten_17 rfl ?_
    refine x_iload O dX0_tighten_18 rfl ?_
    refine callX0_narrow O ⟨Nat.le_of_ble_eq_true rfl, Nat.le_of_ble_eq_true rfl⟩ (Nat.le_of_ble_eq_true rfl) dX0_tighten_20 _ _ (by omega) _ (fun r u hp => ?_)
    obtain ⟨rfl, rfl⟩ := hp
    refine x_istore [some (.ref h), some (.int (nI z)), some (.int (nI i)), some (.int (nI j)), some (.int c), some (.int (zI (nwOk (tkW fB z) i j c))), none] O dX0_tighten_23 rfl rfl ?_
    refine x_aload_n O dX0_tighten_25 rfl ?_
    refine fX_N O dX0_tighten_26 ?_
    refine x_iload_n O dX0_tighten_29 rfl ?_
    refine x_iload O dX0_tighten_30 rfl ?_
    refine x_if_neZ O dX0_tighten_32 (fun c2 => ?_) (fun c2 => ?_)
    · refine x_iconst O dX0_tighten_39 kc_0 ?_
      refine stN O (by omega) zI_0 dX0_tighten_40 ?_
      refine x_iconst O dX0_tighten_41 kc_0 ?_
      refine x_istore [some (.ref h), some (.int (nI z)), some (.int (nI i)), some (.int (nI j)), some (.int c), some (.int (zI (nwOk (tkW fB z) i j c))), some (.int (nI 0))] O dX0_tighten_42 rfl rfl ?_
      have lp44 : ∀ (n k : Nat) (B1 : Nat → Int32), 16 - k = n → k ≤ 16 → B1 = blk fB (16 * z) k (nwW (tkW fB z) i j c) → K 44 [some (.ref h), some (.int (nI z)), some (.int (nI i)), some (.int (nI j)), some (.int c), some (.int (zI (nwOk (tkW fB z) i j c))), some (.int (nI k))] [] (B1, updB fN z false, nwW (tkW fB z) i j c) := by
        intro n
        induction n using Nat.strongRecOn with
        | _ n ih44 =>
          intro k B1 hn44 hk44 hB1
          refine x_iload O dX0_tighten_44 rfl ?_
          refine x_bipush O dX0_tighten_46 kb_16 ?_
          refine x_icmp_geN O dX0_tighten_48 (by omega) (fun c3 => ?_) (fun c3 => ?_)
          · obtain rfl : k = 16 := by omega
            subst hB1
            exact E _ _ _ _ dX0_tighten_81 (by unfold tgS; rw [if_neg (by rw [c1]; exact Bool.false_ne_true), if_pos c2])
          · refine x_iload O dX0_tighten_51 rfl ?_
            refine x_top (congrArg zI c2) ?_
            refine x_if_eqT O dX0_tighten_53 ?_
            refine x_aload_n O dX0_tighten_56 rfl ?_
            refine fX_B O dX0_tighten_57 ?_
            refine x_bipush O dX0_tighten_60 kb_16 ?_
            refine x_iload_n O dX0_tighten_62 rfl ?_
            refine x_imulN O dX0_tighten_63 ?_
            refine x_iload O dX0_tighten_64 rfl ?_
            refine x_iaddN O dX0_tighten_66 ?_
            refine x_aload_n O dX0_tighten_67 rfl ?_
            refine fX_W O dX0_tighten_68 ?_
            refine x_iload O dX0_tighten_71 rfl ?_
            refine ldW O (by omega) dX0_tighten_73 ?_
            refine stB O (by omega) dX0_tighten_74 ?_
            refine x_iincN [some (.ref h), some (.int (nI z)), some (.int (nI i)), some (.int (nI j)), some (.int c), some (.int (zI (nwOk (tkW fB z) i j c))), some (.int (nI (k + 1)))] O dX0_tighten_75 rfl rfl ?_
            refine x_goto O dX0_tighten_78 ?_
            exact ih44 _ (by omega) (k + 1) _ rfl (by omega) (by exact blk_s hB1 rfl)
      exact lp44 _ 0 _ rfl (by omega) (by exact blk_0)
    · refine x_iconst O dX0_tighten_35 kc_1 ?_
      refine x_goto O dX0_tighten_36 ?_
      refine stN O (by omega) zI_1 dX0_tighten_40 ?_
      refine x_iconst O dX0_tighten_41 kc_0 ?_
      refine x_istore [some (.ref h), some (.int (nI z)), some (.int (nI i)), some (.int (nI j)), some (.int c), some (.int (zI (nwOk (tkW fB z) i j c))), some (.int (nI 0))] O dX0_tighten_42 rfl rfl ?_
      refine x_iload O dX0_tighten_44 rfl ?_
      refine x_bipush O dX0_tighten_46 kb_16 ?_
      refine x_icmp_geN O dX0_tighten_48 (by omega) (fun c4 => absurd c4 (by omega)) (fun c4 => ?_)
      refine x_iload O dX0_tighten_51 rfl ?_
      refine x_top (congrArg zI c2) ?_
      refine x_if_eqF O dX0_tighten_53 ?_
      exact E _ _ _ _ dX0_tighten_81 (by unfold tgS; rw [if_neg (by rw [c1]; exact Bool.false_ne_true), if_neg (by rw [c2]; exact Bool.false_ne_true)])
  · exact E _ _ _ _ dX0_tighten_9 (by unfold tgS; rw [if_pos c1])
theorem callX0_tighten {l : Launch} {D : va_G} {h hB hN hW : Nat} {cB cN cW : ClassId} {fB : Nat → Int32} {fN : Nat → Bool} {fW : Nat → Int32} {R : Room} {cc : ByteArray} {nL : Nat} {K : Nat → List (Option Value) → List Value → SX → Prop} {pc nx : Nat} {lv : List (Option Value)} {st : List Value} (O : MachX l R cc nL D h hB hN hW cB cN cW K) (hR : 1 + 1 ≤ R.frames ∧ 8 + (7 + 11) + 27 ≤ R.locals) (hst : (st.map fun v => v.category).sum ≤ 8) (d : Dc cc pc (.invokevirtual 36) 3 nx) (z : Nat) (i : Nat) (j : Nat) (hij : z < 3 ∧ i < 4 ∧ j < 4) (c : Int32) (kont : ∀ u, (u = tgS fB fN fW z i j c) → K nx lv st u) : K pc lv (.int c :: .int (nI j) :: .int (nI i) :: .int (nI z) :: .ref h :: st) (fB, fN, fW) :=
  x_callVV (n := 4) O (mX0_tighten fB fN fW z i j hij c) (lw_V q66 q68 qs0 q22 q69) ⟨rfl, rfl⟩ (by decide +kernel) rfl hR ⟨0, [.ref hB, .ref hN, .ref hW], (RX0, TX0, 3), rfl, rfl, rfl⟩ hst rfl d kont
set_option maxHeartbeats 4000000 in
theorem mX0_close {l : Launch} {D : va_G} {h hB hN hW : Nat} {cB cN cW : ClassId} (fB : Nat → Int32) (fN : Nat → Bool) (fW : Nat → Int32) (z : Nat) (hz : z < 3) : CtV (wX h hB hN hW cB cN cW) D vwCl (tX cB cN cW) l yX0_close cX0_close 7 { frames := 0, cells := 0, slots := 0, locals := 0 } [.ref h, .int (nI z)] (fB, fN, fW) (fun u => u = (clOut fB z 4, clN (clOut fB z 4) fN z 4, fW)) := by
  refine ct_entryV wX_addr (by decide) (by simp [Value.category]) (Nat.le_of_ble_eq_true rfl) ⟨rfl, rfl⟩ ?_
  intro K O E
  show K 0 [some (.ref h), some (.int (nI z)), none, none, none, none, none] [] (fB, fN, fW)
  refine x_iconst O dX0_close_0 kc_0 ?_
  refine x_istore_n [some (.ref h), some (.int (nI z)), some (.int (nI 0)), none, none, none, none] O dX0_close_1 rfl rfl ?_
  have lp2 : ∀ (n o : Nat) (B1 : Nat → Int32), 4 - o = n → o ≤ 4 → B1 = clOut fB z o → K 2 [some (.ref h), some (.int (nI z)), some (.int (nI o)), none, none, none, none] [] (B1, fN, fW) := by
    intro n
    induction n using Nat.strongRecOn with
    | _ n ih2 =>
      intro o B1 hn2 hk2 hB1
      refine x_iload_n O dX0_close_2 rfl ?_
      refine x_iconst O dX0_close_3 kc_4 ?_
      refine x_icmp_geN O dX0_close_4 (by omega) (fun c1 => ?_) (fun c1 => ?_)
      · obtain rfl : o = 4 := by omega
        subst hB1
        refine x_iconst O dX0_close_115 kc_0 ?_
        refine x_istore_n [some (.ref h), some (.int (nI z)), some (.int (nI 0)), none, none, none, none] O dX0_close_116 rfl rfl ?_
        have lp117 : ∀ (n q : Nat) (N1 : Nat → Bool), 4 - q = n → q ≤ 4 → N1 = clN (clOut fB z 4) fN z q → K 117 [some (.ref h), some (.int (nI z)), some (.int (nI q)), none, none, none, none] [] ((clOut fB z 4), N1, fW) := by
          intro n
          induction n using Nat.strongRecOn with
          | _ n ih117 =>
            intro q N1 hn117 hk117 hN1
            refine x_iload_n O dX0_close_117 rfl ?_
            refine x_iconst O dX0_close_118 kc_4 ?_
            refine x_icmp_geN O dX0_close_119 (by omega) (fun c2 => ?_) (fun c2 => ?_)
            · obtain rfl : q = 4 := by omega
              subst hN1
              exact E _ _ _ _ dX0_close_166 (by rfl)
            · refine x_aload_n O dX0_close_122 rfl ?_
              refine fX_N O dX0_close_123 ?_
              refine x_iload_n O dX0_close_126 rfl ?_
              refine x_aload_n O dX0_close_127 rfl ?_
              refine fX_N O dX0_close_128 ?_
              refine x_iload_n O dX0_close_131 rfl ?_
              refine ldN O (by omega) dX0_close_132 ?_
              refine x_if_neZ O dX0_close_133 (fun c3 => ?_) (fun c3 => ?_)
              · refine x_iconst O dX0_close_154 kc_1 ?_
                refine x_goto O dX0_close_155 ?_
                refine stN O (by omega) zI_1 dX0_close_159 ?_
                refine x_iincN [some (.ref h), some (.int (nI z)), some (.int (nI (q + 1))), none, none, none, none] O dX0_close_160 rfl rfl ?_
                refine x_goto O dX0_close_163 ?_
                exact ih117 _ (by omega) (q + 1) _ rfl (by omega) (by exact clN_s hN1 (by rw [c3]; rfl))
              · refine x_aload_n O dX0_close_136 rfl ?_
                refine fX_B O dX0_close_137 ?_
                refine x_bipush O dX0_close_140 kb_16 ?_
                refine x_iload_n O dX0_close_142 rfl ?_
                refine x_imulN O dX0_close_143 ?_
                refine x_iconst O dX0_close_144 kc_4 ?_
                refine x_iload_n O dX0_close_145 rfl ?_
                refine x_imulN O dX0_close_146 ?_
                refine x_iaddN O dX0_close_147 ?_
                refine x_iload_n O dX0_close_148 rfl ?_
                refine x_iaddN O dX0_close_149 ?_
                refine ldB O (by omega) dX0_close_150 ?_
                refine x_if_ge O dX0_close_151 (fun c4 => ?_) (fun c4 => ?_)
                · refine x_iconst O dX0_close_158 kc_0 ?_
                  refine stN O (by omega) zI_0 dX0_close_159 ?_
                  refine x_iincN [some (.ref h), some (.int (nI z)), some (.int (nI (q + 1))), none, none, none, none] O dX0_close_160 rfl rfl ?_
                  refine x_goto O dX0_close_163 ?_
                  exact ih117 _ (by omega) (q + 1) _ rfl (by omega) (by exact clN_s hN1 (by rw [c3, decide_eq_false (by omega)]; rfl))
                · refine x_iconst O dX0_close_154 kc_1 ?_
                  refine x_goto O dX0_close_155 ?_
                  refine stN O (by omega) zI_1 dX0_close_159 ?_
                  refine x_iincN [some (.ref h), some (.int (nI z)), some (.int (nI (q + 1))), none, none, none, none] O dX0_close_160 rfl rfl ?_
                  refine x_goto O dX0_close_163 ?_
                  exact ih117 _ (by omega) (q + 1) _ rfl (by omega) (by exact clN_s hN1 (by rw [c3, decide_eq_true c4]; rfl))
        exact lp117 _ 0 _ rfl (by omega) (by rfl)
      · refine x_iconst O dX0_close_7 kc_0 ?_
        refine x_istore_n [some (.ref h), some (.int (nI z)), some (.int (nI o)), some (.int (nI 0)), none, none, none] O dX0_close_8 rfl rfl ?_
        have lp9 : ∀ (n k : Nat) (B2 : Nat → Int32), 16 - k = n → k ≤ 16 → B2 = clIn B1 z o k → K 9 [some (.ref h), some (.int (nI z)), some (.int (nI o)), some (.int (nI k)), none, none, none] [] (B2, fN, fW) := by
          intro n
          induction n using Nat.strongRecOn with
          | _ n ih9 =>
            intro k B2 hn9 hk9 hB2
            refine x_iload_n O dX0_close_9 rfl ?_
            refine x_bipush O dX0_close_10 kb_16 ?_
            refine x_icmp_geN O dX0_close_12 (by omega) (fun c5 => ?_) (fun c5 => ?_)
            · obtain rfl : k = 16 := by omega
              subst hB2
              refine x_iincN [some (.ref h), some (.int (nI z)), some (.int (nI (o + 1))), some (.int (nI 16)), none, none, none] O dX0_close_109 rfl rfl ?_
              refine x_goto O dX0_close_112 ?_
              refine x_forget [some (.ref h), some (.int (nI z)), some (.int (nI (o + 1))), none, none, none, none] O ⟨rfl, rfl, rfl, trivial⟩ ?_
              exact ih2 _ (by omega) (o + 1) _ rfl (by omega) (by rw [hB1]; rfl)
            · refine x_iload_n O dX0_close_15 rfl ?_
              refine x_iconst O dX0_close_16 kc_4 ?_
              refine x_idivN O dX0_close_17 (by omega) (by omega) ?_
              refine x_istore [some (.ref h), some (.int (nI z)), some (.int (nI o)), some (.int (nI k)), some (.int (nI (k / 4))), none, none] O dX0_close_18 rfl rfl ?_
              refine x_iload_n O dX0_close_20 rfl ?_
              refine x_iconst O dX0_close_21 kc_4 ?_
              refine x_iremN O dX0_close_22 (by omega) (by omega) ?_
              refine x_istore [some (.ref h), some (.int (nI z)), some (.int (nI o)), some (.int (nI k)), some (.int (nI (k / 4))), some (.int (nI (k % 4))), none] O dX0_close_23 rfl rfl ?_
              refine x_aload_n O dX0_close_25 rfl ?_
              refine fX_B O dX0_close_26 ?_
              refine x_bipush O dX0_close_29 kb_16 ?_
              refine x_iload_n O dX0_close_31 rfl ?_
              refine x_imulN O dX0_close_32 ?_
              refine x_iconst O dX0_close_33 kc_4 ?_
              refine x_iload O dX0_close_34 rfl ?_
              refine x_imulN O dX0_close_36 ?_
              refine x_iaddN O dX0_close_37 ?_
              refine x_iload_n O dX0_close_38 rfl ?_
              refine x_iaddN O dX0_close_39 ?_
              refine ldB O (by omega) dX0_close_40 ?_
              refine x_aload_n O dX0_close_41 rfl ?_
              refine fX_B O dX0_close_42 ?_
              refine x_bipush O dX0_close_45 kb_16 ?_
              refine x_iload_n O dX0_close_47 rfl ?_
              refine x_imulN O dX0_close_48 ?_
              refine x_iconst O dX0_close_49 kc_4 ?_
              refine x_iload_n O dX0_close_50 rfl ?_
              refine x_imulN O dX0_close_51 ?_
              refine x_iaddN O dX0_close_52 ?_
              refine x_iload O dX0_close_53 rfl ?_
              refine x_iaddN O dX0_close_55 ?_
              refine ldB O (by omega) dX0_close_56 ?_
              refine x_iadd O dX0_close_57 ?_
              refine x_istore [some (.ref h), some (.int (nI z)), some (.int (nI o)), some (.int (nI k)), some (.int (nI (k / 4))), some (.int (nI (k % 4))), some (.int (B2 (16 * z + 4 * (k / 4) + o) + (B2 (16 * z + 4 * o + (k % 4)))))] O dX0_close_58 rfl rfl ?_
              refine x_aload_n O dX0_close_60 rfl ?_
              refine fX_B O dX0_close_61 ?_
              refine x_bipush O dX0_close_64 kb_16 ?_
              refine x_iload_n O dX0_close_66 rfl ?_
              refine x_imulN O dX0_close_67 ?_
              refine x_iload_n O dX0_close_68 rfl ?_
              refine x_iaddN O dX0_close_69 ?_
              refine x_iload O dX0_close_70 rfl ?_
              refine x_aload_n O dX0_close_72 rfl ?_
              refine fX_B O dX0_close_73 ?_
              refine x_bipush O dX0_close_76 kb_16 ?_
              refine x_iload_n O dX0_close_78 rfl ?_
              refine x_imulN O dX0_close_79 ?_
              refine x_iload_n O dX0_close_80 rfl ?_
              refine x_iaddN O dX0_close_81 ?_
              refine ldB O (by omega) dX0_close_82 ?_
              refine x_icmp_ge O dX0_close_83 (fun c6 => ?_) (fun c6 => ?_)
              · refine x_aload_n O dX0_close_91 rfl ?_
                refine fX_B O dX0_close_92 ?_
                refine x_bipush O dX0_close_95 kb_16 ?_
                refine x_iload_n O dX0_close_97 rfl ?_
                refine x_imulN O dX0_close_98 ?_
                refine x_iload_n O dX0_close_99 rfl ?_
                refine x_iaddN O dX0_close_100 ?_
                refine ldB O (by omega) dX0_close_101 ?_
                refine stB O (by omega) dX0_close_102 ?_
                refine x_iincN [some (.ref h), some (.int (nI z)), some (.int (nI o)), some (.int (nI (k + 1))), some (.int (nI (k / 4))), some (.int (nI (k % 4))), some (.int (B2 (16 * z + 4 * (k / 4) + o) + (B2 (16 * z + 4 * o + (k % 4)))))] O dX0_close_103 rfl rfl ?_
                refine x_goto O dX0_close_106 ?_
                refine x_forget [some (.ref h), some (.int (nI z)), some (.int (nI o)), some (.int (nI (k + 1))), none, none, none] O ⟨rfl, rfl, rfl, rfl, trivial⟩ ?_
                exact ih9 _ (by omega) (k + 1) _ rfl (by omega) (by exact clIn_s2 hB2 c6)
              · refine x_iload O dX0_close_86 rfl ?_
                refine x_goto O dX0_close_88 ?_
                refine stB O (by omega) dX0_close_102 ?_
                refine x_iincN [some (.ref h), some (.int (nI z)), some (.int (nI o)), some (.int (nI (k + 1))), some (.int (nI (k / 4))), some (.int (nI (k % 4))), some (.int (B2 (16 * z + 4 * (k / 4) + o) + (B2 (16 * z + 4 * o + (k % 4)))))] O dX0_close_103 rfl rfl ?_
                refine x_goto O dX0_close_106 ?_
                refine x_forget [some (.ref h), some (.int (nI z)), some (.int (nI o)), some (.int (nI (k + 1))), none, none, none] O ⟨rfl, rfl, rfl, rfl, trivial⟩ ?_
                exact ih9 _ (by omega) (k + 1) _ rfl (by omega) (by exact clIn_s1 hB2 c6)
        exact lp9 _ 0 _ rfl (by omega) (by rfl)
  exact lp2 _ 0 _ rfl (by omega) (by rfl)
theorem callX0_close {l : Launch} {D : va_G} {h hB hN hW : Nat} {cB cN cW : ClassId} {fB : Nat → Int32} {fN : Nat → Bool} {fW : Nat → Int32} {R : Room} {cc : ByteArray} {nL : Nat} {K : Nat → List (Option Value) → List Value → SX → Prop} {pc nx : Nat} {lv : List (Option Value)} {st : List Value} (O : MachX l R cc nL D h hB hN hW cB cN cW K) (hR : 0 + 1 ≤ R.frames ∧ 8 + (7 + 11) + 0 ≤ R.locals) (hst : (st.map fun v => v.category).sum ≤ 8) (d : Dc cc pc (.invokevirtual 43) 3 nx) (z : Nat) (hz : z < 3) (kont : ∀ u, (u = (clOut fB z 4, clN (clOut fB z 4) fN z 4, fW)) → K nx lv st u) : K pc lv (.int (nI z) :: .ref h :: st) (fB, fN, fW) :=
  x_callVV (n := 1) O (mX0_close fB fN fW z hz) (lw_V q86 q88 qs4 q22 q89) ⟨rfl, rfl⟩ (by decide +kernel) rfl hR ⟨0, [.ref hB, .ref hN, .ref hW], (RX0, TX0, 3), rfl, rfl, rfl⟩ hst rfl d kont
end
section
/-! what the public methods of ClockZones compute -/
set_option maxRecDepth 100000
def psB (f : Nat → Int32) (z : Nat) : Nat → Int32 := upd (upd (upd f (16 * z + 4 * 1) (nI 12)) (16 * z + 4 * 2) (nI 12)) (16 * z + 4 * 3) (nI 12)
def bkB (f : Nat → Int32) (z : Nat) : Nat → Int32 := upd (upd (upd f (16 * z + 1) (nI 0)) (16 * z + 2) (nI 0)) (16 * z + 3) (nI 0)
def stF (f : Nat → Int32) (z c : Nat) (v : Int32) : Nat → (Nat → Int32)
  | 0 => f
  | n + 1 => if n = c then stF f z c v n else upd (upd (stF f z c v n) (16 * z + 4 * c + n) (v + stF f z c v n (16 * z + n))) (16 * z + 4 * n + c) (upd (stF f z c v n) (16 * z + 4 * c + n) (v + stF f z c v n (16 * z + n)) (16 * z + 4 * n) - v)
theorem stF_s1 {f B1 : Nat → Int32} {z c n : Nat} {v : Int32} (h : B1 = stF f z c v n) (hc : n = c) : B1 = stF f z c v (n + 1) := by
  rw [stF, if_pos hc]; exact h
theorem stF_s2 {f B1 : Nat → Int32} {z c n : Nat} {v : Int32} (h : B1 = stF f z c v n) (hc : n ≠ c) : upd (upd B1 (16 * z + 4 * c + n) (v + B1 (16 * z + n))) (16 * z + 4 * n + c) (upd B1 (16 * z + 4 * c + n) (v + B1 (16 * z + n)) (16 * z + 4 * n) - v) = stF f z c v (n + 1) := by
  rw [stF, if_neg hc, h]
def frF (f : Nat → Int32) (z c : Nat) : Nat → (Nat → Int32)
  | 0 => f
  | n + 1 => if n = c then frF f z c n else upd (upd (frF f z c n) (16 * z + 4 * c + n) (nI 12 + frF f z c n (16 * z + n))) (16 * z + 4 * n + c) (upd (frF f z c n) (16 * z + 4 * c + n) (nI 12 + frF f z c n (16 * z + n)) (16 * z + 4 * n))
theorem frF_s1 {f B1 : Nat → Int32} {z c n : Nat} (h : B1 = frF f z c n) (hc : n = c) : B1 = frF f z c (n + 1) := by
  rw [frF, if_pos hc]; exact h
theorem frF_s2 {f B1 : Nat → Int32} {z c n : Nat} (h : B1 = frF f z c n) (hc : n ≠ c) : upd (upd B1 (16 * z + 4 * c + n) (nI 12 + B1 (16 * z + n))) (16 * z + 4 * n + c) (upd B1 (16 * z + 4 * c + n) (nI 12 + B1 (16 * z + n)) (16 * z + 4 * n)) = frF f z c (n + 1) := by
  rw [frF, if_neg hc, h]
def flF (f : Nat → Int32) (z i j : Nat) : Nat → (Nat → Int32)
  | 0 => f
  | n + 1 => if n = i then flF f z i j n else upd (upd (flF f z i j n) (16 * z + 4 * i + n) (flF f z i j n (16 * z + 4 * j + n))) (16 * z + 4 * n + i) (upd (flF f z i j n) (16 * z + 4 * i + n) (flF f z i j n (16 * z + 4 * j + n)) (16 * z + 4 * n + j))
theorem flF_s1 {f B1 : Nat → Int32} {z i j n : Nat} (h : B1 = flF f z i j n) (hc : n = i) : B1 = flF f z i j (n + 1) := by
  rw [flF, if_pos hc]; exact h
theorem flF_s2 {f B1 : Nat → Int32} {z i j n : Nat} (h : B1 = flF f z i j n) (hc : n ≠ i) : upd (upd B1 (16 * z + 4 * i + n) (B1 (16 * z + 4 * j + n))) (16 * z + 4 * n + i) (upd B1 (16 * z + 4 * i + n) (B1 (16 * z + 4 * j + n)) (16 * z + 4 * n + j)) = flF f z i j (n + 1) := by
  rw [flF, if_neg hc, h]
def toIt (fB : Nat → Int32) (y z : Nat) : Nat → (Nat → Int32)
  | 0 => tkW fB y
  | n + 1 => nwW (toIt fB y z n) (n / 4) (n % 4) (fB (16 * z + n))
end
section
set_option maxRecDepth 100000
set_option maxHeartbeats 4000000 in
theorem mX0_all {l : Launch} {D : va_G} {h hB hN hW : Nat} {cB cN cW : ClassId} (fB : Nat → Int32) (fN : Nat → Bool) (fW : Nat → Int32) (z0 : Int32) : Ct (wX h hB hN hW cB cN cW) D vwCl (tX cB cN cW) l yX0_all cX0_all 3 .int { frames := 1, cells := 0, slots := 0, locals := 21 } [.ref h, .int z0] (fB, fN, fW) (fun r u => inZ z0 (fun z => r = nI 0 ∧ u = (blk fB (16 * z) 16 (fun k => boxV (k / 4) (k % 4)), updB fN z false, fW)) (r = (-1) ∧ u = (fB, fN, fW))) := by
  refine ct_entry wX_addr (by decide) (by simp [Value.category]) (Nat.le_of_ble_eq_true rfl) ⟨rfl, rfl⟩ ?_
  intro K O E
  show K 0 [some (.ref h), some (.int z0), none] [] (fB, fN, fW)
  refine x_iload_n O dX0_all_0 rfl ?_
  refine callX0_isZone O ⟨Nat.le_of_ble_eq_true rfl, Nat.le_of_ble_eq_true rfl⟩ (Nat.le_of_ble_eq_true rfl) dX0_all_1 _ (fun r u hp => ?_)
  rcases hp with ⟨z, hz, rfl, rfl, rfl⟩ | ⟨hz, rfl, rfl⟩
  · refine x_if_neT O dX0_all_4 ?_
    refine x_aload_n O dX0_all_9 rfl ?_
    refine fX_N O dX0_all_10 ?_
    refine x_iload_n O dX0_all_13 rfl ?_
    refine x_iconst O dX0_all_14 kc_0 ?_
    refine stN O (by omega) zI_0 dX0_all_15 ?_
    refine x_iconst O dX0_all_16 kc_0 ?_
    refine x_istore_n [some (.ref h), some (.int (nI z)), some (.int (nI 0))] O dX0_all_17 rfl rfl ?_
    have lp18 : ∀ (n k : Nat) (B1 : Nat → Int32), 16 - k = n → k ≤ 16 → B1 = blk fB (16 * z) k (fun k => boxV (k / 4) (k % 4)) → K 18 [some (.ref h), some (.int (nI z)), some (.int (nI k))] [] (B1, updB fN z false, fW) := by
      intro n
      induction n using Nat.strongRecOn with
      | _ n ih18 =>
        intro k B1 hn18 hk18 hB1
        refine x_iload_n O dX0_all_18 rfl ?_
        refine x_bipush O dX0_all_19 kb_16 ?_
        refine x_icmp_geN O dX0_all_21 (by omega) (fun c1 => ?_) (fun c1 => ?_)
        · obtain rfl : k = 16 := by omega
          subst hB1
          refine x_iconst O dX0_all_50 kc_0 ?_
          exact E _ _ _ _ _ dX0_all_51 rfl (Or.inl ⟨z, hz, rfl, (by exact ⟨rfl, rfl⟩)⟩)
        · refine x_aload_n O dX0_all_24 rfl ?_
          refine fX_B O dX0_all_25 ?_
          refine x_bipush O dX0_all_28 kb_16 ?_
          refine x_iload_n O dX0_all_30 rfl ?_
          refine x_imulN O dX0_all_31 ?_
          refine x_iload_n O dX0_all_32 rfl ?_
          refine x_iaddN O dX0_all_33 ?_
          refine x_iload_n O dX0_all_34 rfl ?_
          refine x_iconst O dX0_all_35 kc_4 ?_
          refine x_idivN O dX0_all_36 (by omega) (by omega) ?_
          refine x_iload_n O dX0_all_37 rfl ?_
          refine x_iconst O dX0_all_38 kc_4 ?_
          refine x_iremN O dX0_all_39 (by omega) (by omega) ?_
          refine callX0_boxBound O ⟨Nat.le_of_ble_eq_true rfl, Nat.le_of_ble_eq_true rfl⟩ (Nat.le_of_ble_eq_true rfl) dX0_all_40 _ _ (by omega) (fun r u hp => ?_)
          obtain ⟨rfl, rfl⟩ := hp
          refine stB O (by omega) dX0_all_43 ?_
          refine x_iincN [some (.ref h), some (.int (nI z)), some (.int (nI (k + 1)))] O dX0_all_44 rfl rfl ?_
          refine x_goto O dX0_all_47 ?_
          exact ih18 _ (by omega) (k + 1) _ rfl (by omega) (by exact blk_s hB1 rfl)
    exact lp18 _ 0 _ rfl (by omega) (by exact blk_0)
  · refine x_if_neF O dX0_all_4 ?_
    refine x_iconst O dX0_all_7 kc_m1 ?_
    exact E _ _ _ _ _ dX0_all_8 rfl (Or.inr ⟨hz, (by exact ⟨rfl, rfl⟩)⟩)
theorem callX0_all {l : Launch} {D : va_G} {h hB hN hW : Nat} {cB cN cW : ClassId} {fB : Nat → Int32} {fN : Nat → Bool} {fW : Nat → Int32} {R : Room} {cc : ByteArray} {nL : Nat} {K : Nat → List (Option Value) → List Value → SX → Prop} {pc nx : Nat} {lv : List (Option Value)} {st : List Value} (O : MachX l R cc nL D h hB hN hW cB cN cW K) (hR : 1 + 1 ≤ R.frames ∧ 8 + (3 + 11) + 21 ≤ R.locals) (hst : (st.map fun v => v.category).sum ≤ 8) (d : Dc cc pc (.invokevirtual 20) 3 nx) (z0 : Int32) (kont : ∀ r u, (inZ z0 (fun z => r = nI 0 ∧ u = (blk fB (16 * z) 16 (fun k => boxV (k / 4) (k % 4)), updB fN z false, fW)) (r = (-1) ∧ u = (fB, fN, fW))) → K nx lv (.int r :: st) u) : K pc lv (.int z0 :: .ref h :: st) (fB, fN, fW) :=
  x_callV (n := 1) O (mX0_all fB fN fW z0) (lw_V q32 q33 q34 q22 q35) ⟨rfl, rfl⟩ (by decide +kernel) rfl hR ⟨0, [.ref hB, .ref hN, .ref hW], (RX0, TX0, 3), rfl, rfl, rfl⟩ hst rfl d kont
set_option maxHeartbeats 4000000 in
theorem mX0_zero {l : Launch} {D : va_G} {h hB hN hW : Nat} {cB cN cW : ClassId} (fB : Nat → Int32) (fN : Nat → Bool) (fW : Nat → Int32) (z0 : Int32) : Ct (wX h hB hN hW cB cN cW) D vwCl (tX cB cN cW) l yX0_zero cX0_zero 3 .int { frames := 1, cells := 0, slots := 0, locals := 20 } [.ref h, .int z0] (fB, fN, fW) (fun r u => inZ z0 (fun z => r = nI 0 ∧ u = (blk fB (16 * z) 16 (fun _ => nI 0), updB fN z false, fW)) (r = (-1) ∧ u = (fB, fN, fW))) := by
  refine ct_entry wX_addr (by decide) (by simp [Value.category]) (Nat.le_of_ble_eq_true rfl) ⟨rfl, rfl⟩ ?_
  intro K O E
  show K 0 [some (.ref h), some (.int z0), none] [] (fB, fN, fW)
  refine x_iload_n O dX0_zero_0 rfl ?_
  refine callX0_isZone O ⟨Nat.le_of_ble_eq_true rfl, Nat.le_of_ble_eq_true rfl⟩ (Nat.le_of_ble_eq_true rfl) dX0_zero_1 _ (fun r u hp => ?_)
  rcases hp with ⟨z, hz, rfl, rfl, rfl⟩ | ⟨hz, rfl, rfl⟩
  · refine x_if_neT O dX0_zero_4 ?_
    refine x_aload_n O dX0_zero_9 rfl ?_
    refine fX_N O dX0_zero_10 ?_
    refine x_iload_n O dX0_zero_13 rfl ?_
    refine x_iconst O dX0_zero_14 kc_0 ?_
    refine stN O (by omega) zI_0 dX0_zero_15 ?_
    refine x_iconst O dX0_zero_16 kc_0 ?_
    refine x_istore_n [some (.ref h), some (.int (nI z)), some (.int (nI 0))] O dX0_zero_17 rfl rfl ?_
    have lp18 : ∀ (n k : Nat) (B1 : Nat → Int32), 16 - k = n → k ≤ 16 → B1 = blk fB (16 * z) k (fun _ => nI 0) → K 18 [some (.ref h), some (.int (nI z)), some (.int (nI k))] [] (B1, updB fN z false, fW) := by
      intro n
      induction n using Nat.strongRecOn with
      | _ n ih18 =>
        intro k B1 hn18 hk18 hB1
        refine x_iload_n O dX0_zero_18 rfl ?_
        refine x_bipush O dX0_zero_19 kb_16 ?_
        refine x_icmp_geN O dX0_zero_21 (by omega) (fun c1 => ?_) (fun c1 => ?_)
        · obtain rfl : k = 16 := by omega
          subst hB1
          refine x_iconst O dX0_zero_42 kc_0 ?_
          exact E _ _ _ _ _ dX0_zero_43 rfl (Or.inl ⟨z, hz, rfl, (by exact ⟨rfl, rfl⟩)⟩)
        · refine x_aload_n O dX0_zero_24 rfl ?_
          refine fX_B O dX0_zero_25 ?_
          refine x_bipush O dX0_zero_28 kb_16 ?_
          refine x_iload_n O dX0_zero_30 rfl ?_
          refine x_imulN O dX0_zero_31 ?_
          refine x_iload_n O dX0_zero_32 rfl ?_
          refine x_iaddN O dX0_zero_33 ?_
          refine x_iconst O dX0_zero_34 kc_0 ?_
          refine stB O (by omega) dX0_zero_35 ?_
          refine x_iincN [some (.ref h), some (.int (nI z)), some (.int (nI (k + 1)))] O dX0_zero_36 rfl rfl ?_
          refine x_goto O dX0_zero_39 ?_
          exact ih18 _ (by omega) (k + 1) _ rfl (by omega) (by exact blk_s hB1 rfl)
    exact lp18 _ 0 _ rfl (by omega) (by exact blk_0)
  · refine x_if_neF O dX0_zero_4 ?_
    refine x_iconst O dX0_zero_7 kc_m1 ?_
    exact E _ _ _ _ _ dX0_zero_8 rfl (Or.inr ⟨hz, (by exact ⟨rfl, rfl⟩)⟩)
set_option maxHeartbeats 4000000 in
theorem mX0_keep {l : Launch} {D : va_G} {h hB hN hW : Nat} {cB cN cW : ClassId} (fB : Nat → Int32) (fN : Nat → Bool) (fW : Nat → Int32) (z0 : Int32) (i0 : Int32) (j0 : Int32) (c : Int32) : Ct (wX h hB hN hW cB cN cW) D vwCl (tX cB cN cW) l yX0_keep cX0_keep 5 .int { frames := 2, cells := 0, slots := 0, locals := 53 } [.ref h, .int z0, .int i0, .int j0, .int c] (fB, fN, fW) (fun r u => inZ z0 (fun z => inP i0 j0 (fun i j => (-12 ≤ c.toInt ∧ c.toInt ≤ 12 ∧ u = tgS fB fN fW z i j c ∧ r = lfI (u.2.1 z)) ∨ ((c.toInt < -12 ∨ 12 < c.toInt) ∧ r = (-3) ∧ u = (fB, fN, fW))) (r = (-2) ∧ u = (fB, fN, fW))) (r = (-1) ∧ u = (fB, fN, fW))) := by
  refine ct_entry wX_addr (by decide) (by simp [Value.category]) (Nat.le_of_ble_eq_true rfl) ⟨rfl, rfl⟩ ?_
  intro K O E
  have km12 : ((-12) : Int32).toInt = -12 := by decide
  show K 0 [some (.ref h), some (.int z0), some (.int i0), some (.int j0), some (.int c)] [] (fB, fN, fW)
  refine x_iload_n O dX0_keep_0 rfl ?_
  refine callX0_isZone O ⟨Nat.le_of_ble_eq_true rfl, Nat.le_of_ble_eq_true rfl⟩ (Nat.le_of_ble_eq_true rfl) dX0_keep_1 _ (fun r u hp => ?_)
  rcases hp with ⟨z, hz, rfl, rfl, rfl⟩ | ⟨hz, rfl, rfl⟩
  · refine x_if_neT O dX0_keep_4 ?_
    refine x_iload_n O dX0_keep_9 rfl ?_
    refine x_iload_n O dX0_keep_10 rfl ?_
    refine callX0_isPair O ⟨Nat.le_of_ble_eq_true rfl, Nat.le_of_ble_eq_true rfl⟩ (Nat.le_of_ble_eq_true rfl) dX0_keep_11 _ _ (fun r u hp => ?_)
    rcases hp with ⟨i, j, hij, rfl, rfl, rfl, rfl⟩ | ⟨hij, rfl, rfl⟩
    · refine x_if_neT O dX0_keep_14 ?_
      refine x_iload O dX0_keep_20 rfl ?_
      refine x_bipush O dX0_keep_22 kb_m12 ?_
      refine x_icmp_lt O dX0_keep_24 (fun c1 => ?_) (fun c1 => ?_)
      · refine x_bipush O dX0_keep_34 kb_m3 ?_
        exact E _ _ _ _ _ dX0_keep_36 rfl (Or.inl ⟨z, hz, rfl, (Or.inl ⟨i, j, hij, rfl, rfl, (by exact Or.inr ⟨by omega, rfl, rfl⟩)⟩)⟩)
      · refine x_iload O dX0_keep_27 rfl ?_
        refine x_bipush O dX0_keep_29 kb_12 ?_
        refine x_icmp_leK O dX0_keep_31 (by omega) (fun c2 => ?_) (fun c2 => ?_)
        · refine x_aload_n O dX0_keep_37 rfl ?_
          refine x_iload_n O dX0_keep_38 rfl ?_
          refine x_iload_n O dX0_keep_39 rfl ?_
          refine x_iload_n O dX0_keep_40 rfl ?_
          refine x_iload O dX0_keep_41 rfl ?_
          refine callX0_tighten O ⟨Nat.le_of_ble_eq_true rfl, Nat.le_of_ble_eq_true rfl⟩ (Nat.le_of_ble_eq_true rfl) dX0_keep_43 _ _ _ (by omega) _ (fun u hp => ?_)
          subst hp
          obtain ⟨gB, gN, gW, hg⟩ : ∃ gB gN gW, tgS fB fN fW z i j c = (gB, gN, gW) := ⟨_, _, _, rfl⟩
          rw [hg]
          refine x_aload_n O dX0_keep_46 rfl ?_
          refine x_iload_n O dX0_keep_47 rfl ?_
          refine callX0_left O ⟨Nat.le_of_ble_eq_true rfl, Nat.le_of_ble_eq_true rfl⟩ (Nat.le_of_ble_eq_true rfl) dX0_keep_48 _ (by omega) (fun r u hp => ?_)
          obtain ⟨rfl, rfl⟩ := hp
          exact E _ _ _ _ _ dX0_keep_51 rfl (Or.inl ⟨z, hz, rfl, (Or.inl ⟨i, j, hij, rfl, rfl, (by exact Or.inl ⟨by omega, by omega, hg.symm, rfl⟩)⟩)⟩)
        · refine x_bipush O dX0_keep_34 kb_m3 ?_
          exact E _ _ _ _ _ dX0_keep_36 rfl (Or.inl ⟨z, hz, rfl, (Or.inl ⟨i, j, hij, rfl, rfl, (by exact Or.inr ⟨by omega, rfl, rfl⟩)⟩)⟩)
    · refine x_if_neF O dX0_keep_14 ?_
      refine x_bipush O dX0_keep_17 kb_m2 ?_
      exact E _ _ _ _ _ dX0_keep_19 rfl (Or.inl ⟨z, hz, rfl, (Or.inr ⟨hij, (by exact ⟨rfl, rfl⟩)⟩)⟩)
  · refine x_if_neF O dX0_keep_4 ?_
    refine x_iconst O dX0_keep_7 kc_m1 ?_
    exact E _ _ _ _ _ dX0_keep_8 rfl (Or.inr ⟨hz, (by exact ⟨rfl, rfl⟩)⟩)
set_option maxHeartbeats 4000000 in
theorem mX0_pass {l : Launch} {D : va_G} {h hB hN hW : Nat} {cB cN cW : ClassId} (fB : Nat → Int32) (fN : Nat → Bool) (fW : Nat → Int32) (z0 : Int32) : Ct (wX h hB hN hW cB cN cW) D vwCl (tX cB cN cW) l yX0_pass cX0_pass 3 .int { frames := 1, cells := 0, slots := 0, locals := 26 } [.ref h, .int z0] (fB, fN, fW) (fun r u => inZ z0 (fun z => u = (if fN z then (fB, fN, fW) else clS (psB fB z) fN fW z) ∧ r = lfI (u.2.1 z)) (r = (-1) ∧ u = (fB, fN, fW))) := by
  refine ct_entry wX_addr (by decide) (by simp [Value.category]) (Nat.le_of_ble_eq_true rfl) ⟨rfl, rfl⟩ ?_
  intro K O E
  show K 0 [some (.ref h), some (.int z0), none] [] (fB, fN, fW)
  refine x_iload_n O dX0_pass_0 rfl ?_
  refine callX0_isZone O ⟨Nat.le_of_ble_eq_true rfl, Nat.le_of_ble_eq_true rfl⟩ (Nat.le_of_ble_eq_true rfl) dX0_pass_1 _ (fun r u hp => ?_)
  rcases hp with ⟨z, hz, rfl, rfl, rfl⟩ | ⟨hz, rfl, rfl⟩
  · refine x_if_neT O dX0_pass_4 ?_
    refine x_aload_n O dX0_pass_9 rfl ?_
    refine fX_N O dX0_pass_10 ?_
    refine x_iload_n O dX0_pass_13 rfl ?_
    refine ldN O (by omega) dX0_pass_14 ?_
    refine x_if_neZ O dX0_pass_15 (fun c1 => ?_) (fun c1 => ?_)
    · refine x_aload_n O dX0_pass_51 rfl ?_
      refine x_iload_n O dX0_pass_52 rfl ?_
      refine callX0_left O ⟨Nat.le_of_ble_eq_true rfl, Nat.le_of_ble_eq_true rfl⟩ (Nat.le_of_ble_eq_true rfl) dX0_pass_53 _ (by omega) (fun r u hp => ?_)
      obtain ⟨rfl, rfl⟩ := hp
      exact E _ _ _ _ _ dX0_pass_56 rfl (Or.inl ⟨z, hz, rfl, (by exact ⟨by rw [if_pos c1], rfl⟩)⟩)
    · refine x_iconst O dX0_pass_18 kc_1 ?_
      refine x_istore_n [some (.ref h), some (.int (nI z)), some (.int (nI 1))] O dX0_pass_19 rfl rfl ?_
      refine x_iload_n O dX0_pass_20 rfl ?_
      refine x_iconst O dX0_pass_21 kc_4 ?_
      refine x_icmp_geN O dX0_pass_22 (by omega) (fun c2 => absurd c2 (by omega)) (fun c2 => ?_)
      refine x_aload_n O dX0_pass_25 rfl ?_
      refine fX_B O dX0_pass_26 ?_
      refine x_bipush O dX0_pass_29 kb_16 ?_
      refine x_iload_n O dX0_pass_31 rfl ?_
      refine x_imulN O dX0_pass_32 ?_
      refine x_iconst O dX0_pass_33 kc_4 ?_
      refine x_iload_n O dX0_pass_34 rfl ?_
      refine x_imulN O dX0_pass_35 ?_
      refine x_iaddN O dX0_pass_36 ?_
      refine x_bipush O dX0_pass_37 kb_12 ?_
      refine stB O (by omega) dX0_pass_39 ?_
      refine x_iincN [some (.ref h), some (.int (nI z)), some (.int (nI 2))] O dX0_pass_40 rfl rfl ?_
      refine x_goto O dX0_pass_43 ?_
      refine x_iload_n O dX0_pass_20 rfl ?_
      refine x_iconst O dX0_pass_21 kc_4 ?_
      refine x_icmp_geN O dX0_pass_22 (by omega) (fun c3 => absurd c3 (by omega)) (fun c3 => ?_)
      refine x_aload_n O dX0_pass_25 rfl ?_
      refine fX_B O dX0_pass_26 ?_
      refine x_bipush O dX0_pass_29 kb_16 ?_
      refine x_iload_n O dX0_pass_31 rfl ?_
      refine x_imulN O dX0_pass_32 ?_
      refine x_iconst O dX0_pass_33 kc_4 ?_
      refine x_iload_n O dX0_pass_34 rfl ?_
      refine x_imulN O dX0_pass_35 ?_
      refine x_iaddN O dX0_pass_36 ?_
      refine x_bipush O dX0_pass_37 kb_12 ?_
      refine stB O (by omega) dX0_pass_39 ?_
      refine x_iincN [some (.ref h), some (.int (nI z)), some (.int (nI 3))] O dX0_pass_40 rfl rfl ?_
      refine x_goto O dX0_pass_43 ?_
      refine x_iload_n O dX0_pass_20 rfl ?_
      refine x_iconst O dX0_pass_21 kc_4 ?_
      refine x_icmp_geN O dX0_pass_22 (by omega) (fun c4 => absurd c4 (by omega)) (fun c4 => ?_)
      refine x_aload_n O dX0_pass_25 rfl ?_
      refine fX_B O dX0_pass_26 ?_
      refine x_bipush O dX0_pass_29 kb_16 ?_
      refine x_iload_n O dX0_pass_31 rfl ?_
      refine x_imulN O dX0_pass_32 ?_
      refine x_iconst O dX0_pass_33 kc_4 ?_
      refine x_iload_n O dX0_pass_34 rfl ?_
      refine x_imulN O dX0_pass_35 ?_
      refine x_iaddN O dX0_pass_36 ?_
      refine x_bipush O dX0_pass_37 kb_12 ?_
      refine stB O (by omega) dX0_pass_39 ?_
      refine x_iincN [some (.ref h), some (.int (nI z)), some (.int (nI 4))] O dX0_pass_40 rfl rfl ?_
      refine x_goto O dX0_pass_43 ?_
      refine x_iload_n O dX0_pass_20 rfl ?_
      refine x_iconst O dX0_pass_21 kc_4 ?_
      refine x_icmp_geN O dX0_pass_22 (by omega) (fun c5 => ?_) (fun c5 => absurd c5 (by omega))
      refine x_aload_n O dX0_pass_46 rfl ?_
      refine x_iload_n O dX0_pass_47 rfl ?_
      refine callX0_close O ⟨Nat.le_of_ble_eq_true rfl, Nat.le_of_ble_eq_true rfl⟩ (Nat.le_of_ble_eq_true rfl) dX0_pass_48 _ (by omega) (fun u hp => ?_)
      subst hp
      refine x_aload_n O dX0_pass_51 rfl ?_
      refine x_iload_n O dX0_pass_52 rfl ?_
      refine callX0_left O ⟨Nat.le_of_ble_eq_true rfl, Nat.le_of_ble_eq_true rfl⟩ (Nat.le_of_ble_eq_true rfl) dX0_pass_53 _ (by omega) (fun r u hp => ?_)
      obtain ⟨rfl, rfl⟩ := hp
      exact E _ _ _ _ _ dX0_pass_56 rfl (Or.inl ⟨z, hz, rfl, (by exact ⟨by rw [if_neg (by rw [c1]; exact Bool.false_ne_true)]; rfl, rfl⟩)⟩)
  · refine x_if_neF O dX0_pass_4 ?_
    refine x_iconst O dX0_pass_7 kc_m1 ?_
    exact E _ _ _ _ _ dX0_pass_8 rfl (Or.inr ⟨hz, (by exact ⟨rfl, rfl⟩)⟩)
set_option maxHeartbeats 4000000 in
theorem mX0_back {l : Launch} {D : va_G} {h hB hN hW : Nat} {cB cN cW : ClassId} (fB : Nat → Int32) (fN : Nat → Bool) (fW : Nat → Int32) (z0 : Int32) : Ct (wX h hB hN hW cB cN cW) D vwCl (tX cB cN cW) l yX0_back cX0_back 3 .int { frames := 1, cells := 0, slots := 0, locals := 26 } [.ref h, .int z0] (fB, fN, fW) (fun r u => inZ z0 (fun z => u = (if fN z then (fB, fN, fW) else clS (bkB fB z) fN fW z) ∧ r = lfI (u.2.1 z)) (r = (-1) ∧ u = (fB, fN, fW))) := by
  refine ct_entry wX_addr (by decide) (by simp [Value.category]) (Nat.le_of_ble_eq_true rfl) ⟨rfl, rfl⟩ ?_
  intro K O E
  show K 0 [some (.ref h), some (.int z0), none] [] (fB, fN, fW)
  refine x_iload_n O dX0_back_0 rfl ?_
  refine callX0_isZone O ⟨Nat.le_of_ble_eq_true rfl, Nat.le_of_ble_eq_true rfl⟩ (Nat.le_of_ble_eq_true rfl) dX0_back_1 _ (fun r u hp => ?_)
  rcases hp with ⟨z, hz, rfl, rfl, rfl⟩ | ⟨hz, rfl, rfl⟩
  · refine x_if_neT O dX0_back_4 ?_
    refine x_aload_n O dX0_back_9 rfl ?_
    refine fX_N O dX0_back_10 ?_
    refine x_iload_n O dX0_back_13 rfl ?_
    refine ldN O (by omega) dX0_back_14 ?_
    refine x_if_neZ O dX0_back_15 (fun c1 => ?_) (fun c1 => ?_)
    · refine x_aload_n O dX0_back_48 rfl ?_
      refine x_iload_n O dX0_back_49 rfl ?_
      refine callX0_left O ⟨Nat.le_of_ble_eq_true rfl, Nat.le_of_ble_eq_true rfl⟩ (Nat.le_of_ble_eq_true rfl) dX0_back_50 _ (by omega) (fun r u hp => ?_)
      obtain ⟨rfl, rfl⟩ := hp
      exact E _ _ _ _ _ dX0_back_53 rfl (Or.inl ⟨z, hz, rfl, (by exact ⟨by rw [if_pos c1], rfl⟩)⟩)
    · refine x_iconst O dX0_back_18 kc_1 ?_
      refine x_istore_n [some (.ref h), some (.int (nI z)), some (.int (nI 1))] O dX0_back_19 rfl rfl ?_
      refine x_iload_n O dX0_back_20 rfl ?_
      refine x_iconst O dX0_back_21 kc_4 ?_
      refine x_icmp_geN O dX0_back_22 (by omega) (fun c2 => absurd c2 (by omega)) (fun c2 => ?_)
      refine x_aload_n O dX0_back_25 rfl ?_
      refine fX_B O dX0_back_26 ?_
      refine x_bipush O dX0_back_29 kb_16 ?_
      refine x_iload_n O dX0_back_31 rfl ?_
      refine x_imulN O dX0_back_32 ?_
      refine x_iload_n O dX0_back_33 rfl ?_
      refine x_iaddN O dX0_back_34 ?_
      refine x_iconst O dX0_back_35 kc_0 ?_
      refine stB O (by omega) dX0_back_36 ?_
      refine x_iincN [some (.ref h), some (.int (nI z)), some (.int (nI 2))] O dX0_back_37 rfl rfl ?_
      refine x_goto O dX0_back_40 ?_
      refine x_iload_n O dX0_back_20 rfl ?_
      refine x_iconst O dX0_back_21 kc_4 ?_
      refine x_icmp_geN O dX0_back_22 (by omega) (fun c3 => absurd c3 (by omega)) (fun c3 => ?_)
      refine x_aload_n O dX0_back_25 rfl ?_
      refine fX_B O dX0_back_26 ?_
      refine x_bipush O dX0_back_29 kb_16 ?_
      refine x_iload_n O dX0_back_31 rfl ?_
      refine x_imulN O dX0_back_32 ?_
      refine x_iload_n O dX0_back_33 rfl ?_
      refine x_iaddN O dX0_back_34 ?_
      refine x_iconst O dX0_back_35 kc_0 ?_
      refine stB O (by omega) dX0_back_36 ?_
      refine x_iincN [some (.ref h), some (.int (nI z)), some (.int (nI 3))] O dX0_back_37 rfl rfl ?_
      refine x_goto O dX0_back_40 ?_
      refine x_iload_n O dX0_back_20 rfl ?_
      refine x_iconst O dX0_back_21 kc_4 ?_
      refine x_icmp_geN O dX0_back_22 (by omega) (fun c4 => absurd c4 (by omega)) (fun c4 => ?_)
      refine x_aload_n O dX0_back_25 rfl ?_
      refine fX_B O dX0_back_26 ?_
      refine x_bipush O dX0_back_29 kb_16 ?_
      refine x_iload_n O dX0_back_31 rfl ?_
      refine x_imulN O dX0_back_32 ?_
      refine x_iload_n O dX0_back_33 rfl ?_
      refine x_iaddN O dX0_back_34 ?_
      refine x_iconst O dX0_back_35 kc_0 ?_
      refine stB O (by omega) dX0_back_36 ?_
      refine x_iincN [some (.ref h), some (.int (nI z)), some (.int (nI 4))] O dX0_back_37 rfl rfl ?_
      refine x_goto O dX0_back_40 ?_
      refine x_iload_n O dX0_back_20 rfl ?_
      refine x_iconst O dX0_back_21 kc_4 ?_
      refine x_icmp_geN O dX0_back_22 (by omega) (fun c5 => ?_) (fun c5 => absurd c5 (by omega))
      refine x_aload_n O dX0_back_43 rfl ?_
      refine x_iload_n O dX0_back_44 rfl ?_
      refine callX0_close O ⟨Nat.le_of_ble_eq_true rfl, Nat.le_of_ble_eq_true rfl⟩ (Nat.le_of_ble_eq_true rfl) dX0_back_45 _ (by omega) (fun u hp => ?_)
      subst hp
      refine x_aload_n O dX0_back_48 rfl ?_
      refine x_iload_n O dX0_back_49 rfl ?_
      refine callX0_left O ⟨Nat.le_of_ble_eq_true rfl, Nat.le_of_ble_eq_true rfl⟩ (Nat.le_of_ble_eq_true rfl) dX0_back_50 _ (by omega) (fun r u hp => ?_)
      obtain ⟨rfl, rfl⟩ := hp
      exact E _ _ _ _ _ dX0_back_53 rfl (Or.inl ⟨z, hz, rfl, (by exact ⟨by rw [if_neg (by rw [c1]; exact Bool.false_ne_true)]; rfl, rfl⟩)⟩)
  · refine x_if_neF O dX0_back_4 ?_
    refine x_iconst O dX0_back_7 kc_m1 ?_
    exact E _ _ _ _ _ dX0_back_8 rfl (Or.inr ⟨hz, (by exact ⟨rfl, rfl⟩)⟩)
set_option maxHeartbeats 4000000 in
theorem mX0_set {l : Launch} {D : va_G} {h hB hN hW : Nat} {cB cN cW : ClassId} (fB : Nat → Int32) (fN : Nat → Bool) (fW : Nat → Int32) (z0 : Int32) (k0 : Int32) (v : Int32) : Ct (wX h hB hN hW cB cN cW) D vwCl (tX cB cN cW) l yX0_set cX0_set 5 .int { frames := 1, cells := 0, slots := 0, locals := 21 } [.ref h, .int z0, .int k0, .int v] (fB, fN, fW) (fun r u => inZ z0 (fun z => inC k0 (fun k => (0 ≤ v.toInt ∧ v.toInt ≤ 12 ∧ u = (if fN z then fB else stF fB z k v 4, fN, fW) ∧ r = lfI (fN z)) ∨ ((v.toInt < 0 ∨ 12 < v.toInt) ∧ r = (-3) ∧ u = (fB, fN, fW))) (r = (-2) ∧ u = (fB, fN, fW))) (r = (-1) ∧ u = (fB, fN, fW))) := by
  refine ct_entry wX_addr (by decide) (by simp [Value.category]) (Nat.le_of_ble_eq_true rfl) ⟨rfl, rfl⟩ ?_
  intro K O E
  show K 0 [some (.ref h), some (.int z0), some (.int k0), some (.int v), none] [] (fB, fN, fW)
  refine x_iload_n O dX0_set_0 rfl ?_
  refine callX0_isZone O ⟨Nat.le_of_ble_eq_true rfl, Nat.le_of_ble_eq_true rfl⟩ (Nat.le_of_ble_eq_true rfl) dX0_set_1 _ (fun r u hp => ?_)
  rcases hp with ⟨z, hz, rfl, rfl, rfl⟩ | ⟨hz, rfl, rfl⟩
  · refine x_if_neT O dX0_set_4 ?_
    refine x_iload_n O dX0_set_9 rfl ?_
    refine callX0_isClock O ⟨Nat.le_of_ble_eq_true rfl, Nat.le_of_ble_eq_true rfl⟩ (Nat.le_of_ble_eq_true rfl) dX0_set_10 _ (fun r u hp => ?_)
    rcases hp with ⟨k, hk, rfl, rfl, rfl⟩ | ⟨hk, rfl, rfl⟩
    · refine x_if_neT O dX0_set_13 ?_
      refine x_iload_n O dX0_set_19 rfl ?_
      refine x_if_lt O dX0_set_20 (fun c1 => ?_) (fun c1 => ?_)
      · refine x_bipush O dX0_set_29 kb_m3 ?_
        exact E _ _ _ _ _ dX0_set_31 rfl (Or.inl ⟨z, hz, rfl, (Or.inl ⟨k, hk, rfl, (by exact Or.inr ⟨by omega, rfl, rfl⟩)⟩)⟩)
      · refine x_iload_n O dX0_set_23 rfl ?_
        refine x_bipush O dX0_set_24 kb_12 ?_
        refine x_icmp_leK O dX0_set_26 (by omega) (fun c2 => ?_) (fun c2 => ?_)
        · rcases bool_tf (fN z) with hb | hb
          · refine x_iconst O dX0_set_32 kc_0 ?_
            refine x_istore [some (.ref h), some (.int (nI z)), some (.int (nI k)), some (.int v), some (.int (nI 0))] O dX0_set_33 rfl rfl ?_
            refine x_iload O dX0_set_35 rfl ?_
            refine x_iconst O dX0_set_37 kc_4 ?_
            refine x_icmp_geN O dX0_set_38 (by omega) (fun c3 => absurd c3 (by omega)) (fun c3 => ?_)
            refine x_aload_n O dX0_set_41 rfl ?_
            refine fX_N O dX0_set_42 ?_
            refine x_iload_n O dX0_set_45 rfl ?_
            refine ldN O (by omega) dX0_set_46 ?_
            refine x_top (congrArg zI hb) ?_
            refine x_if_neT O dX0_set_47 ?_
            refine x_aload_n O dX0_set_124 rfl ?_
            refine x_iload_n O dX0_set_125 rfl ?_
            refine callX0_left O ⟨Nat.le_of_ble_eq_true rfl, Nat.le_of_ble_eq_true rfl⟩ (Nat.le_of_ble_eq_true rfl) dX0_set_126 _ (by omega) (fun r u hp => ?_)
            obtain ⟨rfl, rfl⟩ := hp
            exact E _ _ _ _ _ dX0_set_129 rfl (Or.inl ⟨z, hz, rfl, (Or.inl ⟨k, hk, rfl, (by exact Or.inl ⟨by omega, by omega, by rw [if_pos hb], rfl⟩)⟩)⟩)
          · refine x_iconst O dX0_set_32 kc_0 ?_
            refine x_istore [some (.ref h), some (.int (nI z)), some (.int (nI k)), some (.int v), some (.int (nI 0))] O dX0_set_33 rfl rfl ?_
            have lp35 : ∀ (n j : Nat) (B1 : Nat → Int32), 4 - j = n → j ≤ 4 → B1 = stF fB z k v j → K 35 [some (.ref h), some (.int (nI z)), some (.int (nI k)), some (.int v), some (.int (nI j))] [] (B1, fN, fW) := by
              intro n
              induction n using Nat.strongRecOn with
              | _ n ih35 =>
                intro j B1 hn35 hk35 hB1
                refine x_iload O dX0_set_35 rfl ?_
                refine x_iconst O dX0_set_37 kc_4 ?_
                refine x_icmp_geN O dX0_set_38 (by omega) (fun c4 => ?_) (fun c4 => ?_)
                · obtain rfl : j = 4 := by omega
                  subst hB1
                  refine x_aload_n O dX0_set_124 rfl ?_
                  refine x_iload_n O dX0_set_125 rfl ?_
                  refine callX0_left O ⟨Nat.le_of_ble_eq_true rfl, Nat.le_of_ble_eq_true rfl⟩ (Nat.le_of_ble_eq_true rfl) dX0_set_126 _ (by omega) (fun r u hp => ?_)
                  obtain ⟨rfl, rfl⟩ := hp
                  exact E _ _ _ _ _ dX0_set_129 rfl (Or.inl ⟨z, hz, rfl, (Or.inl ⟨k, hk, rfl, (by exact Or.inl ⟨by omega, by omega, by rw [if_neg (by rw [hb]; exact Bool.false_ne_true)], rfl⟩)⟩)⟩)
                · refine x_aload_n O dX0_set_41 rfl ?_
                  refine fX_N O dX0_set_42 ?_
                  refine x_iload_n O dX0_set_45 rfl ?_
                  refine ldN O (by omega) dX0_set_46 ?_
                  refine x_top (congrArg zI hb) ?_
                  refine x_if_neF O dX0_set_47 ?_
                  refine x_iload O dX0_set_50 rfl ?_
                  refine x_iload_n O dX0_set_52 rfl ?_
                  refine x_icmp_eqN O dX0_set_53 (by omega) (fun c5 => ?_) (fun c5 => ?_)
                  · refine x_iincN [some (.ref h), some (.int (nI z)), some (.int (nI k)), some (.int v), some (.int (nI (j + 1)))] O dX0_set_118 rfl rfl ?_
                    refine x_goto O dX0_set_121 ?_
                    exact ih35 _ (by omega) (j + 1) _ rfl (by omega) (by exact stF_s1 hB1 c5)
                  · refine x_aload_n O dX0_set_56 rfl ?_
                    refine fX_B O dX0_set_57 ?_
                    refine x_bipush O dX0_set_60 kb_16 ?_
                    refine x_iload_n O dX0_set_62 rfl ?_
                    refine x_imulN O dX0_set_63 ?_
                    refine x_iconst O dX0_set_64 kc_4 ?_
                    refine x_iload_n O dX0_set_65 rfl ?_
                    refine x_imulN O dX0_set_66 ?_
                    refine x_iaddN O dX0_set_67 ?_
                    refine x_iload O dX0_set_68 rfl ?_
                    refine x_iaddN O dX0_set_70 ?_
                    refine x_iload_n O dX0_set_71 rfl ?_
                    refine x_aload_n O dX0_set_72 rfl ?_
                    refine fX_B O dX0_set_73 ?_
                    refine x_bipush O dX0_set_76 kb_16 ?_
                    refine x_iload_n O dX0_set_78 rfl ?_
                    refine x_imulN O dX0_set_79 ?_
                    refine x_iload O dX0_set_80 rfl ?_
                    refine x_iaddN O dX0_set_82 ?_
                    refine ldB O (by omega) dX0_set_83 ?_
                    refine x_iadd O dX0_set_84 ?_
                    refine stB O (by omega) dX0_set_85 ?_
                    refine x_aload_n O dX0_set_86 rfl ?_
                    refine fX_B O dX0_set_87 ?_
                    refine x_bipush O dX0_set_90 kb_16 ?_
                    refine x_iload_n O dX0_set_92 rfl ?_
                    refine x_imulN O dX0_set_93 ?_
                    refine x_iconst O dX0_set_94 kc_4 ?_
                    refine x_iload O dX0_set_95 rfl ?_
                    refine x_imulN O dX0_set_97 ?_
                    refine x_iaddN O dX0_set_98 ?_
                    refine x_iload_n O dX0_set_99 rfl ?_
                    refine x_iaddN O dX0_set_100 ?_
                    refine x_aload_n O dX0_set_101 rfl ?_
                    refine fX_B O dX0_set_102 ?_
                    refine x_bipush O dX0_set_105 kb_16 ?_
                    refine x_iload_n O dX0_set_107 rfl ?_
                    refine x_imulN O dX0_set_108 ?_
                    refine x_iconst O dX0_set_109 kc_4 ?_
                    refine x_iload O dX0_set_110 rfl ?_
                    refine x_imulN O dX0_set_112 ?_
                    refine x_iaddN O dX0_set_113 ?_
                    refine ldB O (by omega) dX0_set_114 ?_
                    refine x_iload_n O dX0_set_115 rfl ?_
                    refine x_isub O dX0_set_116 ?_
                    refine stB O (by omega) dX0_set_117 ?_
                    refine x_iincN [some (.ref h), some (.int (nI z)), some (.int (nI k)), some (.int v), some (.int (nI (j + 1)))] O dX0_set_118 rfl rfl ?_
                    refine x_goto O dX0_set_121 ?_
                    exact ih35 _ (by omega) (j + 1) _ rfl (by omega) (by exact stF_s2 hB1 c5)
            exact lp35 _ 0 _ rfl (by omega) (by rfl)
        · refine x_bipush O dX0_set_29 kb_m3 ?_
          exact E _ _ _ _ _ dX0_set_31 rfl (Or.inl ⟨z, hz, rfl, (Or.inl ⟨k, hk, rfl, (by exact Or.inr ⟨by omega, rfl, rfl⟩)⟩)⟩)
    · refine x_if_neF O dX0_set_13 ?_
      refine x_bipush O dX0_set_16 kb_m2 ?_
      exact E _ _ _ _ _ dX0_set_18 rfl (Or.inl ⟨z, hz, rfl, (Or.inr ⟨hk, (by exact ⟨rfl, rfl⟩)⟩)⟩)
  · refine x_if_neF O dX0_set_4 ?_
    refine x_iconst O dX0_set_7 kc_m1 ?_
    exact E _ _ _ _ _ dX0_set_8 rfl (Or.inr ⟨hz, (by exact ⟨rfl, rfl⟩)⟩)
set_option maxHeartbeats 4000000 in
theorem mX0_free {l : Launch} {D : va_G} {h hB hN hW : Nat} {cB cN cW : ClassId} (fB : Nat → Int32) (fN : Nat → Bool) (fW : Nat → Int32) (z0 : Int32) (k0 : Int32) : Ct (wX h hB hN hW cB cN cW) D vwCl (tX cB cN cW) l yX0_free cX0_free 4 .int { frames := 1, cells := 0, slots := 0, locals := 21 } [.ref h, .int z0, .int k0] (fB, fN, fW) (fun r u => inZ z0 (fun z => inC k0 (fun k => u = (if fN z then fB else frF fB z k 4, fN, fW) ∧ r = lfI (fN z)) (r = (-2) ∧ u = (fB, fN, fW))) (r = (-1) ∧ u = (fB, fN, fW))) := by
  refine ct_entry wX_addr (by decide) (by simp [Value.category]) (Nat.le_of_ble_eq_true rfl) ⟨rfl, rfl⟩ ?_
  intro K O E
  show K 0 [some (.ref h), some (.int z0), some (.int k0), none] [] (fB, fN, fW)
  refine x_iload_n O dX0_free_0 rfl ?_
  refine callX0_isZone O ⟨Nat.le_of_ble_eq_true rfl, Nat.le_of_ble_eq_true rfl⟩ (Nat.le_of_ble_eq_true rfl) dX0_free_1 _ (fun r u hp => ?_)
  rcases hp with ⟨z, hz, rfl, rfl, rfl⟩ | ⟨hz, rfl, rfl⟩
  · refine x_if_neT O dX0_free_4 ?_
    refine x_iload_n O dX0_free_9 rfl ?_
    refine callX0_isClock O ⟨Nat.le_of_ble_eq_true rfl, Nat.le_of_ble_eq_true rfl⟩ (Nat.le_of_ble_eq_true rfl) dX0_free_10 _ (fun r u hp => ?_)
    rcases hp with ⟨k, hk, rfl, rfl, rfl⟩ | ⟨hk, rfl, rfl⟩
    · refine x_if_neT O dX0_free_13 ?_
      rcases bool_tf (fN z) with hb | hb
      · refine x_iconst O dX0_free_19 kc_0 ?_
        refine x_istore_n [some (.ref h), some (.int (nI z)), some (.int (nI k)), some (.int (nI 0))] O dX0_free_20 rfl rfl ?_
        refine x_iload_n O dX0_free_21 rfl ?_
        refine x_iconst O dX0_free_22 kc_4 ?_
        refine x_icmp_geN O dX0_free_23 (by omega) (fun c1 => absurd c1 (by omega)) (fun c1 => ?_)
        refine x_aload_n O dX0_free_26 rfl ?_
        refine fX_N O dX0_free_27 ?_
        refine x_iload_n O dX0_free_30 rfl ?_
        refine ldN O (by omega) dX0_free_31 ?_
        refine x_top (congrArg zI hb) ?_
        refine x_if_neT O dX0_free_32 ?_
        refine x_aload_n O dX0_free_103 rfl ?_
        refine x_iload_n O dX0_free_104 rfl ?_
        refine callX0_left O ⟨Nat.le_of_ble_eq_true rfl, Nat.le_of_ble_eq_true rfl⟩ (Nat.le_of_ble_eq_true rfl) dX0_free_105 _ (by omega) (fun r u hp => ?_)
        obtain ⟨rfl, rfl⟩ := hp
        exact E _ _ _ _ _ dX0_free_108 rfl (Or.inl ⟨z, hz, rfl, (Or.inl ⟨k, hk, rfl, (by exact ⟨by rw [if_pos hb], rfl⟩)⟩)⟩)
      · refine x_iconst O dX0_free_19 kc_0 ?_
        refine x_istore_n [some (.ref h), some (.int (nI z)), some (.int (nI k)), some (.int (nI 0))] O dX0_free_20 rfl rfl ?_
        have lp21 : ∀ (n j : Nat) (B1 : Nat → Int32), 4 - j = n → j ≤ 4 → B1 = frF fB z k j → K 21 [some (.ref h), some (.int (nI z)), some (.int (nI k)), some (.int (nI j))] [] (B1, fN, fW) := by
          intro n
          induction n using Nat.strongRecOn with
          | _ n ih21 =>
            intro j B1 hn21 hk21 hB1
            refine x_iload_n O dX0_free_21 rfl ?_
            refine x_iconst O dX0_free_22 kc_4 ?_
            refine x_icmp_geN O dX0_free_23 (by omega) (fun c2 => ?_) (fun c2 => ?_)
            · obtain rfl : j = 4 := by omega
              subst hB1
              refine x_aload_n O dX0_free_103 rfl ?_
              refine x_iload_n O dX0_free_104 rfl ?_
              refine callX0_left O ⟨Nat.le_of_ble_eq_true rfl, Nat.le_of_ble_eq_true rfl⟩ (Nat.le_of_ble_eq_true rfl) dX0_free_105 _ (by omega) (fun r u hp => ?_)
              obtain ⟨rfl, rfl⟩ := hp
              exact E _ _ _ _ _ dX0_free_108 rfl (Or.inl ⟨z, hz, rfl, (Or.inl ⟨k, hk, rfl, (by exact ⟨by rw [if_neg (by rw [hb]; exact Bool.false_ne_true)], rfl⟩)⟩)⟩)
            · refine x_aload_n O dX0_free_26 rfl ?_
              refine fX_N O dX0_free_27 ?_
              refine x_iload_n O dX0_free_30 rfl ?_
              refine ldN O (by omega) dX0_free_31 ?_
              refine x_top (congrArg zI hb) ?_
              refine x_if_neF O dX0_free_32 ?_
              refine x_iload_n O dX0_free_35 rfl ?_
              refine x_iload_n O dX0_free_36 rfl ?_
              refine x_icmp_eqN O dX0_free_37 (by omega) (fun c3 => ?_) (fun c3 => ?_)
              · refine x_iincN [some (.ref h), some (.int (nI z)), some (.int (nI k)), some (.int (nI (j + 1)))] O dX0_free_97 rfl rfl ?_
                refine x_goto O dX0_free_100 ?_
                exact ih21 _ (by omega) (j + 1) _ rfl (by omega) (by exact frF_s1 hB1 c3)
              · refine x_aload_n O dX0_free_40 rfl ?_
                refine fX_B O dX0_free_41 ?_
                refine x_bipush O dX0_free_44 kb_16 ?_
                refine x_iload_n O dX0_free_46 rfl ?_
                refine x_imulN O dX0_free_47 ?_
                refine x_iconst O dX0_free_48 kc_4 ?_
                refine x_iload_n O dX0_free_49 rfl ?_
                refine x_imulN O dX0_free_50 ?_
                refine x_iaddN O dX0_free_51 ?_
                refine x_iload_n O dX0_free_52 rfl ?_
                refine x_iaddN O dX0_free_53 ?_
                refine x_bipush O dX0_free_54 kb_12 ?_
                refine x_aload_n O dX0_free_56 rfl ?_
                refine fX_B O dX0_free_57 ?_
                refine x_bipush O dX0_free_60 kb_16 ?_
                refine x_iload_n O dX0_free_62 rfl ?_
                refine x_imulN O dX0_free_63 ?_
                refine x_iload_n O dX0_free_64 rfl ?_
                refine x_iaddN O dX0_free_65 ?_
                refine ldB O (by omega) dX0_free_66 ?_
                refine x_iadd O dX0_free_67 ?_
                refine stB O (by omega) dX0_free_68 ?_
                refine x_aload_n O dX0_free_69 rfl ?_
                refine fX_B O dX0_free_70 ?_
                refine x_bipush O dX0_free_73 kb_16 ?_
                refine x_iload_n O dX0_free_75 rfl ?_
                refine x_imulN O dX0_free_76 ?_
                refine x_iconst O dX0_free_77 kc_4 ?_
                refine x_iload_n O dX0_free_78 rfl ?_
                refine x_imulN O dX0_free_79 ?_
                refine x_iaddN O dX0_free_80 ?_
                refine x_iload_n O dX0_free_81 rfl ?_
                refine x_iaddN O dX0_free_82 ?_
                refine x_aload_n O dX0_free_83 rfl ?_
                refine fX_B O dX0_free_84 ?_
                refine x_bipush O dX0_free_87 kb_16 ?_
                refine x_iload_n O dX0_free_89 rfl ?_
                refine x_imulN O dX0_free_90 ?_
                refine x_iconst O dX0_free_91 kc_4 ?_
                refine x_iload_n O dX0_free_92 rfl ?_
                refine x_imulN O dX0_free_93 ?_
                refine x_iaddN O dX0_free_94 ?_
                refine ldB O (by omega) dX0_free_95 ?_
                refine stB O (by omega) dX0_free_96 ?_
                refine x_iincN [some (.ref h), some (.int (nI z)), some (.int (nI k)), some (.int (nI (j + 1)))] O dX0_free_97 rfl rfl ?_
                refine x_goto O dX0_free_100 ?_
                exact ih21 _ (by omega) (j + 1) _ rfl (by omega) (by exact frF_s2 hB1 c3)
        exact lp21 _ 0 _ rfl (by omega) (by rfl)
    · refine x_if_neF O dX0_free_13 ?_
      refine x_bipush O dX0_free_16 kb_m2 ?_
      exact E _ _ _ _ _ dX0_free_18 rfl (Or.inl ⟨z, hz, rfl, (Or.inr ⟨hk, (by exact ⟨rfl, rfl⟩)⟩)⟩)
  · refine x_if_neF O dX0_free_4 ?_
    refine x_iconst O dX0_free_7 kc_m1 ?_
    exact E _ _ _ _ _ dX0_free_8 rfl (Or.inr ⟨hz, (by exact ⟨rfl, rfl⟩)⟩)
set_option maxHeartbeats 4000000 in
theorem mX0_follow {l : Launch} {D : va_G} {h hB hN hW : Nat} {cB cN cW : ClassId} (fB : Nat → Int32) (fN : Nat → Bool) (fW : Nat → Int32) (z0 : Int32) (i0 : Int32) (j0 : Int32) : Ct (wX h hB hN hW cB cN cW) D vwCl (tX cB cN cW) l yX0_follow cX0_follow 5 .int { frames := 1, cells := 0, slots := 0, locals := 21 } [.ref h, .int z0, .int i0, .int j0] (fB, fN, fW) (fun r u => inZ z0 (fun z => inC i0 (fun i => inC j0 (fun j => u = (if i ≠ j ∧ fN z = false then flF fB z i j 4 else fB, fN, fW) ∧ r = lfI (fN z)) (r = (-2) ∧ u = (fB, fN, fW))) (r = (-2) ∧ u = (fB, fN, fW))) (r = (-1) ∧ u = (fB, fN, fW))) := by
  refine ct_entry wX_addr (by decide) (by simp [Value.category]) (Nat.le_of_ble_eq_true rfl) ⟨rfl, rfl⟩ ?_
  intro K O E
  show K 0 [some (.ref h), some (.int z0), some (.int i0), some (.int j0), none] [] (fB, fN, fW)
  refine x_iload_n O dX0_follow_0 rfl ?_
  refine callX0_isZone O ⟨Nat.le_of_ble_eq_true rfl, Nat.le_of_ble_eq_true rfl⟩ (Nat.le_of_ble_eq_true rfl) dX0_follow_1 _ (fun r u hp => ?_)
  rcases hp with ⟨z, hz, rfl, rfl, rfl⟩ | ⟨hz, rfl, rfl⟩
  · refine x_if_neT O dX0_follow_4 ?_
    refine x_iload_n O dX0_follow_9 rfl ?_
    refine callX0_isClock O ⟨Nat.le_of_ble_eq_true rfl, Nat.le_of_ble_eq_true rfl⟩ (Nat.le_of_ble_eq_true rfl) dX0_follow_10 _ (fun r u hp => ?_)
    rcases hp with ⟨i, hi, rfl, rfl, rfl⟩ | ⟨hi, rfl, rfl⟩
    · refine x_if_eqT O dX0_follow_13 ?_
      refine x_iload_n O dX0_follow_16 rfl ?_
      refine callX0_isClock O ⟨Nat.le_of_ble_eq_true rfl, Nat.le_of_ble_eq_true rfl⟩ (Nat.le_of_ble_eq_true rfl) dX0_follow_17 _ (fun r u hp => ?_)
      rcases hp with ⟨j, hj, rfl, rfl, rfl⟩ | ⟨hj, rfl, rfl⟩
      · refine x_if_neT O dX0_follow_20 ?_
        refine x_iload_n O dX0_follow_26 rfl ?_
        refine x_iload_n O dX0_follow_27 rfl ?_
        refine x_icmp_eqN O dX0_follow_28 (by omega) (fun c1 => ?_) (fun c1 => ?_)
        · refine x_aload_n O dX0_follow_125 rfl ?_
          refine x_iload_n O dX0_follow_126 rfl ?_
          refine callX0_left O ⟨Nat.le_of_ble_eq_true rfl, Nat.le_of_ble_eq_true rfl⟩ (Nat.le_of_ble_eq_true rfl) dX0_follow_127 _ (by omega) (fun r u hp => ?_)
          obtain ⟨rfl, rfl⟩ := hp
          exact E _ _ _ _ _ dX0_follow_130 rfl (Or.inl ⟨z, hz, rfl, (Or.inl ⟨i, hi, rfl, (Or.inl ⟨j, hj, rfl, (by exact ⟨by rw [if_neg (fun q => q.1 c1)], rfl⟩)⟩)⟩)⟩)
        · refine x_aload_n O dX0_follow_31 rfl ?_
          refine fX_N O dX0_follow_32 ?_
          refine x_iload_n O dX0_follow_35 rfl ?_
          refine ldN O (by omega) dX0_follow_36 ?_
          refine x_if_neZ O dX0_follow_37 (fun c2 => ?_) (fun c2 => ?_)
          · refine x_aload_n O dX0_follow_125 rfl ?_
            refine x_iload_n O dX0_follow_126 rfl ?_
            refine callX0_left O ⟨Nat.le_of_ble_eq_true rfl, Nat.le_of_ble_eq_true rfl⟩ (Nat.le_of_ble_eq_true rfl) dX0_follow_127 _ (by omega) (fun r u hp => ?_)
            obtain ⟨rfl, rfl⟩ := hp
            exact E _ _ _ _ _ dX0_follow_130 rfl (Or.inl ⟨z, hz, rfl, (Or.inl ⟨i, hi, rfl, (Or.inl ⟨j, hj, rfl, (by exact ⟨by rw [if_neg (fun q => by rw [c2] at q; exact absurd q.2 (by decide))], rfl⟩)⟩)⟩)⟩)
          · refine x_iconst O dX0_follow_40 kc_0 ?_
            refine x_istore [some (.ref h), some (.int (nI z)), some (.int (nI i)), some (.int (nI j)), some (.int (nI 0))] O dX0_follow_41 rfl rfl ?_
            have lp43 : ∀ (n t : Nat) (B1 : Nat → Int32), 4 - t = n → t ≤ 4 → B1 = flF fB z i j t → K 43 [some (.ref h), some (.int (nI z)), some (.int (nI i)), some (.int (nI j)), some (.int (nI t))] [] (B1, fN, fW) := by
              intro n
              induction n using Nat.strongRecOn with
              | _ n ih43 =>
                intro t B1 hn43 hk43 hB1
                refine x_iload O dX0_follow_43 rfl ?_
                refine x_iconst O dX0_follow_45 kc_4 ?_
                refine x_icmp_geN O dX0_follow_46 (by omega) (fun c3 => ?_) (fun c3 => ?_)
                · obtain rfl : t = 4 := by omega
                  subst hB1
                  refine x_aload_n O dX0_follow_125 rfl ?_
                  refine x_iload_n O dX0_follow_126 rfl ?_
                  refine callX0_left O ⟨Nat.le_of_ble_eq_true rfl, Nat.le_of_ble_eq_true rfl⟩ (Nat.le_of_ble_eq_true rfl) dX0_follow_127 _ (by omega) (fun r u hp => ?_)
                  obtain ⟨rfl, rfl⟩ := hp
                  exact E _ _ _ _ _ dX0_follow_130 rfl (Or.inl ⟨z, hz, rfl, (Or.inl ⟨i, hi, rfl, (Or.inl ⟨j, hj, rfl, (by exact ⟨by rw [if_pos ⟨c1, c2⟩], rfl⟩)⟩)⟩)⟩)
                · refine x_iload O dX0_follow_49 rfl ?_
                  refine x_iload_n O dX0_follow_51 rfl ?_
                  refine x_icmp_eqN O dX0_follow_52 (by omega) (fun c4 => ?_) (fun c4 => ?_)
                  · refine x_iincN [some (.ref h), some (.int (nI z)), some (.int (nI i)), some (.int (nI j)), some (.int (nI (t + 1)))] O dX0_follow_119 rfl rfl ?_
                    refine x_goto O dX0_follow_122 ?_
                    exact ih43 _ (by omega) (t + 1) _ rfl (by omega) (by exact flF_s1 hB1 c4)
                  · refine x_aload_n O dX0_follow_55 rfl ?_
                    refine fX_B O dX0_follow_56 ?_
                    refine x_bipush O dX0_follow_59 kb_16 ?_
                    refine x_iload_n O dX0_follow_61 rfl ?_
                    refine x_imulN O dX0_follow_62 ?_
                    refine x_iconst O dX0_follow_63 kc_4 ?_
                    refine x_iload_n O dX0_follow_64 rfl ?_
                    refine x_imulN O dX0_follow_65 ?_
                    refine x_iaddN O dX0_follow_66 ?_
                    refine x_iload O dX0_follow_67 rfl ?_
                    refine x_iaddN O dX0_follow_69 ?_
                    refine x_aload_n O dX0_follow_70 rfl ?_
                    refine fX_B O dX0_follow_71 ?_
                    refine x_bipush O dX0_follow_74 kb_16 ?_
                    refine x_iload_n O dX0_follow_76 rfl ?_
                    refine x_imulN O dX0_follow_77 ?_
                    refine x_iconst O dX0_follow_78 kc_4 ?_
                    refine x_iload_n O dX0_follow_79 rfl ?_
                    refine x_imulN O dX0_follow_80 ?_
                    refine x_iaddN O dX0_follow_81 ?_
                    refine x_iload O dX0_follow_82 rfl ?_
                    refine x_iaddN O dX0_follow_84 ?_
                    refine ldB O (by omega) dX0_follow_85 ?_
                    refine stB O (by omega) dX0_follow_86 ?_
                    refine x_aload_n O dX0_follow_87 rfl ?_
                    refine fX_B O dX0_follow_88 ?_
                    refine x_bipush O dX0_follow_91 kb_16 ?_
                    refine x_iload_n O dX0_follow_93 rfl ?_
                    refine x_imulN O dX0_follow_94 ?_
                    refine x_iconst O dX0_follow_95 kc_4 ?_
                    refine x_iload O dX0_follow_96 rfl ?_
                    refine x_imulN O dX0_follow_98 ?_
                    refine x_iaddN O dX0_follow_99 ?_
                    refine x_iload_n O dX0_follow_100 rfl ?_
                    refine x_iaddN O dX0_follow_101 ?_
                    refine x_aload_n O dX0_follow_102 rfl ?_
                    refine fX_B O dX0_follow_103 ?_
                    refine x_bipush O dX0_follow_106 kb_16 ?_
                    refine x_iload_n O dX0_follow_108 rfl ?_
                    refine x_imulN O dX0_follow_109 ?_
                    refine x_iconst O dX0_follow_110 kc_4 ?_
                    refine x_iload O dX0_follow_111 rfl ?_
                    refine x_imulN O dX0_follow_113 ?_
                    refine x_iaddN O dX0_follow_114 ?_
                    refine x_iload_n O dX0_follow_115 rfl ?_
                    refine x_iaddN O dX0_follow_116 ?_
                    refine ldB O (by omega) dX0_follow_117 ?_
                    refine stB O (by omega) dX0_follow_118 ?_
                    refine x_iincN [some (.ref h), some (.int (nI z)), some (.int (nI i)), some (.int (nI j)), some (.int (nI (t + 1)))] O dX0_follow_119 rfl rfl ?_
                    refine x_goto O dX0_follow_122 ?_
                    exact ih43 _ (by omega) (t + 1) _ rfl (by omega) (by exact flF_s2 hB1 c4)
            exact lp43 _ 0 _ rfl (by omega) (by rfl)
      · refine x_if_neF O dX0_follow_20 ?_
        refine x_bipush O dX0_follow_23 kb_m2 ?_
        exact E _ _ _ _ _ dX0_follow_25 rfl (Or.inl ⟨z, hz, rfl, (Or.inl ⟨i, hi, rfl, (Or.inr ⟨hj, (by exact ⟨rfl, rfl⟩)⟩)⟩)⟩)
    · refine x_if_eqF O dX0_follow_13 ?_
      refine x_bipush O dX0_follow_23 kb_m2 ?_
      exact E _ _ _ _ _ dX0_follow_25 rfl (Or.inl ⟨z, hz, rfl, (Or.inr ⟨hi, (by exact ⟨rfl, rfl⟩)⟩)⟩)
  · refine x_if_neF O dX0_follow_4 ?_
    refine x_iconst O dX0_follow_7 kc_m1 ?_
    exact E _ _ _ _ _ dX0_follow_8 rfl (Or.inr ⟨hz, (by exact ⟨rfl, rfl⟩)⟩)
set_option maxHeartbeats 4000000 in
theorem mX0_meet {l : Launch} {D : va_G} {h hB hN hW : Nat} {cB cN cW : ClassId} (fB : Nat → Int32) (fN : Nat → Bool) (fW : Nat → Int32) (y0 : Int32) (z0 : Int32) : Ct (wX h hB hN hW cB cN cW) D vwCl (tX cB cN cW) l yX0_meet cX0_meet 5 .int { frames := 1, cells := 0, slots := 0, locals := 26 } [.ref h, .int y0, .int z0] (fB, fN, fW) (fun r u => inZ y0 (fun y => inZ z0 (fun z => u = (if fN y = true ∨ fN z = true then (fB, updB fN y true, fW) else clS (blk fB (16 * y) 16 (fun k => if (fB (16 * z + k)).toInt < (fB (16 * y + k)).toInt then fB (16 * z + k) else fB (16 * y + k))) (updB fN y false) fW y) ∧ r = lfI (u.2.1 y)) (r = (-1) ∧ u = (fB, fN, fW))) (r = (-1) ∧ u = (fB, fN, fW))) := by
  refine ct_entry wX_addr (by decide) (by simp [Value.category]) (Nat.le_of_ble_eq_true rfl) ⟨rfl, rfl⟩ ?_
  intro K O E
  show K 0 [some (.ref h), some (.int y0), some (.int z0), none, none] [] (fB, fN, fW)
  refine x_iload_n O dX0_meet_0 rfl ?_
  refine callX0_isZone O ⟨Nat.le_of_ble_eq_true rfl, Nat.le_of_ble_eq_true rfl⟩ (Nat.le_of_ble_eq_true rfl) dX0_meet_1 _ (fun r u hp => ?_)
  rcases hp with ⟨y, hy, rfl, rfl, rfl⟩ | ⟨hy, rfl, rfl⟩
  · refine x_if_eqT O dX0_meet_4 ?_
    refine x_iload_n O dX0_meet_7 rfl ?_
    refine callX0_isZone O ⟨Nat.le_of_ble_eq_true rfl, Nat.le_of_ble_eq_true rfl⟩ (Nat.le_of_ble_eq_true rfl) dX0_meet_8 _ (fun r u hp => ?_)
    rcases hp with ⟨z, hz, rfl, rfl, rfl⟩ | ⟨hz, rfl, rfl⟩
    · refine x_if_neT O dX0_meet_11 ?_
      refine x_aload_n O dX0_meet_16 rfl ?_
      refine fX_N O dX0_meet_17 ?_
      refine x_iload_n O dX0_meet_20 rfl ?_
      refine x_aload_n O dX0_meet_21 rfl ?_
      refine fX_N O dX0_meet_22 ?_
      refine x_iload_n O dX0_meet_25 rfl ?_
      refine ldN O (by omega) dX0_meet_26 ?_
      refine x_if_neZ O dX0_meet_27 (fun c1 => ?_) (fun c1 => ?_)
      · refine x_iconst O dX0_meet_39 kc_1 ?_
        refine x_goto O dX0_meet_40 ?_
        refine stN O (by omega) zI_1 dX0_meet_44 ?_
        refine x_aload_n O dX0_meet_45 rfl ?_
        refine fX_N O dX0_meet_46 ?_
        refine x_iload_n O dX0_meet_49 rfl ?_
        refine ldN O (by omega) dX0_meet_50 ?_
        refine x_top (congrArg zI (updB_self _ _ _)) ?_
        refine x_if_neT O dX0_meet_51 ?_
        refine x_aload_n O dX0_meet_129 rfl ?_
        refine x_iload_n O dX0_meet_130 rfl ?_
        refine callX0_left O ⟨Nat.le_of_ble_eq_true rfl, Nat.le_of_ble_eq_true rfl⟩ (Nat.le_of_ble_eq_true rfl) dX0_meet_131 _ (by omega) (fun r u hp => ?_)
        obtain ⟨rfl, rfl⟩ := hp
        exact E _ _ _ _ _ dX0_meet_134 rfl (Or.inl ⟨y, hy, rfl, (Or.inl ⟨z, hz, rfl, (by exact ⟨by rw [if_pos (Or.inl c1)], rfl⟩)⟩)⟩)
      · refine x_aload_n O dX0_meet_30 rfl ?_
        refine fX_N O dX0_meet_31 ?_
        refine x_iload_n O dX0_meet_34 rfl ?_
        refine ldN O (by omega) dX0_meet_35 ?_
        refine x_if_eqZ O dX0_meet_36 (fun c2 => ?_) (fun c2 => ?_)
        · refine x_iconst O dX0_meet_43 kc_0 ?_
          refine stN O (by omega) zI_0 dX0_meet_44 ?_
          refine x_aload_n O dX0_meet_45 rfl ?_
          refine fX_N O dX0_meet_46 ?_
          refine x_iload_n O dX0_meet_49 rfl ?_
          refine ldN O (by omega) dX0_meet_50 ?_
          refine x_top (congrArg zI (updB_self _ _ _)) ?_
          refine x_if_neF O dX0_meet_51 ?_
          refine x_iconst O dX0_meet_54 kc_0 ?_
          refine x_istore_n [some (.ref h), some (.int (nI y)), some (.int (nI z)), some (.int (nI 0)), none] O dX0_meet_55 rfl rfl ?_
          have lp56 : ∀ (n k : Nat) (B1 : Nat → Int32), 16 - k = n → k ≤ 16 → B1 = blk fB (16 * y) k (fun k => if (fB (16 * z + k)).toInt < (fB (16 * y + k)).toInt then fB (16 * z + k) else fB (16 * y + k)) → K 56 [some (.ref h), some (.int (nI y)), some (.int (nI z)), some (.int (nI k)), none] [] (B1, updB fN y false, fW) := by
            intro n
            induction n using Nat.strongRecOn with
            | _ n ih56 =>
              intro k B1 hn56 hk56 hB1
              refine x_iload_n O dX0_meet_56 rfl ?_
              refine x_bipush O dX0_meet_57 kb_16 ?_
              refine x_icmp_geN O dX0_meet_59 (by omega) (fun c3 => ?_) (fun c3 => ?_)
              · obtain rfl : k = 16 := by omega
                subst hB1
                refine x_aload_n O dX0_meet_124 rfl ?_
                refine x_iload_n O dX0_meet_125 rfl ?_
                refine callX0_close O ⟨Nat.le_of_ble_eq_true rfl, Nat.le_of_ble_eq_true rfl⟩ (Nat.le_of_ble_eq_true rfl) dX0_meet_126 _ (by omega) (fun u hp => ?_)
                subst hp
                refine x_aload_n O dX0_meet_129 rfl ?_
                refine x_iload_n O dX0_meet_130 rfl ?_
                refine callX0_left O ⟨Nat.le_of_ble_eq_true rfl, Nat.le_of_ble_eq_true rfl⟩ (Nat.le_of_ble_eq_true rfl) dX0_meet_131 _ (by omega) (fun r u hp => ?_)
                obtain ⟨rfl, rfl⟩ := hp
                exact E _ _ _ _ _ dX0_meet_134 rfl (Or.inl ⟨y, hy, rfl, (Or.inl ⟨z, hz, rfl, (by exact ⟨by rw [if_neg (by rw [c1, c2]; simp)]; rfl, rfl⟩)⟩)⟩)
              · refine x_aload_n O dX0_meet_62 rfl ?_
                refine fX_B O dX0_meet_63 ?_
                refine x_bipush O dX0_meet_66 kb_16 ?_
                refine x_iload_n O dX0_meet_68 rfl ?_
                refine x_imulN O dX0_meet_69 ?_
                refine x_iload_n O dX0_meet_70 rfl ?_
                refine x_iaddN O dX0_meet_71 ?_
                refine ldB O (by omega) dX0_meet_72 ?_
                refine x_istore [some (.ref h), some (.int (nI y)), some (.int (nI z)), some (.int (nI k)), some (.int (B1 (16 * z + k)))] O dX0_meet_73 rfl rfl ?_
                refine x_aload_n O dX0_meet_75 rfl ?_
                refine fX_B O dX0_meet_76 ?_
                refine x_bipush O dX0_meet_79 kb_16 ?_
                refine x_iload_n O dX0_meet_81 rfl ?_
                refine x_imulN O dX0_meet_82 ?_
                refine x_iload_n O dX0_meet_83 rfl ?_
                refine x_iaddN O dX0_meet_84 ?_
                refine x_iload O dX0_meet_85 rfl ?_
                refine x_aload_n O dX0_meet_87 rfl ?_
                refine fX_B O dX0_meet_88 ?_
                refine x_bipush O dX0_meet_91 kb_16 ?_
                refine x_iload_n O dX0_meet_93 rfl ?_
                refine x_imulN O dX0_meet_94 ?_
                refine x_iload_n O dX0_meet_95 rfl ?_
                refine x_iaddN O dX0_meet_96 ?_
                refine ldB O (by omega) dX0_meet_97 ?_
                refine x_icmp_ge O dX0_meet_98 (fun c4 => ?_) (fun c4 => ?_)
                · refine x_aload_n O dX0_meet_106 rfl ?_
                  refine fX_B O dX0_meet_107 ?_
                  refine x_bipush O dX0_meet_110 kb_16 ?_
                  refine x_iload_n O dX0_meet_112 rfl ?_
                  refine x_imulN O dX0_meet_113 ?_
                  refine x_iload_n O dX0_meet_114 rfl ?_
                  refine x_iaddN O dX0_meet_115 ?_
                  refine ldB O (by omega) dX0_meet_116 ?_
                  refine stB O (by omega) dX0_meet_117 ?_
                  refine x_iincN [some (.ref h), some (.int (nI y)), some (.int (nI z)), some (.int (nI (k + 1))), some (.int (B1 (16 * z + k)))] O dX0_meet_118 rfl rfl ?_
                  refine x_goto O dX0_meet_121 ?_
                  refine x_forget [some (.ref h), some (.int (nI y)), some (.int (nI z)), some (.int (nI (k + 1))), none] O ⟨rfl, rfl, rfl, rfl, trivial⟩ ?_
                  exact ih56 _ (by omega) (k + 1) _ rfl (by omega) (by rw [blk_at hB1 (t := 16 * y + k) (by omega), blk_at hB1 (t := 16 * z + k) (by omega)] at c4; exact blk_s hB1 (by rw [blk_at hB1 (by omega)]; exact (if_neg (by omega)).symm))
                · refine x_iload O dX0_meet_101 rfl ?_
                  refine x_goto O dX0_meet_103 ?_
                  refine stB O (by omega) dX0_meet_117 ?_
                  refine x_iincN [some (.ref h), some (.int (nI y)), some (.int (nI z)), some (.int (nI (k + 1))), some (.int (B1 (16 * z + k)))] O dX0_meet_118 rfl rfl ?_
                  refine x_goto O dX0_meet_121 ?_
                  refine x_forget [some (.ref h), some (.int (nI y)), some (.int (nI z)), some (.int (nI (k + 1))), none] O ⟨rfl, rfl, rfl, rfl, trivial⟩ ?_
                  exact ih56 _ (by omega) (k + 1) _ rfl (by omega) (by rw [blk_at hB1 (t := 16 * y + k) (by omega), blk_at hB1 (t := 16 * z + k) (by omega)] at c4; exact blk_s hB1 (by rw [blk_at hB1 (by omega)]; exact (if_pos c4).symm))
          exact lp56 _ 0 _ rfl (by omega) (by exact blk_0)
        · refine x_iconst O dX0_meet_39 kc_1 ?_
          refine x_goto O dX0_meet_40 ?_
          refine stN O (by omega) zI_1 dX0_meet_44 ?_
          refine x_aload_n O dX0_meet_45 rfl ?_
          refine fX_N O dX0_meet_46 ?_
          refine x_iload_n O dX0_meet_49 rfl ?_
          refine ldN O (by omega) dX0_meet_50 ?_
          refine x_top (congrArg zI (updB_self _ _ _)) ?_
          refine x_if_neT O dX0_meet_51 ?_
          refine x_aload_n O dX0_meet_129 rfl ?_
          refine x_iload_n O dX0_meet_130 rfl ?_
          refine callX0_left O ⟨Nat.le_of_ble_eq_true rfl, Nat.le_of_ble_eq_true rfl⟩ (Nat.le_of_ble_eq_true rfl) dX0_meet_131 _ (by omega) (fun r u hp => ?_)
          obtain ⟨rfl, rfl⟩ := hp
          exact E _ _ _ _ _ dX0_meet_134 rfl (Or.inl ⟨y, hy, rfl, (Or.inl ⟨z, hz, rfl, (by exact ⟨by rw [if_pos (Or.inr c2)], rfl⟩)⟩)⟩)
    · refine x_if_neF O dX0_meet_11 ?_
      refine x_iconst O dX0_meet_14 kc_m1 ?_
      exact E _ _ _ _ _ dX0_meet_15 rfl (Or.inl ⟨y, hy, rfl, (Or.inr ⟨hz, (by exact ⟨rfl, rfl⟩)⟩)⟩)
  · refine x_if_eqF O dX0_meet_4 ?_
    refine x_iconst O dX0_meet_14 kc_m1 ?_
    exact E _ _ _ _ _ dX0_meet_15 rfl (Or.inr ⟨hy, (by exact ⟨rfl, rfl⟩)⟩)
set_option maxHeartbeats 4000000 in
theorem mX0_copy {l : Launch} {D : va_G} {h hB hN hW : Nat} {cB cN cW : ClassId} (fB : Nat → Int32) (fN : Nat → Bool) (fW : Nat → Int32) (y0 : Int32) (z0 : Int32) : Ct (wX h hB hN hW cB cN cW) D vwCl (tX cB cN cW) l yX0_copy cX0_copy 4 .int { frames := 1, cells := 0, slots := 0, locals := 20 } [.ref h, .int y0, .int z0] (fB, fN, fW) (fun r u => inZ y0 (fun y => inZ z0 (fun z => r = nI 0 ∧ u = (blk fB (16 * y) 16 (fun k => fB (16 * z + k)), updB fN y (fN z), fW)) (r = (-1) ∧ u = (fB, fN, fW))) (r = (-1) ∧ u = (fB, fN, fW))) := by
  refine ct_entry wX_addr (by decide) (by simp [Value.category]) (Nat.le_of_ble_eq_true rfl) ⟨rfl, rfl⟩ ?_
  intro K O E
  show K 0 [some (.ref h), some (.int y0), some (.int z0), none] [] (fB, fN, fW)
  refine x_iload_n O dX0_copy_0 rfl ?_
  refine callX0_isZone O ⟨Nat.le_of_ble_eq_true rfl, Nat.le_of_ble_eq_true rfl⟩ (Nat.le_of_ble_eq_true rfl) dX0_copy_1 _ (fun r u hp => ?_)
  rcases hp with ⟨y, hy, rfl, rfl, rfl⟩ | ⟨hy, rfl, rfl⟩
  · refine x_if_eqT O dX0_copy_4 ?_
    refine x_iload_n O dX0_copy_7 rfl ?_
    refine callX0_isZone O ⟨Nat.le_of_ble_eq_true rfl, Nat.le_of_ble_eq_true rfl⟩ (Nat.le_of_ble_eq_true rfl) dX0_copy_8 _ (fun r u hp => ?_)
    rcases hp with ⟨z, hz, rfl, rfl, rfl⟩ | ⟨hz, rfl, rfl⟩
    · refine x_if_neT O dX0_copy_11 ?_
      refine x_aload_n O dX0_copy_16 rfl ?_
      refine fX_N O dX0_copy_17 ?_
      refine x_iload_n O dX0_copy_20 rfl ?_
      refine x_aload_n O dX0_copy_21 rfl ?_
      refine fX_N O dX0_copy_22 ?_
      refine x_iload_n O dX0_copy_25 rfl ?_
      refine ldN O (by omega) dX0_copy_26 ?_
      refine stN O (by omega) rfl dX0_copy_27 ?_
      refine x_iconst O dX0_copy_28 kc_0 ?_
      refine x_istore_n [some (.ref h), some (.int (nI y)), some (.int (nI z)), some (.int (nI 0))] O dX0_copy_29 rfl rfl ?_
      have lp30 : ∀ (n k : Nat) (B1 : Nat → Int32), 16 - k = n → k ≤ 16 → B1 = blk fB (16 * y) k (fun k => fB (16 * z + k)) → K 30 [some (.ref h), some (.int (nI y)), some (.int (nI z)), some (.int (nI k))] [] (B1, updB fN y (fN z), fW) := by
        intro n
        induction n using Nat.strongRecOn with
        | _ n ih30 =>
          intro k B1 hn30 hk30 hB1
          refine x_iload_n O dX0_copy_30 rfl ?_
          refine x_bipush O dX0_copy_31 kb_16 ?_
          refine x_icmp_geN O dX0_copy_33 (by omega) (fun c1 => ?_) (fun c1 => ?_)
          · obtain rfl : k = 16 := by omega
            subst hB1
            refine x_iconst O dX0_copy_64 kc_0 ?_
            exact E _ _ _ _ _ dX0_copy_65 rfl (Or.inl ⟨y, hy, rfl, (Or.inl ⟨z, hz, rfl, (by exact ⟨rfl, rfl⟩)⟩)⟩)
          · refine x_aload_n O dX0_copy_36 rfl ?_
            refine fX_B O dX0_copy_37 ?_
            refine x_bipush O dX0_copy_40 kb_16 ?_
            refine x_iload_n O dX0_copy_42 rfl ?_
            refine x_imulN O dX0_copy_43 ?_
            refine x_iload_n O dX0_copy_44 rfl ?_
            refine x_iaddN O dX0_copy_45 ?_
            refine x_aload_n O dX0_copy_46 rfl ?_
            refine fX_B O dX0_copy_47 ?_
            refine x_bipush O dX0_copy_50 kb_16 ?_
            refine x_iload_n O dX0_copy_52 rfl ?_
            refine x_imulN O dX0_copy_53 ?_
            refine x_iload_n O dX0_copy_54 rfl ?_
            refine x_iaddN O dX0_copy_55 ?_
            refine ldB O (by omega) dX0_copy_56 ?_
            refine stB O (by omega) dX0_copy_57 ?_
            refine x_iincN [some (.ref h), some (.int (nI y)), some (.int (nI z)), some (.int (nI (k + 1)))] O dX0_copy_58 rfl rfl ?_
            refine x_goto O dX0_copy_61 ?_
            exact ih30 _ (by omega) (k + 1) _ rfl (by omega) (by exact blk_s hB1 (blk_at hB1 (by omega)))
      exact lp30 _ 0 _ rfl (by omega) (by exact blk_0)
    · refine x_if_neF O dX0_copy_11 ?_
      refine x_iconst O dX0_copy_14 kc_m1 ?_
      exact E _ _ _ _ _ dX0_copy_15 rfl (Or.inl ⟨y, hy, rfl, (Or.inr ⟨hz, (by exact ⟨rfl, rfl⟩)⟩)⟩)
  · refine x_if_eqF O dX0_copy_4 ?_
    refine x_iconst O dX0_copy_14 kc_m1 ?_
    exact E _ _ _ _ _ dX0_copy_15 rfl (Or.inr ⟨hy, (by exact ⟨rfl, rfl⟩)⟩)
theorem callX0_copy {l : Launch} {D : va_G} {h hB hN hW : Nat} {cB cN cW : ClassId} {fB : Nat → Int32} {fN : Nat → Bool} {fW : Nat → Int32} {R : Room} {cc : ByteArray} {nL : Nat} {K : Nat → List (Option Value) → List Value → SX → Prop} {pc nx : Nat} {lv : List (Option Value)} {st : List Value} (O : MachX l R cc nL D h hB hN hW cB cN cW K) (hR : 1 + 1 ≤ R.frames ∧ 8 + (4 + 11) + 20 ≤ R.locals) (hst : (st.map fun v => v.category).sum ≤ 8) (d : Dc cc pc (.invokevirtual 50) 3 nx) (y0 : Int32) (z0 : Int32) (kont : ∀ r u, (inZ y0 (fun y => inZ z0 (fun z => r = nI 0 ∧ u = (blk fB (16 * y) 16 (fun k => fB (16 * z + k)), updB fN y (fN z), fW)) (r = (-1) ∧ u = (fB, fN, fW))) (r = (-1) ∧ u = (fB, fN, fW))) → K nx lv (.int r :: st) u) : K pc lv (.int z0 :: .int y0 :: .ref h :: st) (fB, fN, fW) :=
  x_callV (n := 2) O (mX0_copy fB fN fW y0 z0) (lw_V q117 q118 q119 q22 q120) ⟨rfl, rfl⟩ (by decide +kernel) rfl hR ⟨0, [.ref hB, .ref hN, .ref hW], (RX0, TX0, 3), rfl, rfl, rfl⟩ hst rfl d kont
set_option maxHeartbeats 4000000 in
theorem mX0_hull {l : Launch} {D : va_G} {h hB hN hW : Nat} {cB cN cW : ClassId} (fB : Nat → Int32) (fN : Nat → Bool) (fW : Nat → Int32) (y0 : Int32) (z0 : Int32) : Ct (wX h hB hN hW cB cN cW) D vwCl (tX cB cN cW) l yX0_hull cX0_hull 5 .int { frames := 2, cells := 0, slots := 0, locals := 43 } [.ref h, .int y0, .int z0] (fB, fN, fW) (fun r u => inZ y0 (fun y => inZ z0 (fun z => u = (if fN y then (blk fB (16 * y) 16 (fun k => fB (16 * z + k)), updB fN y (fN z), fW) else if fN z then (fB, fN, fW) else (blk fB (16 * y) 16 (fun k => if (fB (16 * y + k)).toInt < (fB (16 * z + k)).toInt then fB (16 * z + k) else fB (16 * y + k)), fN, fW)) ∧ r = lfI (u.2.1 y)) (r = (-1) ∧ u = (fB, fN, fW))) (r = (-1) ∧ u = (fB, fN, fW))) := by
  refine ct_entry wX_addr (by decide) (by simp [Value.category]) (Nat.le_of_ble_eq_true rfl) ⟨rfl, rfl⟩ ?_
  intro K O E
  show K 0 [some (.ref h), some (.int y0), some (.int z0), none, none] [] (fB, fN, fW)
  refine x_iload_n O dX0_hull_0 rfl ?_
  refine callX0_isZone O ⟨Nat.le_of_ble_eq_true rfl, Nat.le_of_ble_eq_true rfl⟩ (Nat.le_of_ble_eq_true rfl) dX0_hull_1 _ (fun r u hp => ?_)
  rcases hp with ⟨y, hy, rfl, rfl, rfl⟩ | ⟨hy, rfl, rfl⟩
  · refine x_if_eqT O dX0_hull_4 ?_
    refine x_iload_n O dX0_hull_7 rfl ?_
    refine callX0_isZone O ⟨Nat.le_of_ble_eq_true rfl, Nat.le_of_ble_eq_true rfl⟩ (Nat.le_of_ble_eq_true rfl) dX0_hull_8 _ (fun r u hp => ?_)
    rcases hp with ⟨z, hz, rfl, rfl, rfl⟩ | ⟨hz, rfl, rfl⟩
    · refine x_if_neT O dX0_hull_11 ?_
      refine x_aload_n O dX0_hull_16 rfl ?_
      refine fX_N O dX0_hull_17 ?_
      refine x_iload_n O dX0_hull_20 rfl ?_
      refine ldN O (by omega) dX0_hull_21 ?_
      refine x_if_eqZ O dX0_hull_22 (fun c1 => ?_) (fun c1 => ?_)
      · refine x_aload_n O dX0_hull_35 rfl ?_
        refine fX_N O dX0_hull_36 ?_
        refine x_iload_n O dX0_hull_39 rfl ?_
        refine ldN O (by omega) dX0_hull_40 ?_
        refine x_if_neZ O dX0_hull_41 (fun c2 => ?_) (fun c2 => ?_)
        · refine x_aload_n O dX0_hull_114 rfl ?_
          refine x_iload_n O dX0_hull_115 rfl ?_
          refine callX0_left O ⟨Nat.le_of_ble_eq_true rfl, Nat.le_of_ble_eq_true rfl⟩ (Nat.le_of_ble_eq_true rfl) dX0_hull_116 _ (by omega) (fun r u hp => ?_)
          obtain ⟨rfl, rfl⟩ := hp
          exact E _ _ _ _ _ dX0_hull_119 rfl (Or.inl ⟨y, hy, rfl, (Or.inl ⟨z, hz, rfl, (by exact ⟨by rw [if_neg (by rw [c1]; exact Bool.false_ne_true), if_pos c2], rfl⟩)⟩)⟩)
        · refine x_iconst O dX0_hull_44 kc_0 ?_
          refine x_istore_n [some (.ref h), some (.int (nI y)), some (.int (nI z)), some (.int (nI 0)), none] O dX0_hull_45 rfl rfl ?_
          have lp46 : ∀ (n k : Nat) (B1 : Nat → Int32), 16 - k = n → k ≤ 16 → B1 = blk fB (16 * y) k (fun k => if (fB (16 * y + k)).toInt < (fB (16 * z + k)).toInt then fB (16 * z + k) else fB (16 * y + k)) → K 46 [some (.ref h), some (.int (nI y)), some (.int (nI z)), some (.int (nI k)), none] [] (B1, fN, fW) := by
            intro n
            induction n using Nat.strongRecOn with
            | _ n ih46 =>
              intro k B1 hn46 hk46 hB1
              refine x_iload_n O dX0_hull_46 rfl ?_
              refine x_bipush O dX0_hull_47 kb_16 ?_
              refine x_icmp_geN O dX0_hull_49 (by omega) (fun c3 => ?_) (fun c3 => ?_)
              · obtain rfl : k = 16 := by omega
                subst hB1
                refine x_aload_n O dX0_hull_114 rfl ?_
                refine x_iload_n O dX0_hull_115 rfl ?_
                refine callX0_left O ⟨Nat.le_of_ble_eq_true rfl, Nat.le_of_ble_eq_true rfl⟩ (Nat.le_of_ble_eq_true rfl) dX0_hull_116 _ (by omega) (fun r u hp => ?_)
                obtain ⟨rfl, rfl⟩ := hp
                exact E _ _ _ _ _ dX0_hull_119 rfl (Or.inl ⟨y, hy, rfl, (Or.inl ⟨z, hz, rfl, (by exact ⟨by rw [if_neg (by rw [c1]; exact Bool.false_ne_true), if_neg (by rw [c2]; exact Bool.false_ne_true)], rfl⟩)⟩)⟩)
              · refine x_aload_n O dX0_hull_52 rfl ?_
                refine fX_B O dX0_hull_53 ?_
                refine x_bipush O dX0_hull_56 kb_16 ?_
                refine x_iload_n O dX0_hull_58 rfl ?_
                refine x_imulN O dX0_hull_59 ?_
                refine x_iload_n O dX0_hull_60 rfl ?_
                refine x_iaddN O dX0_hull_61 ?_
                refine ldB O (by omega) dX0_hull_62 ?_
                refine x_istore [some (.ref h), some (.int (nI y)), some (.int (nI z)), some (.int (nI k)), some (.int (B1 (16 * z + k)))] O dX0_hull_63 rfl rfl ?_
                refine x_aload_n O dX0_hull_65 rfl ?_
                refine fX_B O dX0_hull_66 ?_
                refine x_bipush O dX0_hull_69 kb_16 ?_
                refine x_iload_n O dX0_hull_71 rfl ?_
                refine x_imulN O dX0_hull_72 ?_
                refine x_iload_n O dX0_hull_73 rfl ?_
                refine x_iaddN O dX0_hull_74 ?_
                refine x_iload O dX0_hull_75 rfl ?_
                refine x_aload_n O dX0_hull_77 rfl ?_
                refine fX_B O dX0_hull_78 ?_
                refine x_bipush O dX0_hull_81 kb_16 ?_
                refine x_iload_n O dX0_hull_83 rfl ?_
                refine x_imulN O dX0_hull_84 ?_
                refine x_iload_n O dX0_hull_85 rfl ?_
                refine x_iaddN O dX0_hull_86 ?_
                refine ldB O (by omega) dX0_hull_87 ?_
                refine x_icmp_le O dX0_hull_88 (fun c4 => ?_) (fun c4 => ?_)
                · refine x_aload_n O dX0_hull_96 rfl ?_
                  refine fX_B O dX0_hull_97 ?_
                  refine x_bipush O dX0_hull_100 kb_16 ?_
                  refine x_iload_n O dX0_hull_102 rfl ?_
                  refine x_imulN O dX0_hull_103 ?_
                  refine x_iload_n O dX0_hull_104 rfl ?_
                  refine x_iaddN O dX0_hull_105 ?_
                  refine ldB O (by omega) dX0_hull_106 ?_
                  refine stB O (by omega) dX0_hull_107 ?_
                  refine x_iincN [some (.ref h), some (.int (nI y)), some (.int (nI z)), some (.int (nI (k + 1))), some (.int (B1 (16 * z + k)))] O dX0_hull_108 rfl rfl ?_
                  refine x_goto O dX0_hull_111 ?_
                  refine x_forget [some (.ref h), some (.int (nI y)), some (.int (nI z)), some (.int (nI (k + 1))), none] O ⟨rfl, rfl, rfl, rfl, trivial⟩ ?_
                  exact ih46 _ (by omega) (k + 1) _ rfl (by omega) (by rw [blk_at hB1 (t := 16 * y + k) (by omega), blk_at hB1 (t := 16 * z + k) (by omega)] at c4; exact blk_s hB1 (by rw [blk_at hB1 (by omega)]; exact (if_neg (by omega)).symm))
                · refine x_iload O dX0_hull_91 rfl ?_
                  refine x_goto O dX0_hull_93 ?_
                  refine stB O (by omega) dX0_hull_107 ?_
                  refine x_iincN [some (.ref h), some (.int (nI y)), some (.int (nI z)), some (.int (nI (k + 1))), some (.int (B1 (16 * z + k)))] O dX0_hull_108 rfl rfl ?_
                  refine x_goto O dX0_hull_111 ?_
                  refine x_forget [some (.ref h), some (.int (nI y)), some (.int (nI z)), some (.int (nI (k + 1))), none] O ⟨rfl, rfl, rfl, rfl, trivial⟩ ?_
                  exact ih46 _ (by omega) (k + 1) _ rfl (by omega) (by rw [blk_at hB1 (t := 16 * y + k) (by omega), blk_at hB1 (t := 16 * z + k) (by omega)] at c4; exact blk_s hB1 (by rw [blk_at hB1 (by omega)]; exact (if_pos c4).symm))
          exact lp46 _ 0 _ rfl (by omega) (by exact blk_0)
      · refine x_aload_n O dX0_hull_25 rfl ?_
        refine x_iload_n O dX0_hull_26 rfl ?_
        refine x_iload_n O dX0_hull_27 rfl ?_
        refine callX0_copy O ⟨Nat.le_of_ble_eq_true rfl, Nat.le_of_ble_eq_true rfl⟩ (Nat.le_of_ble_eq_true rfl) dX0_hull_28 _ _ (fun r u hp => ?_)
        obtain ⟨rfl, rfl⟩ := inZ_nI hz (inZ_nI hy hp)
        refine x_pop O dX0_hull_31 ?_
        refine x_goto O dX0_hull_32 ?_
        refine x_aload_n O dX0_hull_114 rfl ?_
        refine x_iload_n O dX0_hull_115 rfl ?_
        refine callX0_left O ⟨Nat.le_of_ble_eq_true rfl, Nat.le_of_ble_eq_true rfl⟩ (Nat.le_of_ble_eq_true rfl) dX0_hull_116 _ (by omega) (fun r u hp => ?_)
        obtain ⟨rfl, rfl⟩ := hp
        exact E _ _ _ _ _ dX0_hull_119 rfl (Or.inl ⟨y, hy, rfl, (Or.inl ⟨z, hz, rfl, (by exact ⟨by rw [if_pos c1], rfl⟩)⟩)⟩)
    · refine x_if_neF O dX0_hull_11 ?_
      refine x_iconst O dX0_hull_14 kc_m1 ?_
      exact E _ _ _ _ _ dX0_hull_15 rfl (Or.inl ⟨y, hy, rfl, (Or.inr ⟨hz, (by exact ⟨rfl, rfl⟩)⟩)⟩)
  · refine x_if_eqF O dX0_hull_4 ?_
    refine x_iconst O dX0_hull_14 kc_m1 ?_
    exact E _ _ _ _ _ dX0_hull_15 rfl (Or.inr ⟨hy, (by exact ⟨rfl, rfl⟩)⟩)
set_option maxHeartbeats 4000000 in
theorem mX0_empty {l : Launch} {D : va_G} {h hB hN hW : Nat} {cB cN cW : ClassId} (fB : Nat → Int32) (fN : Nat → Bool) (fW : Nat → Int32) (z0 : Int32) : Ct (wX h hB hN hW cB cN cW) D vwCl (tX cB cN cW) l yX0_empty cX0_empty 2 .int { frames := 1, cells := 0, slots := 0, locals := 20 } [.ref h, .int z0] (fB, fN, fW) (fun r u => inZ z0 (fun z => r = zI (fN z) ∧ u = (fB, fN, fW)) (r = (-1) ∧ u = (fB, fN, fW))) := by
  refine ct_entry wX_addr (by decide) (by simp [Value.category]) (Nat.le_of_ble_eq_true rfl) ⟨rfl, rfl⟩ ?_
  intro K O E
  show K 0 [some (.ref h), some (.int z0)] [] (fB, fN, fW)
  refine x_iload_n O dX0_empty_0 rfl ?_
  refine callX0_isZone O ⟨Nat.le_of_ble_eq_true rfl, Nat.le_of_ble_eq_true rfl⟩ (Nat.le_of_ble_eq_true rfl) dX0_empty_1 _ (fun r u hp => ?_)
  rcases hp with ⟨z, hz, rfl, rfl, rfl⟩ | ⟨hz, rfl, rfl⟩
  · refine x_if_neT O dX0_empty_4 ?_
    refine x_aload_n O dX0_empty_9 rfl ?_
    refine fX_N O dX0_empty_10 ?_
    refine x_iload_n O dX0_empty_13 rfl ?_
    refine ldN O (by omega) dX0_empty_14 ?_
    refine x_if_eqZ O dX0_empty_15 (fun c1 => ?_) (fun c1 => ?_)
    · refine x_iconst O dX0_empty_22 kc_0 ?_
      exact E _ _ _ _ _ dX0_empty_23 rfl (Or.inl ⟨z, hz, rfl, (by exact ⟨by rw [c1]; exact zI_0, rfl⟩)⟩)
    · refine x_iconst O dX0_empty_18 kc_1 ?_
      refine x_goto O dX0_empty_19 ?_
      exact E _ _ _ _ _ dX0_empty_23 rfl (Or.inl ⟨z, hz, rfl, (by exact ⟨by rw [c1]; exact zI_1, rfl⟩)⟩)
  · refine x_if_neF O dX0_empty_4 ?_
    refine x_iconst O dX0_empty_7 kc_m1 ?_
    exact E _ _ _ _ _ dX0_empty_8 rfl (Or.inr ⟨hz, (by exact ⟨rfl, rfl⟩)⟩)
set_option maxHeartbeats 4000000 in
theorem mX0_widest {l : Launch} {D : va_G} {h hB hN hW : Nat} {cB cN cW : ClassId} (fB : Nat → Int32) (fN : Nat → Bool) (fW : Nat → Int32) (z0 : Int32) (i0 : Int32) (j0 : Int32) : Ct (wX h hB hN hW cB cN cW) D vwCl (tX cB cN cW) l yX0_widest cX0_widest 4 .int { frames := 1, cells := 0, slots := 0, locals := 21 } [.ref h, .int z0, .int i0, .int j0] (fB, fN, fW) (fun r u => inZ z0 (fun z => inP i0 j0 (fun i j => r = (if fN z then (-300) else fB (16 * z + 4 * i + j)) ∧ u = (fB, fN, fW)) (r = (-200) ∧ u = (fB, fN, fW))) (r = (-100) ∧ u = (fB, fN, fW))) := by
  refine ct_entry wX_addr (by decide) (by simp [Value.category]) (Nat.le_of_ble_eq_true rfl) ⟨rfl, rfl⟩ ?_
  intro K O E
  show K 0 [some (.ref h), some (.int z0), some (.int i0), some (.int j0)] [] (fB, fN, fW)
  refine x_iload_n O dX0_widest_0 rfl ?_
  refine callX0_isZone O ⟨Nat.le_of_ble_eq_true rfl, Nat.le_of_ble_eq_true rfl⟩ (Nat.le_of_ble_eq_true rfl) dX0_widest_1 _ (fun r u hp => ?_)
  rcases hp with ⟨z, hz, rfl, rfl, rfl⟩ | ⟨hz, rfl, rfl⟩
  · refine x_if_neT O dX0_widest_4 ?_
    refine x_iload_n O dX0_widest_10 rfl ?_
    refine x_iload_n O dX0_widest_11 rfl ?_
    refine callX0_isPair O ⟨Nat.le_of_ble_eq_true rfl, Nat.le_of_ble_eq_true rfl⟩ (Nat.le_of_ble_eq_true rfl) dX0_widest_12 _ _ (fun r u hp => ?_)
    rcases hp with ⟨i, j, hij, rfl, rfl, rfl, rfl⟩ | ⟨hij, rfl, rfl⟩
    · refine x_if_neT O dX0_widest_15 ?_
      refine x_aload_n O dX0_widest_22 rfl ?_
      refine fX_N O dX0_widest_23 ?_
      refine x_iload_n O dX0_widest_26 rfl ?_
      refine ldN O (by omega) dX0_widest_27 ?_
      refine x_if_eqZ O dX0_widest_28 (fun c1 => ?_) (fun c1 => ?_)
      · refine x_aload_n O dX0_widest_37 rfl ?_
        refine fX_B O dX0_widest_38 ?_
        refine x_bipush O dX0_widest_41 kb_16 ?_
        refine x_iload_n O dX0_widest_43 rfl ?_
        refine x_imulN O dX0_widest_44 ?_
        refine x_iconst O dX0_widest_45 kc_4 ?_
        refine x_iload_n O dX0_widest_46 rfl ?_
        refine x_imulN O dX0_widest_47 ?_
        refine x_iaddN O dX0_widest_48 ?_
        refine x_iload_n O dX0_widest_49 rfl ?_
        refine x_iaddN O dX0_widest_50 ?_
        refine ldB O (by omega) dX0_widest_51 ?_
        exact E _ _ _ _ _ dX0_widest_52 rfl (Or.inl ⟨z, hz, rfl, (Or.inl ⟨i, j, hij, rfl, rfl, (by exact ⟨by rw [if_neg (by rw [c1]; exact Bool.false_ne_true)], rfl⟩)⟩)⟩)
      · refine x_sipush O dX0_widest_31 ks_m300 ?_
        refine x_goto O dX0_widest_34 ?_
        exact E _ _ _ _ _ dX0_widest_52 rfl (Or.inl ⟨z, hz, rfl, (Or.inl ⟨i, j, hij, rfl, rfl, (by exact ⟨by rw [if_pos c1], rfl⟩)⟩)⟩)
    · refine x_if_neF O dX0_widest_15 ?_
      refine x_sipush O dX0_widest_18 ks_m200 ?_
      exact E _ _ _ _ _ dX0_widest_21 rfl (Or.inl ⟨z, hz, rfl, (Or.inr ⟨hij, (by exact ⟨rfl, rfl⟩)⟩)⟩)
  · refine x_if_neF O dX0_widest_4 ?_
    refine x_bipush O dX0_widest_7 kb_m100 ?_
    exact E _ _ _ _ _ dX0_widest_9 rfl (Or.inr ⟨hz, (by exact ⟨rfl, rfl⟩)⟩)
set_option maxHeartbeats 4000000 in
theorem mX0_within {l : Launch} {D : va_G} {h hB hN hW : Nat} {cB cN cW : ClassId} (fB : Nat → Int32) (fN : Nat → Bool) (fW : Nat → Int32) (y0 : Int32) (z0 : Int32) : Ct (wX h hB hN hW cB cN cW) D vwCl (tX cB cN cW) l yX0_within cX0_within 4 .int { frames := 1, cells := 0, slots := 0, locals := 20 } [.ref h, .int y0, .int z0] (fB, fN, fW) (fun r u => inZ y0 (fun y => inZ z0 (fun z => u = (fB, fN, fW) ∧ (((fN y = true ∨ fN z = true) ∧ r = zI (fN y)) ∨ ((fN y = false ∧ fN z = false) ∧ ((r = nI 1 ∧ ∀ k, k < 16 → (fB (16 * y + k)).toInt ≤ (fB (16 * z + k)).toInt) ∨ (r = nI 0 ∧ ∃ k, k < 16 ∧ (fB (16 * z + k)).toInt < (fB (16 * y + k)).toInt))))) (r = (-1) ∧ u = (fB, fN, fW))) (r = (-1) ∧ u = (fB, fN, fW))) := by
  refine ct_entry wX_addr (by decide) (by simp [Value.category]) (Nat.le_of_ble_eq_true rfl) ⟨rfl, rfl⟩ ?_
  intro K O E
  show K 0 [some (.ref h), some (.int y0), some (.int z0), none] [] (fB, fN, fW)
  refine x_iload_n O dX0_within_0 rfl ?_
  refine callX0_isZone O ⟨Nat.le_of_ble_eq_true rfl, Nat.le_of_ble_eq_true rfl⟩ (Nat.le_of_ble_eq_true rfl) dX0_within_1 _ (fun r u hp => ?_)
  rcases hp with ⟨y, hy, rfl, rfl, rfl⟩ | ⟨hy, rfl, rfl⟩
  · refine x_if_eqT O dX0_within_4 ?_
    refine x_iload_n O dX0_within_7 rfl ?_
    refine callX0_isZone O ⟨Nat.le_of_ble_eq_true rfl, Nat.le_of_ble_eq_true rfl⟩ (Nat.le_of_ble_eq_true rfl) dX0_within_8 _ (fun r u hp => ?_)
    rcases hp with ⟨z, hz, rfl, rfl, rfl⟩ | ⟨hz, rfl, rfl⟩
    · refine x_if_neT O dX0_within_11 ?_
      refine x_aload_n O dX0_within_16 rfl ?_
      refine fX_N O dX0_within_17 ?_
      refine x_iload_n O dX0_within_20 rfl ?_
      refine ldN O (by omega) dX0_within_21 ?_
      refine x_if_neZ O dX0_within_22 (fun c1 => ?_) (fun c1 => ?_)
      · refine x_aload_n O dX0_within_34 rfl ?_
        refine fX_N O dX0_within_35 ?_
        refine x_iload_n O dX0_within_38 rfl ?_
        refine ldN O (by omega) dX0_within_39 ?_
        refine x_top (congrArg zI c1) ?_
        refine x_if_eqT O dX0_within_40 ?_
        refine x_iconst O dX0_within_43 kc_1 ?_
        refine x_goto O dX0_within_44 ?_
        exact E _ _ _ _ _ dX0_within_48 rfl (Or.inl ⟨y, hy, rfl, (Or.inl ⟨z, hz, rfl, (by exact ⟨rfl, Or.inl ⟨Or.inl c1, by rw [c1]; exact zI_1⟩⟩)⟩)⟩)
      · refine x_aload_n O dX0_within_25 rfl ?_
        refine fX_N O dX0_within_26 ?_
        refine x_iload_n O dX0_within_29 rfl ?_
        refine ldN O (by omega) dX0_within_30 ?_
        refine x_if_eqZ O dX0_within_31 (fun c2 => ?_) (fun c2 => ?_)
        · refine x_iconst O dX0_within_49 kc_0 ?_
          refine x_istore_n [some (.ref h), some (.int (nI y)), some (.int (nI z)), some (.int (nI 0))] O dX0_within_50 rfl rfl ?_
          have lp51 : ∀ (n k : Nat), 16 - k = n → k ≤ 16 → (∀ t, t < k → (fB (16 * y + t)).toInt ≤ (fB (16 * z + t)).toInt) → K 51 [some (.ref h), some (.int (nI y)), some (.int (nI z)), some (.int (nI k))] [] (fB, fN, fW) := by
            intro n
            induction n using Nat.strongRecOn with
            | _ n ih51 =>
              intro k hn51 hk51 hin
              refine x_iload_n O dX0_within_51 rfl ?_
              refine x_bipush O dX0_within_52 kb_16 ?_
              refine x_icmp_geN O dX0_within_54 (by omega) (fun c3 => ?_) (fun c3 => ?_)
              · obtain rfl : k = 16 := by omega
                refine x_iconst O dX0_within_90 kc_1 ?_
                exact E _ _ _ _ _ dX0_within_91 rfl (Or.inl ⟨y, hy, rfl, (Or.inl ⟨z, hz, rfl, (by exact ⟨rfl, Or.inr ⟨⟨c1, c2⟩, Or.inl ⟨rfl, hin⟩⟩⟩)⟩)⟩)
              · refine x_aload_n O dX0_within_57 rfl ?_
                refine fX_B O dX0_within_58 ?_
                refine x_bipush O dX0_within_61 kb_16 ?_
                refine x_iload_n O dX0_within_63 rfl ?_
                refine x_imulN O dX0_within_64 ?_
                refine x_iload_n O dX0_within_65 rfl ?_
                refine x_iaddN O dX0_within_66 ?_
                refine ldB O (by omega) dX0_within_67 ?_
                refine x_aload_n O dX0_within_68 rfl ?_
                refine fX_B O dX0_within_69 ?_
                refine x_bipush O dX0_within_72 kb_16 ?_
                refine x_iload_n O dX0_within_74 rfl ?_
                refine x_imulN O dX0_within_75 ?_
                refine x_iload_n O dX0_within_76 rfl ?_
                refine x_iaddN O dX0_within_77 ?_
                refine ldB O (by omega) dX0_within_78 ?_
                refine x_icmp_le O dX0_within_79 (fun c4 => ?_) (fun c4 => ?_)
                · refine x_iincN [some (.ref h), some (.int (nI y)), some (.int (nI z)), some (.int (nI (k + 1)))] O dX0_within_84 rfl rfl ?_
                  refine x_goto O dX0_within_87 ?_
                  exact ih51 _ (by omega) (k + 1) rfl (by omega) (by exact lt_s hin c4)
                · refine x_iconst O dX0_within_82 kc_0 ?_
                  exact E _ _ _ _ _ dX0_within_83 rfl (Or.inl ⟨y, hy, rfl, (Or.inl ⟨z, hz, rfl, (by exact ⟨rfl, Or.inr ⟨⟨c1, c2⟩, Or.inr ⟨rfl, k, c3, c4⟩⟩⟩)⟩)⟩)
          exact lp51 _ 0 rfl (by omega) (by intro t ht; omega)
        · refine x_aload_n O dX0_within_34 rfl ?_
          refine fX_N O dX0_within_35 ?_
          refine x_iload_n O dX0_within_38 rfl ?_
          refine ldN O (by omega) dX0_within_39 ?_
          refine x_top (congrArg zI c1) ?_
          refine x_if_eqF O dX0_within_40 ?_
          refine x_iconst O dX0_within_47 kc_0 ?_
          exact E _ _ _ _ _ dX0_within_48 rfl (Or.inl ⟨y, hy, rfl, (Or.inl ⟨z, hz, rfl, (by exact ⟨rfl, Or.inl ⟨Or.inr c2, by rw [c1]; exact zI_0⟩⟩)⟩)⟩)
    · refine x_if_neF O dX0_within_11 ?_
      refine x_iconst O dX0_within_14 kc_m1 ?_
      exact E _ _ _ _ _ dX0_within_15 rfl (Or.inl ⟨y, hy, rfl, (Or.inr ⟨hz, (by exact ⟨rfl, rfl⟩)⟩)⟩)
  · refine x_if_eqF O dX0_within_4 ?_
    refine x_iconst O dX0_within_14 kc_m1 ?_
    exact E _ _ _ _ _ dX0_within_15 rfl (Or.inr ⟨hy, (by exact ⟨rfl, rfl⟩)⟩)
set_option maxHeartbeats 4000000 in
theorem mX0_touch {l : Launch} {D : va_G} {h hB hN hW : Nat} {cB cN cW : ClassId} (fB : Nat → Int32) (fN : Nat → Bool) (fW : Nat → Int32) (y0 : Int32) (z0 : Int32) : Ct (wX h hB hN hW cB cN cW) D vwCl (tX cB cN cW) l yX0_touch cX0_touch 5 .int { frames := 1, cells := 0, slots := 0, locals := 27 } [.ref h, .int y0, .int z0] (fB, fN, fW) (fun r u => inZ y0 (fun y => inZ z0 (fun z => ((fN y = true ∨ fN z = true) ∧ r = nI 0 ∧ u = (fB, fN, fW)) ∨ ((fN y = false ∧ fN z = false) ∧ (∃ W, u = (fB, fN, W)) ∧ ((r = nI 1 ∧ ∀ t, t < 16 → nwOk (toIt fB y z t) (t / 4) (t % 4) (fB (16 * z + t)) = true) ∨ (r = nI 0 ∧ ∃ k, k < 16 ∧ (∀ t, t < k → nwOk (toIt fB y z t) (t / 4) (t % 4) (fB (16 * z + t)) = true) ∧ nwOk (toIt fB y z k) (k / 4) (k % 4) (fB (16 * z + k)) = false)))) (r = (-1) ∧ u = (fB, fN, fW))) (r = (-1) ∧ u = (fB, fN, fW))) := by
  refine ct_entry wX_addr (by decide) (by simp [Value.category]) (Nat.le_of_ble_eq_true rfl) ⟨rfl, rfl⟩ ?_
  intro K O E
  show K 0 [some (.ref h), some (.int y0), some (.int z0), none, none] [] (fB, fN, fW)
  refine x_iload_n O dX0_touch_0 rfl ?_
  refine callX0_isZone O ⟨Nat.le_of_ble_eq_true rfl, Nat.le_of_ble_eq_true rfl⟩ (Nat.le_of_ble_eq_true rfl) dX0_touch_1 _ (fun r u hp => ?_)
  rcases hp with ⟨y, hy, rfl, rfl, rfl⟩ | ⟨hy, rfl, rfl⟩
  · refine x_if_eqT O dX0_touch_4 ?_
    refine x_iload_n O dX0_touch_7 rfl ?_
    refine callX0_isZone O ⟨Nat.le_of_ble_eq_true rfl, Nat.le_of_ble_eq_true rfl⟩ (Nat.le_of_ble_eq_true rfl) dX0_touch_8 _ (fun r u hp => ?_)
    rcases hp with ⟨z, hz, rfl, rfl, rfl⟩ | ⟨hz, rfl, rfl⟩
    · refine x_if_neT O dX0_touch_11 ?_
      refine x_aload_n O dX0_touch_16 rfl ?_
      refine fX_N O dX0_touch_17 ?_
      refine x_iload_n O dX0_touch_20 rfl ?_
      refine ldN O (by omega) dX0_touch_21 ?_
      refine x_if_neZ O dX0_touch_22 (fun c1 => ?_) (fun c1 => ?_)
      · refine x_iconst O dX0_touch_34 kc_0 ?_
        exact E _ _ _ _ _ dX0_touch_35 rfl (Or.inl ⟨y, hy, rfl, (Or.inl ⟨z, hz, rfl, (by exact Or.inl ⟨Or.inl c1, rfl, rfl⟩)⟩)⟩)
      · refine x_aload_n O dX0_touch_25 rfl ?_
        refine fX_N O dX0_touch_26 ?_
        refine x_iload_n O dX0_touch_29 rfl ?_
        refine ldN O (by omega) dX0_touch_30 ?_
        refine x_if_eqZ O dX0_touch_31 (fun c2 => ?_) (fun c2 => ?_)
        · refine x_aload_n O dX0_touch_36 rfl ?_
          refine x_iload_n O dX0_touch_37 rfl ?_
          refine callX0_take O ⟨Nat.le_of_ble_eq_true rfl, Nat.le_of_ble_eq_true rfl⟩ (Nat.le_of_ble_eq_true rfl) dX0_touch_38 _ (by omega) (fun u hp => ?_)
          subst hp
          refine x_iconst O dX0_touch_41 kc_0 ?_
          refine x_istore_n [some (.ref h), some (.int (nI y)), some (.int (nI z)), some (.int (nI 0)), none] O dX0_touch_42 rfl rfl ?_
          have lp43 : ∀ (n k : Nat) (W1 : Nat → Int32), 16 - k = n → k ≤ 16 → W1 = toIt fB y z k → (∀ t, t < k → nwOk (toIt fB y z t) (t / 4) (t % 4) (fB (16 * z + t)) = true) → K 43 [some (.ref h), some (.int (nI y)), some (.int (nI z)), some (.int (nI k)), none] [] (fB, fN, W1) := by
            intro n
            induction n using Nat.strongRecOn with
            | _ n ih43 =>
              intro k W1 hn43 hk43 hW1 hin
              refine x_iload_n O dX0_touch_43 rfl ?_
              refine x_bipush O dX0_touch_44 kb_16 ?_
              refine x_icmp_geN O dX0_touch_46 (by omega) (fun c3 => ?_) (fun c3 => ?_)
              · obtain rfl : k = 16 := by omega
                subst hW1
                refine x_iconst O dX0_touch_85 kc_1 ?_
                exact E _ _ _ _ _ dX0_touch_86 rfl (Or.inl ⟨y, hy, rfl, (Or.inl ⟨z, hz, rfl, (by exact Or.inr ⟨⟨c1, c2⟩, ⟨_, rfl⟩, Or.inl ⟨rfl, hin⟩⟩)⟩)⟩)
              · refine x_aload_n O dX0_touch_49 rfl ?_
                refine x_iload_n O dX0_touch_50 rfl ?_
                refine x_iconst O dX0_touch_51 kc_4 ?_
                refine x_idivN O dX0_touch_52 (by omega) (by omega) ?_
                refine x_iload_n O dX0_touch_53 rfl ?_
                refine x_iconst O dX0_touch_54 kc_4 ?_
                refine x_iremN O dX0_touch_55 (by omega) (by omega) ?_
                refine x_aload_n O dX0_touch_56 rfl ?_
                refine fX_B O dX0_touch_57 ?_
                refine x_bipush O dX0_touch_60 kb_16 ?_
                refine x_iload_n O dX0_touch_62 rfl ?_
                refine x_imulN O dX0_touch_63 ?_
                refine x_iload_n O dX0_touch_64 rfl ?_
                refine x_iaddN O dX0_touch_65 ?_
                refine ldB O (by omega) dX0_touch_66 ?_
                refine callX0_narrow O ⟨Nat.le_of_ble_eq_true rfl, Nat.le_of_ble_eq_true rfl⟩ (Nat.le_of_ble_eq_true rfl) dX0_touch_67 _ _ (by omega) _ (fun r u hp => ?_)
                obtain ⟨rfl, rfl⟩ := hp
                refine x_istore [some (.ref h), some (.int (nI y)), some (.int (nI z)), some (.int (nI k)), some (.int (zI (nwOk W1 (k / 4) (k % 4) (fB (16 * z + k)))))] O dX0_touch_70 rfl rfl ?_
                refine x_iload O dX0_touch_72 rfl ?_
                refine x_if_neZ O dX0_touch_74 (fun c4 => ?_) (fun c4 => ?_)
                · refine x_iincN [some (.ref h), some (.int (nI y)), some (.int (nI z)), some (.int (nI (k + 1))), some (.int (zI (nwOk W1 (k / 4) (k % 4) (fB (16 * z + k)))))] O dX0_touch_79 rfl rfl ?_
                  refine x_goto O dX0_touch_82 ?_
                  refine x_forget [some (.ref h), some (.int (nI y)), some (.int (nI z)), some (.int (nI (k + 1))), none] O ⟨rfl, rfl, rfl, rfl, trivial⟩ ?_
                  exact ih43 _ (by omega) (k + 1) _ rfl (by omega) (by rw [hW1]; rfl) (by rw [hW1] at c4; exact lt_s hin c4)
                · refine x_iconst O dX0_touch_77 kc_0 ?_
                  exact E _ _ _ _ _ dX0_touch_78 rfl (Or.inl ⟨y, hy, rfl, (Or.inl ⟨z, hz, rfl, (by exact Or.inr ⟨⟨c1, c2⟩, ⟨_, rfl⟩, Or.inr ⟨rfl, k, c3, hin, by rw [← hW1]; exact c4⟩⟩)⟩)⟩)
          exact lp43 _ 0 _ rfl (by omega) (by rfl) (by intro t ht; omega)
        · refine x_iconst O dX0_touch_34 kc_0 ?_
          exact E _ _ _ _ _ dX0_touch_35 rfl (Or.inl ⟨y, hy, rfl, (Or.inl ⟨z, hz, rfl, (by exact Or.inl ⟨Or.inr c2, rfl, rfl⟩)⟩)⟩)
    · refine x_if_neF O dX0_touch_11 ?_
      refine x_iconst O dX0_touch_14 kc_m1 ?_
      exact E _ _ _ _ _ dX0_touch_15 rfl (Or.inl ⟨y, hy, rfl, (Or.inr ⟨hz, (by exact ⟨rfl, rfl⟩)⟩)⟩)
  · refine x_if_eqF O dX0_touch_4 ?_
    refine x_iconst O dX0_touch_14 kc_m1 ?_
    exact E _ _ _ _ _ dX0_touch_15 rfl (Or.inr ⟨hy, (by exact ⟨rfl, rfl⟩)⟩)
end
section
/-! has, size, next of ClockZones -/
set_option maxRecDepth 100000
def inBox (a b c : Int32) : Prop := (0 ≤ a.toInt ∧ a.toInt ≤ 12) ∧ (0 ≤ b.toInt ∧ b.toInt ≤ 12) ∧ 0 ≤ c.toInt ∧ c.toInt ≤ 12
/-- has: the three clocks fixed in turn -/
def hasB (W : Nat → Int32) (a b c : Int32) : Bool := fxOk W 1 a && (fxOk (fxW W 1 a) 2 b && fxOk (fxW (fxW W 1 a) 2 b) 3 c)
def mnV (x y : Int32) : Int32 := if x.toInt < y.toInt then x else y
def mxV (x y : Int32) : Int32 := if y.toInt < x.toInt then x else y
def spanHi (W : Nat → Int32) (a b : Int32) : Int32 := mnV (W 14 + b) (mnV (W 13 + a) (W 12))
def spanLo (W : Nat → Int32) (a b : Int32) : Int32 := mxV (b - W 11) (mxV (a - W 7) (-(W 3)))
def spanF (W : Nat → Int32) (a b : Int32) : Int32 := if (spanHi W a b).toInt < (spanLo W a b).toInt then nI 0 else spanHi W a b - spanLo W a b + nI 1
/-- a sum over lo .. n - 1, on top of s -/
def smJ (s : Int32) (g : Nat → Int32) (lo : Nat) : Nat → Int32
  | 0 => s
  | n + 1 => if lo ≤ n then smJ s g lo n + g n else smJ s g lo n
theorem smJ_lo {s : Int32} {g : Nat → Int32} {lo : Nat} : ∀ n, n ≤ lo → smJ s g lo n = s
  | 0, _ => rfl
  | n + 1, h => by rw [smJ, if_neg (by omega)]; exact smJ_lo n (by omega)
theorem smJ_s {s x : Int32} {g : Nat → Int32} {lo n : Nat} (h : x = smJ s g lo n) (hn : lo ≤ n) : x + g n = smJ s g lo (n + 1) := by rw [smJ, if_pos hn, h]
def rowS (fB : Nat → Int32) (z : Nat) (s : Int32) (a : Nat) : Int32 := smJ s (fun b => spanF (fxW (tkW fB z) 1 (nI a)) (nI a) (nI b)) (-(fxW (tkW fB z) 1 (nI a) 2)).toNatClampNeg ((fxW (tkW fB z) 1 (nI a) 8).toNatClampNeg + 1)
def szA (fB : Nat → Int32) (z lo : Nat) : Nat → Int32
  | 0 => nI 0
  | n + 1 => if lo ≤ n then rowS fB z (szA fB z lo n) n else szA fB z lo n
theorem szA_lo {fB : Nat → Int32} {z lo : Nat} : ∀ n, n ≤ lo → szA fB z lo n = nI 0
  | 0, _ => rfl
  | n + 1, h => by rw [szA, if_neg (by omega)]; exact szA_lo n (by omega)
/-- what size asks of the table, so that its loops are short -/
def szOk (fB : Nat → Int32) (z : Nat) : Prop := ∃ lo hi : Nat, lo ≤ hi ∧ hi ≤ 12 ∧ fB (16 * z + 1) = -nI lo ∧ fB (16 * z + 4) = nI hi ∧ ∀ a, lo ≤ a → a ≤ hi → ∃ lo2 hi2 : Nat, lo2 ≤ hi2 ∧ hi2 ≤ 12 ∧ fxW (tkW fB z) 1 (nI a) 2 = -nI lo2 ∧ fxW (tkW fB z) 1 (nI a) 8 = nI hi2
theorem nI_negneg (n : Nat) : - -nI n = nI n := by rw [Int32.neg_neg]
theorem szA_s {fB : Nat → Int32} {z lo a lo2 hi2 : Nat} {s1 s2 : Int32} (h : s1 = szA fB z lo a) (hl : lo ≤ a) (h2 : fxW (tkW fB z) 1 (nI a) 2 = -nI lo2) (h3 : fxW (tkW fB z) 1 (nI a) 8 = nI hi2) (hlo : lo2 ≤ hi2) (hhi : hi2 ≤ 12) (h4 : s2 = smJ s1 (fun b => spanF (fxW (tkW fB z) 1 (nI a)) (nI a) (nI b)) lo2 (hi2 + 1)) : s2 = szA fB z lo (a + 1) := by
  rw [szA, if_pos hl, rowS, h2, h3, nI_negneg, nI_clamp (by omega), nI_clamp (by omega), h4, h]
/-- the three searches of next -/
def ffR (fB : Nat → Int32) (z a b c : Nat) : Int32 :=
  if fxOk (tkW fB z) 1 (nI a) = true ∧ fxOk (fxW (tkW fB z) 1 (nI a)) 2 (nI b) = true ∧ nwOk (fxW (fxW (tkW fB z) 1 (nI a)) 2 (nI b)) 0 3 (-nI c) = true
  then nI (169 * a + 13 * b) - nwW (fxW (fxW (tkW fB z) 1 (nI a)) 2 (nI b)) 0 3 (-nI c) 3 else (-1)
def fsW (fB : Nat → Int32) (z a b : Nat) : Nat → Int32 := nwW (fxW (tkW fB z) 1 (nI a)) 0 2 (-nI b)
def fsR (fB : Nat → Int32) (z a b : Nat) : Int32 :=
  if fxOk (tkW fB z) 1 (nI a) = true ∧ b ≤ 12 ∧ nwOk (fxW (tkW fB z) 1 (nI a)) 0 2 (-nI b) = true
  then nI (169 * a) + nI 13 * (-(fsW fB z a b 2)) - fxW (fsW fB z a b) 2 (-(fsW fB z a b 2)) 3 else (-1)
def fbW (fB : Nat → Int32) (z a : Nat) : Nat → Int32 := nwW (tkW fB z) 0 1 (-nI a)
def fbW2 (fB : Nat → Int32) (z a : Nat) : Nat → Int32 := fxW (fbW fB z a) 1 (-(fbW fB z a 1))
def fbR (fB : Nat → Int32) (z a : Nat) : Int32 :=
  if a ≤ 12 ∧ nwOk (tkW fB z) 0 1 (-nI a) = true
  then nI 169 * (-(fbW fB z a 1)) + nI 13 * (-(fbW2 fB z a 2)) - fxW (fbW2 fB z a) 2 (-(fbW2 fB z a 2)) 3 else (-2)
def nxR (fB : Nat → Int32) (z f : Nat) : Int32 :=
  if 0 ≤ (ffR fB z (f / 169) (f / 13 % 13) (f % 13)).toInt then ffR fB z (f / 169) (f / 13 % 13) (f % 13)
  else if 0 ≤ (fsR fB z (f / 169) (f / 13 % 13 + 1)).toInt then fsR fB z (f / 169) (f / 13 % 13 + 1)
  else fbR fB z (f / 169 + 1)
end
section
set_option maxRecDepth 100000
set_option maxHeartbeats 4000000 in
theorem mX0_has {l : Launch} {D : va_G} {h hB hN hW : Nat} {cB cN cW : ClassId} (fB : Nat → Int32) (fN : Nat → Bool) (fW : Nat → Int32) (z0 : Int32) (a : Int32) (b : Int32) (c : Int32) : Ct (wX h hB hN hW cB cN cW) D vwCl (tX cB cN cW) l yX0_has cX0_has 9 .int { frames := 2, cells := 0, slots := 0, locals := 50 } [.ref h, .int z0, .int a, .int b, .int c] (fB, fN, fW) (fun r u => inZ z0 (fun z => (((fN z = true ∨ ¬ inBox a b c) ∧ r = nI 0) ∨ (fN z = false ∧ inBox a b c ∧ r = zI (hasB (tkW fB z) a b c))) ∧ ∃ W, u = (fB, fN, W)) (r = (-1) ∧ u = (fB, fN, fW))) := by
  refine ct_entry wX_addr (by decide) (by simp [Value.category]) (Nat.le_of_ble_eq_true rfl) ⟨rfl, rfl⟩ ?_
  intro K O E
  show K 0 [some (.ref h), some (.int z0), some (.int a), some (.int b), some (.int c), none, none, none, none] [] (fB, fN, fW)
  refine x_iload_n O dX0_has_0 rfl ?_
  refine callX0_isZone O ⟨Nat.le_of_ble_eq_true rfl, Nat.le_of_ble_eq_true rfl⟩ (Nat.le_of_ble_eq_true rfl) dX0_has_1 _ (fun r u hp => ?_)
  rcases hp with ⟨z, hz, rfl, rfl, rfl⟩ | ⟨hz, rfl, rfl⟩
  · refine x_if_neT O dX0_has_4 ?_
    refine x_iload_n O dX0_has_9 rfl ?_
    refine x_if_lt O dX0_has_10 (fun c1 => ?_) (fun c1 => ?_)
    · refine x_iconst O dX0_has_45 kc_0 ?_
      refine x_istore [some (.ref h), some (.int (nI z)), some (.int a), some (.int b), some (.int c), some (.int (nI 0)), none, none, none] O dX0_has_46 rfl rfl ?_
      refine x_aload_n O dX0_has_48 rfl ?_
      refine fX_N O dX0_has_49 ?_
      refine x_iload_n O dX0_has_52 rfl ?_
      refine ldN O (by omega) dX0_has_53 ?_
      refine x_if_neZ O dX0_has_54 (fun c2 => ?_) (fun c2 => ?_)
      · refine x_iconst O dX0_has_62 kc_0 ?_
        exact E _ _ _ _ _ dX0_has_63 rfl (Or.inl ⟨z, hz, rfl, (by exact ⟨Or.inl ⟨Or.inl c2, rfl⟩, _, rfl⟩)⟩)
      · refine x_iload O dX0_has_57 rfl ?_
        refine x_top zI_0 ?_
        refine x_if_neF O dX0_has_59 ?_
        refine x_iconst O dX0_has_62 kc_0 ?_
        exact E _ _ _ _ _ dX0_has_63 rfl (Or.inl ⟨z, hz, rfl, (by exact ⟨Or.inl ⟨Or.inr (fun q => by unfold inBox at q; omega), rfl⟩, _, rfl⟩)⟩)
    · refine x_iload_n O dX0_has_13 rfl ?_
      refine x_bipush O dX0_has_14 kb_12 ?_
      refine x_icmp_gtK O dX0_has_16 (by omega) (fun c3 => ?_) (fun c3 => ?_)
      · refine x_iconst O dX0_has_45 kc_0 ?_
        refine x_istore [some (.ref h), some (.int (nI z)), some (.int a), some (.int b), some (.int c), some (.int (nI 0)), none, none, none] O dX0_has_46 rfl rfl ?_
        refine x_aload_n O dX0_has_48 rfl ?_
        refine fX_N O dX0_has_49 ?_
        refine x_iload_n O dX0_has_52 rfl ?_
        refine ldN O (by omega) dX0_has_53 ?_
        refine x_if_neZ O dX0_has_54 (fun c4 => ?_) (fun c4 => ?_)
        · refine x_iconst O dX0_has_62 kc_0 ?_
          exact E _ _ _ _ _ dX0_has_63 rfl (Or.inl ⟨z, hz, rfl, (by exact ⟨Or.inl ⟨Or.inl c4, rfl⟩, _, rfl⟩)⟩)
        · refine x_iload O dX0_has_57 rfl ?_
          refine x_top zI_0 ?_
          refine x_if_neF O dX0_has_59 ?_
          refine x_iconst O dX0_has_62 kc_0 ?_
          exact E _ _ _ _ _ dX0_has_63 rfl (Or.inl ⟨z, hz, rfl, (by exact ⟨Or.inl ⟨Or.inr (fun q => by unfold inBox at q; omega), rfl⟩, _, rfl⟩)⟩)
      · refine x_iload_n O dX0_has_19 rfl ?_
        refine x_if_lt O dX0_has_20 (fun c5 => ?_) (fun c5 => ?_)
        · refine x_iconst O dX0_has_45 kc_0 ?_
          refine x_istore [some (.ref h), some (.int (nI z)), some (.int a), some (.int b), some (.int c), some (.int (nI 0)), none, none, none] O dX0_has_46 rfl rfl ?_
          refine x_aload_n O dX0_has_48 rfl ?_
          refine fX_N O dX0_has_49 ?_
          refine x_iload_n O dX0_has_52 rfl ?_
          refine ldN O (by omega) dX0_has_53 ?_
          refine x_if_neZ O dX0_has_54 (fun c6 => ?_) (fun c6 => ?_)
          · refine x_iconst O dX0_has_62 kc_0 ?_
            exact E _ _ _ _ _ dX0_has_63 rfl (Or.inl ⟨z, hz, rfl, (by exact ⟨Or.inl ⟨Or.inl c6, rfl⟩, _, rfl⟩)⟩)
          · refine x_iload O dX0_has_57 rfl ?_
            refine x_top zI_0 ?_
            refine x_if_neF O dX0_has_59 ?_
            refine x_iconst O dX0_has_62 kc_0 ?_
            exact E _ _ _ _ _ dX0_has_63 rfl (Or.inl ⟨z, hz, rfl, (by exact ⟨Or.inl ⟨Or.inr (fun q => by unfold inBox at q; omega), rfl⟩, _, rfl⟩)⟩)
        · refine x_iload_n O dX0_has_23 rfl ?_
          refine x_bipush O dX0_has_24 kb_12 ?_
          refine x_icmp_gtK O dX0_has_26 (by omega) (fun c7 => ?_) (fun c7 => ?_)
          · refine x_iconst O dX0_has_45 kc_0 ?_
            refine x_istore [some (.ref h), some (.int (nI z)), some (.int a), some (.int b), some (.int c), some (.int (nI 0)), none, none, none] O dX0_has_46 rfl rfl ?_
            refine x_aload_n O dX0_has_48 rfl ?_
            refine fX_N O dX0_has_49 ?_
            refine x_iload_n O dX0_has_52 rfl ?_
            refine ldN O (by omega) dX0_has_53 ?_
            refine x_if_neZ O dX0_has_54 (fun c8 => ?_) (fun c8 => ?_)
            · refine x_iconst O dX0_has_62 kc_0 ?_
              exact E _ _ _ _ _ dX0_has_63 rfl (Or.inl ⟨z, hz, rfl, (by exact ⟨Or.inl ⟨Or.inl c8, rfl⟩, _, rfl⟩)⟩)
            · refine x_iload O dX0_has_57 rfl ?_
              refine x_top zI_0 ?_
              refine x_if_neF O dX0_has_59 ?_
              refine x_iconst O dX0_has_62 kc_0 ?_
              exact E _ _ _ _ _ dX0_has_63 rfl (Or.inl ⟨z, hz, rfl, (by exact ⟨Or.inl ⟨Or.inr (fun q => by unfold inBox at q; omega), rfl⟩, _, rfl⟩)⟩)
          · refine x_iload O dX0_has_29 rfl ?_
            refine x_if_lt O dX0_has_31 (fun c9 => ?_) (fun c9 => ?_)
            · refine x_iconst O dX0_has_45 kc_0 ?_
              refine x_istore [some (.ref h), some (.int (nI z)), some (.int a), some (.int b), some (.int c), some (.int (nI 0)), none, none, none] O dX0_has_46 rfl rfl ?_
              refine x_aload_n O dX0_has_48 rfl ?_
              refine fX_N O dX0_has_49 ?_
              refine x_iload_n O dX0_has_52 rfl ?_
              refine ldN O (by omega) dX0_has_53 ?_
              refine x_if_neZ O dX0_has_54 (fun c10 => ?_) (fun c10 => ?_)
              · refine x_iconst O dX0_has_62 kc_0 ?_
                exact E _ _ _ _ _ dX0_has_63 rfl (Or.inl ⟨z, hz, rfl, (by exact ⟨Or.inl ⟨Or.inl c10, rfl⟩, _, rfl⟩)⟩)
              · refine x_iload O dX0_has_57 rfl ?_
                refine x_top zI_0 ?_
                refine x_if_neF O dX0_has_59 ?_
                refine x_iconst O dX0_has_62 kc_0 ?_
                exact E _ _ _ _ _ dX0_has_63 rfl (Or.inl ⟨z, hz, rfl, (by exact ⟨Or.inl ⟨Or.inr (fun q => by unfold inBox at q; omega), rfl⟩, _, rfl⟩)⟩)
            · refine x_iload O dX0_has_34 rfl ?_
              refine x_bipush O dX0_has_36 kb_12 ?_
              refine x_icmp_gtK O dX0_has_38 (by omega) (fun c11 => ?_) (fun c11 => ?_)
              · refine x_iconst O dX0_has_45 kc_0 ?_
                refine x_istore [some (.ref h), some (.int (nI z)), some (.int a), some (.int b), some (.int c), some (.int (nI 0)), none, none, none] O dX0_has_46 rfl rfl ?_
                refine x_aload_n O dX0_has_48 rfl ?_
                refine fX_N O dX0_has_49 ?_
                refine x_iload_n O dX0_has_52 rfl ?_
                refine ldN O (by omega) dX0_has_53 ?_
                refine x_if_neZ O dX0_has_54 (fun c12 => ?_) (fun c12 => ?_)
                · refine x_iconst O dX0_has_62 kc_0 ?_
                  exact E _ _ _ _ _ dX0_has_63 rfl (Or.inl ⟨z, hz, rfl, (by exact ⟨Or.inl ⟨Or.inl c12, rfl⟩, _, rfl⟩)⟩)
                · refine x_iload O dX0_has_57 rfl ?_
                  refine x_top zI_0 ?_
                  refine x_if_neF O dX0_has_59 ?_
                  refine x_iconst O dX0_has_62 kc_0 ?_
                  exact E _ _ _ _ _ dX0_has_63 rfl (Or.inl ⟨z, hz, rfl, (by exact ⟨Or.inl ⟨Or.inr (fun q => by unfold inBox at q; omega), rfl⟩, _, rfl⟩)⟩)
              · refine x_iconst O dX0_has_41 kc_1 ?_
                refine x_goto O dX0_has_42 ?_
                refine x_istore [some (.ref h), some (.int (nI z)), some (.int a), some (.int b), some (.int c), some (.int (nI 1)), none, none, none] O dX0_has_46 rfl rfl ?_
                refine x_aload_n O dX0_has_48 rfl ?_
                refine fX_N O dX0_has_49 ?_
                refine x_iload_n O dX0_has_52 rfl ?_
                refine ldN O (by omega) dX0_has_53 ?_
                refine x_if_neZ O dX0_has_54 (fun c13 => ?_) (fun c13 => ?_)
                · refine x_iconst O dX0_has_62 kc_0 ?_
                  exact E _ _ _ _ _ dX0_has_63 rfl (Or.inl ⟨z, hz, rfl, (by exact ⟨Or.inl ⟨Or.inl c13, rfl⟩, _, rfl⟩)⟩)
                · refine x_iload O dX0_has_57 rfl ?_
                  refine x_top zI_1 ?_
                  refine x_if_neT O dX0_has_59 ?_
                  refine x_aload_n O dX0_has_64 rfl ?_
                  refine x_iload_n O dX0_has_65 rfl ?_
                  refine callX0_take O ⟨Nat.le_of_ble_eq_true rfl, Nat.le_of_ble_eq_true rfl⟩ (Nat.le_of_ble_eq_true rfl) dX0_has_66 _ (by omega) (fun u hp => ?_)
                  subst hp
                  refine x_aload_n O dX0_has_69 rfl ?_
                  refine x_iconst O dX0_has_70 kc_1 ?_
                  refine x_iload_n O dX0_has_71 rfl ?_
                  refine callX0_fix O ⟨Nat.le_of_ble_eq_true rfl, Nat.le_of_ble_eq_true rfl⟩ (Nat.le_of_ble_eq_true rfl) dX0_has_72 _ (by omega) _ (fun r u hp => ?_)
                  obtain ⟨rfl, rfl⟩ := hp
                  refine x_istore [some (.ref h), some (.int (nI z)), some (.int a), some (.int b), some (.int c), some (.int (nI 1)), some (.int (zI (fxOk (tkW fB z) 1 a))), none, none] O dX0_has_75 rfl rfl ?_
                  refine x_iload O dX0_has_77 rfl ?_
                  refine x_if_eqZ O dX0_has_79 (fun c14 => ?_) (fun c14 => ?_)
                  · refine x_iconst O dX0_has_95 kc_0 ?_
                    refine x_istore [some (.ref h), some (.int (nI z)), some (.int a), some (.int b), some (.int c), some (.int (nI 1)), some (.int (zI (fxOk (tkW fB z) 1 a))), some (.int (nI 0)), none] O dX0_has_96 rfl rfl ?_
                    refine x_iload O dX0_has_98 rfl ?_
                    refine x_top zI_0 ?_
                    refine x_if_eqF O dX0_has_100 ?_
                    refine x_iconst O dX0_has_117 kc_0 ?_
                    refine x_istore [some (.ref h), some (.int (nI z)), some (.int a), some (.int b), some (.int c), some (.int (nI 1)), some (.int (zI (fxOk (tkW fB z) 1 a))), some (.int (nI 0)), some (.int (nI 0))] O dX0_has_118 rfl rfl ?_
                    refine x_iload O dX0_has_120 rfl ?_
                    refine x_top zI_0 ?_
                    refine x_if_eqF O dX0_has_122 ?_
                    refine x_iconst O dX0_has_129 kc_0 ?_
                    exact E _ _ _ _ _ dX0_has_130 rfl (Or.inl ⟨z, hz, rfl, (by exact ⟨Or.inr ⟨c13, by unfold inBox; omega, by unfold hasB; rw [c14]; exact zI_0⟩, _, rfl⟩)⟩)
                  · refine x_aload_n O dX0_has_82 rfl ?_
                    refine x_iconst O dX0_has_83 kc_2 ?_
                    refine x_iload_n O dX0_has_84 rfl ?_
                    refine callX0_fix O ⟨Nat.le_of_ble_eq_true rfl, Nat.le_of_ble_eq_true rfl⟩ (Nat.le_of_ble_eq_true rfl) dX0_has_85 _ (by omega) _ (fun r u hp => ?_)
                    obtain ⟨rfl, rfl⟩ := hp
                    refine x_if_eqZ O dX0_has_88 (fun c15 => ?_) (fun c15 => ?_)
                    · refine x_iconst O dX0_has_95 kc_0 ?_
                      refine x_istore [some (.ref h), some (.int (nI z)), some (.int a), some (.int b), some (.int c), some (.int (nI 1)), some (.int (zI (fxOk (tkW fB z) 1 a))), some (.int (nI 0)), none] O dX0_has_96 rfl rfl ?_
                      refine x_iload O dX0_has_98 rfl ?_
                      refine x_top zI_0 ?_
                      refine x_if_eqF O dX0_has_100 ?_
                      refine x_iconst O dX0_has_117 kc_0 ?_
                      refine x_istore [some (.ref h), some (.int (nI z)), some (.int a), some (.int b), some (.int c), some (.int (nI 1)), some (.int (zI (fxOk (tkW fB z) 1 a))), some (.int (nI 0)), some (.int (nI 0))] O dX0_has_118 rfl rfl ?_
                      refine x_iload O dX0_has_120 rfl ?_
                      refine x_top zI_0 ?_
                      refine x_if_eqF O dX0_has_122 ?_
                      refine x_iconst O dX0_has_129 kc_0 ?_
                      exact E _ _ _ _ _ dX0_has_130 rfl (Or.inl ⟨z, hz, rfl, (by exact ⟨Or.inr ⟨c13, by unfold inBox; omega, by unfold hasB; rw [c14, c15]; exact zI_0⟩, _, rfl⟩)⟩)
                    · refine x_iconst O dX0_has_91 kc_1 ?_
                      refine x_goto O dX0_has_92 ?_
                      refine x_istore [some (.ref h), some (.int (nI z)), some (.int a), some (.int b), some (.int c), some (.int (nI 1)), some (.int (zI (fxOk (tkW fB z) 1 a))), some (.int (nI 1)), none] O dX0_has_96 rfl rfl ?_
                      refine x_iload O dX0_has_98 rfl ?_
                      refine x_top zI_1 ?_
                      refine x_if_eqT O dX0_has_100 ?_
                      refine x_aload_n O dX0_has_103 rfl ?_
                      refine x_iconst O dX0_has_104 kc_3 ?_
                      refine x_iload O dX0_has_105 rfl ?_
                      refine callX0_fix O ⟨Nat.le_of_ble_eq_true rfl, Nat.le_of_ble_eq_true rfl⟩ (Nat.le_of_ble_eq_true rfl) dX0_has_107 _ (by omega) _ (fun r u hp => ?_)
                      obtain ⟨rfl, rfl⟩ := hp
                      refine x_if_eqZ O dX0_has_110 (fun c16 => ?_) (fun c16 => ?_)
                      · refine x_iconst O dX0_has_117 kc_0 ?_
                        refine x_istore [some (.ref h), some (.int (nI z)), some (.int a), some (.int b), some (.int c), some (.int (nI 1)), some (.int (zI (fxOk (tkW fB z) 1 a))), some (.int (nI 1)), some (.int (nI 0))] O dX0_has_118 rfl rfl ?_
                        refine x_iload O dX0_has_120 rfl ?_
                        refine x_top zI_0 ?_
                        refine x_if_eqF O dX0_has_122 ?_
                        refine x_iconst O dX0_has_129 kc_0 ?_
                        exact E _ _ _ _ _ dX0_has_130 rfl (Or.inl ⟨z, hz, rfl, (by exact ⟨Or.inr ⟨c13, by unfold inBox; omega, by unfold hasB; rw [c14, c15, c16]; exact zI_0⟩, _, rfl⟩)⟩)
                      · refine x_iconst O dX0_has_113 kc_1 ?_
                        refine x_goto O dX0_has_114 ?_
                        refine x_istore [some (.ref h), some (.int (nI z)), some (.int a), some (.int b), some (.int c), some (.int (nI 1)), some (.int (zI (fxOk (tkW fB z) 1 a))), some (.int (nI 1)), some (.int (nI 1))] O dX0_has_118 rfl rfl ?_
                        refine x_iload O dX0_has_120 rfl ?_
                        refine x_top zI_1 ?_
                        refine x_if_eqT O dX0_has_122 ?_
                        refine x_iconst O dX0_has_125 kc_1 ?_
                        refine x_goto O dX0_has_126 ?_
                        exact E _ _ _ _ _ dX0_has_130 rfl (Or.inl ⟨z, hz, rfl, (by exact ⟨Or.inr ⟨c13, by unfold inBox; omega, by unfold hasB; rw [c14, c15, c16]; exact zI_1⟩, _, rfl⟩)⟩)
  · refine x_if_neF O dX0_has_4 ?_
    refine x_iconst O dX0_has_7 kc_m1 ?_
    exact E _ _ _ _ _ dX0_has_8 rfl (Or.inr ⟨hz, (by exact ⟨rfl, rfl⟩)⟩)
set_option maxHeartbeats 4000000 in
theorem mX0_spanFor {l : Launch} {D : va_G} {h hB hN hW : Nat} {cB cN cW : ClassId} (fB : Nat → Int32) (fN : Nat → Bool) (fW : Nat → Int32) (a : Int32) (b : Int32) : Ct (wX h hB hN hW cB cN cW) D vwCl (tX cB cN cW) l yX0_spanFor cX0_spanFor 9 .int { frames := 0, cells := 0, slots := 0, locals := 0 } [.ref h, .int a, .int b] (fB, fN, fW) (fun r u => r = spanF fW a b ∧ u = (fB, fN, fW)) := by
  refine ct_entry wX_addr (by decide) (by simp [Value.category]) (Nat.le_of_ble_eq_true rfl) ⟨rfl, rfl⟩ ?_
  intro K O E
  show K 0 [some (.ref h), some (.int a), some (.int b), none, none, none, none, none, none] [] (fB, fN, fW)
  refine x_aload_n O dX0_spanFor_0 rfl ?_
  refine fX_W O dX0_spanFor_1 ?_
  refine x_bipush O dX0_spanFor_4 kb_12 ?_
  refine ldW O (by omega) dX0_spanFor_6 ?_
  refine x_istore_n [some (.ref h), some (.int a), some (.int b), some (.int (fW 12)), none, none, none, none, none] O dX0_spanFor_7 rfl rfl ?_
  refine x_aload_n O dX0_spanFor_8 rfl ?_
  refine fX_W O dX0_spanFor_9 ?_
  refine x_bipush O dX0_spanFor_12 kb_13 ?_
  refine ldW O (by omega) dX0_spanFor_14 ?_
  refine x_iload_n O dX0_spanFor_15 rfl ?_
  refine x_iadd O dX0_spanFor_16 ?_
  refine x_istore [some (.ref h), some (.int a), some (.int b), some (.int (fW 12)), some (.int (fW 13 + a)), none, none, none, none] O dX0_spanFor_17 rfl rfl ?_
  refine x_aload_n O dX0_spanFor_19 rfl ?_
  refine fX_W O dX0_spanFor_20 ?_
  refine x_bipush O dX0_spanFor_23 kb_14 ?_
  refine ldW O (by omega) dX0_spanFor_25 ?_
  refine x_iload_n O dX0_spanFor_26 rfl ?_
  refine x_iadd O dX0_spanFor_27 ?_
  refine x_istore [some (.ref h), some (.int a), some (.int b), some (.int (fW 12)), some (.int (fW 13 + a)), some (.int (fW 14 + b)), none, none, none] O dX0_spanFor_28 rfl rfl ?_
  refine x_iload O dX0_spanFor_30 rfl ?_
  refine x_iload_n O dX0_spanFor_32 rfl ?_
  have mg2 : ∀ v : Int32, v = mnV (fW 13 + a) (fW 12) → K 42 [some (.ref h), some (.int a), some (.int b), some (.int (fW 12)), some (.int (fW 13 + a)), some (.int (fW 14 + b)), none, none, none] [.int v] (fB, fN, fW) := by
    intro v hv
    subst hv
    refine x_istore_n [some (.ref h), some (.int a), some (.int b), some (.int (mnV (fW 13 + a) (fW 12))), some (.int (fW 13 + a)), some (.int (fW 14 + b)), none, none, none] O dX0_spanFor_42 rfl rfl ?_
    refine x_iload O dX0_spanFor_43 rfl ?_
    refine x_iload_n O dX0_spanFor_45 rfl ?_
    have mg4 : ∀ v : Int32, v = mnV (fW 14 + b) (mnV (fW 13 + a) (fW 12)) → K 55 [some (.ref h), some (.int a), some (.int b), some (.int (mnV (fW 13 + a) (fW 12))), some (.int (fW 13 + a)), some (.int (fW 14 + b)), none, none, none] [.int v] (fB, fN, fW) := by
      intro v hv
      subst hv
      refine x_istore_n [some (.ref h), some (.int a), some (.int b), some (.int (mnV (fW 14 + b) (mnV (fW 13 + a) (fW 12)))), some (.int (fW 13 + a)), some (.int (fW 14 + b)), none, none, none] O dX0_spanFor_55 rfl rfl ?_
      refine x_aload_n O dX0_spanFor_56 rfl ?_
      refine fX_W O dX0_spanFor_57 ?_
      refine x_iconst O dX0_spanFor_60 kc_3 ?_
      refine ldW O (by omega) dX0_spanFor_61 ?_
      refine x_ineg O dX0_spanFor_62 ?_
      refine x_istore [some (.ref h), some (.int a), some (.int b), some (.int (mnV (fW 14 + b) (mnV (fW 13 + a) (fW 12)))), some (.int (fW 13 + a)), some (.int (fW 14 + b)), some (.int (-(fW 3))), none, none] O dX0_spanFor_63 rfl rfl ?_
      refine x_iload_n O dX0_spanFor_65 rfl ?_
      refine x_aload_n O dX0_spanFor_66 rfl ?_
      refine fX_W O dX0_spanFor_67 ?_
      refine x_bipush O dX0_spanFor_70 kb_7 ?_
      refine ldW O (by omega) dX0_spanFor_72 ?_
      refine x_isub O dX0_spanFor_73 ?_
      refine x_istore [some (.ref h), some (.int a), some (.int b), some (.int (mnV (fW 14 + b) (mnV (fW 13 + a) (fW 12)))), some (.int (fW 13 + a)), some (.int (fW 14 + b)), some (.int (-(fW 3))), some (.int (a - fW 7)), none] O dX0_spanFor_74 rfl rfl ?_
      refine x_iload_n O dX0_spanFor_76 rfl ?_
      refine x_aload_n O dX0_spanFor_77 rfl ?_
      refine fX_W O dX0_spanFor_78 ?_
      refine x_bipush O dX0_spanFor_81 kb_11 ?_
      refine ldW O (by omega) dX0_spanFor_83 ?_
      refine x_isub O dX0_spanFor_84 ?_
      refine x_istore [some (.ref h), some (.int a), some (.int b), some (.int (mnV (fW 14 + b) (mnV (fW 13 + a) (fW 12)))), some (.int (fW 13 + a)), some (.int (fW 14 + b)), some (.int (-(fW 3))), some (.int (a - fW 7)), some (.int (b - fW 11))] O dX0_spanFor_85 rfl rfl ?_
      refine x_iload O dX0_spanFor_87 rfl ?_
      refine x_iload O dX0_spanFor_89 rfl ?_
      have mg6 : ∀ v : Int32, v = mxV (a - fW 7) (-(fW 3)) → K 101 [some (.ref h), some (.int a), some (.int b), some (.int (mnV (fW 14 + b) (mnV (fW 13 + a) (fW 12)))), some (.int (fW 13 + a)), some (.int (fW 14 + b)), some (.int (-(fW 3))), some (.int (a - fW 7)), some (.int (b - fW 11))] [.int v] (fB, fN, fW) := by
        intro v hv
        subst hv
        refine x_istore [some (.ref h), some (.int a), some (.int b), some (.int (mnV (fW 14 + b) (mnV (fW 13 + a) (fW 12)))), some (.int (fW 13 + a)), some (.int (fW 14 + b)), some (.int (mxV (a - fW 7) (-(fW 3)))), some (.int (a - fW 7)), some (.int (b - fW 11))] O dX0_spanFor_101 rfl rfl ?_
        refine x_iload O dX0_spanFor_103 rfl ?_
        refine x_iload O dX0_spanFor_105 rfl ?_
        have mg8 : ∀ v : Int32, v = mxV (b - fW 11) (mxV (a - fW 7) (-(fW 3))) → K 117 [some (.ref h), some (.int a), some (.int b), some (.int (mnV (fW 14 + b) (mnV (fW 13 + a) (fW 12)))), some (.int (fW 13 + a)), some (.int (fW 14 + b)), some (.int (mxV (a - fW 7) (-(fW 3)))), some (.int (a - fW 7)), some (.int (b - fW 11))] [.int v] (fB, fN, fW) := by
          intro v hv
          subst hv
          refine x_istore [some (.ref h), some (.int a), some (.int b), some (.int (mnV (fW 14 + b) (mnV (fW 13 + a) (fW 12)))), some (.int (fW 13 + a)), some (.int (fW 14 + b)), some (.int (mxV (b - fW 11) (mxV (a - fW 7) (-(fW 3))))), some (.int (a - fW 7)), some (.int (b - fW 11))] O dX0_spanFor_117 rfl rfl ?_
          refine x_iload O dX0_spanFor_119 rfl ?_
          refine x_iload_n O dX0_spanFor_121 rfl ?_
          refine x_icmp_gt O dX0_spanFor_122 (fun c9 => ?_) (fun c9 => ?_)
          · refine x_iconst O dX0_spanFor_134 kc_0 ?_
            exact E _ _ _ _ _ dX0_spanFor_135 rfl (by exact ⟨by unfold spanF; exact (if_pos c9).symm, rfl⟩)
          · refine x_iload_n O dX0_spanFor_125 rfl ?_
            refine x_iload O dX0_spanFor_126 rfl ?_
            refine x_isub O dX0_spanFor_128 ?_
            refine x_iconst O dX0_spanFor_129 kc_1 ?_
            refine x_iadd O dX0_spanFor_130 ?_
            refine x_goto O dX0_spanFor_131 ?_
            exact E _ _ _ _ _ dX0_spanFor_135 rfl (by exact ⟨by unfold spanF; exact (if_neg (Int.not_lt.mpr c9)).symm, rfl⟩)
        refine x_icmp_le O dX0_spanFor_107 (fun c7 => ?_) (fun c7 => ?_)
        · refine x_iload O dX0_spanFor_115 rfl ?_
          exact mg8 _ (by exact (if_neg (by omega)).symm)
        · refine x_iload O dX0_spanFor_110 rfl ?_
          refine x_goto O dX0_spanFor_112 ?_
          exact mg8 _ (by exact (if_pos c7).symm)
      refine x_icmp_le O dX0_spanFor_91 (fun c5 => ?_) (fun c5 => ?_)
      · refine x_iload O dX0_spanFor_99 rfl ?_
        exact mg6 _ (by exact (if_neg (by omega)).symm)
      · refine x_iload O dX0_spanFor_94 rfl ?_
        refine x_goto O dX0_spanFor_96 ?_
        exact mg6 _ (by exact (if_pos c5).symm)
    refine x_icmp_ge O dX0_spanFor_46 (fun c3 => ?_) (fun c3 => ?_)
    · refine x_iload_n O dX0_spanFor_54 rfl ?_
      exact mg4 _ (by exact (if_neg (by omega)).symm)
    · refine x_iload O dX0_spanFor_49 rfl ?_
      refine x_goto O dX0_spanFor_51 ?_
      exact mg4 _ (by exact (if_pos c3).symm)
  refine x_icmp_ge O dX0_spanFor_33 (fun c1 => ?_) (fun c1 => ?_)
  · refine x_iload_n O dX0_spanFor_41 rfl ?_
    exact mg2 _ (by exact (if_neg (by omega)).symm)
  · refine x_iload O dX0_spanFor_36 rfl ?_
    refine x_goto O dX0_spanFor_38 ?_
    exact mg2 _ (by exact (if_pos c1).symm)
theorem callX0_spanFor {l : Launch} {D : va_G} {h hB hN hW : Nat} {cB cN cW : ClassId} {fB : Nat → Int32} {fN : Nat → Bool} {fW : Nat → Int32} {R : Room} {cc : ByteArray} {nL : Nat} {K : Nat → List (Option Value) → List Value → SX → Prop} {pc nx : Nat} {lv : List (Option Value)} {st : List Value} (O : MachX l R cc nL D h hB hN hW cB cN cW K) (hR : 0 + 1 ≤ R.frames ∧ 8 + (9 + 11) + 0 ≤ R.locals) (hst : (st.map fun v => v.category).sum ≤ 8) (d : Dc cc pc (.invokevirtual 59) 3 nx) (a : Int32) (b : Int32) (kont : ∀ r u, (r = spanF fW a b ∧ u = (fB, fN, fW)) → K nx lv (.int r :: st) u) : K pc lv (.int b :: .int a :: .ref h :: st) (fB, fN, fW) :=
  x_callV (n := 2) O (mX0_spanFor fB fN fW a b) (lw_V q142 q144 qs6 q22 q145) ⟨rfl, rfl⟩ (by decide +kernel) rfl hR ⟨0, [.ref hB, .ref hN, .ref hW], (RX0, TX0, 3), rfl, rfl, rfl⟩ hst rfl d kont
set_option maxHeartbeats 4000000 in
theorem mX0_size {l : Launch} {D : va_G} {h hB hN hW : Nat} {cB cN cW : ClassId} (fB : Nat → Int32) (fN : Nat → Bool) (fW : Nat → Int32) (z0 : Int32) (hsz : ∀ z, z < 3 → fN z = false → szOk fB z) : Ct (wX h hB hN hW cB cN cW) D vwCl (tX cB cN cW) l yX0_size cX0_size 7 .int { frames := 2, cells := 0, slots := 0, locals := 50 } [.ref h, .int z0] (fB, fN, fW) (fun r u => inZ z0 (fun z => ((fN z = true ∧ r = nI 0) ∨ (fN z = false ∧ r = szA fB z (-(fB (16 * z + 1))).toNatClampNeg ((fB (16 * z + 4)).toNatClampNeg + 1))) ∧ ∃ W, u = (fB, fN, W)) (r = (-1) ∧ u = (fB, fN, fW))) := by
  refine ct_entry wX_addr (by decide) (by simp [Value.category]) (Nat.le_of_ble_eq_true rfl) ⟨rfl, rfl⟩ ?_
  intro K O E
  show K 0 [some (.ref h), some (.int z0), none, none, none, none, none] [] (fB, fN, fW)
  refine x_iload_n O dX0_size_0 rfl ?_
  refine callX0_isZone O ⟨Nat.le_of_ble_eq_true rfl, Nat.le_of_ble_eq_true rfl⟩ (Nat.le_of_ble_eq_true rfl) dX0_size_1 _ (fun r u hp => ?_)
  rcases hp with ⟨z, hz, rfl, rfl, rfl⟩ | ⟨hz, rfl, rfl⟩
  · refine x_if_neT O dX0_size_4 ?_
    refine x_aload_n O dX0_size_9 rfl ?_
    refine fX_N O dX0_size_10 ?_
    refine x_iload_n O dX0_size_13 rfl ?_
    refine ldN O (by omega) dX0_size_14 ?_
    refine x_if_eqZ O dX0_size_15 (fun c1 => ?_) (fun c1 => ?_)
    · obtain ⟨lo, hi, hlh, hh12, e1, e4, hrow⟩ := hsz z hz c1
      refine x_iconst O dX0_size_20 kc_0 ?_
      refine x_istore_n [some (.ref h), some (.int (nI z)), some (.int (nI 0)), none, none, none, none] O dX0_size_21 rfl rfl ?_
      refine x_aload_n O dX0_size_22 rfl ?_
      refine fX_B O dX0_size_23 ?_
      refine x_bipush O dX0_size_26 kb_16 ?_
      refine x_iload_n O dX0_size_28 rfl ?_
      refine x_imulN O dX0_size_29 ?_
      refine x_iconst O dX0_size_30 kc_4 ?_
      refine x_iaddN O dX0_size_31 ?_
      refine ldB O (by omega) dX0_size_32 ?_
      refine x_top (show _ = nI hi from e4) ?_
      refine x_istore_n [some (.ref h), some (.int (nI z)), some (.int (nI 0)), some (.int (nI hi)), none, none, none] O dX0_size_33 rfl rfl ?_
      refine x_aload_n O dX0_size_34 rfl ?_
      refine fX_B O dX0_size_35 ?_
      refine x_bipush O dX0_size_38 kb_16 ?_
      refine x_iload_n O dX0_size_40 rfl ?_
      refine x_imulN O dX0_size_41 ?_
      refine x_iconst O dX0_size_42 kc_1 ?_
      refine x_iaddN O dX0_size_43 ?_
      refine ldB O (by omega) dX0_size_44 ?_
      refine x_ineg O dX0_size_45 ?_
      refine x_top (show _ = nI lo from (by rw [e1]; exact nI_negneg lo)) ?_
      refine x_istore [some (.ref h), some (.int (nI z)), some (.int (nI 0)), some (.int (nI hi)), some (.int (nI lo)), none, none] O dX0_size_46 rfl rfl ?_
      have lp48 : ∀ (n a : Nat) (s1 : Int32) (W1 : Nat → Int32), (hi + 1) - a = n → a ≤ (hi + 1) → s1 = szA fB z lo a → lo ≤ a → K 48 [some (.ref h), some (.int (nI z)), some (.int s1), some (.int (nI hi)), some (.int (nI a)), none, none] [] (fB, fN, W1) := by
        intro n
        induction n using Nat.strongRecOn with
        | _ n ih48 =>
          intro a s1 W1 hn48 hk48 hs1 hla
          refine x_iload O dX0_size_48 rfl ?_
          refine x_iload_n O dX0_size_50 rfl ?_
          refine x_icmp_gtN O dX0_size_51 (by omega) (fun c2 => ?_) (fun c2 => ?_)
          · obtain rfl : a = (hi + 1) := by omega
            subst hs1
            refine x_iload_n O dX0_size_115 rfl ?_
            exact E _ _ _ _ _ dX0_size_116 rfl (Or.inl ⟨z, hz, rfl, (by exact ⟨Or.inr ⟨c1, by rw [e1, e4, nI_negneg, nI_clamp (by omega), nI_clamp (by omega)]⟩, _, rfl⟩)⟩)
          · refine x_aload_n O dX0_size_54 rfl ?_
            refine x_iload_n O dX0_size_55 rfl ?_
            refine callX0_take O ⟨Nat.le_of_ble_eq_true rfl, Nat.le_of_ble_eq_true rfl⟩ (Nat.le_of_ble_eq_true rfl) dX0_size_56 _ (by omega) (fun u hp => ?_)
            subst hp
            refine x_aload_n O dX0_size_59 rfl ?_
            refine x_iconst O dX0_size_60 kc_1 ?_
            refine x_iload O dX0_size_61 rfl ?_
            refine callX0_fix O ⟨Nat.le_of_ble_eq_true rfl, Nat.le_of_ble_eq_true rfl⟩ (Nat.le_of_ble_eq_true rfl) dX0_size_63 _ (by omega) _ (fun r u hp => ?_)
            obtain ⟨rfl, rfl⟩ := hp
            refine x_pop O dX0_size_66 ?_
            refine x_aload_n O dX0_size_67 rfl ?_
            refine fX_W O dX0_size_68 ?_
            refine x_bipush O dX0_size_71 kb_8 ?_
            refine ldW O (by omega) dX0_size_73 ?_
            obtain ⟨lo2, hi2, hlh2, hh122, r1, r4⟩ := hrow a hla (by omega)
            refine x_top (show _ = nI hi2 from r4) ?_
            refine x_istore [some (.ref h), some (.int (nI z)), some (.int s1), some (.int (nI hi)), some (.int (nI a)), some (.int (nI hi2)), none] O dX0_size_74 rfl rfl ?_
            refine x_aload_n O dX0_size_76 rfl ?_
            refine fX_W O dX0_size_77 ?_
            refine x_iconst O dX0_size_80 kc_2 ?_
            refine ldW O (by omega) dX0_size_81 ?_
            refine x_ineg O dX0_size_82 ?_
            refine x_top (show _ = nI lo2 from (by rw [r1]; exact nI_negneg lo2)) ?_
            refine x_istore [some (.ref h), some (.int (nI z)), some (.int s1), some (.int (nI hi)), some (.int (nI a)), some (.int (nI hi2)), some (.int (nI lo2))] O dX0_size_83 rfl rfl ?_
            have lp85 : ∀ (n b : Nat) (s2 : Int32), (hi2 + 1) - b = n → b ≤ (hi2 + 1) → s2 = smJ s1 (fun b => spanF (fxW (tkW fB z) 1 (nI a)) (nI a) (nI b)) lo2 b → lo2 ≤ b → K 85 [some (.ref h), some (.int (nI z)), some (.int s2), some (.int (nI hi)), some (.int (nI a)), some (.int (nI hi2)), some (.int (nI b))] [] (fB, fN, fxW (tkW fB z) 1 (nI a)) := by
              intro n
              induction n using Nat.strongRecOn with
              | _ n ih85 =>
                intro b s2 hn85 hk85 hs2 hlb
                refine x_iload O dX0_size_85 rfl ?_
                refine x_iload O dX0_size_87 rfl ?_
                refine x_icmp_gtN O dX0_size_89 (by omega) (fun c3 => ?_) (fun c3 => ?_)
                · obtain rfl : b = (hi2 + 1) := by omega
                  subst hs2
                  refine x_iincN [some (.ref h), some (.int (nI z)), some (.int (smJ s1 (fun b => spanF (fxW (tkW fB z) 1 (nI a)) (nI a) (nI b)) lo2 (hi2 + 1))), some (.int (nI hi)), some (.int (nI (a + 1))), some (.int (nI hi2)), some (.int (nI (hi2 + 1)))] O dX0_size_109 rfl rfl ?_
                  refine x_goto O dX0_size_112 ?_
                  refine x_forget [some (.ref h), some (.int (nI z)), some (.int (smJ s1 (fun b => spanF (fxW (tkW fB z) 1 (nI a)) (nI a) (nI b)) lo2 (hi2 + 1))), some (.int (nI hi)), some (.int (nI (a + 1))), none, none] O ⟨rfl, rfl, rfl, rfl, rfl, trivial⟩ ?_
                  exact ih48 _ (by omega) (a + 1) _ _ rfl (by omega) (by exact szA_s hs1 hla r1 r4 hlh2 hh122 rfl) (by omega)
                · refine x_iload_n O dX0_size_92 rfl ?_
                  refine x_aload_n O dX0_size_93 rfl ?_
                  refine x_iload O dX0_size_94 rfl ?_
                  refine x_iload O dX0_size_96 rfl ?_
                  refine callX0_spanFor O ⟨Nat.le_of_ble_eq_true rfl, Nat.le_of_ble_eq_true rfl⟩ (Nat.le_of_ble_eq_true rfl) dX0_size_98 _ _ (fun r u hp => ?_)
                  obtain ⟨rfl, rfl⟩ := hp
                  refine x_iadd O dX0_size_101 ?_
                  refine x_istore_n [some (.ref h), some (.int (nI z)), some (.int (s2 + spanF (fxW (tkW fB z) 1 (nI a)) (nI a) (nI b))), some (.int (nI hi)), some (.int (nI a)), some (.int (nI hi2)), some (.int (nI b))] O dX0_size_102 rfl rfl ?_
                  refine x_iincN [some (.ref h), some (.int (nI z)), some (.int (s2 + spanF (fxW (tkW fB z) 1 (nI a)) (nI a) (nI b))), some (.int (nI hi)), some (.int (nI a)), some (.int (nI hi2)), some (.int (nI (b + 1)))] O dX0_size_103 rfl rfl ?_
                  refine x_goto O dX0_size_106 ?_
                  exact ih85 _ (by omega) (b + 1) _ rfl (by omega) (by exact smJ_s hs2 hlb) (by omega)
            exact lp85 _ lo2 _ rfl (by omega) (by exact (smJ_lo lo2 (Nat.le_refl _)).symm) (by omega)
      exact lp48 _ lo _ _ rfl (by omega) (by exact (szA_lo lo (Nat.le_refl _)).symm) (by omega)
    · refine x_iconst O dX0_size_18 kc_0 ?_
      exact E _ _ _ _ _ dX0_size_19 rfl (Or.inl ⟨z, hz, rfl, (by exact ⟨Or.inl ⟨c1, rfl⟩, _, rfl⟩)⟩)
  · refine x_if_neF O dX0_size_4 ?_
    refine x_iconst O dX0_size_7 kc_m1 ?_
    exact E _ _ _ _ _ dX0_size_8 rfl (Or.inr ⟨hz, (by exact ⟨rfl, rfl⟩)⟩)
set_option maxHeartbeats 4000000 in
theorem mX0_firstFrom {l : Launch} {D : va_G} {h hB hN hW : Nat} {cB cN cW : ClassId} (fB : Nat → Int32) (fN : Nat → Bool) (fW : Nat → Int32) (z : Nat) (a : Nat) (b : Nat) (c : Nat) (hz : z < 3) : Ct (wX h hB hN hW cB cN cW) D vwCl (tX cB cN cW) l yX0_firstFrom cX0_firstFrom 8 .int { frames := 2, cells := 0, slots := 0, locals := 50 } [.ref h, .int (nI z), .int (nI a), .int (nI b), .int (nI c)] (fB, fN, fW) (fun r u => r = ffR fB z a b c ∧ ∃ W, u = (fB, fN, W)) := by
  refine ct_entry wX_addr (by decide) (by simp [Value.category]) (Nat.le_of_ble_eq_true rfl) ⟨rfl, rfl⟩ ?_
  intro K O E
  show K 0 [some (.ref h), some (.int (nI z)), some (.int (nI a)), some (.int (nI b)), some (.int (nI c)), none, none, none] [] (fB, fN, fW)
  refine x_aload_n O dX0_firstFrom_0 rfl ?_
  refine x_iload_n O dX0_firstFrom_1 rfl ?_
  refine callX0_take O ⟨Nat.le_of_ble_eq_true rfl, Nat.le_of_ble_eq_true rfl⟩ (Nat.le_of_ble_eq_true rfl) dX0_firstFrom_2 _ (by omega) (fun u hp => ?_)
  subst hp
  refine x_aload_n O dX0_firstFrom_5 rfl ?_
  refine x_iconst O dX0_firstFrom_6 kc_1 ?_
  refine x_iload_n O dX0_firstFrom_7 rfl ?_
  refine callX0_fix O ⟨Nat.le_of_ble_eq_true rfl, Nat.le_of_ble_eq_true rfl⟩ (Nat.le_of_ble_eq_true rfl) dX0_firstFrom_8 _ (by omega) _ (fun r u hp => ?_)
  obtain ⟨rfl, rfl⟩ := hp
  refine x_istore [some (.ref h), some (.int (nI z)), some (.int (nI a)), some (.int (nI b)), some (.int (nI c)), some (.int (zI (fxOk (tkW fB z) 1 (nI a)))), none, none] O dX0_firstFrom_11 rfl rfl ?_
  refine x_iload O dX0_firstFrom_13 rfl ?_
  refine x_if_eqZ O dX0_firstFrom_15 (fun c1 => ?_) (fun c1 => ?_)
  · refine x_iconst O dX0_firstFrom_31 kc_0 ?_
    refine x_istore [some (.ref h), some (.int (nI z)), some (.int (nI a)), some (.int (nI b)), some (.int (nI c)), some (.int (zI (fxOk (tkW fB z) 1 (nI a)))), some (.int (nI 0)), none] O dX0_firstFrom_32 rfl rfl ?_
    refine x_iload O dX0_firstFrom_34 rfl ?_
    refine x_top zI_0 ?_
    refine x_if_eqF O dX0_firstFrom_36 ?_
    refine x_iconst O dX0_firstFrom_55 kc_0 ?_
    refine x_istore [some (.ref h), some (.int (nI z)), some (.int (nI a)), some (.int (nI b)), some (.int (nI c)), some (.int (zI (fxOk (tkW fB z) 1 (nI a)))), some (.int (nI 0)), some (.int (nI 0))] O dX0_firstFrom_56 rfl rfl ?_
    refine x_iload O dX0_firstFrom_58 rfl ?_
    refine x_top zI_0 ?_
    refine x_if_eqF O dX0_firstFrom_60 ?_
    refine x_iconst O dX0_firstFrom_83 kc_m1 ?_
    exact E _ _ _ _ _ dX0_firstFrom_84 rfl (by exact ⟨by unfold ffR; rw [if_neg (fun q => by rw [c1] at q; exact absurd q.1 (by decide))], _, rfl⟩)
  · refine x_aload_n O dX0_firstFrom_18 rfl ?_
    refine x_iconst O dX0_firstFrom_19 kc_2 ?_
    refine x_iload_n O dX0_firstFrom_20 rfl ?_
    refine callX0_fix O ⟨Nat.le_of_ble_eq_true rfl, Nat.le_of_ble_eq_true rfl⟩ (Nat.le_of_ble_eq_true rfl) dX0_firstFrom_21 _ (by omega) _ (fun r u hp => ?_)
    obtain ⟨rfl, rfl⟩ := hp
    refine x_if_eqZ O dX0_firstFrom_24 (fun c2 => ?_) (fun c2 => ?_)
    · refine x_iconst O dX0_firstFrom_31 kc_0 ?_
      refine x_istore [some (.ref h), some (.int (nI z)), some (.int (nI a)), some (.int (nI b)), some (.int (nI c)), some (.int (zI (fxOk (tkW fB z) 1 (nI a)))), some (.int (nI 0)), none] O dX0_firstFrom_32 rfl rfl ?_
      refine x_iload O dX0_firstFrom_34 rfl ?_
      refine x_top zI_0 ?_
      refine x_if_eqF O dX0_firstFrom_36 ?_
      refine x_iconst O dX0_firstFrom_55 kc_0 ?_
      refine x_istore [some (.ref h), some (.int (nI z)), some (.int (nI a)), some (.int (nI b)), some (.int (nI c)), some (.int (zI (fxOk (tkW fB z) 1 (nI a)))), some (.int (nI 0)), some (.int (nI 0))] O dX0_firstFrom_56 rfl rfl ?_
      refine x_iload O dX0_firstFrom_58 rfl ?_
      refine x_top zI_0 ?_
      refine x_if_eqF O dX0_firstFrom_60 ?_
      refine x_iconst O dX0_firstFrom_83 kc_m1 ?_
      exact E _ _ _ _ _ dX0_firstFrom_84 rfl (by exact ⟨by unfold ffR; rw [if_neg (fun q => by rw [c2] at q; exact absurd q.2.1 (by decide))], _, rfl⟩)
    · refine x_iconst O dX0_firstFrom_27 kc_1 ?_
      refine x_goto O dX0_firstFrom_28 ?_
      refine x_istore [some (.ref h), some (.int (nI z)), some (.int (nI a)), some (.int (nI b)), some (.int (nI c)), some (.int (zI (fxOk (tkW fB z) 1 (nI a)))), some (.int (nI 1)), none] O dX0_firstFrom_32 rfl rfl ?_
      refine x_iload O dX0_firstFrom_34 rfl ?_
      refine x_top zI_1 ?_
      refine x_if_eqT O dX0_firstFrom_36 ?_
      refine x_aload_n O dX0_firstFrom_39 rfl ?_
      refine x_iconst O dX0_firstFrom_40 kc_0 ?_
      refine x_iconst O dX0_firstFrom_41 kc_3 ?_
      refine x_iload O dX0_firstFrom_42 rfl ?_
      refine x_ineg O dX0_firstFrom_44 ?_
      refine callX0_narrow O ⟨Nat.le_of_ble_eq_true rfl, Nat.le_of_ble_eq_true rfl⟩ (Nat.le_of_ble_eq_true rfl) dX0_firstFrom_45 _ _ (by omega) _ (fun r u hp => ?_)
      obtain ⟨rfl, rfl⟩ := hp
      refine x_if_eqZ O dX0_firstFrom_48 (fun c3 => ?_) (fun c3 => ?_)
      · refine x_iconst O dX0_firstFrom_55 kc_0 ?_
        refine x_istore [some (.ref h), some (.int (nI z)), some (.int (nI a)), some (.int (nI b)), some (.int (nI c)), some (.int (zI (fxOk (tkW fB z) 1 (nI a)))), some (.int (nI 1)), some (.int (nI 0))] O dX0_firstFrom_56 rfl rfl ?_
        refine x_iload O dX0_firstFrom_58 rfl ?_
        refine x_top zI_0 ?_
        refine x_if_eqF O dX0_firstFrom_60 ?_
        refine x_iconst O dX0_firstFrom_83 kc_m1 ?_
        exact E _ _ _ _ _ dX0_firstFrom_84 rfl (by exact ⟨by unfold ffR; rw [if_neg (fun q => by rw [c3] at q; exact absurd q.2.2 (by decide))], _, rfl⟩)
      · refine x_iconst O dX0_firstFrom_51 kc_1 ?_
        refine x_goto O dX0_firstFrom_52 ?_
        refine x_istore [some (.ref h), some (.int (nI z)), some (.int (nI a)), some (.int (nI b)), some (.int (nI c)), some (.int (zI (fxOk (tkW fB z) 1 (nI a)))), some (.int (nI 1)), some (.int (nI 1))] O dX0_firstFrom_56 rfl rfl ?_
        refine x_iload O dX0_firstFrom_58 rfl ?_
        refine x_top zI_1 ?_
        refine x_if_eqT O dX0_firstFrom_60 ?_
        refine x_sipush O dX0_firstFrom_63 ks_169 ?_
        refine x_iload_n O dX0_firstFrom_66 rfl ?_
        refine x_imulN O dX0_firstFrom_67 ?_
        refine x_bipush O dX0_firstFrom_68 kb_13 ?_
        refine x_iload_n O dX0_firstFrom_70 rfl ?_
        refine x_imulN O dX0_firstFrom_71 ?_
        refine x_iaddN O dX0_firstFrom_72 ?_
        refine x_aload_n O dX0_firstFrom_73 rfl ?_
        refine fX_W O dX0_firstFrom_74 ?_
        refine x_iconst O dX0_firstFrom_77 kc_3 ?_
        refine ldW O (by omega) dX0_firstFrom_78 ?_
        refine x_isub O dX0_firstFrom_79 ?_
        refine x_goto O dX0_firstFrom_80 ?_
        exact E _ _ _ _ _ dX0_firstFrom_84 rfl (by exact ⟨by unfold ffR; rw [if_pos ⟨c1, c2, c3⟩], _, rfl⟩)
theorem callX0_firstFrom {l : Launch} {D : va_G} {h hB hN hW : Nat} {cB cN cW : ClassId} {fB : Nat → Int32} {fN : Nat → Bool} {fW : Nat → Int32} {R : Room} {cc : ByteArray} {nL : Nat} {K : Nat → List (Option Value) → List Value → SX → Prop} {pc nx : Nat} {lv : List (Option Value)} {st : List Value} (O : MachX l R cc nL D h hB hN hW cB cN cW K) (hR : 2 + 1 ≤ R.frames ∧ 8 + (8 + 11) + 50 ≤ R.locals) (hst : (st.map fun v => v.category).sum ≤ 8) (d : Dc cc pc (.invokevirtual 62) 3 nx) (z : Nat) (a : Nat) (b : Nat) (c : Nat) (hz : z < 3) (kont : ∀ r u, (r = ffR fB z a b c ∧ ∃ W, u = (fB, fN, W)) → K nx lv (.int r :: st) u) : K pc lv (.int (nI c) :: .int (nI b) :: .int (nI a) :: .int (nI z) :: .ref h :: st) (fB, fN, fW) :=
  x_callV (n := 4) O (mX0_firstFrom fB fN fW z a b c hz) (lw_V q150 q152 qs7 q22 q153) ⟨rfl, rfl⟩ (by decide +kernel) rfl hR ⟨0, [.ref hB, .ref hN, .ref hW], (RX0, TX0, 3), rfl, rfl, rfl⟩ hst rfl d kont
set_option maxHeartbeats 4000000 in
theorem mX0_firstSecond {l : Launch} {D : va_G} {h hB hN hW : Nat} {cB cN cW : ClassId} (fB : Nat → Int32) (fN : Nat → Bool) (fW : Nat → Int32) (z : Nat) (a : Nat) (b : Nat) (hz : z < 3 ∧ b < 100) : Ct (wX h hB hN hW cB cN cW) D vwCl (tX cB cN cW) l yX0_firstSecond cX0_firstSecond 7 .int { frames := 2, cells := 0, slots := 0, locals := 50 } [.ref h, .int (nI z), .int (nI a), .int (nI b)] (fB, fN, fW) (fun r u => r = fsR fB z a b ∧ ∃ W, u = (fB, fN, W)) := by
  refine ct_entry wX_addr (by decide) (by simp [Value.category]) (Nat.le_of_ble_eq_true rfl) ⟨rfl, rfl⟩ ?_
  intro K O E
  show K 0 [some (.ref h), some (.int (nI z)), some (.int (nI a)), some (.int (nI b)), none, none, none] [] (fB, fN, fW)
  refine x_aload_n O dX0_firstSecond_0 rfl ?_
  refine x_iload_n O dX0_firstSecond_1 rfl ?_
  refine callX0_take O ⟨Nat.le_of_ble_eq_true rfl, Nat.le_of_ble_eq_true rfl⟩ (Nat.le_of_ble_eq_true rfl) dX0_firstSecond_2 _ (by omega) (fun u hp => ?_)
  subst hp
  refine x_aload_n O dX0_firstSecond_5 rfl ?_
  refine x_iconst O dX0_firstSecond_6 kc_1 ?_
  refine x_iload_n O dX0_firstSecond_7 rfl ?_
  refine callX0_fix O ⟨Nat.le_of_ble_eq_true rfl, Nat.le_of_ble_eq_true rfl⟩ (Nat.le_of_ble_eq_true rfl) dX0_firstSecond_8 _ (by omega) _ (fun r u hp => ?_)
  obtain ⟨rfl, rfl⟩ := hp
  refine x_istore [some (.ref h), some (.int (nI z)), some (.int (nI a)), some (.int (nI b)), some (.int (zI (fxOk (tkW fB z) 1 (nI a)))), none, none] O dX0_firstSecond_11 rfl rfl ?_
  refine x_iload O dX0_firstSecond_13 rfl ?_
  refine x_if_eqZ O dX0_firstSecond_15 (fun c1 => ?_) (fun c1 => ?_)
  · refine x_iconst O dX0_firstSecond_39 kc_0 ?_
    refine x_istore [some (.ref h), some (.int (nI z)), some (.int (nI a)), some (.int (nI b)), some (.int (zI (fxOk (tkW fB z) 1 (nI a)))), some (.int (nI 0)), none] O dX0_firstSecond_40 rfl rfl ?_
    refine x_iload O dX0_firstSecond_42 rfl ?_
    refine x_top zI_0 ?_
    refine x_if_neF O dX0_firstSecond_44 ?_
    refine x_iconst O dX0_firstSecond_47 kc_m1 ?_
    exact E _ _ _ _ _ dX0_firstSecond_48 rfl (by exact ⟨by unfold fsR; rw [if_neg (fun q => by rw [c1] at q; exact absurd q.1 (by decide))], _, rfl⟩)
  · refine x_iload_n O dX0_firstSecond_18 rfl ?_
    refine x_bipush O dX0_firstSecond_19 kb_12 ?_
    refine x_icmp_gtN O dX0_firstSecond_21 (by omega) (fun c2 => ?_) (fun c2 => ?_)
    · refine x_iconst O dX0_firstSecond_39 kc_0 ?_
      refine x_istore [some (.ref h), some (.int (nI z)), some (.int (nI a)), some (.int (nI b)), some (.int (zI (fxOk (tkW fB z) 1 (nI a)))), some (.int (nI 0)), none] O dX0_firstSecond_40 rfl rfl ?_
      refine x_iload O dX0_firstSecond_42 rfl ?_
      refine x_top zI_0 ?_
      refine x_if_neF O dX0_firstSecond_44 ?_
      refine x_iconst O dX0_firstSecond_47 kc_m1 ?_
      exact E _ _ _ _ _ dX0_firstSecond_48 rfl (by exact ⟨by unfold fsR; rw [if_neg (fun q => by omega)], _, rfl⟩)
    · refine x_aload_n O dX0_firstSecond_24 rfl ?_
      refine x_iconst O dX0_firstSecond_25 kc_0 ?_
      refine x_iconst O dX0_firstSecond_26 kc_2 ?_
      refine x_iload_n O dX0_firstSecond_27 rfl ?_
      refine x_ineg O dX0_firstSecond_28 ?_
      refine callX0_narrow O ⟨Nat.le_of_ble_eq_true rfl, Nat.le_of_ble_eq_true rfl⟩ (Nat.le_of_ble_eq_true rfl) dX0_firstSecond_29 _ _ (by omega) _ (fun r u hp => ?_)
      obtain ⟨rfl, rfl⟩ := hp
      refine x_if_eqZ O dX0_firstSecond_32 (fun c3 => ?_) (fun c3 => ?_)
      · refine x_iconst O dX0_firstSecond_39 kc_0 ?_
        refine x_istore [some (.ref h), some (.int (nI z)), some (.int (nI a)), some (.int (nI b)), some (.int (zI (fxOk (tkW fB z) 1 (nI a)))), some (.int (nI 0)), none] O dX0_firstSecond_40 rfl rfl ?_
        refine x_iload O dX0_firstSecond_42 rfl ?_
        refine x_top zI_0 ?_
        refine x_if_neF O dX0_firstSecond_44 ?_
        refine x_iconst O dX0_firstSecond_47 kc_m1 ?_
        exact E _ _ _ _ _ dX0_firstSecond_48 rfl (by exact ⟨by unfold fsR; rw [if_neg (fun q => by rw [c3] at q; exact absurd q.2.2 (by decide))], _, rfl⟩)
      · refine x_iconst O dX0_firstSecond_35 kc_1 ?_
        refine x_goto O dX0_firstSecond_36 ?_
        refine x_istore [some (.ref h), some (.int (nI z)), some (.int (nI a)), some (.int (nI b)), some (.int (zI (fxOk (tkW fB z) 1 (nI a)))), some (.int (nI 1)), none] O dX0_firstSecond_40 rfl rfl ?_
        refine x_iload O dX0_firstSecond_42 rfl ?_
        refine x_top zI_1 ?_
        refine x_if_neT O dX0_firstSecond_44 ?_
        refine x_aload_n O dX0_firstSecond_49 rfl ?_
        refine fX_W O dX0_firstSecond_50 ?_
        refine x_iconst O dX0_firstSecond_53 kc_2 ?_
        refine ldW O (by omega) dX0_firstSecond_54 ?_
        refine x_ineg O dX0_firstSecond_55 ?_
        refine x_istore [some (.ref h), some (.int (nI z)), some (.int (nI a)), some (.int (nI b)), some (.int (zI (fxOk (tkW fB z) 1 (nI a)))), some (.int (nI 1)), some (.int (-((nwW (fxW (tkW fB z) 1 (nI a)) 0 2 (-(nI b))) 2)))] O dX0_firstSecond_56 rfl rfl ?_
        refine x_aload_n O dX0_firstSecond_58 rfl ?_
        refine x_iconst O dX0_firstSecond_59 kc_2 ?_
        refine x_iload O dX0_firstSecond_60 rfl ?_
        refine callX0_fix O ⟨Nat.le_of_ble_eq_true rfl, Nat.le_of_ble_eq_true rfl⟩ (Nat.le_of_ble_eq_true rfl) dX0_firstSecond_62 _ (by omega) _ (fun r u hp => ?_)
        obtain ⟨rfl, rfl⟩ := hp
        refine x_pop O dX0_firstSecond_65 ?_
        refine x_sipush O dX0_firstSecond_66 ks_169 ?_
        refine x_iload_n O dX0_firstSecond_69 rfl ?_
        refine x_imulN O dX0_firstSecond_70 ?_
        refine x_bipush O dX0_firstSecond_71 kb_13 ?_
        refine x_iload O dX0_firstSecond_73 rfl ?_
        refine x_imul O dX0_firstSecond_75 ?_
        refine x_iadd O dX0_firstSecond_76 ?_
        refine x_aload_n O dX0_firstSecond_77 rfl ?_
        refine fX_W O dX0_firstSecond_78 ?_
        refine x_iconst O dX0_firstSecond_81 kc_3 ?_
        refine ldW O (by omega) dX0_firstSecond_82 ?_
        refine x_isub O dX0_firstSecond_83 ?_
        exact E _ _ _ _ _ dX0_firstSecond_84 rfl (by exact ⟨by unfold fsR; rw [if_pos ⟨c1, c2, c3⟩]; rfl, _, rfl⟩)
theorem callX0_firstSecond {l : Launch} {D : va_G} {h hB hN hW : Nat} {cB cN cW : ClassId} {fB : Nat → Int32} {fN : Nat → Bool} {fW : Nat → Int32} {R : Room} {cc : ByteArray} {nL : Nat} {K : Nat → List (Option Value) → List Value → SX → Prop} {pc nx : Nat} {lv : List (Option Value)} {st : List Value} (O : MachX l R cc nL D h hB hN hW cB cN cW K) (hR : 2 + 1 ≤ R.frames ∧ 8 + (7 + 11) + 50 ≤ R.locals) (hst : (st.map fun v => v.category).sum ≤ 8) (d : Dc cc pc (.invokevirtual 66) 3 nx) (z : Nat) (a : Nat) (b : Nat) (hz : z < 3 ∧ b < 100) (kont : ∀ r u, (r = fsR fB z a b ∧ ∃ W, u = (fB, fN, W)) → K nx lv (.int r :: st) u) : K pc lv (.int (nI b) :: .int (nI a) :: .int (nI z) :: .ref h :: st) (fB, fN, fW) :=
  x_callV (n := 3) O (mX0_firstSecond fB fN fW z a b hz) (lw_V q154 q156 qs8 q22 q157) ⟨rfl, rfl⟩ (by decide +kernel) rfl hR ⟨0, [.ref hB, .ref hN, .ref hW], (RX0, TX0, 3), rfl, rfl, rfl⟩ hst rfl d kont
set_option maxHeartbeats 4000000 in
theorem mX0_firstBehind {l : Launch} {D : va_G} {h hB hN hW : Nat} {cB cN cW : ClassId} (fB : Nat → Int32) (fN : Nat → Bool) (fW : Nat → Int32) (z : Nat) (a : Nat) (hz : z < 3 ∧ a < 100) : Ct (wX h hB hN hW cB cN cW) D vwCl (tX cB cN cW) l yX0_firstBehind cX0_firstBehind 6 .int { frames := 2, cells := 0, slots := 0, locals := 50 } [.ref h, .int (nI z), .int (nI a)] (fB, fN, fW) (fun r u => r = fbR fB z a ∧ ∃ W, u = (fB, fN, W)) := by
  refine ct_entry wX_addr (by decide) (by simp [Value.category]) (Nat.le_of_ble_eq_true rfl) ⟨rfl, rfl⟩ ?_
  intro K O E
  show K 0 [some (.ref h), some (.int (nI z)), some (.int (nI a)), none, none, none] [] (fB, fN, fW)
  refine x_aload_n O dX0_firstBehind_0 rfl ?_
  refine x_iload_n O dX0_firstBehind_1 rfl ?_
  refine callX0_take O ⟨Nat.le_of_ble_eq_true rfl, Nat.le_of_ble_eq_true rfl⟩ (Nat.le_of_ble_eq_true rfl) dX0_firstBehind_2 _ (by omega) (fun u hp => ?_)
  subst hp
  refine x_iload_n O dX0_firstBehind_5 rfl ?_
  refine x_bipush O dX0_firstBehind_6 kb_12 ?_
  refine x_icmp_gtN O dX0_firstBehind_8 (by omega) (fun c1 => ?_) (fun c1 => ?_)
  · refine x_iconst O dX0_firstBehind_26 kc_0 ?_
    refine x_istore_n [some (.ref h), some (.int (nI z)), some (.int (nI a)), some (.int (nI 0)), none, none] O dX0_firstBehind_27 rfl rfl ?_
    refine x_iload_n O dX0_firstBehind_28 rfl ?_
    refine x_top zI_0 ?_
    refine x_if_neF O dX0_firstBehind_29 ?_
    refine x_bipush O dX0_firstBehind_32 kb_m2 ?_
    exact E _ _ _ _ _ dX0_firstBehind_34 rfl (by exact ⟨by unfold fbR; rw [if_neg (fun q => by omega)], _, rfl⟩)
  · refine x_aload_n O dX0_firstBehind_11 rfl ?_
    refine x_iconst O dX0_firstBehind_12 kc_0 ?_
    refine x_iconst O dX0_firstBehind_13 kc_1 ?_
    refine x_iload_n O dX0_firstBehind_14 rfl ?_
    refine x_ineg O dX0_firstBehind_15 ?_
    refine callX0_narrow O ⟨Nat.le_of_ble_eq_true rfl, Nat.le_of_ble_eq_true rfl⟩ (Nat.le_of_ble_eq_true rfl) dX0_firstBehind_16 _ _ (by omega) _ (fun r u hp => ?_)
    obtain ⟨rfl, rfl⟩ := hp
    refine x_if_eqZ O dX0_firstBehind_19 (fun c2 => ?_) (fun c2 => ?_)
    · refine x_iconst O dX0_firstBehind_26 kc_0 ?_
      refine x_istore_n [some (.ref h), some (.int (nI z)), some (.int (nI a)), some (.int (nI 0)), none, none] O dX0_firstBehind_27 rfl rfl ?_
      refine x_iload_n O dX0_firstBehind_28 rfl ?_
      refine x_top zI_0 ?_
      refine x_if_neF O dX0_firstBehind_29 ?_
      refine x_bipush O dX0_firstBehind_32 kb_m2 ?_
      exact E _ _ _ _ _ dX0_firstBehind_34 rfl (by exact ⟨by unfold fbR; rw [if_neg (fun q => by rw [c2] at q; exact absurd q.2 (by decide))], _, rfl⟩)
    · refine x_iconst O dX0_firstBehind_22 kc_1 ?_
      refine x_goto O dX0_firstBehind_23 ?_
      refine x_istore_n [some (.ref h), some (.int (nI z)), some (.int (nI a)), some (.int (nI 1)), none, none] O dX0_firstBehind_27 rfl rfl ?_
      refine x_iload_n O dX0_firstBehind_28 rfl ?_
      refine x_top zI_1 ?_
      refine x_if_neT O dX0_firstBehind_29 ?_
      refine x_aload_n O dX0_firstBehind_35 rfl ?_
      refine fX_W O dX0_firstBehind_36 ?_
      refine x_iconst O dX0_firstBehind_39 kc_1 ?_
      refine ldW O (by omega) dX0_firstBehind_40 ?_
      refine x_ineg O dX0_firstBehind_41 ?_
      refine x_istore [some (.ref h), some (.int (nI z)), some (.int (nI a)), some (.int (nI 1)), some (.int (-((nwW (tkW fB z) 0 1 (-(nI a))) 1))), none] O dX0_firstBehind_42 rfl rfl ?_
      refine x_aload_n O dX0_firstBehind_44 rfl ?_
      refine x_iconst O dX0_firstBehind_45 kc_1 ?_
      refine x_iload O dX0_firstBehind_46 rfl ?_
      refine callX0_fix O ⟨Nat.le_of_ble_eq_true rfl, Nat.le_of_ble_eq_true rfl⟩ (Nat.le_of_ble_eq_true rfl) dX0_firstBehind_48 _ (by omega) _ (fun r u hp => ?_)
      obtain ⟨rfl, rfl⟩ := hp
      refine x_pop O dX0_firstBehind_51 ?_
      refine x_aload_n O dX0_firstBehind_52 rfl ?_
      refine fX_W O dX0_firstBehind_53 ?_
      refine x_iconst O dX0_firstBehind_56 kc_2 ?_
      refine ldW O (by omega) dX0_firstBehind_57 ?_
      refine x_ineg O dX0_firstBehind_58 ?_
      refine x_istore [some (.ref h), some (.int (nI z)), some (.int (nI a)), some (.int (nI 1)), some (.int (-((nwW (tkW fB z) 0 1 (-(nI a))) 1))), some (.int (-((fxW (nwW (tkW fB z) 0 1 (-(nI a))) 1 (-((nwW (tkW fB z) 0 1 (-(nI a))) 1))) 2)))] O dX0_firstBehind_59 rfl rfl ?_
      refine x_aload_n O dX0_firstBehind_61 rfl ?_
      refine x_iconst O dX0_firstBehind_62 kc_2 ?_
      refine x_iload O dX0_firstBehind_63 rfl ?_
      refine callX0_fix O ⟨Nat.le_of_ble_eq_true rfl, Nat.le_of_ble_eq_true rfl⟩ (Nat.le_of_ble_eq_true rfl) dX0_firstBehind_65 _ (by omega) _ (fun r u hp => ?_)
      obtain ⟨rfl, rfl⟩ := hp
      refine x_pop O dX0_firstBehind_68 ?_
      refine x_sipush O dX0_firstBehind_69 ks_169 ?_
      refine x_iload O dX0_firstBehind_72 rfl ?_
      refine x_imul O dX0_firstBehind_74 ?_
      refine x_bipush O dX0_firstBehind_75 kb_13 ?_
      refine x_iload O dX0_firstBehind_77 rfl ?_
      refine x_imul O dX0_firstBehind_79 ?_
      refine x_iadd O dX0_firstBehind_80 ?_
      refine x_aload_n O dX0_firstBehind_81 rfl ?_
      refine fX_W O dX0_firstBehind_82 ?_
      refine x_iconst O dX0_firstBehind_85 kc_3 ?_
      refine ldW O (by omega) dX0_firstBehind_86 ?_
      refine x_isub O dX0_firstBehind_87 ?_
      exact E _ _ _ _ _ dX0_firstBehind_88 rfl (by exact ⟨by unfold fbR; rw [if_pos ⟨c1, c2⟩]; rfl, _, rfl⟩)
theorem callX0_firstBehind {l : Launch} {D : va_G} {h hB hN hW : Nat} {cB cN cW : ClassId} {fB : Nat → Int32} {fN : Nat → Bool} {fW : Nat → Int32} {R : Room} {cc : ByteArray} {nL : Nat} {K : Nat → List (Option Value) → List Value → SX → Prop} {pc nx : Nat} {lv : List (Option Value)} {st : List Value} (O : MachX l R cc nL D h hB hN hW cB cN cW K) (hR : 2 + 1 ≤ R.frames ∧ 8 + (6 + 11) + 50 ≤ R.locals) (hst : (st.map fun v => v.category).sum ≤ 8) (d : Dc cc pc (.invokevirtual 70) 3 nx) (z : Nat) (a : Nat) (hz : z < 3 ∧ a < 100) (kont : ∀ r u, (r = fbR fB z a ∧ ∃ W, u = (fB, fN, W)) → K nx lv (.int r :: st) u) : K pc lv (.int (nI a) :: .int (nI z) :: .ref h :: st) (fB, fN, fW) :=
  x_callV (n := 2) O (mX0_firstBehind fB fN fW z a hz) (lw_V q158 q160 qs9 q22 q161) ⟨rfl, rfl⟩ (by decide +kernel) rfl hR ⟨0, [.ref hB, .ref hN, .ref hW], (RX0, TX0, 3), rfl, rfl, rfl⟩ hst rfl d kont
set_option maxHeartbeats 4000000 in
theorem mX0_next {l : Launch} {D : va_G} {h hB hN hW : Nat} {cB cN cW : ClassId} (fB : Nat → Int32) (fN : Nat → Bool) (fW : Nat → Int32) (z0 : Int32) (t0 : Int32) : Ct (wX h hB hN hW cB cN cW) D vwCl (tX cB cN cW) l yX0_next cX0_next 5 .int { frames := 3, cells := 0, slots := 0, locals := 77 } [.ref h, .int z0, .int t0] (fB, fN, fW) (fun r u => inZ z0 (fun z => ((fN z = true ∨ 2196 ≤ t0.toInt) ∧ r = (-2) ∧ u = (fB, fN, fW)) ∨ (fN z = false ∧ t0.toInt < 2196 ∧ ∃ f : Nat, f < 2197 ∧ ((t0.toInt < 0 ∧ f = 0) ∨ t0.toInt + 1 = f) ∧ r = nxR fB z f ∧ ∃ W, u = (fB, fN, W))) (r = (-1) ∧ u = (fB, fN, fW))) := by
  refine ct_entry wX_addr (by decide) (by simp [Value.category]) (Nat.le_of_ble_eq_true rfl) ⟨rfl, rfl⟩ ?_
  intro K O E
  show K 0 [some (.ref h), some (.int z0), some (.int t0), none, none] [] (fB, fN, fW)
  refine x_iload_n O dX0_next_0 rfl ?_
  refine callX0_isZone O ⟨Nat.le_of_ble_eq_true rfl, Nat.le_of_ble_eq_true rfl⟩ (Nat.le_of_ble_eq_true rfl) dX0_next_1 _ (fun r u hp => ?_)
  rcases hp with ⟨z, hz, rfl, rfl, rfl⟩ | ⟨hz, rfl, rfl⟩
  · refine x_if_neT O dX0_next_4 ?_
    refine x_aload_n O dX0_next_9 rfl ?_
    refine fX_N O dX0_next_10 ?_
    refine x_iload_n O dX0_next_13 rfl ?_
    refine ldN O (by omega) dX0_next_14 ?_
    refine x_if_neZ O dX0_next_15 (fun c1 => ?_) (fun c1 => ?_)
    · refine x_bipush O dX0_next_25 kb_m2 ?_
      exact E _ _ _ _ _ dX0_next_27 rfl (Or.inl ⟨z, hz, rfl, (by exact Or.inl ⟨Or.inl c1, rfl, rfl⟩)⟩)
    · refine x_iload_n O dX0_next_18 rfl ?_
      refine x_sipush O dX0_next_19 ks_2196 ?_
      refine x_icmp_ltK O dX0_next_22 (by omega) (fun c2 => ?_) (fun c2 => ?_)
      · have nxt : ∀ f : Nat, f < 2197 → ((t0.toInt < 0 ∧ f = 0) ∨ t0.toInt + 1 = f) → K 39 [some (.ref h), some (.int (nI z)), some (.int t0), none, none] [.int (nI f)] (fB, fN, fW) := by
          intro f hf hff
          refine x_istore_n [some (.ref h), some (.int (nI z)), some (.int t0), some (.int (nI f)), none] O dX0_next_39 rfl rfl ?_
          refine x_aload_n O dX0_next_40 rfl ?_
          refine x_iload_n O dX0_next_41 rfl ?_
          refine x_iload_n O dX0_next_42 rfl ?_
          refine x_sipush O dX0_next_43 ks_169 ?_
          refine x_idivN O dX0_next_46 (by omega) (by omega) ?_
          refine x_iload_n O dX0_next_47 rfl ?_
          refine x_bipush O dX0_next_48 kb_13 ?_
          refine x_idivN O dX0_next_50 (by omega) (by omega) ?_
          refine x_bipush O dX0_next_51 kb_13 ?_
          refine x_iremN O dX0_next_53 (by omega) (by omega) ?_
          refine x_iload_n O dX0_next_54 rfl ?_
          refine x_bipush O dX0_next_55 kb_13 ?_
          refine x_iremN O dX0_next_57 (by omega) (by omega) ?_
          refine callX0_firstFrom O ⟨Nat.le_of_ble_eq_true rfl, Nat.le_of_ble_eq_true rfl⟩ (Nat.le_of_ble_eq_true rfl) dX0_next_58 _ _ _ _ (by omega) (fun r u hp => ?_)
          obtain ⟨rfl, gW3, rfl⟩ := hp
          refine x_istore [some (.ref h), some (.int (nI z)), some (.int t0), some (.int (nI f)), some (.int (ffR fB z (f / 169) (f / 13 % 13) (f % 13)))] O dX0_next_61 rfl rfl ?_
          refine x_iload O dX0_next_63 rfl ?_
          refine x_if_lt O dX0_next_65 (fun c4 => ?_) (fun c4 => ?_)
          · refine x_aload_n O dX0_next_71 rfl ?_
            refine x_iload_n O dX0_next_72 rfl ?_
            refine x_iload_n O dX0_next_73 rfl ?_
            refine x_sipush O dX0_next_74 ks_169 ?_
            refine x_idivN O dX0_next_77 (by omega) (by omega) ?_
            refine x_iload_n O dX0_next_78 rfl ?_
            refine x_bipush O dX0_next_79 kb_13 ?_
            refine x_idivN O dX0_next_81 (by omega) (by omega) ?_
            refine x_bipush O dX0_next_82 kb_13 ?_
            refine x_iremN O dX0_next_84 (by omega) (by omega) ?_
            refine x_iconst O dX0_next_85 kc_1 ?_
            refine x_iaddN O dX0_next_86 ?_
            refine callX0_firstSecond O ⟨Nat.le_of_ble_eq_true rfl, Nat.le_of_ble_eq_true rfl⟩ (Nat.le_of_ble_eq_true rfl) dX0_next_87 _ _ _ (by omega) (fun r u hp => ?_)
            obtain ⟨rfl, gW5, rfl⟩ := hp
            refine x_istore [some (.ref h), some (.int (nI z)), some (.int t0), some (.int (nI f)), some (.int (fsR fB z (f / 169) (f / 13 % 13 + 1)))] O dX0_next_90 rfl rfl ?_
            refine x_iload O dX0_next_92 rfl ?_
            refine x_if_lt O dX0_next_94 (fun c6 => ?_) (fun c6 => ?_)
            · refine x_aload_n O dX0_next_100 rfl ?_
              refine x_iload_n O dX0_next_101 rfl ?_
              refine x_iload_n O dX0_next_102 rfl ?_
              refine x_sipush O dX0_next_103 ks_169 ?_
              refine x_idivN O dX0_next_106 (by omega) (by omega) ?_
              refine x_iconst O dX0_next_107 kc_1 ?_
              refine x_iaddN O dX0_next_108 ?_
              refine callX0_firstBehind O ⟨Nat.le_of_ble_eq_true rfl, Nat.le_of_ble_eq_true rfl⟩ (Nat.le_of_ble_eq_true rfl) dX0_next_109 _ _ (by omega) (fun r u hp => ?_)
              obtain ⟨rfl, gW7, rfl⟩ := hp
              exact E _ _ _ _ _ dX0_next_112 rfl (Or.inl ⟨z, hz, rfl, (by exact Or.inr ⟨c1, c2, f, hf, hff, by unfold nxR; rw [if_neg (by omega), if_neg (by omega)], _, rfl⟩)⟩)
            · refine x_iload O dX0_next_97 rfl ?_
              exact E _ _ _ _ _ dX0_next_99 rfl (Or.inl ⟨z, hz, rfl, (by exact Or.inr ⟨c1, c2, f, hf, hff, by unfold nxR; rw [if_neg (by omega), if_pos c6], _, rfl⟩)⟩)
          · refine x_iload O dX0_next_68 rfl ?_
            exact E _ _ _ _ _ dX0_next_70 rfl (Or.inl ⟨z, hz, rfl, (by exact Or.inr ⟨c1, c2, f, hf, hff, by unfold nxR; rw [if_pos c4], _, rfl⟩)⟩)
        refine x_iload_n O dX0_next_28 rfl ?_
        refine x_if_ge O dX0_next_29 (fun c8 => ?_) (fun c8 => ?_)
        · obtain ⟨a, ha, ea⟩ := nI_ofT (x := t0) (b := 2195) c8 (by omega)
          have ta : t0.toInt = a := by rw [ea]; exact nI_toInt (by omega)
          refine x_iload_n O dX0_next_36 rfl ?_
          refine x_iconst O dX0_next_37 kc_1 ?_
          rw [ea]
          refine x_iaddN O dX0_next_38 ?_
          rw [← ea]
          exact nxt (a + 1) (by omega) (by omega)
        · refine x_iconst O dX0_next_32 kc_0 ?_
          refine x_goto O dX0_next_33 ?_
          exact nxt 0 (by omega) (by omega)
      · refine x_bipush O dX0_next_25 kb_m2 ?_
        exact E _ _ _ _ _ dX0_next_27 rfl (Or.inl ⟨z, hz, rfl, (by exact Or.inl ⟨Or.inr c2, rfl, rfl⟩)⟩)
  · refine x_if_neF O dX0_next_4 ?_
    refine x_iconst O dX0_next_7 kc_m1 ?_
    exact E _ _ _ _ _ dX0_next_8 rfl (Or.inr ⟨hz, (by exact ⟨rfl, rfl⟩)⟩)
end
section
/-! what the methods of ClockZonesModel compute -/
set_option maxRecDepth 100000
def vl (p k : Nat) : Nat := if k = 0 then 0 else if k = 1 then p / 169 else if k = 2 then p / 13 % 13 else p % 13
theorem vl_le {p k : Nat} (h : p < 2197) : vl p k ≤ 12 := by
  unfold vl
  repeat' split
  all_goals omega
def wt (p k v : Nat) : Nat := if k = 1 then p % 169 + v * 169 else if k = 2 then (p / 169 * 169 + p % 13) + v * 13 else p / 13 * 13 + v * 1
theorem wt_lt {p k v : Nat} (h : p < 2197) (hv : v ≤ 12) : wt p k v < 2197 := by
  unfold wt
  repeat' split
  all_goals omega
theorem wt_ring {p q o v w : Nat} (h : p = q + o * w) : nI p + (nI v - nI o) * nI w = nI (q + v * w) := by
  subst h
  rw [← nI_add, ← nI_add, ← pk_mul, ← pk_mul]
  grind
def anyUp (f : Nat → Bool) : Nat → Bool
  | 0 => false
  | n + 1 => anyUp f n || f n
theorem anyUp_s {f : Nat → Bool} {n : Nat} (h : anyUp f n = false) (hn : f n = false) : anyUp f (n + 1) = false := by rw [anyUp, h, hn]; rfl
theorem anyUp_iff {f : Nat → Bool} : ∀ n, anyUp f n = true ↔ ∃ k, k < n ∧ f k = true
  | 0 => by simp [anyUp]
  | n + 1 => by
    rw [anyUp, Bool.or_eq_true, anyUp_iff n]
    constructor
    · rintro (⟨k, h1, h2⟩ | h)
      · exact ⟨k, by omega, h2⟩
      · exact ⟨n, by omega, h⟩
    · rintro ⟨k, h1, h2⟩
      by_cases hk : k = n
      · subst hk; exact Or.inr h2
      · exact Or.inl ⟨k, by omega, h2⟩
theorem anyUp_hit {f : Nat → Bool} {n k : Nat} (hk : k < n) (h : f k = true) : anyUp f n = true := (anyUp_iff n).mpr ⟨k, hk, h⟩
def someR (f : Nat → Bool) (z : Nat) : Bool := anyUp (fun p => f (z * 2197 + p)) 2197
def cntB (f : Nat → Bool) : Nat → Nat
  | 0 => 0
  | n + 1 => if f n then cntB f n + 1 else cntB f n
def grI (f : Nat → Bool) (i j : Nat) : Nat → Int32
  | 0 => (-100)
  | n + 1 => if f n = true ∧ (grI f i j n).toInt < (nI (vl n i) - nI (vl n j)).toInt then nI (vl n i) - nI (vl n j) else grI f i j n
theorem grI_0 {f : Nat → Bool} {i j n : Nat} {x : Int32} (h : x = grI f i j n) (hf : f n = false) : x = grI f i j (n + 1) := by
  rw [grI, if_neg (fun q => by rw [hf] at q; exact absurd q.1 (by decide))]; exact h
theorem grI_1 {f : Nat → Bool} {i j n : Nat} {x : Int32} (h : x = grI f i j n) (hc : (nI (vl n i) - nI (vl n j)).toInt ≤ x.toInt) : x = grI f i j (n + 1) := by
  rw [grI, if_neg (fun q => by rw [← h] at q; omega)]; exact h
theorem grI_2 {f : Nat → Bool} {i j n : Nat} {x : Int32} (h : x = grI f i j n) (hf : f n = true) (hc : x.toInt < (nI (vl n i) - nI (vl n j)).toInt) : nI (vl n i) - nI (vl n j) = grI f i j (n + 1) := by
  rw [grI, if_pos ⟨hf, by rw [← h]; exact hc⟩]
theorem blkB_skip {f f' g : Nat → Bool} {o k : Nat} (h : f' = blk f o k g) (hx : f (o + k) = g k) : f' = blk f o (k + 1) g := by
  subst h
  funext t
  unfold blk
  by_cases h1 : t = o + k
  · subst h1
    rw [if_neg (by omega), if_pos (by omega), Nat.add_sub_cancel_left]; exact hx
  · by_cases h2 : o ≤ t ∧ t < o + k
    · rw [if_pos h2, if_pos (by omega)]
    · rw [if_neg h2, if_neg (by omega)]
def drM (f : Nat → Bool) (y i j : Nat) (c : Int32) : Nat → Bool := blk f (y * 2197) 2197 (fun p => f (y * 2197 + p) && decide ((nI (vl p i) - nI (vl p j)).toInt ≤ c.toInt))
def huM (fM fD : Nat → Bool) (y : Nat) : Nat → (Nat → Bool)
  | 0 => blk fM (y * 2197) 2197 (fun _ => true)
  | n + 1 => drM (huM fM fD y n) y (n / 4) (n % 4) (grI fD (n / 4) (n % 4) 2197)
def insP (p d : Nat) : Bool := decide (d ≤ vl p 1 ∧ d ≤ vl p 2 ∧ d ≤ vl p 3)
def insB (p d : Nat) : Bool := decide (vl p 1 + d ≤ 12 ∧ vl p 2 + d ≤ 12 ∧ vl p 3 + d ≤ 12)
def shP (f : Nat → Bool) (z p : Nat) : Bool := anyUp (fun d => insP p d && f (z * 2197 + p - 183 * d)) 13
def shB (f : Nat → Bool) (z p : Nat) : Bool := anyUp (fun d => insB p d && f (z * 2197 + p + 183 * (d * 1))) 13
def atR (f : Nat → Bool) (z p k : Nat) : Bool := anyUp (fun v => f (z * 2197 + wt p k v)) 13
theorem negmul (d : Nat) : nI d * (-1) = -nI d := by grind
theorem addneg_toInt {a d : Nat} (ha : a ≤ 12) (hd : d ≤ 12) : (nI a + -nI d).toInt = (a : Int) - d := by
  rw [← Int32.sub_eq_add_neg]
  exact pk_sub_toInt (by omega) (by omega)
theorem sub183 {m d : Nat} (h : 183 * d ≤ m) : nI m + nI 183 * (-nI d) = nI (m - 183 * d) := by
  rw [← pk_sub h, ← pk_mul]
  grind
theorem vl_all {p : Nat} (hp : p < 2197) : p = 169 * vl p 1 + 13 * vl p 2 + vl p 3 := by
  unfold vl
  simp only [Nat.reduceEqDiff, if_true, if_false, Nat.one_ne_zero]
  omega
end
section
set_option maxRecDepth 100000
set_option maxHeartbeats 4000000 in
theorem mX1_badZone {l : Launch} {D : va_G} {h hM hD : Nat} {cM cD : ClassId} (fM : Nat → Bool) (fD : Nat → Bool) (z0 : Int32) : Ct (wM h hM hD cM cD) D vwCl (tM cM cD) l yX1_badZone cX1_badZone 2 .boolean { frames := 0, cells := 0, slots := 0, locals := 0 } [.ref h, .int z0] (fM, fD) (fun r u => inZ z0 (fun _ => r = zI false ∧ u = (fM, fD)) (r = zI true ∧ u = (fM, fD))) := by
  refine ct_entry wM_addr (by decide) (by simp [Value.category]) (Nat.le_of_ble_eq_true rfl) ⟨rfl, rfl⟩ ?_
  intro K O E
  show K 0 [some (.ref h), some (.int z0)] [] (fM, fD)
  refine x_iload_n O dX1_badZone_0 rfl ?_
  refine x_if_lt O dX1_badZone_1 (fun c1 => ?_) (fun c1 => ?_)
  · refine x_iconst O dX1_badZone_9 kc_1 ?_
    refine x_goto O dX1_badZone_10 ?_
    refine x_top zI_1 ?_
    exact E _ _ _ _ _ dX1_badZone_14 (zI_narrow _) (by exact Or.inr ⟨by omega, rfl, rfl⟩)
  · refine x_iload_n O dX1_badZone_4 rfl ?_
    refine x_iconst O dX1_badZone_5 kc_2 ?_
    refine x_icmp_leK O dX1_badZone_6 (by omega) (fun c2 => ?_) (fun c2 => ?_)
    · refine x_iconst O dX1_badZone_13 kc_0 ?_
      refine x_top zI_0 ?_
      exact E _ _ _ _ _ dX1_badZone_14 (zI_narrow _) (by exact Or.inl (by obtain ⟨z, hz, e⟩ := nI_ofT (x := z0) (b := 2) (by omega) (by omega); exact ⟨z, by omega, e, rfl, rfl⟩))
    · refine x_iconst O dX1_badZone_9 kc_1 ?_
      refine x_goto O dX1_badZone_10 ?_
      refine x_top zI_1 ?_
      exact E _ _ _ _ _ dX1_badZone_14 (zI_narrow _) (by exact Or.inr ⟨by omega, rfl, rfl⟩)
theorem callX1_badZone {l : Launch} {D : va_G} {h hM hD : Nat} {cM cD : ClassId} {fM : Nat → Bool} {fD : Nat → Bool} {R : Room} {cc : ByteArray} {nL : Nat} {K : Nat → List (Option Value) → List Value → SM → Prop} {pc nx : Nat} {lv : List (Option Value)} {st : List Value} (O : MachM l R cc nL D h hM hD cM cD K) (hR : 0 + 1 ≤ R.frames ∧ 8 + (2 + 11) + 0 ≤ R.locals) (hst : (st.map fun v => v.category).sum ≤ 8) (d : Dc cc pc (.invokevirtual 24) 3 nx) (z0 : Int32) (kont : ∀ r u, (inZ z0 (fun _ => r = zI false ∧ u = (fM, fD)) (r = zI true ∧ u = (fM, fD))) → K nx lv (.int r :: st) u) : K pc lv (.int z0 :: .ref h :: st) (fM, fD) :=
  x_callV (n := 1) O (mX1_badZone fM fD z0) (lw_V q187 q189 qs10 q23 q190) ⟨rfl, rfl⟩ (by decide +kernel) rfl hR ⟨1, [.ref hM, .ref hD], (RX1, TX1, 2), rfl, rfl, rfl⟩ hst rfl d kont
set_option maxHeartbeats 4000000 in
theorem mX1_badClock {l : Launch} {D : va_G} {h hM hD : Nat} {cM cD : ClassId} (fM : Nat → Bool) (fD : Nat → Bool) (k0 : Int32) : Ct (wM h hM hD cM cD) D vwCl (tM cM cD) l yX1_badClock cX1_badClock 2 .boolean { frames := 0, cells := 0, slots := 0, locals := 0 } [.ref h, .int k0] (fM, fD) (fun r u => inC k0 (fun _ => r = zI false ∧ u = (fM, fD)) (r = zI true ∧ u = (fM, fD))) := by
  refine ct_entry wM_addr (by decide) (by simp [Value.category]) (Nat.le_of_ble_eq_true rfl) ⟨rfl, rfl⟩ ?_
  intro K O E
  show K 0 [some (.ref h), some (.int k0)] [] (fM, fD)
  refine x_iload_n O dX1_badClock_0 rfl ?_
  refine x_iconst O dX1_badClock_1 kc_1 ?_
  refine x_icmp_ltK O dX1_badClock_2 (by omega) (fun c1 => ?_) (fun c1 => ?_)
  · refine x_iconst O dX1_badClock_10 kc_1 ?_
    refine x_goto O dX1_badClock_11 ?_
    refine x_top zI_1 ?_
    exact E _ _ _ _ _ dX1_badClock_15 (zI_narrow _) (by exact Or.inr ⟨by omega, rfl, rfl⟩)
  · refine x_iload_n O dX1_badClock_5 rfl ?_
    refine x_iconst O dX1_badClock_6 kc_3 ?_
    refine x_icmp_leK O dX1_badClock_7 (by omega) (fun c2 => ?_) (fun c2 => ?_)
    · refine x_iconst O dX1_badClock_14 kc_0 ?_
      refine x_top zI_0 ?_
      exact E _ _ _ _ _ dX1_badClock_15 (zI_narrow _) (by obtain ⟨z, hz, rfl⟩ := nI_ofT (x := k0) (b := 3) (by omega) (by omega); rw [nI_toInt (by omega)] at *; exact Or.inl ⟨z, by omega, rfl, rfl, rfl⟩)
    · refine x_iconst O dX1_badClock_10 kc_1 ?_
      refine x_goto O dX1_badClock_11 ?_
      refine x_top zI_1 ?_
      exact E _ _ _ _ _ dX1_badClock_15 (zI_narrow _) (by exact Or.inr ⟨by omega, rfl, rfl⟩)
theorem callX1_badClock {l : Launch} {D : va_G} {h hM hD : Nat} {cM cD : ClassId} {fM : Nat → Bool} {fD : Nat → Bool} {R : Room} {cc : ByteArray} {nL : Nat} {K : Nat → List (Option Value) → List Value → SM → Prop} {pc nx : Nat} {lv : List (Option Value)} {st : List Value} (O : MachM l R cc nL D h hM hD cM cD K) (hR : 0 + 1 ≤ R.frames ∧ 8 + (2 + 11) + 0 ≤ R.locals) (hst : (st.map fun v => v.category).sum ≤ 8) (d : Dc cc pc (.invokevirtual 43) 3 nx) (k0 : Int32) (kont : ∀ r u, (inC k0 (fun _ => r = zI false ∧ u = (fM, fD)) (r = zI true ∧ u = (fM, fD))) → K nx lv (.int r :: st) u) : K pc lv (.int k0 :: .ref h :: st) (fM, fD) :=
  x_callV (n := 1) O (mX1_badClock fM fD k0) (lw_V q231 q233 qs16 q23 q234) ⟨rfl, rfl⟩ (by decide +kernel) rfl hR ⟨1, [.ref hM, .ref hD], (RX1, TX1, 2), rfl, rfl, rfl⟩ hst rfl d kont
set_option maxHeartbeats 4000000 in
theorem mX1_badPair {l : Launch} {D : va_G} {h hM hD : Nat} {cM cD : ClassId} (fM : Nat → Bool) (fD : Nat → Bool) (i0 : Int32) (j0 : Int32) : Ct (wM h hM hD cM cD) D vwCl (tM cM cD) l yX1_badPair cX1_badPair 3 .boolean { frames := 0, cells := 0, slots := 0, locals := 0 } [.ref h, .int i0, .int j0] (fM, fD) (fun r u => inP i0 j0 (fun _ _ => r = zI false ∧ u = (fM, fD)) (r = zI true ∧ u = (fM, fD))) := by
  refine ct_entry wM_addr (by decide) (by simp [Value.category]) (Nat.le_of_ble_eq_true rfl) ⟨rfl, rfl⟩ ?_
  intro K O E
  show K 0 [some (.ref h), some (.int i0), some (.int j0)] [] (fM, fD)
  refine x_iload_n O dX1_badPair_0 rfl ?_
  refine x_if_lt O dX1_badPair_1 (fun c1 => ?_) (fun c1 => ?_)
  · refine x_iconst O dX1_badPair_23 kc_1 ?_
    refine x_goto O dX1_badPair_24 ?_
    refine x_top zI_1 ?_
    exact E _ _ _ _ _ dX1_badPair_28 (zI_narrow _) (by exact Or.inr ⟨Or.inl c1, rfl, rfl⟩)
  · refine x_iload_n O dX1_badPair_4 rfl ?_
    refine x_iconst O dX1_badPair_5 kc_3 ?_
    refine x_icmp_gtK O dX1_badPair_6 (by omega) (fun c2 => ?_) (fun c2 => ?_)
    · refine x_iconst O dX1_badPair_23 kc_1 ?_
      refine x_goto O dX1_badPair_24 ?_
      refine x_top zI_1 ?_
      exact E _ _ _ _ _ dX1_badPair_28 (zI_narrow _) (by exact Or.inr ⟨Or.inr (Or.inl c2), rfl, rfl⟩)
    · refine x_iload_n O dX1_badPair_9 rfl ?_
      refine x_if_lt O dX1_badPair_10 (fun c3 => ?_) (fun c3 => ?_)
      · refine x_iconst O dX1_badPair_23 kc_1 ?_
        refine x_goto O dX1_badPair_24 ?_
        refine x_top zI_1 ?_
        exact E _ _ _ _ _ dX1_badPair_28 (zI_narrow _) (by exact Or.inr ⟨Or.inr (Or.inr (Or.inl c3)), rfl, rfl⟩)
      · refine x_iload_n O dX1_badPair_13 rfl ?_
        refine x_iconst O dX1_badPair_14 kc_3 ?_
        refine x_icmp_gtK O dX1_badPair_15 (by omega) (fun c4 => ?_) (fun c4 => ?_)
        · refine x_iconst O dX1_badPair_23 kc_1 ?_
          refine x_goto O dX1_badPair_24 ?_
          refine x_top zI_1 ?_
          exact E _ _ _ _ _ dX1_badPair_28 (zI_narrow _) (by exact Or.inr ⟨Or.inr (Or.inr (Or.inr (Or.inl c4))), rfl, rfl⟩)
        · refine x_iload_n O dX1_badPair_18 rfl ?_
          refine x_iload_n O dX1_badPair_19 rfl ?_
          refine x_icmp_ne O dX1_badPair_20 (fun c5 => ?_) (fun c5 => ?_)
          · refine x_iconst O dX1_badPair_27 kc_0 ?_
            refine x_top zI_0 ?_
            exact E _ _ _ _ _ dX1_badPair_28 (zI_narrow _) (by obtain ⟨i, hi, rfl⟩ := nI_ofT (x := i0) (b := 3) (by omega) (by omega); obtain ⟨j, hj, rfl⟩ := nI_ofT (x := j0) (b := 3) (by omega) (by omega); exact Or.inl ⟨i, j, ⟨by omega, by omega, fun q => c5 (by rw [q])⟩, rfl, rfl, rfl, rfl⟩)
          · refine x_iconst O dX1_badPair_23 kc_1 ?_
            refine x_goto O dX1_badPair_24 ?_
            refine x_top zI_1 ?_
            exact E _ _ _ _ _ dX1_badPair_28 (zI_narrow _) (by exact Or.inr ⟨Or.inr (Or.inr (Or.inr (Or.inr c5))), rfl, rfl⟩)
theorem callX1_badPair {l : Launch} {D : va_G} {h hM hD : Nat} {cM cD : ClassId} {fM : Nat → Bool} {fD : Nat → Bool} {R : Room} {cc : ByteArray} {nL : Nat} {K : Nat → List (Option Value) → List Value → SM → Prop} {pc nx : Nat} {lv : List (Option Value)} {st : List Value} (O : MachM l R cc nL D h hM hD cM cD K) (hR : 0 + 1 ≤ R.frames ∧ 8 + (3 + 11) + 0 ≤ R.locals) (hst : (st.map fun v => v.category).sum ≤ 8) (d : Dc cc pc (.invokevirtual 28) 3 nx) (i0 : Int32) (j0 : Int32) (kont : ∀ r u, (inP i0 j0 (fun _ _ => r = zI false ∧ u = (fM, fD)) (r = zI true ∧ u = (fM, fD))) → K nx lv (.int r :: st) u) : K pc lv (.int j0 :: .int i0 :: .ref h :: st) (fM, fD) :=
  x_callV (n := 2) O (mX1_badPair fM fD i0 j0) (lw_V q199 q201 qs11 q23 q202) ⟨rfl, rfl⟩ (by decide +kernel) rfl hR ⟨1, [.ref hM, .ref hD], (RX1, TX1, 2), rfl, rfl, rfl⟩ hst rfl d kont
set_option maxHeartbeats 4000000 in
theorem mX1_value {l : Launch} {D : va_G} {h hM hD : Nat} {cM cD : ClassId} (fM : Nat → Bool) (fD : Nat → Bool) (p : Nat) (k : Nat) (hp : p < 2197 ∧ k < 4) : Ct (wM h hM hD cM cD) D vwCl (tM cM cD) l yX1_value cX1_value 3 .int { frames := 0, cells := 0, slots := 0, locals := 0 } [.ref h, .int (nI p), .int (nI k)] (fM, fD) (fun r u => r = nI (vl p k) ∧ u = (fM, fD)) := by
  refine ct_entry wM_addr (by decide) (by simp [Value.category]) (Nat.le_of_ble_eq_true rfl) ⟨rfl, rfl⟩ ?_
  intro K O E
  show K 0 [some (.ref h), some (.int (nI p)), some (.int (nI k))] [] (fM, fD)
  refine x_iload_n O dX1_value_0 rfl ?_
  refine x_if_neN O dX1_value_1 (by omega) (fun c1 => ?_) (fun c1 => ?_)
  · refine x_iload_n O dX1_value_6 rfl ?_
    refine x_iconst O dX1_value_7 kc_1 ?_
    refine x_icmp_neN O dX1_value_8 (by omega) (fun c2 => ?_) (fun c2 => ?_)
    · refine x_iload_n O dX1_value_17 rfl ?_
      refine x_iconst O dX1_value_18 kc_2 ?_
      refine x_icmp_neN O dX1_value_19 (by omega) (fun c3 => ?_) (fun c3 => ?_)
      · refine x_iload_n O dX1_value_30 rfl ?_
        refine x_bipush O dX1_value_31 kb_13 ?_
        refine x_iremN O dX1_value_33 (by omega) (by omega) ?_
        exact E _ _ _ _ _ dX1_value_34 rfl (by exact ⟨by unfold vl; rw [if_neg c1]; rw [if_neg c2]; rw [if_neg c3], rfl⟩)
      · refine x_iload_n O dX1_value_22 rfl ?_
        refine x_bipush O dX1_value_23 kb_13 ?_
        refine x_idivN O dX1_value_25 (by omega) (by omega) ?_
        refine x_bipush O dX1_value_26 kb_13 ?_
        refine x_iremN O dX1_value_28 (by omega) (by omega) ?_
        exact E _ _ _ _ _ dX1_value_29 rfl (by exact ⟨by unfold vl; rw [if_neg c1]; rw [if_neg c2]; rw [if_pos c3], rfl⟩)
    · refine x_iload_n O dX1_value_11 rfl ?_
      refine x_sipush O dX1_value_12 ks_169 ?_
      refine x_idivN O dX1_value_15 (by omega) (by omega) ?_
      exact E _ _ _ _ _ dX1_value_16 rfl (by exact ⟨by unfold vl; rw [if_neg c1]; rw [if_pos c2], rfl⟩)
  · refine x_iconst O dX1_value_4 kc_0 ?_
    exact E _ _ _ _ _ dX1_value_5 rfl (by exact ⟨by unfold vl; rw [if_pos c1], rfl⟩)
theorem callX1_value {l : Launch} {D : va_G} {h hM hD : Nat} {cM cD : ClassId} {fM : Nat → Bool} {fD : Nat → Bool} {R : Room} {cc : ByteArray} {nL : Nat} {K : Nat → List (Option Value) → List Value → SM → Prop} {pc nx : Nat} {lv : List (Option Value)} {st : List Value} (O : MachM l R cc nL D h hM hD cM cD K) (hR : 0 + 1 ≤ R.frames ∧ 8 + (3 + 11) + 0 ≤ R.locals) (hst : (st.map fun v => v.category).sum ≤ 8) (d : Dc cc pc (.invokevirtual 16) 3 nx) (p : Nat) (k : Nat) (hp : p < 2197 ∧ k < 4) (kont : ∀ r u, (r = nI (vl p k) ∧ u = (fM, fD)) → K nx lv (.int r :: st) u) : K pc lv (.int (nI k) :: .int (nI p) :: .ref h :: st) (fM, fD) :=
  x_callV (n := 2) O (mX1_value fM fD p k hp) (lw_V q203 q205 qs12 q23 q206) ⟨rfl, rfl⟩ (by decide +kernel) rfl hR ⟨1, [.ref hM, .ref hD], (RX1, TX1, 2), rfl, rfl, rfl⟩ hst rfl d kont
set_option maxHeartbeats 4000000 in
theorem mX1_with {l : Launch} {D : va_G} {h hM hD : Nat} {cM cD : ClassId} (fM : Nat → Bool) (fD : Nat → Bool) (p : Nat) (k : Nat) (v : Nat) (hp : p < 2197 ∧ (1 ≤ k ∧ k < 4) ∧ v ≤ 12) : Ct (wM h hM hD cM cD) D vwCl (tM cM cD) l yX1_with cX1_with 6 .int { frames := 1, cells := 0, slots := 0, locals := 22 } [.ref h, .int (nI p), .int (nI k), .int (nI v)] (fM, fD) (fun r u => r = nI (wt p k v) ∧ u = (fM, fD)) := by
  refine ct_entry wM_addr (by decide) (by simp [Value.category]) (Nat.le_of_ble_eq_true rfl) ⟨rfl, rfl⟩ ?_
  intro K O E
  show K 0 [some (.ref h), some (.int (nI p)), some (.int (nI k)), some (.int (nI v)), none, none] [] (fM, fD)
  refine x_iload_n O dX1_with_0 rfl ?_
  refine x_iconst O dX1_with_1 kc_1 ?_
  refine x_icmp_neN O dX1_with_2 (by omega) (fun c1 => ?_) (fun c1 => ?_)
  · refine x_iload_n O dX1_with_11 rfl ?_
    refine x_iconst O dX1_with_12 kc_2 ?_
    refine x_icmp_neN O dX1_with_13 (by omega) (fun c2 => ?_) (fun c2 => ?_)
    · refine x_iconst O dX1_with_21 kc_1 ?_
      refine x_istore [some (.ref h), some (.int (nI p)), some (.int (nI k)), some (.int (nI v)), some (.int (nI 1)), none] O dX1_with_22 rfl rfl ?_
      refine x_aload_n O dX1_with_24 rfl ?_
      refine x_iload_n O dX1_with_25 rfl ?_
      refine x_iload_n O dX1_with_26 rfl ?_
      refine callX1_value O ⟨Nat.le_of_ble_eq_true rfl, Nat.le_of_ble_eq_true rfl⟩ (Nat.le_of_ble_eq_true rfl) dX1_with_27 _ _ (by omega) (fun r u hp => ?_)
      obtain ⟨rfl, rfl⟩ := hp
      have hv3 := vl_le (p := p) (k := k) (by omega)
      refine x_istore [some (.ref h), some (.int (nI p)), some (.int (nI k)), some (.int (nI v)), some (.int (nI 1)), some (.int (nI (vl p k)))] O dX1_with_30 rfl rfl ?_
      refine x_iload_n O dX1_with_32 rfl ?_
      refine x_iload_n O dX1_with_33 rfl ?_
      refine x_iload O dX1_with_34 rfl ?_
      refine x_isub O dX1_with_36 ?_
      refine x_iload O dX1_with_37 rfl ?_
      refine x_imul O dX1_with_39 ?_
      refine x_iadd O dX1_with_40 ?_
      exact E _ _ _ _ _ dX1_with_41 rfl (by exact ⟨by obtain rfl : k = 3 := (by omega); rw [wt, if_neg c1, if_neg c2]; exact wt_ring (by show p = p / 13 * 13 + p % 13 * 1; omega), rfl⟩)
    · refine x_bipush O dX1_with_16 kb_13 ?_
      refine x_goto O dX1_with_18 ?_
      refine x_istore [some (.ref h), some (.int (nI p)), some (.int (nI k)), some (.int (nI v)), some (.int (nI 13)), none] O dX1_with_22 rfl rfl ?_
      refine x_aload_n O dX1_with_24 rfl ?_
      refine x_iload_n O dX1_with_25 rfl ?_
      refine x_iload_n O dX1_with_26 rfl ?_
      refine callX1_value O ⟨Nat.le_of_ble_eq_true rfl, Nat.le_of_ble_eq_true rfl⟩ (Nat.le_of_ble_eq_true rfl) dX1_with_27 _ _ (by omega) (fun r u hp => ?_)
      obtain ⟨rfl, rfl⟩ := hp
      have hv4 := vl_le (p := p) (k := k) (by omega)
      refine x_istore [some (.ref h), some (.int (nI p)), some (.int (nI k)), some (.int (nI v)), some (.int (nI 13)), some (.int (nI (vl p k)))] O dX1_with_30 rfl rfl ?_
      refine x_iload_n O dX1_with_32 rfl ?_
      refine x_iload_n O dX1_with_33 rfl ?_
      refine x_iload O dX1_with_34 rfl ?_
      refine x_isub O dX1_with_36 ?_
      refine x_iload O dX1_with_37 rfl ?_
      refine x_imul O dX1_with_39 ?_
      refine x_iadd O dX1_with_40 ?_
      exact E _ _ _ _ _ dX1_with_41 rfl (by exact ⟨by obtain rfl := c2; rw [wt, if_neg c1, if_pos rfl]; exact wt_ring (by show p = (p / 169 * 169 + p % 13) + p / 13 % 13 * 13; omega), rfl⟩)
  · refine x_sipush O dX1_with_5 ks_169 ?_
    refine x_goto O dX1_with_8 ?_
    refine x_istore [some (.ref h), some (.int (nI p)), some (.int (nI k)), some (.int (nI v)), some (.int (nI 169)), none] O dX1_with_22 rfl rfl ?_
    refine x_aload_n O dX1_with_24 rfl ?_
    refine x_iload_n O dX1_with_25 rfl ?_
    refine x_iload_n O dX1_with_26 rfl ?_
    refine callX1_value O ⟨Nat.le_of_ble_eq_true rfl, Nat.le_of_ble_eq_true rfl⟩ (Nat.le_of_ble_eq_true rfl) dX1_with_27 _ _ (by omega) (fun r u hp => ?_)
    obtain ⟨rfl, rfl⟩ := hp
    have hv5 := vl_le (p := p) (k := k) (by omega)
    refine x_istore [some (.ref h), some (.int (nI p)), some (.int (nI k)), some (.int (nI v)), some (.int (nI 169)), some (.int (nI (vl p k)))] O dX1_with_30 rfl rfl ?_
    refine x_iload_n O dX1_with_32 rfl ?_
    refine x_iload_n O dX1_with_33 rfl ?_
    refine x_iload O dX1_with_34 rfl ?_
    refine x_isub O dX1_with_36 ?_
    refine x_iload O dX1_with_37 rfl ?_
    refine x_imul O dX1_with_39 ?_
    refine x_iadd O dX1_with_40 ?_
    exact E _ _ _ _ _ dX1_with_41 rfl (by exact ⟨by obtain rfl := c1; rw [wt, if_pos rfl]; exact wt_ring (by show p = p % 169 + p / 169 * 169; omega), rfl⟩)
theorem callX1_with {l : Launch} {D : va_G} {h hM hD : Nat} {cM cD : ClassId} {fM : Nat → Bool} {fD : Nat → Bool} {R : Room} {cc : ByteArray} {nL : Nat} {K : Nat → List (Option Value) → List Value → SM → Prop} {pc nx : Nat} {lv : List (Option Value)} {st : List Value} (O : MachM l R cc nL D h hM hD cM cD K) (hR : 1 + 1 ≤ R.frames ∧ 8 + (6 + 11) + 22 ≤ R.locals) (hst : (st.map fun v => v.category).sum ≤ 8) (d : Dc cc pc (.invokevirtual 39) 3 nx) (p : Nat) (k : Nat) (v : Nat) (hp : p < 2197 ∧ (1 ≤ k ∧ k < 4) ∧ v ≤ 12) (kont : ∀ r u, (r = nI (wt p k v) ∧ u = (fM, fD)) → K nx lv (.int r :: st) u) : K pc lv (.int (nI v) :: .int (nI k) :: .int (nI p) :: .ref h :: st) (fM, fD) :=
  x_callV (n := 3) O (mX1_with fM fD p k v hp) (lw_V q239 q241 qs18 q23 q242) ⟨rfl, rfl⟩ (by decide +kernel) rfl hR ⟨1, [.ref hM, .ref hD], (RX1, TX1, 2), rfl, rfl, rfl⟩ hst rfl d kont
set_option maxHeartbeats 4000000 in
theorem mX1_some {l : Launch} {D : va_G} {h hM hD : Nat} {cM cD : ClassId} (fM : Nat → Bool) (fD : Nat → Bool) (z : Nat) (hz : z < 3) : Ct (wM h hM hD cM cD) D vwCl (tM cM cD) l yX1_some cX1_some 3 .int { frames := 0, cells := 0, slots := 0, locals := 0 } [.ref h, .int (nI z)] (fM, fD) (fun r u => r = zI (someR fM z) ∧ u = (fM, fD)) := by
  refine ct_entry wM_addr (by decide) (by simp [Value.category]) (Nat.le_of_ble_eq_true rfl) ⟨rfl, rfl⟩ ?_
  intro K O E
  show K 0 [some (.ref h), some (.int (nI z)), none] [] (fM, fD)
  refine x_iconst O dX1_some_0 kc_0 ?_
  refine x_istore_n [some (.ref h), some (.int (nI z)), some (.int (nI 0))] O dX1_some_1 rfl rfl ?_
  have lp2 : ∀ (n p : Nat), 2197 - p = n → p ≤ 2197 → anyUp (fun p => fM (z * 2197 + p)) p = false → K 2 [some (.ref h), some (.int (nI z)), some (.int (nI p))] [] (fM, fD) := by
    intro n
    induction n using Nat.strongRecOn with
    | _ n ih2 =>
      intro p hn2 hk2 hany
      refine x_iload_n O dX1_some_2 rfl ?_
      refine x_sipush O dX1_some_3 ks_2197 ?_
      refine x_icmp_geN O dX1_some_6 (by omega) (fun c1 => ?_) (fun c1 => ?_)
      · obtain rfl : p = 2197 := by omega
        refine x_iconst O dX1_some_32 kc_0 ?_
        exact E _ _ _ _ _ dX1_some_33 rfl (by exact ⟨by rw [show someR fM z = false from hany]; exact zI_0, rfl⟩)
      · refine x_aload_n O dX1_some_9 rfl ?_
        refine fM_M O dX1_some_10 ?_
        refine x_iload_n O dX1_some_13 rfl ?_
        refine x_sipush O dX1_some_14 ks_2197 ?_
        refine x_imulN O dX1_some_17 ?_
        refine x_iload_n O dX1_some_18 rfl ?_
        refine x_iaddN O dX1_some_19 ?_
        refine ldM O (by omega) dX1_some_20 ?_
        refine x_if_eqZ O dX1_some_21 (fun c2 => ?_) (fun c2 => ?_)
        · refine x_iincN [some (.ref h), some (.int (nI z)), some (.int (nI (p + 1)))] O dX1_some_26 rfl rfl ?_
          refine x_goto O dX1_some_29 ?_
          exact ih2 _ (by omega) (p + 1) rfl (by omega) (by exact anyUp_s hany c2)
        · refine x_iconst O dX1_some_24 kc_1 ?_
          exact E _ _ _ _ _ dX1_some_25 rfl (by exact ⟨by rw [show someR fM z = true from anyUp_hit c1 c2]; exact zI_1, rfl⟩)
  exact lp2 _ 0 rfl (by omega) (by rfl)
theorem callX1_some {l : Launch} {D : va_G} {h hM hD : Nat} {cM cD : ClassId} {fM : Nat → Bool} {fD : Nat → Bool} {R : Room} {cc : ByteArray} {nL : Nat} {K : Nat → List (Option Value) → List Value → SM → Prop} {pc nx : Nat} {lv : List (Option Value)} {st : List Value} (O : MachM l R cc nL D h hM hD cM cD K) (hR : 0 + 1 ≤ R.frames ∧ 8 + (3 + 11) + 0 ≤ R.locals) (hst : (st.map fun v => v.category).sum ≤ 8) (d : Dc cc pc (.invokevirtual 20) 3 nx) (z : Nat) (hz : z < 3) (kont : ∀ r u, (r = zI (someR fM z) ∧ u = (fM, fD)) → K nx lv (.int r :: st) u) : K pc lv (.int (nI z) :: .ref h :: st) (fM, fD) :=
  x_callV (n := 1) O (mX1_some fM fD z hz) (lw_V q211 q213 qs14 q23 q214) ⟨rfl, rfl⟩ (by decide +kernel) rfl hR ⟨1, [.ref hM, .ref hD], (RX1, TX1, 2), rfl, rfl, rfl⟩ hst rfl d kont
set_option maxHeartbeats 4000000 in
theorem mX1_store {l : Launch} {D : va_G} {h hM hD : Nat} {cM cD : ClassId} (fM : Nat → Bool) (fD : Nat → Bool) (z : Nat) (hz : z < 3) : Ct (wM h hM hD cM cD) D vwCl (tM cM cD) l yX1_store cX1_store 3 .int { frames := 1, cells := 0, slots := 0, locals := 22 } [.ref h, .int (nI z)] (fM, fD) (fun r u => r = zI (someR (blk fM (z * 2197) 2197 fD) z) ∧ u = (blk fM (z * 2197) 2197 fD, fD)) := by
  refine ct_entry wM_addr (by decide) (by simp [Value.category]) (Nat.le_of_ble_eq_true rfl) ⟨rfl, rfl⟩ ?_
  intro K O E
  show K 0 [some (.ref h), some (.int (nI z)), none] [] (fM, fD)
  refine x_iconst O dX1_store_0 kc_0 ?_
  refine x_istore_n [some (.ref h), some (.int (nI z)), some (.int (nI 0))] O dX1_store_1 rfl rfl ?_
  have lp2 : ∀ (n p : Nat) (M1 : Nat → Bool), 2197 - p = n → p ≤ 2197 → M1 = blk fM (z * 2197) p fD → K 2 [some (.ref h), some (.int (nI z)), some (.int (nI p))] [] (M1, fD) := by
    intro n
    induction n using Nat.strongRecOn with
    | _ n ih2 =>
      intro p M1 hn2 hk2 hM1
      refine x_iload_n O dX1_store_2 rfl ?_
      refine x_sipush O dX1_store_3 ks_2197 ?_
      refine x_icmp_geN O dX1_store_6 (by omega) (fun c1 => ?_) (fun c1 => ?_)
      · obtain rfl : p = 2197 := by omega
        subst hM1
        refine x_aload_n O dX1_store_33 rfl ?_
        refine x_iload_n O dX1_store_34 rfl ?_
        refine callX1_some O ⟨Nat.le_of_ble_eq_true rfl, Nat.le_of_ble_eq_true rfl⟩ (Nat.le_of_ble_eq_true rfl) dX1_store_35 _ (by omega) (fun r u hp => ?_)
        obtain ⟨rfl, rfl⟩ := hp
        exact E _ _ _ _ _ dX1_store_38 rfl (by exact ⟨rfl, rfl⟩)
      · refine x_aload_n O dX1_store_9 rfl ?_
        refine fM_M O dX1_store_10 ?_
        refine x_iload_n O dX1_store_13 rfl ?_
        refine x_sipush O dX1_store_14 ks_2197 ?_
        refine x_imulN O dX1_store_17 ?_
        refine x_iload_n O dX1_store_18 rfl ?_
        refine x_iaddN O dX1_store_19 ?_
        refine x_aload_n O dX1_store_20 rfl ?_
        refine fM_D O dX1_store_21 ?_
        refine x_iload_n O dX1_store_24 rfl ?_
        refine ldD O (by omega) dX1_store_25 ?_
        refine stM O (by omega) rfl dX1_store_26 ?_
        refine x_iincN [some (.ref h), some (.int (nI z)), some (.int (nI (p + 1)))] O dX1_store_27 rfl rfl ?_
        refine x_goto O dX1_store_30 ?_
        exact ih2 _ (by omega) (p + 1) _ rfl (by omega) (by exact blkB_s hM1 rfl)
  exact lp2 _ 0 _ rfl (by omega) (by exact blk_0)
theorem callX1_store {l : Launch} {D : va_G} {h hM hD : Nat} {cM cD : ClassId} {fM : Nat → Bool} {fD : Nat → Bool} {R : Room} {cc : ByteArray} {nL : Nat} {K : Nat → List (Option Value) → List Value → SM → Prop} {pc nx : Nat} {lv : List (Option Value)} {st : List Value} (O : MachM l R cc nL D h hM hD cM cD K) (hR : 1 + 1 ≤ R.frames ∧ 8 + (3 + 11) + 22 ≤ R.locals) (hst : (st.map fun v => v.category).sum ≤ 8) (d : Dc cc pc (.invokevirtual 32) 3 nx) (z : Nat) (hz : z < 3) (kont : ∀ r u, (r = zI (someR (blk fM (z * 2197) 2197 fD) z) ∧ u = (blk fM (z * 2197) 2197 fD, fD)) → K nx lv (.int r :: st) u) : K pc lv (.int (nI z) :: .ref h :: st) (fM, fD) :=
  x_callV (n := 1) O (mX1_store fM fD z hz) (lw_V q207 q209 qs13 q23 q210) ⟨rfl, rfl⟩ (by decide +kernel) rfl hR ⟨1, [.ref hM, .ref hD], (RX1, TX1, 2), rfl, rfl, rfl⟩ hst rfl d kont
set_option maxHeartbeats 4000000 in
theorem mX1_all {l : Launch} {D : va_G} {h hM hD : Nat} {cM cD : ClassId} (fM : Nat → Bool) (fD : Nat → Bool) (z0 : Int32) : Ct (wM h hM hD cM cD) D vwCl (tM cM cD) l yX1_all cX1_all 3 .int { frames := 1, cells := 0, slots := 0, locals := 21 } [.ref h, .int z0] (fM, fD) (fun r u => inZ z0 (fun z => r = nI 0 ∧ u = (blk fM (z * 2197) 2197 (fun _ => true), fD)) (r = (-1) ∧ u = (fM, fD))) := by
  refine ct_entry wM_addr (by decide) (by simp [Value.category]) (Nat.le_of_ble_eq_true rfl) ⟨rfl, rfl⟩ ?_
  intro K O E
  show K 0 [some (.ref h), some (.int z0), none] [] (fM, fD)
  refine x_aload_n O dX1_all_0 rfl ?_
  refine x_iload_n O dX1_all_1 rfl ?_
  refine callX1_badZone O ⟨Nat.le_of_ble_eq_true rfl, Nat.le_of_ble_eq_true rfl⟩ (Nat.le_of_ble_eq_true rfl) dX1_all_2 _ (fun r u hp => ?_)
  rcases hp with ⟨z, hz, rfl, rfl, rfl⟩ | ⟨hz, rfl, rfl⟩
  · refine x_if_eqF O dX1_all_5 ?_
    refine x_iconst O dX1_all_10 kc_0 ?_
    refine x_istore_n [some (.ref h), some (.int (nI z)), some (.int (nI 0))] O dX1_all_11 rfl rfl ?_
    have lp12 : ∀ (n p : Nat) (M1 : Nat → Bool), 2197 - p = n → p ≤ 2197 → M1 = blk fM (z * 2197) p (fun _ => true) → K 12 [some (.ref h), some (.int (nI z)), some (.int (nI p))] [] (M1, fD) := by
      intro n
      induction n using Nat.strongRecOn with
      | _ n ih12 =>
        intro p M1 hn12 hk12 hM1
        refine x_iload_n O dX1_all_12 rfl ?_
        refine x_sipush O dX1_all_13 ks_2197 ?_
        refine x_icmp_geN O dX1_all_16 (by omega) (fun c1 => ?_) (fun c1 => ?_)
        · obtain rfl : p = 2197 := by omega
          subst hM1
          refine x_iconst O dX1_all_38 kc_0 ?_
          exact E _ _ _ _ _ dX1_all_39 rfl (Or.inl ⟨z, hz, rfl, (by exact ⟨rfl, rfl⟩)⟩)
        · refine x_aload_n O dX1_all_19 rfl ?_
          refine fM_M O dX1_all_20 ?_
          refine x_iload_n O dX1_all_23 rfl ?_
          refine x_sipush O dX1_all_24 ks_2197 ?_
          refine x_imulN O dX1_all_27 ?_
          refine x_iload_n O dX1_all_28 rfl ?_
          refine x_iaddN O dX1_all_29 ?_
          refine x_iconst O dX1_all_30 kc_1 ?_
          refine stM O (by omega) zI_1 dX1_all_31 ?_
          refine x_iincN [some (.ref h), some (.int (nI z)), some (.int (nI (p + 1)))] O dX1_all_32 rfl rfl ?_
          refine x_goto O dX1_all_35 ?_
          exact ih12 _ (by omega) (p + 1) _ rfl (by omega) (by exact blkB_s hM1 rfl)
    exact lp12 _ 0 _ rfl (by omega) (by exact blk_0)
  · refine x_if_eqT O dX1_all_5 ?_
    refine x_iconst O dX1_all_8 kc_m1 ?_
    exact E _ _ _ _ _ dX1_all_9 rfl (Or.inr ⟨hz, (by exact ⟨rfl, rfl⟩)⟩)
set_option maxHeartbeats 4000000 in
theorem mX1_zero {l : Launch} {D : va_G} {h hM hD : Nat} {cM cD : ClassId} (fM : Nat → Bool) (fD : Nat → Bool) (z0 : Int32) : Ct (wM h hM hD cM cD) D vwCl (tM cM cD) l yX1_zero cX1_zero 3 .int { frames := 1, cells := 0, slots := 0, locals := 21 } [.ref h, .int z0] (fM, fD) (fun r u => inZ z0 (fun z => r = nI 0 ∧ u = (blk fM (z * 2197) 2197 (fun p => decide (p = 0)), fD)) (r = (-1) ∧ u = (fM, fD))) := by
  refine ct_entry wM_addr (by decide) (by simp [Value.category]) (Nat.le_of_ble_eq_true rfl) ⟨rfl, rfl⟩ ?_
  intro K O E
  show K 0 [some (.ref h), some (.int z0), none] [] (fM, fD)
  refine x_aload_n O dX1_zero_0 rfl ?_
  refine x_iload_n O dX1_zero_1 rfl ?_
  refine callX1_badZone O ⟨Nat.le_of_ble_eq_true rfl, Nat.le_of_ble_eq_true rfl⟩ (Nat.le_of_ble_eq_true rfl) dX1_zero_2 _ (fun r u hp => ?_)
  rcases hp with ⟨z, hz, rfl, rfl, rfl⟩ | ⟨hz, rfl, rfl⟩
  · refine x_if_eqF O dX1_zero_5 ?_
    refine x_iconst O dX1_zero_10 kc_0 ?_
    refine x_istore_n [some (.ref h), some (.int (nI z)), some (.int (nI 0))] O dX1_zero_11 rfl rfl ?_
    have lp12 : ∀ (n p : Nat) (M1 : Nat → Bool), 2197 - p = n → p ≤ 2197 → M1 = blk fM (z * 2197) p (fun p => decide (p = 0)) → K 12 [some (.ref h), some (.int (nI z)), some (.int (nI p))] [] (M1, fD) := by
      intro n
      induction n using Nat.strongRecOn with
      | _ n ih12 =>
        intro p M1 hn12 hk12 hM1
        refine x_iload_n O dX1_zero_12 rfl ?_
        refine x_sipush O dX1_zero_13 ks_2197 ?_
        refine x_icmp_geN O dX1_zero_16 (by omega) (fun c1 => ?_) (fun c1 => ?_)
        · obtain rfl : p = 2197 := by omega
          subst hM1
          refine x_iconst O dX1_zero_46 kc_0 ?_
          exact E _ _ _ _ _ dX1_zero_47 rfl (Or.inl ⟨z, hz, rfl, (by exact ⟨rfl, rfl⟩)⟩)
        · refine x_aload_n O dX1_zero_19 rfl ?_
          refine fM_M O dX1_zero_20 ?_
          refine x_iload_n O dX1_zero_23 rfl ?_
          refine x_sipush O dX1_zero_24 ks_2197 ?_
          refine x_imulN O dX1_zero_27 ?_
          refine x_iload_n O dX1_zero_28 rfl ?_
          refine x_iaddN O dX1_zero_29 ?_
          refine x_iload_n O dX1_zero_30 rfl ?_
          refine x_if_neN O dX1_zero_31 (by omega) (fun c2 => ?_) (fun c2 => ?_)
          · refine x_iconst O dX1_zero_38 kc_0 ?_
            refine stM O (by omega) zI_0 dX1_zero_39 ?_
            refine x_iincN [some (.ref h), some (.int (nI z)), some (.int (nI (p + 1)))] O dX1_zero_40 rfl rfl ?_
            refine x_goto O dX1_zero_43 ?_
            exact ih12 _ (by omega) (p + 1) _ rfl (by omega) (by exact blkB_s hM1 (decide_eq_false c2).symm)
          · refine x_iconst O dX1_zero_34 kc_1 ?_
            refine x_goto O dX1_zero_35 ?_
            refine stM O (by omega) zI_1 dX1_zero_39 ?_
            refine x_iincN [some (.ref h), some (.int (nI z)), some (.int (nI (p + 1)))] O dX1_zero_40 rfl rfl ?_
            refine x_goto O dX1_zero_43 ?_
            exact ih12 _ (by omega) (p + 1) _ rfl (by omega) (by exact blkB_s hM1 (decide_eq_true c2).symm)
    exact lp12 _ 0 _ rfl (by omega) (by exact blk_0)
  · refine x_if_eqT O dX1_zero_5 ?_
    refine x_iconst O dX1_zero_8 kc_m1 ?_
    exact E _ _ _ _ _ dX1_zero_9 rfl (Or.inr ⟨hz, (by exact ⟨rfl, rfl⟩)⟩)
set_option maxHeartbeats 4000000 in
theorem mX1_keep {l : Launch} {D : va_G} {h hM hD : Nat} {cM cD : ClassId} (fM : Nat → Bool) (fD : Nat → Bool) (z0 : Int32) (i0 : Int32) (j0 : Int32) (c : Int32) : Ct (wM h hM hD cM cD) D vwCl (tM cM cD) l yX1_keep cX1_keep 8 .int { frames := 2, cells := 0, slots := 0, locals := 44 } [.ref h, .int z0, .int i0, .int j0, .int c] (fM, fD) (fun r u => inZ z0 (fun z => inP i0 j0 (fun i j => (-12 ≤ c.toInt ∧ c.toInt ≤ 12 ∧ u = (blk fM (z * 2197) 2197 (blk fD 0 2197 (fun p => fM (z * 2197 + p) && decide ((nI (vl p i) - nI (vl p j)).toInt ≤ c.toInt))), blk fD 0 2197 (fun p => fM (z * 2197 + p) && decide ((nI (vl p i) - nI (vl p j)).toInt ≤ c.toInt))) ∧ r = zI (someR u.1 z)) ∨ ((c.toInt < -12 ∨ 12 < c.toInt) ∧ r = (-3) ∧ u = (fM, fD))) (r = (-2) ∧ u = (fM, fD))) (r = (-1) ∧ u = (fM, fD))) := by
  refine ct_entry wM_addr (by decide) (by simp [Value.category]) (Nat.le_of_ble_eq_true rfl) ⟨rfl, rfl⟩ ?_
  intro K O E
  have km12 : ((-12) : Int32).toInt = -12 := by decide
  show K 0 [some (.ref h), some (.int z0), some (.int i0), some (.int j0), some (.int c), none, none, none] [] (fM, fD)
  refine x_aload_n O dX1_keep_0 rfl ?_
  refine x_iload_n O dX1_keep_1 rfl ?_
  refine callX1_badZone O ⟨Nat.le_of_ble_eq_true rfl, Nat.le_of_ble_eq_true rfl⟩ (Nat.le_of_ble_eq_true rfl) dX1_keep_2 _ (fun r u hp => ?_)
  rcases hp with ⟨z, hz, rfl, rfl, rfl⟩ | ⟨hz, rfl, rfl⟩
  · refine x_if_eqF O dX1_keep_5 ?_
    refine x_aload_n O dX1_keep_10 rfl ?_
    refine x_iload_n O dX1_keep_11 rfl ?_
    refine x_iload_n O dX1_keep_12 rfl ?_
    refine callX1_badPair O ⟨Nat.le_of_ble_eq_true rfl, Nat.le_of_ble_eq_true rfl⟩ (Nat.le_of_ble_eq_true rfl) dX1_keep_13 _ _ (fun r u hp => ?_)
    rcases hp with ⟨i, j, hij, rfl, rfl, rfl, rfl⟩ | ⟨hij, rfl, rfl⟩
    · refine x_if_eqF O dX1_keep_16 ?_
      refine x_iload O dX1_keep_22 rfl ?_
      refine x_bipush O dX1_keep_24 kb_m12 ?_
      refine x_icmp_lt O dX1_keep_26 (fun c1 => ?_) (fun c1 => ?_)
      · refine x_bipush O dX1_keep_36 kb_m3 ?_
        exact E _ _ _ _ _ dX1_keep_38 rfl (Or.inl ⟨z, hz, rfl, (Or.inl ⟨i, j, hij, rfl, rfl, (by exact Or.inr ⟨by omega, rfl, rfl⟩)⟩)⟩)
      · refine x_iload O dX1_keep_29 rfl ?_
        refine x_bipush O dX1_keep_31 kb_12 ?_
        refine x_icmp_leK O dX1_keep_33 (by omega) (fun c2 => ?_) (fun c2 => ?_)
        · refine x_iconst O dX1_keep_39 kc_0 ?_
          refine x_istore [some (.ref h), some (.int (nI z)), some (.int (nI i)), some (.int (nI j)), some (.int c), some (.int (nI 0)), none, none] O dX1_keep_40 rfl rfl ?_
          have lp42 : ∀ (n p : Nat) (D1 : Nat → Bool), 2197 - p = n → p ≤ 2197 → D1 = blk fD 0 p (fun p => fM (z * 2197 + p) && decide ((nI (vl p i) - nI (vl p j)).toInt ≤ c.toInt)) → K 42 [some (.ref h), some (.int (nI z)), some (.int (nI i)), some (.int (nI j)), some (.int c), some (.int (nI p)), none, none] [] (fM, D1) := by
            intro n
            induction n using Nat.strongRecOn with
            | _ n ih42 =>
              intro p D1 hn42 hk42 hD1
              refine x_iload O dX1_keep_42 rfl ?_
              refine x_sipush O dX1_keep_44 ks_2197 ?_
              refine x_icmp_geN O dX1_keep_47 (by omega) (fun c3 => ?_) (fun c3 => ?_)
              · obtain rfl : p = 2197 := by omega
                subst hD1
                refine x_aload_n O dX1_keep_112 rfl ?_
                refine x_iload_n O dX1_keep_113 rfl ?_
                refine callX1_store O ⟨Nat.le_of_ble_eq_true rfl, Nat.le_of_ble_eq_true rfl⟩ (Nat.le_of_ble_eq_true rfl) dX1_keep_114 _ (by omega) (fun r u hp => ?_)
                obtain ⟨rfl, rfl⟩ := hp
                exact E _ _ _ _ _ dX1_keep_117 rfl (Or.inl ⟨z, hz, rfl, (Or.inl ⟨i, j, hij, rfl, rfl, (by exact Or.inl ⟨by omega, by omega, rfl, rfl⟩)⟩)⟩)
              · refine x_aload_n O dX1_keep_50 rfl ?_
                refine x_iload O dX1_keep_51 rfl ?_
                refine x_iload_n O dX1_keep_53 rfl ?_
                refine callX1_value O ⟨Nat.le_of_ble_eq_true rfl, Nat.le_of_ble_eq_true rfl⟩ (Nat.le_of_ble_eq_true rfl) dX1_keep_54 _ _ (by omega) (fun r u hp => ?_)
                obtain ⟨rfl, rfl⟩ := hp
                have hv4 := vl_le (p := p) (k := i) (by omega)
                refine x_istore [some (.ref h), some (.int (nI z)), some (.int (nI i)), some (.int (nI j)), some (.int c), some (.int (nI p)), some (.int (nI (vl p i))), none] O dX1_keep_57 rfl rfl ?_
                refine x_aload_n O dX1_keep_59 rfl ?_
                refine x_iload O dX1_keep_60 rfl ?_
                refine x_iload_n O dX1_keep_62 rfl ?_
                refine callX1_value O ⟨Nat.le_of_ble_eq_true rfl, Nat.le_of_ble_eq_true rfl⟩ (Nat.le_of_ble_eq_true rfl) dX1_keep_63 _ _ (by omega) (fun r u hp => ?_)
                obtain ⟨rfl, rfl⟩ := hp
                have hv5 := vl_le (p := p) (k := j) (by omega)
                refine x_istore [some (.ref h), some (.int (nI z)), some (.int (nI i)), some (.int (nI j)), some (.int c), some (.int (nI p)), some (.int (nI (vl p i))), some (.int (nI (vl p j)))] O dX1_keep_66 rfl rfl ?_
                refine x_aload_n O dX1_keep_68 rfl ?_
                refine fM_D O dX1_keep_69 ?_
                refine x_iload O dX1_keep_72 rfl ?_
                refine x_aload_n O dX1_keep_74 rfl ?_
                refine fM_M O dX1_keep_75 ?_
                refine x_iload_n O dX1_keep_78 rfl ?_
                refine x_sipush O dX1_keep_79 ks_2197 ?_
                refine x_imulN O dX1_keep_82 ?_
                refine x_iload O dX1_keep_83 rfl ?_
                refine x_iaddN O dX1_keep_85 ?_
                refine ldM O (by omega) dX1_keep_86 ?_
                refine x_if_eqZ O dX1_keep_87 (fun c6 => ?_) (fun c6 => ?_)
                · refine x_iconst O dX1_keep_104 kc_0 ?_
                  refine stD O (by omega) zI_0 dX1_keep_105 ?_
                  refine x_iincN [some (.ref h), some (.int (nI z)), some (.int (nI i)), some (.int (nI j)), some (.int c), some (.int (nI (p + 1))), some (.int (nI (vl p i))), some (.int (nI (vl p j)))] O dX1_keep_106 rfl rfl ?_
                  refine x_goto O dX1_keep_109 ?_
                  refine x_forget [some (.ref h), some (.int (nI z)), some (.int (nI i)), some (.int (nI j)), some (.int c), some (.int (nI (p + 1))), none, none] O ⟨rfl, rfl, rfl, rfl, rfl, rfl, trivial⟩ ?_
                  exact ih42 _ (by omega) (p + 1) _ rfl (by omega) (by exact blkB_s0 hD1 (by show _ = (_ && _); rw [c6]; rfl))
                · refine x_iload O dX1_keep_90 rfl ?_
                  refine x_iload O dX1_keep_92 rfl ?_
                  refine x_isub O dX1_keep_94 ?_
                  refine x_iload O dX1_keep_95 rfl ?_
                  refine x_icmp_gt O dX1_keep_97 (fun c7 => ?_) (fun c7 => ?_)
                  · refine x_iconst O dX1_keep_104 kc_0 ?_
                    refine stD O (by omega) zI_0 dX1_keep_105 ?_
                    refine x_iincN [some (.ref h), some (.int (nI z)), some (.int (nI i)), some (.int (nI j)), some (.int c), some (.int (nI (p + 1))), some (.int (nI (vl p i))), some (.int (nI (vl p j)))] O dX1_keep_106 rfl rfl ?_
                    refine x_goto O dX1_keep_109 ?_
                    refine x_forget [some (.ref h), some (.int (nI z)), some (.int (nI i)), some (.int (nI j)), some (.int c), some (.int (nI (p + 1))), none, none] O ⟨rfl, rfl, rfl, rfl, rfl, rfl, trivial⟩ ?_
                    exact ih42 _ (by omega) (p + 1) _ rfl (by omega) (by exact blkB_s0 hD1 (by show _ = (_ && _); rw [c6, decide_eq_false (Int.not_le.mpr c7)]; rfl))
                  · refine x_iconst O dX1_keep_100 kc_1 ?_
                    refine x_goto O dX1_keep_101 ?_
                    refine stD O (by omega) zI_1 dX1_keep_105 ?_
                    refine x_iincN [some (.ref h), some (.int (nI z)), some (.int (nI i)), some (.int (nI j)), some (.int c), some (.int (nI (p + 1))), some (.int (nI (vl p i))), some (.int (nI (vl p j)))] O dX1_keep_106 rfl rfl ?_
                    refine x_goto O dX1_keep_109 ?_
                    refine x_forget [some (.ref h), some (.int (nI z)), some (.int (nI i)), some (.int (nI j)), some (.int c), some (.int (nI (p + 1))), none, none] O ⟨rfl, rfl, rfl, rfl, rfl, rfl, trivial⟩ ?_
                    exact ih42 _ (by omega) (p + 1) _ rfl (by omega) (by exact blkB_s0 hD1 (by show _ = (_ && _); rw [c6, decide_eq_true c7]; rfl))
          exact lp42 _ 0 _ rfl (by omega) (by exact blk_0)
        · refine x_bipush O dX1_keep_36 kb_m3 ?_
          exact E _ _ _ _ _ dX1_keep_38 rfl (Or.inl ⟨z, hz, rfl, (Or.inl ⟨i, j, hij, rfl, rfl, (by exact Or.inr ⟨by omega, rfl, rfl⟩)⟩)⟩)
    · refine x_if_eqT O dX1_keep_16 ?_
      refine x_bipush O dX1_keep_19 kb_m2 ?_
      exact E _ _ _ _ _ dX1_keep_21 rfl (Or.inl ⟨z, hz, rfl, (Or.inr ⟨hij, (by exact ⟨rfl, rfl⟩)⟩)⟩)
  · refine x_if_eqT O dX1_keep_5 ?_
    refine x_iconst O dX1_keep_8 kc_m1 ?_
    exact E _ _ _ _ _ dX1_keep_9 rfl (Or.inr ⟨hz, (by exact ⟨rfl, rfl⟩)⟩)
set_option maxHeartbeats 4000000 in
theorem mX1_shiftedP {l : Launch} {D : va_G} {h hM hD : Nat} {cM cD : ClassId} (fM : Nat → Bool) (fD : Nat → Bool) (z : Nat) (p : Nat) (hp : z < 3 ∧ p < 2197) : Ct (wM h hM hD cM cD) D vwCl (tM cM cD) l yX1_shifted cX1_shifted 10 .boolean { frames := 1, cells := 0, slots := 0, locals := 22 } [.ref h, .int (nI z), .int (nI p), .int (-1)] (fM, fD) (fun r u => r = zI (shP fM z p) ∧ u = (fM, fD)) := by
  refine ct_entry wM_addr (by decide) (by simp [Value.category]) (Nat.le_of_ble_eq_true rfl) ⟨rfl, rfl⟩ ?_
  intro K O E
  show K 0 [some (.ref h), some (.int (nI z)), some (.int (nI p)), some (.int (-1)), none, none, none, none, none, none] [] (fM, fD)
  refine x_aload_n O dX1_shifted_0 rfl ?_
  refine x_iload_n O dX1_shifted_1 rfl ?_
  refine x_iconst O dX1_shifted_2 kc_1 ?_
  refine callX1_value O ⟨Nat.le_of_ble_eq_true rfl, Nat.le_of_ble_eq_true rfl⟩ (Nat.le_of_ble_eq_true rfl) dX1_shifted_3 _ _ (by omega) (fun r u hp => ?_)
  obtain ⟨rfl, rfl⟩ := hp
  have hv1 := vl_le (p := p) (k := 1) (by omega)
  refine x_istore [some (.ref h), some (.int (nI z)), some (.int (nI p)), some (.int (-1)), some (.int (nI (vl p 1))), none, none, none, none, none] O dX1_shifted_6 rfl rfl ?_
  refine x_aload_n O dX1_shifted_8 rfl ?_
  refine x_iload_n O dX1_shifted_9 rfl ?_
  refine x_iconst O dX1_shifted_10 kc_2 ?_
  refine callX1_value O ⟨Nat.le_of_ble_eq_true rfl, Nat.le_of_ble_eq_true rfl⟩ (Nat.le_of_ble_eq_true rfl) dX1_shifted_11 _ _ (by omega) (fun r u hp => ?_)
  obtain ⟨rfl, rfl⟩ := hp
  have hv2 := vl_le (p := p) (k := 2) (by omega)
  refine x_istore [some (.ref h), some (.int (nI z)), some (.int (nI p)), some (.int (-1)), some (.int (nI (vl p 1))), some (.int (nI (vl p 2))), none, none, none, none] O dX1_shifted_14 rfl rfl ?_
  refine x_aload_n O dX1_shifted_16 rfl ?_
  refine x_iload_n O dX1_shifted_17 rfl ?_
  refine x_iconst O dX1_shifted_18 kc_3 ?_
  refine callX1_value O ⟨Nat.le_of_ble_eq_true rfl, Nat.le_of_ble_eq_true rfl⟩ (Nat.le_of_ble_eq_true rfl) dX1_shifted_19 _ _ (by omega) (fun r u hp => ?_)
  obtain ⟨rfl, rfl⟩ := hp
  have hv3 := vl_le (p := p) (k := 3) (by omega)
  refine x_istore [some (.ref h), some (.int (nI z)), some (.int (nI p)), some (.int (-1)), some (.int (nI (vl p 1))), some (.int (nI (vl p 2))), some (.int (nI (vl p 3))), none, none, none] O dX1_shifted_22 rfl rfl ?_
  have hv1 := vl_le (p := p) (k := 1) hp.2
  have hv2 := vl_le (p := p) (k := 2) hp.2
  have hv3 := vl_le (p := p) (k := 3) hp.2
  have hvp := vl_all hp.2
  refine x_iconst O dX1_shifted_24 kc_0 ?_
  refine x_istore [some (.ref h), some (.int (nI z)), some (.int (nI p)), some (.int (-1)), some (.int (nI (vl p 1))), some (.int (nI (vl p 2))), some (.int (nI (vl p 3))), some (.int (nI 0)), none, none] O dX1_shifted_25 rfl rfl ?_
  have lp27 : ∀ (n d : Nat), 13 - d = n → d ≤ 13 → anyUp (fun d => insP p d && fM (z * 2197 + p - 183 * d)) d = false → K 27 [some (.ref h), some (.int (nI z)), some (.int (nI p)), some (.int (-1)), some (.int (nI (vl p 1))), some (.int (nI (vl p 2))), some (.int (nI (vl p 3))), some (.int (nI d)), none, none] [] (fM, fD) := by
    intro n
    induction n using Nat.strongRecOn with
    | _ n ih27 =>
      intro d hn27 hk27 hany
      refine x_iload O dX1_shifted_27 rfl ?_
      refine x_bipush O dX1_shifted_29 kb_12 ?_
      refine x_icmp_gtN O dX1_shifted_31 (by omega) (fun c4 => ?_) (fun c4 => ?_)
      · obtain rfl : d = 13 := by omega
        refine x_iconst O dX1_shifted_136 kc_0 ?_
        refine x_top zI_0 ?_
        exact E _ _ _ _ _ dX1_shifted_137 (zI_narrow _) (by exact ⟨by rw [show shP fM z p = false from hany], rfl⟩)
      · refine x_iload O dX1_shifted_34 rfl ?_
        refine x_iload_n O dX1_shifted_36 rfl ?_
        refine x_imul O dX1_shifted_37 ?_
        refine x_top (negmul d) ?_
        have ht1 := addneg_toInt (d := d) hv1 (by omega)
        have ht2 := addneg_toInt (d := d) hv2 (by omega)
        have ht3 := addneg_toInt (d := d) hv3 (by omega)
        refine x_istore [some (.ref h), some (.int (nI z)), some (.int (nI p)), some (.int (-1)), some (.int (nI (vl p 1))), some (.int (nI (vl p 2))), some (.int (nI (vl p 3))), some (.int (nI d)), some (.int (-nI d)), none] O dX1_shifted_38 rfl rfl ?_
        refine x_iload O dX1_shifted_40 rfl ?_
        refine x_iload O dX1_shifted_42 rfl ?_
        refine x_iadd O dX1_shifted_44 ?_
        refine x_if_lt O dX1_shifted_45 (fun c5 => ?_) (fun c5 => ?_)
        · refine x_iconst O dX1_shifted_98 kc_0 ?_
          refine x_istore [some (.ref h), some (.int (nI z)), some (.int (nI p)), some (.int (-1)), some (.int (nI (vl p 1))), some (.int (nI (vl p 2))), some (.int (nI (vl p 3))), some (.int (nI d)), some (.int (-nI d)), some (.int (nI 0))] O dX1_shifted_99 rfl rfl ?_
          refine x_iload O dX1_shifted_101 rfl ?_
          refine x_top zI_0 ?_
          refine x_if_eqF O dX1_shifted_103 ?_
          refine x_iincN [some (.ref h), some (.int (nI z)), some (.int (nI p)), some (.int (-1)), some (.int (nI (vl p 1))), some (.int (nI (vl p 2))), some (.int (nI (vl p 3))), some (.int (nI (d + 1))), some (.int (-nI d)), some (.int (nI 0))] O dX1_shifted_130 rfl rfl ?_
          refine x_goto O dX1_shifted_133 ?_
          refine x_forget [some (.ref h), some (.int (nI z)), some (.int (nI p)), some (.int (-1)), some (.int (nI (vl p 1))), some (.int (nI (vl p 2))), some (.int (nI (vl p 3))), some (.int (nI (d + 1))), none, none] O ⟨rfl, rfl, rfl, rfl, rfl, rfl, rfl, rfl, trivial⟩ ?_
          exact ih27 _ (by omega) (d + 1) rfl (by omega) (by exact anyUp_s hany (by show (_ && _) = false; rw [show insP p d = false from decide_eq_false (by omega)]; rfl))
        · refine x_iload O dX1_shifted_48 rfl ?_
          refine x_iload O dX1_shifted_50 rfl ?_
          refine x_iadd O dX1_shifted_52 ?_
          refine x_bipush O dX1_shifted_53 kb_12 ?_
          refine x_icmp_gtK O dX1_shifted_55 (by omega) (fun c6 => ?_) (fun c6 => ?_)
          · refine x_iconst O dX1_shifted_98 kc_0 ?_
            refine x_istore [some (.ref h), some (.int (nI z)), some (.int (nI p)), some (.int (-1)), some (.int (nI (vl p 1))), some (.int (nI (vl p 2))), some (.int (nI (vl p 3))), some (.int (nI d)), some (.int (-nI d)), some (.int (nI 0))] O dX1_shifted_99 rfl rfl ?_
            refine x_iload O dX1_shifted_101 rfl ?_
            refine x_top zI_0 ?_
            refine x_if_eqF O dX1_shifted_103 ?_
            refine x_iincN [some (.ref h), some (.int (nI z)), some (.int (nI p)), some (.int (-1)), some (.int (nI (vl p 1))), some (.int (nI (vl p 2))), some (.int (nI (vl p 3))), some (.int (nI (d + 1))), some (.int (-nI d)), some (.int (nI 0))] O dX1_shifted_130 rfl rfl ?_
            refine x_goto O dX1_shifted_133 ?_
            refine x_forget [some (.ref h), some (.int (nI z)), some (.int (nI p)), some (.int (-1)), some (.int (nI (vl p 1))), some (.int (nI (vl p 2))), some (.int (nI (vl p 3))), some (.int (nI (d + 1))), none, none] O ⟨rfl, rfl, rfl, rfl, rfl, rfl, rfl, rfl, trivial⟩ ?_
            exact ih27 _ (by omega) (d + 1) rfl (by omega) (by exact anyUp_s hany (by show (_ && _) = false; rw [show insP p d = false from decide_eq_false (by omega)]; rfl))
          · refine x_iload O dX1_shifted_58 rfl ?_
            refine x_iload O dX1_shifted_60 rfl ?_
            refine x_iadd O dX1_shifted_62 ?_
            refine x_if_lt O dX1_shifted_63 (fun c7 => ?_) (fun c7 => ?_)
            · refine x_iconst O dX1_shifted_98 kc_0 ?_
              refine x_istore [some (.ref h), some (.int (nI z)), some (.int (nI p)), some (.int (-1)), some (.int (nI (vl p 1))), some (.int (nI (vl p 2))), some (.int (nI (vl p 3))), some (.int (nI d)), some (.int (-nI d)), some (.int (nI 0))] O dX1_shifted_99 rfl rfl ?_
              refine x_iload O dX1_shifted_101 rfl ?_
              refine x_top zI_0 ?_
              refine x_if_eqF O dX1_shifted_103 ?_
              refine x_iincN [some (.ref h), some (.int (nI z)), some (.int (nI p)), some (.int (-1)), some (.int (nI (vl p 1))), some (.int (nI (vl p 2))), some (.int (nI (vl p 3))), some (.int (nI (d + 1))), some (.int (-nI d)), some (.int (nI 0))] O dX1_shifted_130 rfl rfl ?_
              refine x_goto O dX1_shifted_133 ?_
              refine x_forget [some (.ref h), some (.int (nI z)), some (.int (nI p)), some (.int (-1)), some (.int (nI (vl p 1))), some (.int (nI (vl p 2))), some (.int (nI (vl p 3))), some (.int (nI (d + 1))), none, none] O ⟨rfl, rfl, rfl, rfl, rfl, rfl, rfl, rfl, trivial⟩ ?_
              exact ih27 _ (by omega) (d + 1) rfl (by omega) (by exact anyUp_s hany (by show (_ && _) = false; rw [show insP p d = false from decide_eq_false (by omega)]; rfl))
            · refine x_iload O dX1_shifted_66 rfl ?_
              refine x_iload O dX1_shifted_68 rfl ?_
              refine x_iadd O dX1_shifted_70 ?_
              refine x_bipush O dX1_shifted_71 kb_12 ?_
              refine x_icmp_gtK O dX1_shifted_73 (by omega) (fun c8 => ?_) (fun c8 => ?_)
              · refine x_iconst O dX1_shifted_98 kc_0 ?_
                refine x_istore [some (.ref h), some (.int (nI z)), some (.int (nI p)), some (.int (-1)), some (.int (nI (vl p 1))), some (.int (nI (vl p 2))), some (.int (nI (vl p 3))), some (.int (nI d)), some (.int (-nI d)), some (.int (nI 0))] O dX1_shifted_99 rfl rfl ?_
                refine x_iload O dX1_shifted_101 rfl ?_
                refine x_top zI_0 ?_
                refine x_if_eqF O dX1_shifted_103 ?_
                refine x_iincN [some (.ref h), some (.int (nI z)), some (.int (nI p)), some (.int (-1)), some (.int (nI (vl p 1))), some (.int (nI (vl p 2))), some (.int (nI (vl p 3))), some (.int (nI (d + 1))), some (.int (-nI d)), some (.int (nI 0))] O dX1_shifted_130 rfl rfl ?_
                refine x_goto O dX1_shifted_133 ?_
                refine x_forget [some (.ref h), some (.int (nI z)), some (.int (nI p)), some (.int (-1)), some (.int (nI (vl p 1))), some (.int (nI (vl p 2))), some (.int (nI (vl p 3))), some (.int (nI (d + 1))), none, none] O ⟨rfl, rfl, rfl, rfl, rfl, rfl, rfl, rfl, trivial⟩ ?_
                exact ih27 _ (by omega) (d + 1) rfl (by omega) (by exact anyUp_s hany (by show (_ && _) = false; rw [show insP p d = false from decide_eq_false (by omega)]; rfl))
              · refine x_iload O dX1_shifted_76 rfl ?_
                refine x_iload O dX1_shifted_78 rfl ?_
                refine x_iadd O dX1_shifted_80 ?_
                refine x_if_lt O dX1_shifted_81 (fun c9 => ?_) (fun c9 => ?_)
                · refine x_iconst O dX1_shifted_98 kc_0 ?_
                  refine x_istore [some (.ref h), some (.int (nI z)), some (.int (nI p)), some (.int (-1)), some (.int (nI (vl p 1))), some (.int (nI (vl p 2))), some (.int (nI (vl p 3))), some (.int (nI d)), some (.int (-nI d)), some (.int (nI 0))] O dX1_shifted_99 rfl rfl ?_
                  refine x_iload O dX1_shifted_101 rfl ?_
                  refine x_top zI_0 ?_
                  refine x_if_eqF O dX1_shifted_103 ?_
                  refine x_iincN [some (.ref h), some (.int (nI z)), some (.int (nI p)), some (.int (-1)), some (.int (nI (vl p 1))), some (.int (nI (vl p 2))), some (.int (nI (vl p 3))), some (.int (nI (d + 1))), some (.int (-nI d)), some (.int (nI 0))] O dX1_shifted_130 rfl rfl ?_
                  refine x_goto O dX1_shifted_133 ?_
                  refine x_forget [some (.ref h), some (.int (nI z)), some (.int (nI p)), some (.int (-1)), some (.int (nI (vl p 1))), some (.int (nI (vl p 2))), some (.int (nI (vl p 3))), some (.int (nI (d + 1))), none, none] O ⟨rfl, rfl, rfl, rfl, rfl, rfl, rfl, rfl, trivial⟩ ?_
                  exact ih27 _ (by omega) (d + 1) rfl (by omega) (by exact anyUp_s hany (by show (_ && _) = false; rw [show insP p d = false from decide_eq_false (by omega)]; rfl))
                · refine x_iload O dX1_shifted_84 rfl ?_
                  refine x_iload O dX1_shifted_86 rfl ?_
                  refine x_iadd O dX1_shifted_88 ?_
                  refine x_bipush O dX1_shifted_89 kb_12 ?_
                  refine x_icmp_gtK O dX1_shifted_91 (by omega) (fun c10 => ?_) (fun c10 => ?_)
                  · refine x_iconst O dX1_shifted_98 kc_0 ?_
                    refine x_istore [some (.ref h), some (.int (nI z)), some (.int (nI p)), some (.int (-1)), some (.int (nI (vl p 1))), some (.int (nI (vl p 2))), some (.int (nI (vl p 3))), some (.int (nI d)), some (.int (-nI d)), some (.int (nI 0))] O dX1_shifted_99 rfl rfl ?_
                    refine x_iload O dX1_shifted_101 rfl ?_
                    refine x_top zI_0 ?_
                    refine x_if_eqF O dX1_shifted_103 ?_
                    refine x_iincN [some (.ref h), some (.int (nI z)), some (.int (nI p)), some (.int (-1)), some (.int (nI (vl p 1))), some (.int (nI (vl p 2))), some (.int (nI (vl p 3))), some (.int (nI (d + 1))), some (.int (-nI d)), some (.int (nI 0))] O dX1_shifted_130 rfl rfl ?_
                    refine x_goto O dX1_shifted_133 ?_
                    refine x_forget [some (.ref h), some (.int (nI z)), some (.int (nI p)), some (.int (-1)), some (.int (nI (vl p 1))), some (.int (nI (vl p 2))), some (.int (nI (vl p 3))), some (.int (nI (d + 1))), none, none] O ⟨rfl, rfl, rfl, rfl, rfl, rfl, rfl, rfl, trivial⟩ ?_
                    exact ih27 _ (by omega) (d + 1) rfl (by omega) (by exact anyUp_s hany (by show (_ && _) = false; rw [show insP p d = false from decide_eq_false (by omega)]; rfl))
                  · refine x_iconst O dX1_shifted_94 kc_1 ?_
                    refine x_goto O dX1_shifted_95 ?_
                    refine x_istore [some (.ref h), some (.int (nI z)), some (.int (nI p)), some (.int (-1)), some (.int (nI (vl p 1))), some (.int (nI (vl p 2))), some (.int (nI (vl p 3))), some (.int (nI d)), some (.int (-nI d)), some (.int (nI 1))] O dX1_shifted_99 rfl rfl ?_
                    refine x_iload O dX1_shifted_101 rfl ?_
                    refine x_top zI_1 ?_
                    refine x_if_eqT O dX1_shifted_103 ?_
                    refine x_aload_n O dX1_shifted_106 rfl ?_
                    refine fM_M O dX1_shifted_107 ?_
                    refine x_iload_n O dX1_shifted_110 rfl ?_
                    refine x_sipush O dX1_shifted_111 ks_2197 ?_
                    refine x_imulN O dX1_shifted_114 ?_
                    refine x_iload_n O dX1_shifted_115 rfl ?_
                    refine x_iaddN O dX1_shifted_116 ?_
                    refine x_sipush O dX1_shifted_117 ks_183 ?_
                    refine x_iload O dX1_shifted_120 rfl ?_
                    refine x_imul O dX1_shifted_122 ?_
                    refine x_iadd O dX1_shifted_123 ?_
                    refine x_top (sub183 (by omega)) ?_
                    refine ldM O (by omega) dX1_shifted_124 ?_
                    refine x_if_eqZ O dX1_shifted_125 (fun c11 => ?_) (fun c11 => ?_)
                    · refine x_iincN [some (.ref h), some (.int (nI z)), some (.int (nI p)), some (.int (-1)), some (.int (nI (vl p 1))), some (.int (nI (vl p 2))), some (.int (nI (vl p 3))), some (.int (nI (d + 1))), some (.int (-nI d)), some (.int (nI 1))] O dX1_shifted_130 rfl rfl ?_
                      refine x_goto O dX1_shifted_133 ?_
                      refine x_forget [some (.ref h), some (.int (nI z)), some (.int (nI p)), some (.int (-1)), some (.int (nI (vl p 1))), some (.int (nI (vl p 2))), some (.int (nI (vl p 3))), some (.int (nI (d + 1))), none, none] O ⟨rfl, rfl, rfl, rfl, rfl, rfl, rfl, rfl, trivial⟩ ?_
                      exact ih27 _ (by omega) (d + 1) rfl (by omega) (by exact anyUp_s hany (by show (_ && _) = false; rw [c11, Bool.and_false]))
                    · refine x_iconst O dX1_shifted_128 kc_1 ?_
                      refine x_top zI_1 ?_
                      exact E _ _ _ _ _ dX1_shifted_129 (zI_narrow _) (by exact ⟨by rw [show shP fM z p = true from anyUp_hit (k := d) (by omega) (by show (_ && _) = true; rw [c11, show insP p d = true from decide_eq_true (by omega)]; rfl)], rfl⟩)
  exact lp27 _ 0 rfl (by omega) (by rfl)
theorem callX1_shiftedP {l : Launch} {D : va_G} {h hM hD : Nat} {cM cD : ClassId} {fM : Nat → Bool} {fD : Nat → Bool} {R : Room} {cc : ByteArray} {nL : Nat} {K : Nat → List (Option Value) → List Value → SM → Prop} {pc nx : Nat} {lv : List (Option Value)} {st : List Value} (O : MachM l R cc nL D h hM hD cM cD K) (hR : 1 + 1 ≤ R.frames ∧ 8 + (10 + 11) + 22 ≤ R.locals) (hst : (st.map fun v => v.category).sum ≤ 8) (d : Dc cc pc (.invokevirtual 35) 3 nx) (z : Nat) (p : Nat) (hp : z < 3 ∧ p < 2197) (kont : ∀ r u, (r = zI (shP fM z p) ∧ u = (fM, fD)) → K nx lv (.int r :: st) u) : K pc lv (.int (-1) :: .int (nI p) :: .int (nI z) :: .ref h :: st) (fM, fD) :=
  x_callV (n := 3) O (mX1_shiftedP fM fD z p hp) (lw_V q219 q221 qs15 q23 q222) ⟨rfl, rfl⟩ (by decide +kernel) rfl hR ⟨1, [.ref hM, .ref hD], (RX1, TX1, 2), rfl, rfl, rfl⟩ hst rfl d kont
set_option maxHeartbeats 4000000 in
theorem mX1_shiftedB {l : Launch} {D : va_G} {h hM hD : Nat} {cM cD : ClassId} (fM : Nat → Bool) (fD : Nat → Bool) (z : Nat) (p : Nat) (hp : z < 3 ∧ p < 2197) : Ct (wM h hM hD cM cD) D vwCl (tM cM cD) l yX1_shifted cX1_shifted 10 .boolean { frames := 1, cells := 0, slots := 0, locals := 22 } [.ref h, .int (nI z), .int (nI p), .int (nI 1)] (fM, fD) (fun r u => r = zI (shB fM z p) ∧ u = (fM, fD)) := by
  refine ct_entry wM_addr (by decide) (by simp [Value.category]) (Nat.le_of_ble_eq_true rfl) ⟨rfl, rfl⟩ ?_
  intro K O E
  show K 0 [some (.ref h), some (.int (nI z)), some (.int (nI p)), some (.int (nI 1)), none, none, none, none, none, none] [] (fM, fD)
  refine x_aload_n O dX1_shifted_0 rfl ?_
  refine x_iload_n O dX1_shifted_1 rfl ?_
  refine x_iconst O dX1_shifted_2 kc_1 ?_
  refine callX1_value O ⟨Nat.le_of_ble_eq_true rfl, Nat.le_of_ble_eq_true rfl⟩ (Nat.le_of_ble_eq_true rfl) dX1_shifted_3 _ _ (by omega) (fun r u hp => ?_)
  obtain ⟨rfl, rfl⟩ := hp
  have hv1 := vl_le (p := p) (k := 1) (by omega)
  refine x_istore [some (.ref h), some (.int (nI z)), some (.int (nI p)), some (.int (nI 1)), some (.int (nI (vl p 1))), none, none, none, none, none] O dX1_shifted_6 rfl rfl ?_
  refine x_aload_n O dX1_shifted_8 rfl ?_
  refine x_iload_n O dX1_shifted_9 rfl ?_
  refine x_iconst O dX1_shifted_10 kc_2 ?_
  refine callX1_value O ⟨Nat.le_of_ble_eq_true rfl, Nat.le_of_ble_eq_true rfl⟩ (Nat.le_of_ble_eq_true rfl) dX1_shifted_11 _ _ (by omega) (fun r u hp => ?_)
  obtain ⟨rfl, rfl⟩ := hp
  have hv2 := vl_le (p := p) (k := 2) (by omega)
  refine x_istore [some (.ref h), some (.int (nI z)), some (.int (nI p)), some (.int (nI 1)), some (.int (nI (vl p 1))), some (.int (nI (vl p 2))), none, none, none, none] O dX1_shifted_14 rfl rfl ?_
  refine x_aload_n O dX1_shifted_16 rfl ?_
  refine x_iload_n O dX1_shifted_17 rfl ?_
  refine x_iconst O dX1_shifted_18 kc_3 ?_
  refine callX1_value O ⟨Nat.le_of_ble_eq_true rfl, Nat.le_of_ble_eq_true rfl⟩ (Nat.le_of_ble_eq_true rfl) dX1_shifted_19 _ _ (by omega) (fun r u hp => ?_)
  obtain ⟨rfl, rfl⟩ := hp
  have hv3 := vl_le (p := p) (k := 3) (by omega)
  refine x_istore [some (.ref h), some (.int (nI z)), some (.int (nI p)), some (.int (nI 1)), some (.int (nI (vl p 1))), some (.int (nI (vl p 2))), some (.int (nI (vl p 3))), none, none, none] O dX1_shifted_22 rfl rfl ?_
  have hv1 := vl_le (p := p) (k := 1) hp.2
  have hv2 := vl_le (p := p) (k := 2) hp.2
  have hv3 := vl_le (p := p) (k := 3) hp.2
  have hvp := vl_all hp.2
  refine x_iconst O dX1_shifted_24 kc_0 ?_
  refine x_istore [some (.ref h), some (.int (nI z)), some (.int (nI p)), some (.int (nI 1)), some (.int (nI (vl p 1))), some (.int (nI (vl p 2))), some (.int (nI (vl p 3))), some (.int (nI 0)), none, none] O dX1_shifted_25 rfl rfl ?_
  have lp27 : ∀ (n d : Nat), 13 - d = n → d ≤ 13 → anyUp (fun d => insB p d && fM (z * 2197 + p + 183 * (d * 1))) d = false → K 27 [some (.ref h), some (.int (nI z)), some (.int (nI p)), some (.int (nI 1)), some (.int (nI (vl p 1))), some (.int (nI (vl p 2))), some (.int (nI (vl p 3))), some (.int (nI d)), none, none] [] (fM, fD) := by
    intro n
    induction n using Nat.strongRecOn with
    | _ n ih27 =>
      intro d hn27 hk27 hany
      refine x_iload O dX1_shifted_27 rfl ?_
      refine x_bipush O dX1_shifted_29 kb_12 ?_
      refine x_icmp_gtN O dX1_shifted_31 (by omega) (fun c4 => ?_) (fun c4 => ?_)
      · obtain rfl : d = 13 := by omega
        refine x_iconst O dX1_shifted_136 kc_0 ?_
        refine x_top zI_0 ?_
        exact E _ _ _ _ _ dX1_shifted_137 (zI_narrow _) (by exact ⟨by rw [show shB fM z p = false from hany], rfl⟩)
      · refine x_iload O dX1_shifted_34 rfl ?_
        refine x_iload_n O dX1_shifted_36 rfl ?_
        refine x_imulN O dX1_shifted_37 ?_
        refine x_istore [some (.ref h), some (.int (nI z)), some (.int (nI p)), some (.int (nI 1)), some (.int (nI (vl p 1))), some (.int (nI (vl p 2))), some (.int (nI (vl p 3))), some (.int (nI d)), some (.int (nI (d * 1))), none] O dX1_shifted_38 rfl rfl ?_
        refine x_iload O dX1_shifted_40 rfl ?_
        refine x_iload O dX1_shifted_42 rfl ?_
        refine x_iaddN O dX1_shifted_44 ?_
        refine x_if_ltN O dX1_shifted_45 (by omega) (fun c5 => ?_) (fun c5 => ?_)
        · refine x_iconst O dX1_shifted_98 kc_0 ?_
          refine x_istore [some (.ref h), some (.int (nI z)), some (.int (nI p)), some (.int (nI 1)), some (.int (nI (vl p 1))), some (.int (nI (vl p 2))), some (.int (nI (vl p 3))), some (.int (nI d)), some (.int (nI (d * 1))), some (.int (nI 0))] O dX1_shifted_99 rfl rfl ?_
          refine x_iload O dX1_shifted_101 rfl ?_
          refine x_top zI_0 ?_
          refine x_if_eqF O dX1_shifted_103 ?_
          refine x_iincN [some (.ref h), some (.int (nI z)), some (.int (nI p)), some (.int (nI 1)), some (.int (nI (vl p 1))), some (.int (nI (vl p 2))), some (.int (nI (vl p 3))), some (.int (nI (d + 1))), some (.int (nI (d * 1))), some (.int (nI 0))] O dX1_shifted_130 rfl rfl ?_
          refine x_goto O dX1_shifted_133 ?_
          refine x_forget [some (.ref h), some (.int (nI z)), some (.int (nI p)), some (.int (nI 1)), some (.int (nI (vl p 1))), some (.int (nI (vl p 2))), some (.int (nI (vl p 3))), some (.int (nI (d + 1))), none, none] O ⟨rfl, rfl, rfl, rfl, rfl, rfl, rfl, rfl, trivial⟩ ?_
          exact ih27 _ (by omega) (d + 1) rfl (by omega) (by exact anyUp_s hany (by show (_ && _) = false; rw [show insB p d = false from decide_eq_false (by omega)]; rfl))
        · refine x_iload O dX1_shifted_48 rfl ?_
          refine x_iload O dX1_shifted_50 rfl ?_
          refine x_iaddN O dX1_shifted_52 ?_
          refine x_bipush O dX1_shifted_53 kb_12 ?_
          refine x_icmp_gtN O dX1_shifted_55 (by omega) (fun c6 => ?_) (fun c6 => ?_)
          · refine x_iconst O dX1_shifted_98 kc_0 ?_
            refine x_istore [some (.ref h), some (.int (nI z)), some (.int (nI p)), some (.int (nI 1)), some (.int (nI (vl p 1))), some (.int (nI (vl p 2))), some (.int (nI (vl p 3))), some (.int (nI d)), some (.int (nI (d * 1))), some (.int (nI 0))] O dX1_shifted_99 rfl rfl ?_
            refine x_iload O dX1_shifted_101 rfl ?_
            refine x_top zI_0 ?_
            refine x_if_eqF O dX1_shifted_103 ?_
            refine x_iincN [some (.ref h), some (.int (nI z)), some (.int (nI p)), some (.int (nI 1)), some (.int (nI (vl p 1))), some (.int (nI (vl p 2))), some (.int (nI (vl p 3))), some (.int (nI (d + 1))), some (.int (nI (d * 1))), some (.int (nI 0))] O dX1_shifted_130 rfl rfl ?_
            refine x_goto O dX1_shifted_133 ?_
            refine x_forget [some (.ref h), some (.int (nI z)), some (.int (nI p)), some (.int (nI 1)), some (.int (nI (vl p 1))), some (.int (nI (vl p 2))), some (.int (nI (vl p 3))), some (.int (nI (d + 1))), none, none] O ⟨rfl, rfl, rfl, rfl, rfl, rfl, rfl, rfl, trivial⟩ ?_
            exact ih27 _ (by omega) (d + 1) rfl (by omega) (by exact anyUp_s hany (by show (_ && _) = false; rw [show insB p d = false from decide_eq_false (by omega)]; rfl))
          · refine x_iload O dX1_shifted_58 rfl ?_
            refine x_iload O dX1_shifted_60 rfl ?_
            refine x_iaddN O dX1_shifted_62 ?_
            refine x_if_ltN O dX1_shifted_63 (by omega) (fun c7 => ?_) (fun c7 => ?_)
            · refine x_iconst O dX1_shifted_98 kc_0 ?_
              refine x_istore [some (.ref h), some (.int (nI z)), some (.int (nI p)), some (.int (nI 1)), some (.int (nI (vl p 1))), some (.int (nI (vl p 2))), some (.int (nI (vl p 3))), some (.int (nI d)), some (.int (nI (d * 1))), some (.int (nI 0))] O dX1_shifted_99 rfl rfl ?_
              refine x_iload O dX1_shifted_101 rfl ?_
              refine x_top zI_0 ?_
              refine x_if_eqF O dX1_shifted_103 ?_
              refine x_iincN [some (.ref h), some (.int (nI z)), some (.int (nI p)), some (.int (nI 1)), some (.int (nI (vl p 1))), some (.int (nI (vl p 2))), some (.int (nI (vl p 3))), some (.int (nI (d + 1))), some (.int (nI (d * 1))), some (.int (nI 0))] O dX1_shifted_130 rfl rfl ?_
              refine x_goto O dX1_shifted_133 ?_
              refine x_forget [some (.ref h), some (.int (nI z)), some (.int (nI p)), some (.int (nI 1)), some (.int (nI (vl p 1))), some (.int (nI (vl p 2))), some (.int (nI (vl p 3))), some (.int (nI (d + 1))), none, none] O ⟨rfl, rfl, rfl, rfl, rfl, rfl, rfl, rfl, trivial⟩ ?_
              exact ih27 _ (by omega) (d + 1) rfl (by omega) (by exact anyUp_s hany (by show (_ && _) = false; rw [show insB p d = false from decide_eq_false (by omega)]; rfl))
            · refine x_iload O dX1_shifted_66 rfl ?_
              refine x_iload O dX1_shifted_68 rfl ?_
              refine x_iaddN O dX1_shifted_70 ?_
              refine x_bipush O dX1_shifted_71 kb_12 ?_
              refine x_icmp_gtN O dX1_shifted_73 (by omega) (fun c8 => ?_) (fun c8 => ?_)
              · refine x_iconst O dX1_shifted_98 kc_0 ?_
                refine x_istore [some (.ref h), some (.int (nI z)), some (.int (nI p)), some (.int (nI 1)), some (.int (nI (vl p 1))), some (.int (nI (vl p 2))), some (.int (nI (vl p 3))), some (.int (nI d)), some (.int (nI (d * 1))), some (.int (nI 0))] O dX1_shifted_99 rfl rfl ?_
                refine x_iload O dX1_shifted_101 rfl ?_
                refine x_top zI_0 ?_
                refine x_if_eqF O dX1_shifted_103 ?_
                refine x_iincN [some (.ref h), some (.int (nI z)), some (.int (nI p)), some (.int (nI 1)), some (.int (nI (vl p 1))), some (.int (nI (vl p 2))), some (.int (nI (vl p 3))), some (.int (nI (d + 1))), some (.int (nI (d * 1))), some (.int (nI 0))] O dX1_shifted_130 rfl rfl ?_
                refine x_goto O dX1_shifted_133 ?_
                refine x_forget [some (.ref h), some (.int (nI z)), some (.int (nI p)), some (.int (nI 1)), some (.int (nI (vl p 1))), some (.int (nI (vl p 2))), some (.int (nI (vl p 3))), some (.int (nI (d + 1))), none, none] O ⟨rfl, rfl, rfl, rfl, rfl, rfl, rfl, rfl, trivial⟩ ?_
                exact ih27 _ (by omega) (d + 1) rfl (by omega) (by exact anyUp_s hany (by show (_ && _) = false; rw [show insB p d = false from decide_eq_false (by omega)]; rfl))
              · refine x_iload O dX1_shifted_76 rfl ?_
                refine x_iload O dX1_shifted_78 rfl ?_
                refine x_iaddN O dX1_shifted_80 ?_
                refine x_if_ltN O dX1_shifted_81 (by omega) (fun c9 => ?_) (fun c9 => ?_)
                · refine x_iconst O dX1_shifted_98 kc_0 ?_
                  refine x_istore [some (.ref h), some (.int (nI z)), some (.int (nI p)), some (.int (nI 1)), some (.int (nI (vl p 1))), some (.int (nI (vl p 2))), some (.int (nI (vl p 3))), some (.int (nI d)), some (.int (nI (d * 1))), some (.int (nI 0))] O dX1_shifted_99 rfl rfl ?_
                  refine x_iload O dX1_shifted_101 rfl ?_
                  refine x_top zI_0 ?_
                  refine x_if_eqF O dX1_shifted_103 ?_
                  refine x_iincN [some (.ref h), some (.int (nI z)), some (.int (nI p)), some (.int (nI 1)), some (.int (nI (vl p 1))), some (.int (nI (vl p 2))), some (.int (nI (vl p 3))), some (.int (nI (d + 1))), some (.int (nI (d * 1))), some (.int (nI 0))] O dX1_shifted_130 rfl rfl ?_
                  refine x_goto O dX1_shifted_133 ?_
                  refine x_forget [some (.ref h), some (.int (nI z)), some (.int (nI p)), some (.int (nI 1)), some (.int (nI (vl p 1))), some (.int (nI (vl p 2))), some (.int (nI (vl p 3))), some (.int (nI (d + 1))), none, none] O ⟨rfl, rfl, rfl, rfl, rfl, rfl, rfl, rfl, trivial⟩ ?_
                  exact ih27 _ (by omega) (d + 1) rfl (by omega) (by exact anyUp_s hany (by show (_ && _) = false; rw [show insB p d = false from decide_eq_false (by omega)]; rfl))
                · refine x_iload O dX1_shifted_84 rfl ?_
                  refine x_iload O dX1_shifted_86 rfl ?_
                  refine x_iaddN O dX1_shifted_88 ?_
                  refine x_bipush O dX1_shifted_89 kb_12 ?_
                  refine x_icmp_gtN O dX1_shifted_91 (by omega) (fun c10 => ?_) (fun c10 => ?_)
                  · refine x_iconst O dX1_shifted_98 kc_0 ?_
                    refine x_istore [some (.ref h), some (.int (nI z)), some (.int (nI p)), some (.int (nI 1)), some (.int (nI (vl p 1))), some (.int (nI (vl p 2))), some (.int (nI (vl p 3))), some (.int (nI d)), some (.int (nI (d * 1))), some (.int (nI 0))] O dX1_shifted_99 rfl rfl ?_
                    refine x_iload O dX1_shifted_101 rfl ?_
                    refine x_top zI_0 ?_
                    refine x_if_eqF O dX1_shifted_103 ?_
                    refine x_iincN [some (.ref h), some (.int (nI z)), some (.int (nI p)), some (.int (nI 1)), some (.int (nI (vl p 1))), some (.int (nI (vl p 2))), some (.int (nI (vl p 3))), some (.int (nI (d + 1))), some (.int (nI (d * 1))), some (.int (nI 0))] O dX1_shifted_130 rfl rfl ?_
                    refine x_goto O dX1_shifted_133 ?_
                    refine x_forget [some (.ref h), some (.int (nI z)), some (.int (nI p)), some (.int (nI 1)), some (.int (nI (vl p 1))), some (.int (nI (vl p 2))), some (.int (nI (vl p 3))), some (.int (nI (d + 1))), none, none] O ⟨rfl, rfl, rfl, rfl, rfl, rfl, rfl, rfl, trivial⟩ ?_
                    exact ih27 _ (by omega) (d + 1) rfl (by omega) (by exact anyUp_s hany (by show (_ && _) = false; rw [show insB p d = false from decide_eq_false (by omega)]; rfl))
                  · refine x_iconst O dX1_shifted_94 kc_1 ?_
                    refine x_goto O dX1_shifted_95 ?_
                    refine x_istore [some (.ref h), some (.int (nI z)), some (.int (nI p)), some (.int (nI 1)), some (.int (nI (vl p 1))), some (.int (nI (vl p 2))), some (.int (nI (vl p 3))), some (.int (nI d)), some (.int (nI (d * 1))), some (.int (nI 1))] O dX1_shifted_99 rfl rfl ?_
                    refine x_iload O dX1_shifted_101 rfl ?_
                    refine x_top zI_1 ?_
                    refine x_if_eqT O dX1_shifted_103 ?_
                    refine x_aload_n O dX1_shifted_106 rfl ?_
                    refine fM_M O dX1_shifted_107 ?_
                    refine x_iload_n O dX1_shifted_110 rfl ?_
                    refine x_sipush O dX1_shifted_111 ks_2197 ?_
                    refine x_imulN O dX1_shifted_114 ?_
                    refine x_iload_n O dX1_shifted_115 rfl ?_
                    refine x_iaddN O dX1_shifted_116 ?_
                    refine x_sipush O dX1_shifted_117 ks_183 ?_
                    refine x_iload O dX1_shifted_120 rfl ?_
                    refine x_imulN O dX1_shifted_122 ?_
                    refine x_iaddN O dX1_shifted_123 ?_
                    refine ldM O (by omega) dX1_shifted_124 ?_
                    refine x_if_eqZ O dX1_shifted_125 (fun c11 => ?_) (fun c11 => ?_)
                    · refine x_iincN [some (.ref h), some (.int (nI z)), some (.int (nI p)), some (.int (nI 1)), some (.int (nI (vl p 1))), some (.int (nI (vl p 2))), some (.int (nI (vl p 3))), some (.int (nI (d + 1))), some (.int (nI (d * 1))), some (.int (nI 1))] O dX1_shifted_130 rfl rfl ?_
                      refine x_goto O dX1_shifted_133 ?_
                      refine x_forget [some (.ref h), some (.int (nI z)), some (.int (nI p)), some (.int (nI 1)), some (.int (nI (vl p 1))), some (.int (nI (vl p 2))), some (.int (nI (vl p 3))), some (.int (nI (d + 1))), none, none] O ⟨rfl, rfl, rfl, rfl, rfl, rfl, rfl, rfl, trivial⟩ ?_
                      exact ih27 _ (by omega) (d + 1) rfl (by omega) (by exact anyUp_s hany (by show (_ && _) = false; rw [c11, Bool.and_false]))
                    · refine x_iconst O dX1_shifted_128 kc_1 ?_
                      refine x_top zI_1 ?_
                      exact E _ _ _ _ _ dX1_shifted_129 (zI_narrow _) (by exact ⟨by rw [show shB fM z p = true from anyUp_hit (k := d) (by omega) (by show (_ && _) = true; rw [c11, show insB p d = true from decide_eq_true (by omega)]; rfl)], rfl⟩)
  exact lp27 _ 0 rfl (by omega) (by rfl)
theorem callX1_shiftedB {l : Launch} {D : va_G} {h hM hD : Nat} {cM cD : ClassId} {fM : Nat → Bool} {fD : Nat → Bool} {R : Room} {cc : ByteArray} {nL : Nat} {K : Nat → List (Option Value) → List Value → SM → Prop} {pc nx : Nat} {lv : List (Option Value)} {st : List Value} (O : MachM l R cc nL D h hM hD cM cD K) (hR : 1 + 1 ≤ R.frames ∧ 8 + (10 + 11) + 22 ≤ R.locals) (hst : (st.map fun v => v.category).sum ≤ 8) (d : Dc cc pc (.invokevirtual 35) 3 nx) (z : Nat) (p : Nat) (hp : z < 3 ∧ p < 2197) (kont : ∀ r u, (r = zI (shB fM z p) ∧ u = (fM, fD)) → K nx lv (.int r :: st) u) : K pc lv (.int (nI 1) :: .int (nI p) :: .int (nI z) :: .ref h :: st) (fM, fD) :=
  x_callV (n := 3) O (mX1_shiftedB fM fD z p hp) (lw_V q219 q221 qs15 q23 q222) ⟨rfl, rfl⟩ (by decide +kernel) rfl hR ⟨1, [.ref hM, .ref hD], (RX1, TX1, 2), rfl, rfl, rfl⟩ hst rfl d kont
set_option maxHeartbeats 4000000 in
theorem mX1_pass {l : Launch} {D : va_G} {h hM hD : Nat} {cM cD : ClassId} (fM : Nat → Bool) (fD : Nat → Bool) (z0 : Int32) : Ct (wM h hM hD cM cD) D vwCl (tM cM cD) l yX1_pass cX1_pass 3 .int { frames := 2, cells := 0, slots := 0, locals := 51 } [.ref h, .int z0] (fM, fD) (fun r u => inZ z0 (fun z => u = (blk fM (z * 2197) 2197 (blk fD 0 2197 (fun p => shP fM z p)), blk fD 0 2197 (fun p => shP fM z p)) ∧ r = zI (someR u.1 z)) (r = (-1) ∧ u = (fM, fD))) := by
  refine ct_entry wM_addr (by decide) (by simp [Value.category]) (Nat.le_of_ble_eq_true rfl) ⟨rfl, rfl⟩ ?_
  intro K O E
  show K 0 [some (.ref h), some (.int z0), none] [] (fM, fD)
  refine x_aload_n O dX1_pass_0 rfl ?_
  refine x_iload_n O dX1_pass_1 rfl ?_
  refine callX1_badZone O ⟨Nat.le_of_ble_eq_true rfl, Nat.le_of_ble_eq_true rfl⟩ (Nat.le_of_ble_eq_true rfl) dX1_pass_2 _ (fun r u hp => ?_)
  rcases hp with ⟨z, hz, rfl, rfl, rfl⟩ | ⟨hz, rfl, rfl⟩
  · refine x_if_eqF O dX1_pass_5 ?_
    refine x_iconst O dX1_pass_10 kc_0 ?_
    refine x_istore_n [some (.ref h), some (.int (nI z)), some (.int (nI 0))] O dX1_pass_11 rfl rfl ?_
    have lp12 : ∀ (n p : Nat) (D1 : Nat → Bool), 2197 - p = n → p ≤ 2197 → D1 = blk fD 0 p (fun p => shP fM z p) → K 12 [some (.ref h), some (.int (nI z)), some (.int (nI p))] [] (fM, D1) := by
      intro n
      induction n using Nat.strongRecOn with
      | _ n ih12 =>
        intro p D1 hn12 hk12 hD1
        refine x_iload_n O dX1_pass_12 rfl ?_
        refine x_sipush O dX1_pass_13 ks_2197 ?_
        refine x_icmp_geN O dX1_pass_16 (by omega) (fun c1 => ?_) (fun c1 => ?_)
        · obtain rfl : p = 2197 := by omega
          subst hD1
          refine x_aload_n O dX1_pass_38 rfl ?_
          refine x_iload_n O dX1_pass_39 rfl ?_
          refine callX1_store O ⟨Nat.le_of_ble_eq_true rfl, Nat.le_of_ble_eq_true rfl⟩ (Nat.le_of_ble_eq_true rfl) dX1_pass_40 _ (by omega) (fun r u hp => ?_)
          obtain ⟨rfl, rfl⟩ := hp
          exact E _ _ _ _ _ dX1_pass_43 rfl (Or.inl ⟨z, hz, rfl, (by exact ⟨rfl, rfl⟩)⟩)
        · refine x_aload_n O dX1_pass_19 rfl ?_
          refine fM_D O dX1_pass_20 ?_
          refine x_iload_n O dX1_pass_23 rfl ?_
          refine x_aload_n O dX1_pass_24 rfl ?_
          refine x_iload_n O dX1_pass_25 rfl ?_
          refine x_iload_n O dX1_pass_26 rfl ?_
          refine x_iconst O dX1_pass_27 kc_m1 ?_
          refine callX1_shiftedP O ⟨Nat.le_of_ble_eq_true rfl, Nat.le_of_ble_eq_true rfl⟩ (Nat.le_of_ble_eq_true rfl) dX1_pass_28 _ _ (by omega) (fun r u hp => ?_)
          obtain ⟨rfl, rfl⟩ := hp
          refine stD O (by omega) rfl dX1_pass_31 ?_
          refine x_iincN [some (.ref h), some (.int (nI z)), some (.int (nI (p + 1)))] O dX1_pass_32 rfl rfl ?_
          refine x_goto O dX1_pass_35 ?_
          exact ih12 _ (by omega) (p + 1) _ rfl (by omega) (by exact blkB_s0 hD1 rfl)
    exact lp12 _ 0 _ rfl (by omega) (by exact blk_0)
  · refine x_if_eqT O dX1_pass_5 ?_
    refine x_iconst O dX1_pass_8 kc_m1 ?_
    exact E _ _ _ _ _ dX1_pass_9 rfl (Or.inr ⟨hz, (by exact ⟨rfl, rfl⟩)⟩)
set_option maxHeartbeats 4000000 in
theorem mX1_back {l : Launch} {D : va_G} {h hM hD : Nat} {cM cD : ClassId} (fM : Nat → Bool) (fD : Nat → Bool) (z0 : Int32) : Ct (wM h hM hD cM cD) D vwCl (tM cM cD) l yX1_back cX1_back 3 .int { frames := 2, cells := 0, slots := 0, locals := 51 } [.ref h, .int z0] (fM, fD) (fun r u => inZ z0 (fun z => u = (blk fM (z * 2197) 2197 (blk fD 0 2197 (fun p => shB fM z p)), blk fD 0 2197 (fun p => shB fM z p)) ∧ r = zI (someR u.1 z)) (r = (-1) ∧ u = (fM, fD))) := by
  refine ct_entry wM_addr (by decide) (by simp [Value.category]) (Nat.le_of_ble_eq_true rfl) ⟨rfl, rfl⟩ ?_
  intro K O E
  show K 0 [some (.ref h), some (.int z0), none] [] (fM, fD)
  refine x_aload_n O dX1_back_0 rfl ?_
  refine x_iload_n O dX1_back_1 rfl ?_
  refine callX1_badZone O ⟨Nat.le_of_ble_eq_true rfl, Nat.le_of_ble_eq_true rfl⟩ (Nat.le_of_ble_eq_true rfl) dX1_back_2 _ (fun r u hp => ?_)
  rcases hp with ⟨z, hz, rfl, rfl, rfl⟩ | ⟨hz, rfl, rfl⟩
  · refine x_if_eqF O dX1_back_5 ?_
    refine x_iconst O dX1_back_10 kc_0 ?_
    refine x_istore_n [some (.ref h), some (.int (nI z)), some (.int (nI 0))] O dX1_back_11 rfl rfl ?_
    have lp12 : ∀ (n p : Nat) (D1 : Nat → Bool), 2197 - p = n → p ≤ 2197 → D1 = blk fD 0 p (fun p => shB fM z p) → K 12 [some (.ref h), some (.int (nI z)), some (.int (nI p))] [] (fM, D1) := by
      intro n
      induction n using Nat.strongRecOn with
      | _ n ih12 =>
        intro p D1 hn12 hk12 hD1
        refine x_iload_n O dX1_back_12 rfl ?_
        refine x_sipush O dX1_back_13 ks_2197 ?_
        refine x_icmp_geN O dX1_back_16 (by omega) (fun c1 => ?_) (fun c1 => ?_)
        · obtain rfl : p = 2197 := by omega
          subst hD1
          refine x_aload_n O dX1_back_38 rfl ?_
          refine x_iload_n O dX1_back_39 rfl ?_
          refine callX1_store O ⟨Nat.le_of_ble_eq_true rfl, Nat.le_of_ble_eq_true rfl⟩ (Nat.le_of_ble_eq_true rfl) dX1_back_40 _ (by omega) (fun r u hp => ?_)
          obtain ⟨rfl, rfl⟩ := hp
          exact E _ _ _ _ _ dX1_back_43 rfl (Or.inl ⟨z, hz, rfl, (by exact ⟨rfl, rfl⟩)⟩)
        · refine x_aload_n O dX1_back_19 rfl ?_
          refine fM_D O dX1_back_20 ?_
          refine x_iload_n O dX1_back_23 rfl ?_
          refine x_aload_n O dX1_back_24 rfl ?_
          refine x_iload_n O dX1_back_25 rfl ?_
          refine x_iload_n O dX1_back_26 rfl ?_
          refine x_iconst O dX1_back_27 kc_1 ?_
          refine callX1_shiftedB O ⟨Nat.le_of_ble_eq_true rfl, Nat.le_of_ble_eq_true rfl⟩ (Nat.le_of_ble_eq_true rfl) dX1_back_28 _ _ (by omega) (fun r u hp => ?_)
          obtain ⟨rfl, rfl⟩ := hp
          refine stD O (by omega) rfl dX1_back_31 ?_
          refine x_iincN [some (.ref h), some (.int (nI z)), some (.int (nI (p + 1)))] O dX1_back_32 rfl rfl ?_
          refine x_goto O dX1_back_35 ?_
          exact ih12 _ (by omega) (p + 1) _ rfl (by omega) (by exact blkB_s0 hD1 rfl)
    exact lp12 _ 0 _ rfl (by omega) (by exact blk_0)
  · refine x_if_eqT O dX1_back_5 ?_
    refine x_iconst O dX1_back_8 kc_m1 ?_
    exact E _ _ _ _ _ dX1_back_9 rfl (Or.inr ⟨hz, (by exact ⟨rfl, rfl⟩)⟩)
set_option maxHeartbeats 4000000 in
theorem mX1_anyAt {l : Launch} {D : va_G} {h hM hD : Nat} {cM cD : ClassId} (fM : Nat → Bool) (fD : Nat → Bool) (z : Nat) (p : Nat) (k : Nat) (hp : z < 3 ∧ p < 2197 ∧ 1 ≤ k ∧ k < 4) : Ct (wM h hM hD cM cD) D vwCl (tM cM cD) l yX1_anyAt cX1_anyAt 6 .boolean { frames := 2, cells := 0, slots := 0, locals := 47 } [.ref h, .int (nI z), .int (nI p), .int (nI k)] (fM, fD) (fun r u => r = zI (atR fM z p k) ∧ u = (fM, fD)) := by
  refine ct_entry wM_addr (by decide) (by simp [Value.category]) (Nat.le_of_ble_eq_true rfl) ⟨rfl, rfl⟩ ?_
  intro K O E
  show K 0 [some (.ref h), some (.int (nI z)), some (.int (nI p)), some (.int (nI k)), none, none] [] (fM, fD)
  refine x_iconst O dX1_anyAt_0 kc_0 ?_
  refine x_istore [some (.ref h), some (.int (nI z)), some (.int (nI p)), some (.int (nI k)), some (.int (nI 0)), none] O dX1_anyAt_1 rfl rfl ?_
  have lp3 : ∀ (n v : Nat), 13 - v = n → v ≤ 13 → anyUp (fun v => fM (z * 2197 + wt p k v)) v = false → K 3 [some (.ref h), some (.int (nI z)), some (.int (nI p)), some (.int (nI k)), some (.int (nI v)), none] [] (fM, fD) := by
    intro n
    induction n using Nat.strongRecOn with
    | _ n ih3 =>
      intro v hn3 hk3 hany
      refine x_iload O dX1_anyAt_3 rfl ?_
      refine x_bipush O dX1_anyAt_5 kb_12 ?_
      refine x_icmp_gtN O dX1_anyAt_7 (by omega) (fun c1 => ?_) (fun c1 => ?_)
      · obtain rfl : v = 13 := by omega
        refine x_iconst O dX1_anyAt_44 kc_0 ?_
        refine x_top zI_0 ?_
        exact E _ _ _ _ _ dX1_anyAt_45 (zI_narrow _) (by exact ⟨by rw [show atR fM z p k = false from hany], rfl⟩)
      · refine x_aload_n O dX1_anyAt_10 rfl ?_
        refine x_iload_n O dX1_anyAt_11 rfl ?_
        refine x_iload_n O dX1_anyAt_12 rfl ?_
        refine x_iload O dX1_anyAt_13 rfl ?_
        refine callX1_with O ⟨Nat.le_of_ble_eq_true rfl, Nat.le_of_ble_eq_true rfl⟩ (Nat.le_of_ble_eq_true rfl) dX1_anyAt_15 _ _ _ (by omega) (fun r u hp => ?_)
        obtain ⟨rfl, rfl⟩ := hp
        have hw := wt_lt (p := p) (k := k) (v := v) (by omega) (by omega)
        refine x_istore [some (.ref h), some (.int (nI z)), some (.int (nI p)), some (.int (nI k)), some (.int (nI v)), some (.int (nI (wt p k v)))] O dX1_anyAt_18 rfl rfl ?_
        refine x_aload_n O dX1_anyAt_20 rfl ?_
        refine fM_M O dX1_anyAt_21 ?_
        refine x_iload_n O dX1_anyAt_24 rfl ?_
        refine x_sipush O dX1_anyAt_25 ks_2197 ?_
        refine x_imulN O dX1_anyAt_28 ?_
        refine x_iload O dX1_anyAt_29 rfl ?_
        refine x_iaddN O dX1_anyAt_31 ?_
        refine ldM O (by omega) dX1_anyAt_32 ?_
        refine x_if_eqZ O dX1_anyAt_33 (fun c2 => ?_) (fun c2 => ?_)
        · refine x_iincN [some (.ref h), some (.int (nI z)), some (.int (nI p)), some (.int (nI k)), some (.int (nI (v + 1))), some (.int (nI (wt p k v)))] O dX1_anyAt_38 rfl rfl ?_
          refine x_goto O dX1_anyAt_41 ?_
          refine x_forget [some (.ref h), some (.int (nI z)), some (.int (nI p)), some (.int (nI k)), some (.int (nI (v + 1))), none] O ⟨rfl, rfl, rfl, rfl, rfl, trivial⟩ ?_
          exact ih3 _ (by omega) (v + 1) rfl (by omega) (by exact anyUp_s hany c2)
        · refine x_iconst O dX1_anyAt_36 kc_1 ?_
          refine x_top zI_1 ?_
          exact E _ _ _ _ _ dX1_anyAt_37 (zI_narrow _) (by exact ⟨by rw [show atR fM z p k = true from anyUp_hit (k := v) (by omega) c2], rfl⟩)
  exact lp3 _ 0 rfl (by omega) (by rfl)
theorem callX1_anyAt {l : Launch} {D : va_G} {h hM hD : Nat} {cM cD : ClassId} {fM : Nat → Bool} {fD : Nat → Bool} {R : Room} {cc : ByteArray} {nL : Nat} {K : Nat → List (Option Value) → List Value → SM → Prop} {pc nx : Nat} {lv : List (Option Value)} {st : List Value} (O : MachM l R cc nL D h hM hD cM cD K) (hR : 2 + 1 ≤ R.frames ∧ 8 + (6 + 11) + 47 ≤ R.locals) (hst : (st.map fun v => v.category).sum ≤ 8) (d : Dc cc pc (.invokevirtual 46) 3 nx) (z : Nat) (p : Nat) (k : Nat) (hp : z < 3 ∧ p < 2197 ∧ 1 ≤ k ∧ k < 4) (kont : ∀ r u, (r = zI (atR fM z p k) ∧ u = (fM, fD)) → K nx lv (.int r :: st) u) : K pc lv (.int (nI k) :: .int (nI p) :: .int (nI z) :: .ref h :: st) (fM, fD) :=
  x_callV (n := 3) O (mX1_anyAt fM fD z p k hp) (lw_V q235 q237 qs17 q23 q238) ⟨rfl, rfl⟩ (by decide +kernel) rfl hR ⟨1, [.ref hM, .ref hD], (RX1, TX1, 2), rfl, rfl, rfl⟩ hst rfl d kont
set_option maxHeartbeats 4000000 in
theorem mX1_set {l : Launch} {D : va_G} {h hM hD : Nat} {cM cD : ClassId} (fM : Nat → Bool) (fD : Nat → Bool) (z0 : Int32) (k0 : Int32) (v : Int32) : Ct (wM h hM hD cM cD) D vwCl (tM cM cD) l yX1_set cX1_set 6 .int { frames := 3, cells := 0, slots := 0, locals := 72 } [.ref h, .int z0, .int k0, .int v] (fM, fD) (fun r u => inZ z0 (fun z => inC k0 (fun k => (0 ≤ v.toInt ∧ v.toInt ≤ 12 ∧ u = (blk fM (z * 2197) 2197 (blk fD 0 2197 (fun p => decide (nI (vl p k) = v) && atR fM z p k)), blk fD 0 2197 (fun p => decide (nI (vl p k) = v) && atR fM z p k)) ∧ r = zI (someR u.1 z)) ∨ ((v.toInt < 0 ∨ 12 < v.toInt) ∧ r = (-3) ∧ u = (fM, fD))) (r = (-2) ∧ u = (fM, fD))) (r = (-1) ∧ u = (fM, fD))) := by
  refine ct_entry wM_addr (by decide) (by simp [Value.category]) (Nat.le_of_ble_eq_true rfl) ⟨rfl, rfl⟩ ?_
  intro K O E
  show K 0 [some (.ref h), some (.int z0), some (.int k0), some (.int v), none, none] [] (fM, fD)
  refine x_aload_n O dX1_set_0 rfl ?_
  refine x_iload_n O dX1_set_1 rfl ?_
  refine callX1_badZone O ⟨Nat.le_of_ble_eq_true rfl, Nat.le_of_ble_eq_true rfl⟩ (Nat.le_of_ble_eq_true rfl) dX1_set_2 _ (fun r u hp => ?_)
  rcases hp with ⟨z, hz, rfl, rfl, rfl⟩ | ⟨hz, rfl, rfl⟩
  · refine x_if_eqF O dX1_set_5 ?_
    refine x_aload_n O dX1_set_10 rfl ?_
    refine x_iload_n O dX1_set_11 rfl ?_
    refine callX1_badClock O ⟨Nat.le_of_ble_eq_true rfl, Nat.le_of_ble_eq_true rfl⟩ (Nat.le_of_ble_eq_true rfl) dX1_set_12 _ (fun r u hp => ?_)
    rcases hp with ⟨k, hk, rfl, rfl, rfl⟩ | ⟨hk, rfl, rfl⟩
    · refine x_if_eqF O dX1_set_15 ?_
      refine x_iload_n O dX1_set_21 rfl ?_
      refine x_if_lt O dX1_set_22 (fun c1 => ?_) (fun c1 => ?_)
      · refine x_bipush O dX1_set_31 kb_m3 ?_
        exact E _ _ _ _ _ dX1_set_33 rfl (Or.inl ⟨z, hz, rfl, (Or.inl ⟨k, hk, rfl, (by exact Or.inr ⟨by omega, rfl, rfl⟩)⟩)⟩)
      · refine x_iload_n O dX1_set_25 rfl ?_
        refine x_bipush O dX1_set_26 kb_12 ?_
        refine x_icmp_leK O dX1_set_28 (by omega) (fun c2 => ?_) (fun c2 => ?_)
        · refine x_iconst O dX1_set_34 kc_0 ?_
          refine x_istore [some (.ref h), some (.int (nI z)), some (.int (nI k)), some (.int v), some (.int (nI 0)), none] O dX1_set_35 rfl rfl ?_
          have lp37 : ∀ (n p : Nat) (D1 : Nat → Bool), 2197 - p = n → p ≤ 2197 → D1 = blk fD 0 p (fun p => decide (nI (vl p k) = v) && atR fM z p k) → K 37 [some (.ref h), some (.int (nI z)), some (.int (nI k)), some (.int v), some (.int (nI p)), none] [] (fM, D1) := by
            intro n
            induction n using Nat.strongRecOn with
            | _ n ih37 =>
              intro p D1 hn37 hk37 hD1
              refine x_iload O dX1_set_37 rfl ?_
              refine x_sipush O dX1_set_39 ks_2197 ?_
              refine x_icmp_geN O dX1_set_42 (by omega) (fun c3 => ?_) (fun c3 => ?_)
              · obtain rfl : p = 2197 := by omega
                subst hD1
                refine x_aload_n O dX1_set_89 rfl ?_
                refine x_iload_n O dX1_set_90 rfl ?_
                refine callX1_store O ⟨Nat.le_of_ble_eq_true rfl, Nat.le_of_ble_eq_true rfl⟩ (Nat.le_of_ble_eq_true rfl) dX1_set_91 _ (by omega) (fun r u hp => ?_)
                obtain ⟨rfl, rfl⟩ := hp
                exact E _ _ _ _ _ dX1_set_94 rfl (Or.inl ⟨z, hz, rfl, (Or.inl ⟨k, hk, rfl, (by exact Or.inl ⟨by omega, by omega, rfl, rfl⟩)⟩)⟩)
              · refine x_aload_n O dX1_set_45 rfl ?_
                refine x_iload O dX1_set_46 rfl ?_
                refine x_iload_n O dX1_set_48 rfl ?_
                refine callX1_value O ⟨Nat.le_of_ble_eq_true rfl, Nat.le_of_ble_eq_true rfl⟩ (Nat.le_of_ble_eq_true rfl) dX1_set_49 _ _ (by omega) (fun r u hp => ?_)
                obtain ⟨rfl, rfl⟩ := hp
                have hv4 := vl_le (p := p) (k := k) (by omega)
                refine x_istore [some (.ref h), some (.int (nI z)), some (.int (nI k)), some (.int v), some (.int (nI p)), some (.int (nI (vl p k)))] O dX1_set_52 rfl rfl ?_
                refine x_aload_n O dX1_set_54 rfl ?_
                refine fM_D O dX1_set_55 ?_
                refine x_iload O dX1_set_58 rfl ?_
                refine x_iload O dX1_set_60 rfl ?_
                refine x_iload_n O dX1_set_62 rfl ?_
                refine x_icmp_ne O dX1_set_63 (fun c5 => ?_) (fun c5 => ?_)
                · refine x_iconst O dX1_set_81 kc_0 ?_
                  refine stD O (by omega) zI_0 dX1_set_82 ?_
                  refine x_iincN [some (.ref h), some (.int (nI z)), some (.int (nI k)), some (.int v), some (.int (nI (p + 1))), some (.int (nI (vl p k)))] O dX1_set_83 rfl rfl ?_
                  refine x_goto O dX1_set_86 ?_
                  refine x_forget [some (.ref h), some (.int (nI z)), some (.int (nI k)), some (.int v), some (.int (nI (p + 1))), none] O ⟨rfl, rfl, rfl, rfl, rfl, trivial⟩ ?_
                  exact ih37 _ (by omega) (p + 1) _ rfl (by omega) (by exact blkB_s0 hD1 (by show _ = (_ && _); rw [decide_eq_false c5]; rfl))
                · refine x_aload_n O dX1_set_66 rfl ?_
                  refine x_iload_n O dX1_set_67 rfl ?_
                  refine x_iload O dX1_set_68 rfl ?_
                  refine x_iload_n O dX1_set_70 rfl ?_
                  refine callX1_anyAt O ⟨Nat.le_of_ble_eq_true rfl, Nat.le_of_ble_eq_true rfl⟩ (Nat.le_of_ble_eq_true rfl) dX1_set_71 _ _ _ (by omega) (fun r u hp => ?_)
                  obtain ⟨rfl, rfl⟩ := hp
                  refine x_if_eqZ O dX1_set_74 (fun c6 => ?_) (fun c6 => ?_)
                  · refine x_iconst O dX1_set_81 kc_0 ?_
                    refine stD O (by omega) zI_0 dX1_set_82 ?_
                    refine x_iincN [some (.ref h), some (.int (nI z)), some (.int (nI k)), some (.int v), some (.int (nI (p + 1))), some (.int (nI (vl p k)))] O dX1_set_83 rfl rfl ?_
                    refine x_goto O dX1_set_86 ?_
                    refine x_forget [some (.ref h), some (.int (nI z)), some (.int (nI k)), some (.int v), some (.int (nI (p + 1))), none] O ⟨rfl, rfl, rfl, rfl, rfl, trivial⟩ ?_
                    exact ih37 _ (by omega) (p + 1) _ rfl (by omega) (by exact blkB_s0 hD1 (by show _ = (_ && _); rw [decide_eq_true c5, c6]; rfl))
                  · refine x_iconst O dX1_set_77 kc_1 ?_
                    refine x_goto O dX1_set_78 ?_
                    refine stD O (by omega) zI_1 dX1_set_82 ?_
                    refine x_iincN [some (.ref h), some (.int (nI z)), some (.int (nI k)), some (.int v), some (.int (nI (p + 1))), some (.int (nI (vl p k)))] O dX1_set_83 rfl rfl ?_
                    refine x_goto O dX1_set_86 ?_
                    refine x_forget [some (.ref h), some (.int (nI z)), some (.int (nI k)), some (.int v), some (.int (nI (p + 1))), none] O ⟨rfl, rfl, rfl, rfl, rfl, trivial⟩ ?_
                    exact ih37 _ (by omega) (p + 1) _ rfl (by omega) (by exact blkB_s0 hD1 (by show _ = (_ && _); rw [decide_eq_true c5, c6]; rfl))
          exact lp37 _ 0 _ rfl (by omega) (by exact blk_0)
        · refine x_bipush O dX1_set_31 kb_m3 ?_
          exact E _ _ _ _ _ dX1_set_33 rfl (Or.inl ⟨z, hz, rfl, (Or.inl ⟨k, hk, rfl, (by exact Or.inr ⟨by omega, rfl, rfl⟩)⟩)⟩)
    · refine x_if_eqT O dX1_set_15 ?_
      refine x_bipush O dX1_set_18 kb_m2 ?_
      exact E _ _ _ _ _ dX1_set_20 rfl (Or.inl ⟨z, hz, rfl, (Or.inr ⟨hk, (by exact ⟨rfl, rfl⟩)⟩)⟩)
  · refine x_if_eqT O dX1_set_5 ?_
    refine x_iconst O dX1_set_8 kc_m1 ?_
    exact E _ _ _ _ _ dX1_set_9 rfl (Or.inr ⟨hz, (by exact ⟨rfl, rfl⟩)⟩)
set_option maxHeartbeats 4000000 in
theorem mX1_free {l : Launch} {D : va_G} {h hM hD : Nat} {cM cD : ClassId} (fM : Nat → Bool) (fD : Nat → Bool) (z0 : Int32) (k0 : Int32) : Ct (wM h hM hD cM cD) D vwCl (tM cM cD) l yX1_free cX1_free 4 .int { frames := 3, cells := 0, slots := 0, locals := 72 } [.ref h, .int z0, .int k0] (fM, fD) (fun r u => inZ z0 (fun z => inC k0 (fun k => u = (blk fM (z * 2197) 2197 (blk fD 0 2197 (fun p => atR fM z p k)), blk fD 0 2197 (fun p => atR fM z p k)) ∧ r = zI (someR u.1 z)) (r = (-2) ∧ u = (fM, fD))) (r = (-1) ∧ u = (fM, fD))) := by
  refine ct_entry wM_addr (by decide) (by simp [Value.category]) (Nat.le_of_ble_eq_true rfl) ⟨rfl, rfl⟩ ?_
  intro K O E
  show K 0 [some (.ref h), some (.int z0), some (.int k0), none] [] (fM, fD)
  refine x_aload_n O dX1_free_0 rfl ?_
  refine x_iload_n O dX1_free_1 rfl ?_
  refine callX1_badZone O ⟨Nat.le_of_ble_eq_true rfl, Nat.le_of_ble_eq_true rfl⟩ (Nat.le_of_ble_eq_true rfl) dX1_free_2 _ (fun r u hp => ?_)
  rcases hp with ⟨z, hz, rfl, rfl, rfl⟩ | ⟨hz, rfl, rfl⟩
  · refine x_if_eqF O dX1_free_5 ?_
    refine x_aload_n O dX1_free_10 rfl ?_
    refine x_iload_n O dX1_free_11 rfl ?_
    refine callX1_badClock O ⟨Nat.le_of_ble_eq_true rfl, Nat.le_of_ble_eq_true rfl⟩ (Nat.le_of_ble_eq_true rfl) dX1_free_12 _ (fun r u hp => ?_)
    rcases hp with ⟨k, hk, rfl, rfl, rfl⟩ | ⟨hk, rfl, rfl⟩
    · refine x_if_eqF O dX1_free_15 ?_
      refine x_iconst O dX1_free_21 kc_0 ?_
      refine x_istore_n [some (.ref h), some (.int (nI z)), some (.int (nI k)), some (.int (nI 0))] O dX1_free_22 rfl rfl ?_
      have lp23 : ∀ (n p : Nat) (D1 : Nat → Bool), 2197 - p = n → p ≤ 2197 → D1 = blk fD 0 p (fun p => atR fM z p k) → K 23 [some (.ref h), some (.int (nI z)), some (.int (nI k)), some (.int (nI p))] [] (fM, D1) := by
        intro n
        induction n using Nat.strongRecOn with
        | _ n ih23 =>
          intro p D1 hn23 hk23 hD1
          refine x_iload_n O dX1_free_23 rfl ?_
          refine x_sipush O dX1_free_24 ks_2197 ?_
          refine x_icmp_geN O dX1_free_27 (by omega) (fun c1 => ?_) (fun c1 => ?_)
          · obtain rfl : p = 2197 := by omega
            subst hD1
            refine x_aload_n O dX1_free_49 rfl ?_
            refine x_iload_n O dX1_free_50 rfl ?_
            refine callX1_store O ⟨Nat.le_of_ble_eq_true rfl, Nat.le_of_ble_eq_true rfl⟩ (Nat.le_of_ble_eq_true rfl) dX1_free_51 _ (by omega) (fun r u hp => ?_)
            obtain ⟨rfl, rfl⟩ := hp
            exact E _ _ _ _ _ dX1_free_54 rfl (Or.inl ⟨z, hz, rfl, (Or.inl ⟨k, hk, rfl, (by exact ⟨rfl, rfl⟩)⟩)⟩)
          · refine x_aload_n O dX1_free_30 rfl ?_
            refine fM_D O dX1_free_31 ?_
            refine x_iload_n O dX1_free_34 rfl ?_
            refine x_aload_n O dX1_free_35 rfl ?_
            refine x_iload_n O dX1_free_36 rfl ?_
            refine x_iload_n O dX1_free_37 rfl ?_
            refine x_iload_n O dX1_free_38 rfl ?_
            refine callX1_anyAt O ⟨Nat.le_of_ble_eq_true rfl, Nat.le_of_ble_eq_true rfl⟩ (Nat.le_of_ble_eq_true rfl) dX1_free_39 _ _ _ (by omega) (fun r u hp => ?_)
            obtain ⟨rfl, rfl⟩ := hp
            refine stD O (by omega) rfl dX1_free_42 ?_
            refine x_iincN [some (.ref h), some (.int (nI z)), some (.int (nI k)), some (.int (nI (p + 1)))] O dX1_free_43 rfl rfl ?_
            refine x_goto O dX1_free_46 ?_
            exact ih23 _ (by omega) (p + 1) _ rfl (by omega) (by exact blkB_s0 hD1 rfl)
      exact lp23 _ 0 _ rfl (by omega) (by exact blk_0)
    · refine x_if_eqT O dX1_free_15 ?_
      refine x_bipush O dX1_free_18 kb_m2 ?_
      exact E _ _ _ _ _ dX1_free_20 rfl (Or.inl ⟨z, hz, rfl, (Or.inr ⟨hk, (by exact ⟨rfl, rfl⟩)⟩)⟩)
  · refine x_if_eqT O dX1_free_5 ?_
    refine x_iconst O dX1_free_8 kc_m1 ?_
    exact E _ _ _ _ _ dX1_free_9 rfl (Or.inr ⟨hz, (by exact ⟨rfl, rfl⟩)⟩)
set_option maxHeartbeats 4000000 in
theorem mX1_follow {l : Launch} {D : va_G} {h hM hD : Nat} {cM cD : ClassId} (fM : Nat → Bool) (fD : Nat → Bool) (z0 : Int32) (i0 : Int32) (j0 : Int32) : Ct (wM h hM hD cM cD) D vwCl (tM cM cD) l yX1_follow cX1_follow 7 .int { frames := 3, cells := 0, slots := 0, locals := 72 } [.ref h, .int z0, .int i0, .int j0] (fM, fD) (fun r u => inZ z0 (fun z => inC i0 (fun i => inC j0 (fun j => (i = j ∧ u = (fM, fD) ∧ r = zI (someR fM z)) ∨ (i ≠ j ∧ u = (blk fM (z * 2197) 2197 (blk fD 0 2197 (fun p => decide (vl p i = vl p j) && atR fM z p i)), blk fD 0 2197 (fun p => decide (vl p i = vl p j) && atR fM z p i)) ∧ r = zI (someR u.1 z))) (r = (-2) ∧ u = (fM, fD))) (r = (-2) ∧ u = (fM, fD))) (r = (-1) ∧ u = (fM, fD))) := by
  refine ct_entry wM_addr (by decide) (by simp [Value.category]) (Nat.le_of_ble_eq_true rfl) ⟨rfl, rfl⟩ ?_
  intro K O E
  show K 0 [some (.ref h), some (.int z0), some (.int i0), some (.int j0), none, none, none] [] (fM, fD)
  refine x_aload_n O dX1_follow_0 rfl ?_
  refine x_iload_n O dX1_follow_1 rfl ?_
  refine callX1_badZone O ⟨Nat.le_of_ble_eq_true rfl, Nat.le_of_ble_eq_true rfl⟩ (Nat.le_of_ble_eq_true rfl) dX1_follow_2 _ (fun r u hp => ?_)
  rcases hp with ⟨z, hz, rfl, rfl, rfl⟩ | ⟨hz, rfl, rfl⟩
  · refine x_if_eqF O dX1_follow_5 ?_
    refine x_aload_n O dX1_follow_10 rfl ?_
    refine x_iload_n O dX1_follow_11 rfl ?_
    refine callX1_badClock O ⟨Nat.le_of_ble_eq_true rfl, Nat.le_of_ble_eq_true rfl⟩ (Nat.le_of_ble_eq_true rfl) dX1_follow_12 _ (fun r u hp => ?_)
    rcases hp with ⟨i, hi, rfl, rfl, rfl⟩ | ⟨hi, rfl, rfl⟩
    · refine x_if_neF O dX1_follow_15 ?_
      refine x_aload_n O dX1_follow_18 rfl ?_
      refine x_iload_n O dX1_follow_19 rfl ?_
      refine callX1_badClock O ⟨Nat.le_of_ble_eq_true rfl, Nat.le_of_ble_eq_true rfl⟩ (Nat.le_of_ble_eq_true rfl) dX1_follow_20 _ (fun r u hp => ?_)
      rcases hp with ⟨j, hj, rfl, rfl, rfl⟩ | ⟨hj, rfl, rfl⟩
      · refine x_if_eqF O dX1_follow_23 ?_
        refine x_iload_n O dX1_follow_29 rfl ?_
        refine x_iload_n O dX1_follow_30 rfl ?_
        refine x_icmp_neN O dX1_follow_31 (by omega) (fun c1 => ?_) (fun c1 => ?_)
        · refine x_iconst O dX1_follow_40 kc_0 ?_
          refine x_istore [some (.ref h), some (.int (nI z)), some (.int (nI i)), some (.int (nI j)), some (.int (nI 0)), none, none] O dX1_follow_41 rfl rfl ?_
          have lp43 : ∀ (n p : Nat) (D1 : Nat → Bool), 2197 - p = n → p ≤ 2197 → D1 = blk fD 0 p (fun p => decide (vl p i = vl p j) && atR fM z p i) → K 43 [some (.ref h), some (.int (nI z)), some (.int (nI i)), some (.int (nI j)), some (.int (nI p)), none, none] [] (fM, D1) := by
            intro n
            induction n using Nat.strongRecOn with
            | _ n ih43 =>
              intro p D1 hn43 hk43 hD1
              refine x_iload O dX1_follow_43 rfl ?_
              refine x_sipush O dX1_follow_45 ks_2197 ?_
              refine x_icmp_geN O dX1_follow_48 (by omega) (fun c2 => ?_) (fun c2 => ?_)
              · obtain rfl : p = 2197 := by omega
                subst hD1
                refine x_aload_n O dX1_follow_105 rfl ?_
                refine x_iload_n O dX1_follow_106 rfl ?_
                refine callX1_store O ⟨Nat.le_of_ble_eq_true rfl, Nat.le_of_ble_eq_true rfl⟩ (Nat.le_of_ble_eq_true rfl) dX1_follow_107 _ (by omega) (fun r u hp => ?_)
                obtain ⟨rfl, rfl⟩ := hp
                exact E _ _ _ _ _ dX1_follow_110 rfl (Or.inl ⟨z, hz, rfl, (Or.inl ⟨i, hi, rfl, (Or.inl ⟨j, hj, rfl, (by exact Or.inr ⟨c1, rfl, rfl⟩)⟩)⟩)⟩)
              · refine x_aload_n O dX1_follow_51 rfl ?_
                refine x_iload O dX1_follow_52 rfl ?_
                refine x_iload_n O dX1_follow_54 rfl ?_
                refine callX1_value O ⟨Nat.le_of_ble_eq_true rfl, Nat.le_of_ble_eq_true rfl⟩ (Nat.le_of_ble_eq_true rfl) dX1_follow_55 _ _ (by omega) (fun r u hp => ?_)
                obtain ⟨rfl, rfl⟩ := hp
                have hv3 := vl_le (p := p) (k := i) (by omega)
                refine x_istore [some (.ref h), some (.int (nI z)), some (.int (nI i)), some (.int (nI j)), some (.int (nI p)), some (.int (nI (vl p i))), none] O dX1_follow_58 rfl rfl ?_
                refine x_aload_n O dX1_follow_60 rfl ?_
                refine x_iload O dX1_follow_61 rfl ?_
                refine x_iload_n O dX1_follow_63 rfl ?_
                refine callX1_value O ⟨Nat.le_of_ble_eq_true rfl, Nat.le_of_ble_eq_true rfl⟩ (Nat.le_of_ble_eq_true rfl) dX1_follow_64 _ _ (by omega) (fun r u hp => ?_)
                obtain ⟨rfl, rfl⟩ := hp
                have hv4 := vl_le (p := p) (k := j) (by omega)
                refine x_istore [some (.ref h), some (.int (nI z)), some (.int (nI i)), some (.int (nI j)), some (.int (nI p)), some (.int (nI (vl p i))), some (.int (nI (vl p j)))] O dX1_follow_67 rfl rfl ?_
                refine x_aload_n O dX1_follow_69 rfl ?_
                refine fM_D O dX1_follow_70 ?_
                refine x_iload O dX1_follow_73 rfl ?_
                refine x_iload O dX1_follow_75 rfl ?_
                refine x_iload O dX1_follow_77 rfl ?_
                refine x_icmp_neN O dX1_follow_79 (by omega) (fun c5 => ?_) (fun c5 => ?_)
                · refine x_iconst O dX1_follow_97 kc_0 ?_
                  refine stD O (by omega) zI_0 dX1_follow_98 ?_
                  refine x_iincN [some (.ref h), some (.int (nI z)), some (.int (nI i)), some (.int (nI j)), some (.int (nI (p + 1))), some (.int (nI (vl p i))), some (.int (nI (vl p j)))] O dX1_follow_99 rfl rfl ?_
                  refine x_goto O dX1_follow_102 ?_
                  refine x_forget [some (.ref h), some (.int (nI z)), some (.int (nI i)), some (.int (nI j)), some (.int (nI (p + 1))), none, none] O ⟨rfl, rfl, rfl, rfl, rfl, trivial⟩ ?_
                  exact ih43 _ (by omega) (p + 1) _ rfl (by omega) (by exact blkB_s0 hD1 (by show _ = (_ && _); rw [decide_eq_false c5]; rfl))
                · refine x_aload_n O dX1_follow_82 rfl ?_
                  refine x_iload_n O dX1_follow_83 rfl ?_
                  refine x_iload O dX1_follow_84 rfl ?_
                  refine x_iload_n O dX1_follow_86 rfl ?_
                  refine callX1_anyAt O ⟨Nat.le_of_ble_eq_true rfl, Nat.le_of_ble_eq_true rfl⟩ (Nat.le_of_ble_eq_true rfl) dX1_follow_87 _ _ _ (by omega) (fun r u hp => ?_)
                  obtain ⟨rfl, rfl⟩ := hp
                  refine x_if_eqZ O dX1_follow_90 (fun c6 => ?_) (fun c6 => ?_)
                  · refine x_iconst O dX1_follow_97 kc_0 ?_
                    refine stD O (by omega) zI_0 dX1_follow_98 ?_
                    refine x_iincN [some (.ref h), some (.int (nI z)), some (.int (nI i)), some (.int (nI j)), some (.int (nI (p + 1))), some (.int (nI (vl p i))), some (.int (nI (vl p j)))] O dX1_follow_99 rfl rfl ?_
                    refine x_goto O dX1_follow_102 ?_
                    refine x_forget [some (.ref h), some (.int (nI z)), some (.int (nI i)), some (.int (nI j)), some (.int (nI (p + 1))), none, none] O ⟨rfl, rfl, rfl, rfl, rfl, trivial⟩ ?_
                    exact ih43 _ (by omega) (p + 1) _ rfl (by omega) (by exact blkB_s0 hD1 (by show _ = (_ && _); rw [decide_eq_true c5, c6]; rfl))
                  · refine x_iconst O dX1_follow_93 kc_1 ?_
                    refine x_goto O dX1_follow_94 ?_
                    refine stD O (by omega) zI_1 dX1_follow_98 ?_
                    refine x_iincN [some (.ref h), some (.int (nI z)), some (.int (nI i)), some (.int (nI j)), some (.int (nI (p + 1))), some (.int (nI (vl p i))), some (.int (nI (vl p j)))] O dX1_follow_99 rfl rfl ?_
                    refine x_goto O dX1_follow_102 ?_
                    refine x_forget [some (.ref h), some (.int (nI z)), some (.int (nI i)), some (.int (nI j)), some (.int (nI (p + 1))), none, none] O ⟨rfl, rfl, rfl, rfl, rfl, trivial⟩ ?_
                    exact ih43 _ (by omega) (p + 1) _ rfl (by omega) (by exact blkB_s0 hD1 (by show _ = (_ && _); rw [decide_eq_true c5, c6]; rfl))
          exact lp43 _ 0 _ rfl (by omega) (by exact blk_0)
        · refine x_aload_n O dX1_follow_34 rfl ?_
          refine x_iload_n O dX1_follow_35 rfl ?_
          refine callX1_some O ⟨Nat.le_of_ble_eq_true rfl, Nat.le_of_ble_eq_true rfl⟩ (Nat.le_of_ble_eq_true rfl) dX1_follow_36 _ (by omega) (fun r u hp => ?_)
          obtain ⟨rfl, rfl⟩ := hp
          exact E _ _ _ _ _ dX1_follow_39 rfl (Or.inl ⟨z, hz, rfl, (Or.inl ⟨i, hi, rfl, (Or.inl ⟨j, hj, rfl, (by exact Or.inl ⟨c1, rfl, rfl⟩)⟩)⟩)⟩)
      · refine x_if_eqT O dX1_follow_23 ?_
        refine x_bipush O dX1_follow_26 kb_m2 ?_
        exact E _ _ _ _ _ dX1_follow_28 rfl (Or.inl ⟨z, hz, rfl, (Or.inl ⟨i, hi, rfl, (Or.inr ⟨hj, (by exact ⟨rfl, rfl⟩)⟩)⟩)⟩)
    · refine x_if_neT O dX1_follow_15 ?_
      refine x_bipush O dX1_follow_26 kb_m2 ?_
      exact E _ _ _ _ _ dX1_follow_28 rfl (Or.inl ⟨z, hz, rfl, (Or.inr ⟨hi, (by exact ⟨rfl, rfl⟩)⟩)⟩)
  · refine x_if_eqT O dX1_follow_5 ?_
    refine x_iconst O dX1_follow_8 kc_m1 ?_
    exact E _ _ _ _ _ dX1_follow_9 rfl (Or.inr ⟨hz, (by exact ⟨rfl, rfl⟩)⟩)
end
section
set_option maxRecDepth 100000
set_option maxHeartbeats 4000000 in
theorem mX1_meet {l : Launch} {D : va_G} {h hM hD : Nat} {cM cD : ClassId} (fM : Nat → Bool) (fD : Nat → Bool) (y0 : Int32) (z0 : Int32) : Ct (wM h hM hD cM cD) D vwCl (tM cM cD) l yX1_meet cX1_meet 4 .int { frames := 2, cells := 0, slots := 0, locals := 44 } [.ref h, .int y0, .int z0] (fM, fD) (fun r u => inZ y0 (fun y => inZ z0 (fun z => u = (blk fM (y * 2197) 2197 (blk fD 0 2197 (fun p => fM (y * 2197 + p) && fM (z * 2197 + p))), blk fD 0 2197 (fun p => fM (y * 2197 + p) && fM (z * 2197 + p))) ∧ r = zI (someR u.1 y)) (r = (-1) ∧ u = (fM, fD))) (r = (-1) ∧ u = (fM, fD))) := by
  refine ct_entry wM_addr (by decide) (by simp [Value.category]) (Nat.le_of_ble_eq_true rfl) ⟨rfl, rfl⟩ ?_
  intro K O E
  show K 0 [some (.ref h), some (.int y0), some (.int z0), none] [] (fM, fD)
  refine x_aload_n O dX1_meet_0 rfl ?_
  refine x_iload_n O dX1_meet_1 rfl ?_
  refine callX1_badZone O ⟨Nat.le_of_ble_eq_true rfl, Nat.le_of_ble_eq_true rfl⟩ (Nat.le_of_ble_eq_true rfl) dX1_meet_2 _ (fun r u hp => ?_)
  rcases hp with ⟨y, hy, rfl, rfl, rfl⟩ | ⟨hy, rfl, rfl⟩
  · refine x_if_neF O dX1_meet_5 ?_
    refine x_aload_n O dX1_meet_8 rfl ?_
    refine x_iload_n O dX1_meet_9 rfl ?_
    refine callX1_badZone O ⟨Nat.le_of_ble_eq_true rfl, Nat.le_of_ble_eq_true rfl⟩ (Nat.le_of_ble_eq_true rfl) dX1_meet_10 _ (fun r u hp => ?_)
    rcases hp with ⟨z, hz, rfl, rfl, rfl⟩ | ⟨hz, rfl, rfl⟩
    · refine x_if_eqF O dX1_meet_13 ?_
      refine x_iconst O dX1_meet_18 kc_0 ?_
      refine x_istore_n [some (.ref h), some (.int (nI y)), some (.int (nI z)), some (.int (nI 0))] O dX1_meet_19 rfl rfl ?_
      have lp20 : ∀ (n p : Nat) (D1 : Nat → Bool), 2197 - p = n → p ≤ 2197 → D1 = blk fD 0 p (fun p => fM (y * 2197 + p) && fM (z * 2197 + p)) → K 20 [some (.ref h), some (.int (nI y)), some (.int (nI z)), some (.int (nI p))] [] (fM, D1) := by
        intro n
        induction n using Nat.strongRecOn with
        | _ n ih20 =>
          intro p D1 hn20 hk20 hD1
          refine x_iload_n O dX1_meet_20 rfl ?_
          refine x_sipush O dX1_meet_21 ks_2197 ?_
          refine x_icmp_geN O dX1_meet_24 (by omega) (fun c1 => ?_) (fun c1 => ?_)
          · obtain rfl : p = 2197 := by omega
            subst hD1
            refine x_aload_n O dX1_meet_74 rfl ?_
            refine x_iload_n O dX1_meet_75 rfl ?_
            refine callX1_store O ⟨Nat.le_of_ble_eq_true rfl, Nat.le_of_ble_eq_true rfl⟩ (Nat.le_of_ble_eq_true rfl) dX1_meet_76 _ (by omega) (fun r u hp => ?_)
            obtain ⟨rfl, rfl⟩ := hp
            exact E _ _ _ _ _ dX1_meet_79 rfl (Or.inl ⟨y, hy, rfl, (Or.inl ⟨z, hz, rfl, (by exact ⟨rfl, rfl⟩)⟩)⟩)
          · refine x_aload_n O dX1_meet_27 rfl ?_
            refine fM_D O dX1_meet_28 ?_
            refine x_iload_n O dX1_meet_31 rfl ?_
            refine x_aload_n O dX1_meet_32 rfl ?_
            refine fM_M O dX1_meet_33 ?_
            refine x_iload_n O dX1_meet_36 rfl ?_
            refine x_sipush O dX1_meet_37 ks_2197 ?_
            refine x_imulN O dX1_meet_40 ?_
            refine x_iload_n O dX1_meet_41 rfl ?_
            refine x_iaddN O dX1_meet_42 ?_
            refine ldM O (by omega) dX1_meet_43 ?_
            refine x_if_eqZ O dX1_meet_44 (fun c2 => ?_) (fun c2 => ?_)
            · refine x_iconst O dX1_meet_66 kc_0 ?_
              refine stD O (by omega) zI_0 dX1_meet_67 ?_
              refine x_iincN [some (.ref h), some (.int (nI y)), some (.int (nI z)), some (.int (nI (p + 1)))] O dX1_meet_68 rfl rfl ?_
              refine x_goto O dX1_meet_71 ?_
              exact ih20 _ (by omega) (p + 1) _ rfl (by omega) (by exact blkB_s0 hD1 (by show _ = (_ && _); rw [c2]; rfl))
            · refine x_aload_n O dX1_meet_47 rfl ?_
              refine fM_M O dX1_meet_48 ?_
              refine x_iload_n O dX1_meet_51 rfl ?_
              refine x_sipush O dX1_meet_52 ks_2197 ?_
              refine x_imulN O dX1_meet_55 ?_
              refine x_iload_n O dX1_meet_56 rfl ?_
              refine x_iaddN O dX1_meet_57 ?_
              refine ldM O (by omega) dX1_meet_58 ?_
              refine x_if_eqZ O dX1_meet_59 (fun c3 => ?_) (fun c3 => ?_)
              · refine x_iconst O dX1_meet_66 kc_0 ?_
                refine stD O (by omega) zI_0 dX1_meet_67 ?_
                refine x_iincN [some (.ref h), some (.int (nI y)), some (.int (nI z)), some (.int (nI (p + 1)))] O dX1_meet_68 rfl rfl ?_
                refine x_goto O dX1_meet_71 ?_
                exact ih20 _ (by omega) (p + 1) _ rfl (by omega) (by exact blkB_s0 hD1 (by show _ = (_ && _); rw [c2, c3]; rfl))
              · refine x_iconst O dX1_meet_62 kc_1 ?_
                refine x_goto O dX1_meet_63 ?_
                refine stD O (by omega) zI_1 dX1_meet_67 ?_
                refine x_iincN [some (.ref h), some (.int (nI y)), some (.int (nI z)), some (.int (nI (p + 1)))] O dX1_meet_68 rfl rfl ?_
                refine x_goto O dX1_meet_71 ?_
                exact ih20 _ (by omega) (p + 1) _ rfl (by omega) (by exact blkB_s0 hD1 (by show _ = (_ && _); rw [c2, c3]; rfl))
      exact lp20 _ 0 _ rfl (by omega) (by exact blk_0)
    · refine x_if_eqT O dX1_meet_13 ?_
      refine x_iconst O dX1_meet_16 kc_m1 ?_
      exact E _ _ _ _ _ dX1_meet_17 rfl (Or.inl ⟨y, hy, rfl, (Or.inr ⟨hz, (by exact ⟨rfl, rfl⟩)⟩)⟩)
  · refine x_if_neT O dX1_meet_5 ?_
    refine x_iconst O dX1_meet_16 kc_m1 ?_
    exact E _ _ _ _ _ dX1_meet_17 rfl (Or.inr ⟨hy, (by exact ⟨rfl, rfl⟩)⟩)
set_option maxHeartbeats 4000000 in
theorem mX1_greatest {l : Launch} {D : va_G} {h hM hD : Nat} {cM cD : ClassId} (fM : Nat → Bool) (fD : Nat → Bool) (i : Nat) (j : Nat) (hij : i < 4 ∧ j < 4) : Ct (wM h hM hD cM cD) D vwCl (tM cM cD) l yX1_greatest cX1_greatest 7 .int { frames := 1, cells := 0, slots := 0, locals := 22 } [.ref h, .int (nI i), .int (nI j)] (fM, fD) (fun r u => r = grI fD i j 2197 ∧ u = (fM, fD)) := by
  refine ct_entry wM_addr (by decide) (by simp [Value.category]) (Nat.le_of_ble_eq_true rfl) ⟨rfl, rfl⟩ ?_
  intro K O E
  show K 0 [some (.ref h), some (.int (nI i)), some (.int (nI j)), none, none, none, none] [] (fM, fD)
  refine x_bipush O dX1_greatest_0 kb_m100 ?_
  refine x_istore_n [some (.ref h), some (.int (nI i)), some (.int (nI j)), some (.int (-100)), none, none, none] O dX1_greatest_2 rfl rfl ?_
  refine x_iconst O dX1_greatest_3 kc_0 ?_
  refine x_istore [some (.ref h), some (.int (nI i)), some (.int (nI j)), some (.int (-100)), some (.int (nI 0)), none, none] O dX1_greatest_4 rfl rfl ?_
  have lp6 : ∀ (n p : Nat) (x1 : Int32), 2197 - p = n → p ≤ 2197 → x1 = grI fD i j p → K 6 [some (.ref h), some (.int (nI i)), some (.int (nI j)), some (.int x1), some (.int (nI p)), none, none] [] (fM, fD) := by
    intro n
    induction n using Nat.strongRecOn with
    | _ n ih6 =>
      intro p x1 hn6 hk6 hx1
      refine x_iload O dX1_greatest_6 rfl ?_
      refine x_sipush O dX1_greatest_8 ks_2197 ?_
      refine x_icmp_geN O dX1_greatest_11 (by omega) (fun c1 => ?_) (fun c1 => ?_)
      · obtain rfl : p = 2197 := by omega
        subst hx1
        refine x_iload_n O dX1_greatest_66 rfl ?_
        exact E _ _ _ _ _ dX1_greatest_67 rfl (by exact ⟨rfl, rfl⟩)
      · refine x_aload_n O dX1_greatest_14 rfl ?_
        refine fM_D O dX1_greatest_15 ?_
        refine x_iload O dX1_greatest_18 rfl ?_
        refine ldD O (by omega) dX1_greatest_20 ?_
        refine x_if_neZ O dX1_greatest_21 (fun c2 => ?_) (fun c2 => ?_)
        · refine x_aload_n O dX1_greatest_27 rfl ?_
          refine x_iload O dX1_greatest_28 rfl ?_
          refine x_iload_n O dX1_greatest_30 rfl ?_
          refine callX1_value O ⟨Nat.le_of_ble_eq_true rfl, Nat.le_of_ble_eq_true rfl⟩ (Nat.le_of_ble_eq_true rfl) dX1_greatest_31 _ _ (by omega) (fun r u hp => ?_)
          obtain ⟨rfl, rfl⟩ := hp
          have hv3 := vl_le (p := p) (k := i) (by omega)
          refine x_istore [some (.ref h), some (.int (nI i)), some (.int (nI j)), some (.int x1), some (.int (nI p)), some (.int (nI (vl p i))), none] O dX1_greatest_34 rfl rfl ?_
          refine x_aload_n O dX1_greatest_36 rfl ?_
          refine x_iload O dX1_greatest_37 rfl ?_
          refine x_iload_n O dX1_greatest_39 rfl ?_
          refine callX1_value O ⟨Nat.le_of_ble_eq_true rfl, Nat.le_of_ble_eq_true rfl⟩ (Nat.le_of_ble_eq_true rfl) dX1_greatest_40 _ _ (by omega) (fun r u hp => ?_)
          obtain ⟨rfl, rfl⟩ := hp
          have hv4 := vl_le (p := p) (k := j) (by omega)
          refine x_istore [some (.ref h), some (.int (nI i)), some (.int (nI j)), some (.int x1), some (.int (nI p)), some (.int (nI (vl p i))), some (.int (nI (vl p j)))] O dX1_greatest_43 rfl rfl ?_
          refine x_iload O dX1_greatest_45 rfl ?_
          refine x_iload O dX1_greatest_47 rfl ?_
          refine x_isub O dX1_greatest_49 ?_
          refine x_iload_n O dX1_greatest_50 rfl ?_
          refine x_icmp_le O dX1_greatest_51 (fun c5 => ?_) (fun c5 => ?_)
          · refine x_iincN [some (.ref h), some (.int (nI i)), some (.int (nI j)), some (.int x1), some (.int (nI (p + 1))), some (.int (nI (vl p i))), some (.int (nI (vl p j)))] O dX1_greatest_60 rfl rfl ?_
            refine x_goto O dX1_greatest_63 ?_
            refine x_forget [some (.ref h), some (.int (nI i)), some (.int (nI j)), some (.int x1), some (.int (nI (p + 1))), none, none] O ⟨rfl, rfl, rfl, rfl, rfl, trivial⟩ ?_
            exact ih6 _ (by omega) (p + 1) _ rfl (by omega) (by exact grI_1 hx1 c5)
          · refine x_iload O dX1_greatest_54 rfl ?_
            refine x_iload O dX1_greatest_56 rfl ?_
            refine x_isub O dX1_greatest_58 ?_
            refine x_istore_n [some (.ref h), some (.int (nI i)), some (.int (nI j)), some (.int (nI (vl p i) - nI (vl p j))), some (.int (nI p)), some (.int (nI (vl p i))), some (.int (nI (vl p j)))] O dX1_greatest_59 rfl rfl ?_
            refine x_iincN [some (.ref h), some (.int (nI i)), some (.int (nI j)), some (.int (nI (vl p i) - nI (vl p j))), some (.int (nI (p + 1))), some (.int (nI (vl p i))), some (.int (nI (vl p j)))] O dX1_greatest_60 rfl rfl ?_
            refine x_goto O dX1_greatest_63 ?_
            refine x_forget [some (.ref h), some (.int (nI i)), some (.int (nI j)), some (.int (nI (vl p i) - nI (vl p j))), some (.int (nI (p + 1))), none, none] O ⟨rfl, rfl, rfl, rfl, rfl, trivial⟩ ?_
            exact ih6 _ (by omega) (p + 1) _ rfl (by omega) (by exact grI_2 hx1 c2 c5)
        · refine x_goto O dX1_greatest_24 ?_
          refine x_iincN [some (.ref h), some (.int (nI i)), some (.int (nI j)), some (.int x1), some (.int (nI (p + 1))), none, none] O dX1_greatest_60 rfl rfl ?_
          refine x_goto O dX1_greatest_63 ?_
          exact ih6 _ (by omega) (p + 1) _ rfl (by omega) (by exact grI_0 hx1 c2)
  exact lp6 _ 0 _ rfl (by omega) (by rfl)
theorem callX1_greatest {l : Launch} {D : va_G} {h hM hD : Nat} {cM cD : ClassId} {fM : Nat → Bool} {fD : Nat → Bool} {R : Room} {cc : ByteArray} {nL : Nat} {K : Nat → List (Option Value) → List Value → SM → Prop} {pc nx : Nat} {lv : List (Option Value)} {st : List Value} (O : MachM l R cc nL D h hM hD cM cD K) (hR : 1 + 1 ≤ R.frames ∧ 8 + (7 + 11) + 22 ≤ R.locals) (hst : (st.map fun v => v.category).sum ≤ 8) (d : Dc cc pc (.invokevirtual 49) 3 nx) (i : Nat) (j : Nat) (hij : i < 4 ∧ j < 4) (kont : ∀ r u, (r = grI fD i j 2197 ∧ u = (fM, fD)) → K nx lv (.int r :: st) u) : K pc lv (.int (nI j) :: .int (nI i) :: .ref h :: st) (fM, fD) :=
  x_callV (n := 2) O (mX1_greatest fM fD i j hij) (lw_V q259 q261 qs19 q23 q262) ⟨rfl, rfl⟩ (by decide +kernel) rfl hR ⟨1, [.ref hM, .ref hD], (RX1, TX1, 2), rfl, rfl, rfl⟩ hst rfl d kont
set_option maxHeartbeats 4000000 in
theorem mX1_drop {l : Launch} {D : va_G} {h hM hD : Nat} {cM cD : ClassId} (fM : Nat → Bool) (fD : Nat → Bool) (y : Nat) (i : Nat) (j : Nat) (hij : y < 3 ∧ i < 4 ∧ j < 4) (c : Int32) : CtV (wM h hM hD cM cD) D vwCl (tM cM cD) l yX1_drop cX1_drop 8 { frames := 1, cells := 0, slots := 0, locals := 22 } [.ref h, .int (nI y), .int (nI i), .int (nI j), .int c] (fM, fD) (fun u => u = (drM fM y i j c, fD)) := by
  refine ct_entryV wM_addr (by decide) (by simp [Value.category]) (Nat.le_of_ble_eq_true rfl) ⟨rfl, rfl⟩ ?_
  intro K O E
  show K 0 [some (.ref h), some (.int (nI y)), some (.int (nI i)), some (.int (nI j)), some (.int c), none, none, none] [] (fM, fD)
  refine x_iconst O dX1_drop_0 kc_0 ?_
  refine x_istore [some (.ref h), some (.int (nI y)), some (.int (nI i)), some (.int (nI j)), some (.int c), some (.int (nI 0)), none, none] O dX1_drop_1 rfl rfl ?_
  have lp3 : ∀ (n p : Nat) (M1 : Nat → Bool), 2197 - p = n → p ≤ 2197 → M1 = blk fM (y * 2197) p (fun p => fM (y * 2197 + p) && decide ((nI (vl p i) - nI (vl p j)).toInt ≤ c.toInt)) → K 3 [some (.ref h), some (.int (nI y)), some (.int (nI i)), some (.int (nI j)), some (.int c), some (.int (nI p)), none, none] [] (M1, fD) := by
    intro n
    induction n using Nat.strongRecOn with
    | _ n ih3 =>
      intro p M1 hn3 hk3 hM1
      refine x_iload O dX1_drop_3 rfl ?_
      refine x_sipush O dX1_drop_5 ks_2197 ?_
      refine x_icmp_geN O dX1_drop_8 (by omega) (fun c1 => ?_) (fun c1 => ?_)
      · obtain rfl : p = 2197 := by omega
        subst hM1
        exact E _ _ _ _ dX1_drop_59 (by rfl)
      · refine x_aload_n O dX1_drop_11 rfl ?_
        refine x_iload O dX1_drop_12 rfl ?_
        refine x_iload_n O dX1_drop_14 rfl ?_
        refine callX1_value O ⟨Nat.le_of_ble_eq_true rfl, Nat.le_of_ble_eq_true rfl⟩ (Nat.le_of_ble_eq_true rfl) dX1_drop_15 _ _ (by omega) (fun r u hp => ?_)
        obtain ⟨rfl, rfl⟩ := hp
        have hv2 := vl_le (p := p) (k := i) (by omega)
        refine x_istore [some (.ref h), some (.int (nI y)), some (.int (nI i)), some (.int (nI j)), some (.int c), some (.int (nI p)), some (.int (nI (vl p i))), none] O dX1_drop_18 rfl rfl ?_
        refine x_aload_n O dX1_drop_20 rfl ?_
        refine x_iload O dX1_drop_21 rfl ?_
        refine x_iload_n O dX1_drop_23 rfl ?_
        refine callX1_value O ⟨Nat.le_of_ble_eq_true rfl, Nat.le_of_ble_eq_true rfl⟩ (Nat.le_of_ble_eq_true rfl) dX1_drop_24 _ _ (by omega) (fun r u hp => ?_)
        obtain ⟨rfl, rfl⟩ := hp
        have hv3 := vl_le (p := p) (k := j) (by omega)
        refine x_istore [some (.ref h), some (.int (nI y)), some (.int (nI i)), some (.int (nI j)), some (.int c), some (.int (nI p)), some (.int (nI (vl p i))), some (.int (nI (vl p j)))] O dX1_drop_27 rfl rfl ?_
        refine x_iload O dX1_drop_29 rfl ?_
        refine x_iload O dX1_drop_31 rfl ?_
        refine x_isub O dX1_drop_33 ?_
        refine x_iload O dX1_drop_34 rfl ?_
        refine x_icmp_le O dX1_drop_36 (fun c4 => ?_) (fun c4 => ?_)
        · refine x_iincN [some (.ref h), some (.int (nI y)), some (.int (nI i)), some (.int (nI j)), some (.int c), some (.int (nI (p + 1))), some (.int (nI (vl p i))), some (.int (nI (vl p j)))] O dX1_drop_53 rfl rfl ?_
          refine x_goto O dX1_drop_56 ?_
          refine x_forget [some (.ref h), some (.int (nI y)), some (.int (nI i)), some (.int (nI j)), some (.int c), some (.int (nI (p + 1))), none, none] O ⟨rfl, rfl, rfl, rfl, rfl, rfl, trivial⟩ ?_
          exact ih3 _ (by omega) (p + 1) _ rfl (by omega) (by exact blkB_skip hM1 (by show _ = (_ && _); rw [decide_eq_true c4, Bool.and_true]))
        · refine x_aload_n O dX1_drop_39 rfl ?_
          refine fM_M O dX1_drop_40 ?_
          refine x_iload_n O dX1_drop_43 rfl ?_
          refine x_sipush O dX1_drop_44 ks_2197 ?_
          refine x_imulN O dX1_drop_47 ?_
          refine x_iload O dX1_drop_48 rfl ?_
          refine x_iaddN O dX1_drop_50 ?_
          refine x_iconst O dX1_drop_51 kc_0 ?_
          refine stM O (by omega) zI_0 dX1_drop_52 ?_
          refine x_iincN [some (.ref h), some (.int (nI y)), some (.int (nI i)), some (.int (nI j)), some (.int c), some (.int (nI (p + 1))), some (.int (nI (vl p i))), some (.int (nI (vl p j)))] O dX1_drop_53 rfl rfl ?_
          refine x_goto O dX1_drop_56 ?_
          refine x_forget [some (.ref h), some (.int (nI y)), some (.int (nI i)), some (.int (nI j)), some (.int c), some (.int (nI (p + 1))), none, none] O ⟨rfl, rfl, rfl, rfl, rfl, rfl, trivial⟩ ?_
          exact ih3 _ (by omega) (p + 1) _ rfl (by omega) (by exact blkB_s hM1 (by show _ = (_ && _); rw [decide_eq_false (Int.not_le.mpr c4), Bool.and_false]))
  exact lp3 _ 0 _ rfl (by omega) (by exact blk_0)
theorem callX1_drop {l : Launch} {D : va_G} {h hM hD : Nat} {cM cD : ClassId} {fM : Nat → Bool} {fD : Nat → Bool} {R : Room} {cc : ByteArray} {nL : Nat} {K : Nat → List (Option Value) → List Value → SM → Prop} {pc nx : Nat} {lv : List (Option Value)} {st : List Value} (O : MachM l R cc nL D h hM hD cM cD K) (hR : 1 + 1 ≤ R.frames ∧ 8 + (8 + 11) + 22 ≤ R.locals) (hst : (st.map fun v => v.category).sum ≤ 8) (d : Dc cc pc (.invokevirtual 52) 3 nx) (y : Nat) (i : Nat) (j : Nat) (hij : y < 3 ∧ i < 4 ∧ j < 4) (c : Int32) (kont : ∀ u, (u = (drM fM y i j c, fD)) → K nx lv st u) : K pc lv (.int c :: .int (nI j) :: .int (nI i) :: .int (nI y) :: .ref h :: st) (fM, fD) :=
  x_callVV (n := 4) O (mX1_drop fM fD y i j hij c) (lw_V q263 q265 qs20 q23 q266) ⟨rfl, rfl⟩ (by decide +kernel) rfl hR ⟨1, [.ref hM, .ref hD], (RX1, TX1, 2), rfl, rfl, rfl⟩ hst rfl d kont
set_option maxHeartbeats 4000000 in
theorem mX1_hull {l : Launch} {D : va_G} {h hM hD : Nat} {cM cD : ClassId} (fM : Nat → Bool) (fD : Nat → Bool) (y0 : Int32) (z0 : Int32) : Ct (wM h hM hD cM cD) D vwCl (tM cM cD) l yX1_hull cX1_hull 7 .int { frames := 2, cells := 0, slots := 0, locals := 49 } [.ref h, .int y0, .int z0] (fM, fD) (fun r u => inZ y0 (fun y => inZ z0 (fun z => u = (huM fM (blk fD 0 2197 (fun q => fM (y * 2197 + q) || fM (z * 2197 + q))) y 16, blk fD 0 2197 (fun q => fM (y * 2197 + q) || fM (z * 2197 + q))) ∧ r = zI (someR u.1 y)) (r = (-1) ∧ u = (fM, fD))) (r = (-1) ∧ u = (fM, fD))) := by
  refine ct_entry wM_addr (by decide) (by simp [Value.category]) (Nat.le_of_ble_eq_true rfl) ⟨rfl, rfl⟩ ?_
  intro K O E
  show K 0 [some (.ref h), some (.int y0), some (.int z0), none, none, none, none] [] (fM, fD)
  refine x_aload_n O dX1_hull_0 rfl ?_
  refine x_iload_n O dX1_hull_1 rfl ?_
  refine callX1_badZone O ⟨Nat.le_of_ble_eq_true rfl, Nat.le_of_ble_eq_true rfl⟩ (Nat.le_of_ble_eq_true rfl) dX1_hull_2 _ (fun r u hp => ?_)
  rcases hp with ⟨y, hy, rfl, rfl, rfl⟩ | ⟨hy, rfl, rfl⟩
  · refine x_if_neF O dX1_hull_5 ?_
    refine x_aload_n O dX1_hull_8 rfl ?_
    refine x_iload_n O dX1_hull_9 rfl ?_
    refine callX1_badZone O ⟨Nat.le_of_ble_eq_true rfl, Nat.le_of_ble_eq_true rfl⟩ (Nat.le_of_ble_eq_true rfl) dX1_hull_10 _ (fun r u hp => ?_)
    rcases hp with ⟨z, hz, rfl, rfl, rfl⟩ | ⟨hz, rfl, rfl⟩
    · refine x_if_eqF O dX1_hull_13 ?_
      refine x_iconst O dX1_hull_18 kc_0 ?_
      refine x_istore_n [some (.ref h), some (.int (nI y)), some (.int (nI z)), some (.int (nI 0)), none, none, none] O dX1_hull_19 rfl rfl ?_
      have lp20 : ∀ (n p : Nat) (D1 : Nat → Bool), 2197 - p = n → p ≤ 2197 → D1 = blk fD 0 p (fun q => fM (y * 2197 + q) || fM (z * 2197 + q)) → K 20 [some (.ref h), some (.int (nI y)), some (.int (nI z)), some (.int (nI p)), none, none, none] [] (fM, D1) := by
        intro n
        induction n using Nat.strongRecOn with
        | _ n ih20 =>
          intro p D1 hn20 hk20 hD1
          refine x_iload_n O dX1_hull_20 rfl ?_
          refine x_sipush O dX1_hull_21 ks_2197 ?_
          refine x_icmp_geN O dX1_hull_24 (by omega) (fun c1 => ?_) (fun c1 => ?_)
          · obtain rfl : p = 2197 := by omega
            subst hD1
            refine x_iconst O dX1_hull_74 kc_0 ?_
            refine x_istore_n [some (.ref h), some (.int (nI y)), some (.int (nI z)), some (.int (nI 0)), none, none, none] O dX1_hull_75 rfl rfl ?_
            have lp76 : ∀ (n p : Nat) (M1 : Nat → Bool), 2197 - p = n → p ≤ 2197 → M1 = blk fM (y * 2197) p (fun _ => true) → K 76 [some (.ref h), some (.int (nI y)), some (.int (nI z)), some (.int (nI p)), none, none, none] [] (M1, (blk fD 0 2197 (fun q => fM (y * 2197 + q) || fM (z * 2197 + q)))) := by
              intro n
              induction n using Nat.strongRecOn with
              | _ n ih76 =>
                intro p M1 hn76 hk76 hM1
                refine x_iload_n O dX1_hull_76 rfl ?_
                refine x_sipush O dX1_hull_77 ks_2197 ?_
                refine x_icmp_geN O dX1_hull_80 (by omega) (fun c2 => ?_) (fun c2 => ?_)
                · obtain rfl : p = 2197 := by omega
                  subst hM1
                  refine x_iconst O dX1_hull_102 kc_0 ?_
                  refine x_istore_n [some (.ref h), some (.int (nI y)), some (.int (nI z)), some (.int (nI 0)), none, none, none] O dX1_hull_103 rfl rfl ?_
                  have lp104 : ∀ (n t : Nat) (M2 : Nat → Bool), 16 - t = n → t ≤ 16 → M2 = huM fM (blk fD 0 2197 (fun q => fM (y * 2197 + q) || fM (z * 2197 + q))) y t → K 104 [some (.ref h), some (.int (nI y)), some (.int (nI z)), some (.int (nI t)), none, none, none] [] (M2, (blk fD 0 2197 (fun q => fM (y * 2197 + q) || fM (z * 2197 + q)))) := by
                    intro n
                    induction n using Nat.strongRecOn with
                    | _ n ih104 =>
                      intro t M2 hn104 hk104 hM2
                      refine x_iload_n O dX1_hull_104 rfl ?_
                      refine x_bipush O dX1_hull_105 kb_16 ?_
                      refine x_icmp_geN O dX1_hull_107 (by omega) (fun c3 => ?_) (fun c3 => ?_)
                      · obtain rfl : t = 16 := by omega
                        subst hM2
                        refine x_aload_n O dX1_hull_147 rfl ?_
                        refine x_iload_n O dX1_hull_148 rfl ?_
                        refine callX1_some O ⟨Nat.le_of_ble_eq_true rfl, Nat.le_of_ble_eq_true rfl⟩ (Nat.le_of_ble_eq_true rfl) dX1_hull_149 _ (by omega) (fun r u hp => ?_)
                        obtain ⟨rfl, rfl⟩ := hp
                        exact E _ _ _ _ _ dX1_hull_152 rfl (Or.inl ⟨y, hy, rfl, (Or.inl ⟨z, hz, rfl, (by exact ⟨rfl, rfl⟩)⟩)⟩)
                      · refine x_iload_n O dX1_hull_110 rfl ?_
                        refine x_iconst O dX1_hull_111 kc_4 ?_
                        refine x_idivN O dX1_hull_112 (by omega) (by omega) ?_
                        refine x_istore [some (.ref h), some (.int (nI y)), some (.int (nI z)), some (.int (nI t)), some (.int (nI (t / 4))), none, none] O dX1_hull_113 rfl rfl ?_
                        refine x_iload_n O dX1_hull_115 rfl ?_
                        refine x_iconst O dX1_hull_116 kc_4 ?_
                        refine x_iremN O dX1_hull_117 (by omega) (by omega) ?_
                        refine x_istore [some (.ref h), some (.int (nI y)), some (.int (nI z)), some (.int (nI t)), some (.int (nI (t / 4))), some (.int (nI (t % 4))), none] O dX1_hull_118 rfl rfl ?_
                        refine x_aload_n O dX1_hull_120 rfl ?_
                        refine x_iload O dX1_hull_121 rfl ?_
                        refine x_iload O dX1_hull_123 rfl ?_
                        refine callX1_greatest O ⟨Nat.le_of_ble_eq_true rfl, Nat.le_of_ble_eq_true rfl⟩ (Nat.le_of_ble_eq_true rfl) dX1_hull_125 _ _ (by omega) (fun r u hp => ?_)
                        obtain ⟨rfl, rfl⟩ := hp
                        refine x_istore [some (.ref h), some (.int (nI y)), some (.int (nI z)), some (.int (nI t)), some (.int (nI (t / 4))), some (.int (nI (t % 4))), some (.int (grI (blk fD 0 2197 (fun q => fM (y * 2197 + q) || fM (z * 2197 + q))) (t / 4) (t % 4) 2197))] O dX1_hull_128 rfl rfl ?_
                        refine x_aload_n O dX1_hull_130 rfl ?_
                        refine x_iload_n O dX1_hull_131 rfl ?_
                        refine x_iload O dX1_hull_132 rfl ?_
                        refine x_iload O dX1_hull_134 rfl ?_
                        refine x_iload O dX1_hull_136 rfl ?_
                        refine callX1_drop O ⟨Nat.le_of_ble_eq_true rfl, Nat.le_of_ble_eq_true rfl⟩ (Nat.le_of_ble_eq_true rfl) dX1_hull_138 _ _ _ (by omega) _ (fun u hp => ?_)
                        subst hp
                        refine x_iincN [some (.ref h), some (.int (nI y)), some (.int (nI z)), some (.int (nI (t + 1))), some (.int (nI (t / 4))), some (.int (nI (t % 4))), some (.int (grI (blk fD 0 2197 (fun q => fM (y * 2197 + q) || fM (z * 2197 + q))) (t / 4) (t % 4) 2197))] O dX1_hull_141 rfl rfl ?_
                        refine x_goto O dX1_hull_144 ?_
                        refine x_forget [some (.ref h), some (.int (nI y)), some (.int (nI z)), some (.int (nI (t + 1))), none, none, none] O ⟨rfl, rfl, rfl, rfl, trivial⟩ ?_
                        exact ih104 _ (by omega) (t + 1) _ rfl (by omega) (by rw [hM2]; rfl)
                  exact lp104 _ 0 _ rfl (by omega) (by rfl)
                · refine x_aload_n O dX1_hull_83 rfl ?_
                  refine fM_M O dX1_hull_84 ?_
                  refine x_iload_n O dX1_hull_87 rfl ?_
                  refine x_sipush O dX1_hull_88 ks_2197 ?_
                  refine x_imulN O dX1_hull_91 ?_
                  refine x_iload_n O dX1_hull_92 rfl ?_
                  refine x_iaddN O dX1_hull_93 ?_
                  refine x_iconst O dX1_hull_94 kc_1 ?_
                  refine stM O (by omega) zI_1 dX1_hull_95 ?_
                  refine x_iincN [some (.ref h), some (.int (nI y)), some (.int (nI z)), some (.int (nI (p + 1))), none, none, none] O dX1_hull_96 rfl rfl ?_
                  refine x_goto O dX1_hull_99 ?_
                  exact ih76 _ (by omega) (p + 1) _ rfl (by omega) (by exact blkB_s hM1 rfl)
            exact lp76 _ 0 _ rfl (by omega) (by exact blk_0)
          · refine x_aload_n O dX1_hull_27 rfl ?_
            refine fM_D O dX1_hull_28 ?_
            refine x_iload_n O dX1_hull_31 rfl ?_
            refine x_aload_n O dX1_hull_32 rfl ?_
            refine fM_M O dX1_hull_33 ?_
            refine x_iload_n O dX1_hull_36 rfl ?_
            refine x_sipush O dX1_hull_37 ks_2197 ?_
            refine x_imulN O dX1_hull_40 ?_
            refine x_iload_n O dX1_hull_41 rfl ?_
            refine x_iaddN O dX1_hull_42 ?_
            refine ldM O (by omega) dX1_hull_43 ?_
            refine x_if_neZ O dX1_hull_44 (fun c4 => ?_) (fun c4 => ?_)
            · refine x_iconst O dX1_hull_62 kc_1 ?_
              refine x_goto O dX1_hull_63 ?_
              refine stD O (by omega) zI_1 dX1_hull_67 ?_
              refine x_iincN [some (.ref h), some (.int (nI y)), some (.int (nI z)), some (.int (nI (p + 1))), none, none, none] O dX1_hull_68 rfl rfl ?_
              refine x_goto O dX1_hull_71 ?_
              exact ih20 _ (by omega) (p + 1) _ rfl (by omega) (by exact blkB_s0 hD1 (by show _ = (_ || _); rw [c4]; rfl))
            · refine x_aload_n O dX1_hull_47 rfl ?_
              refine fM_M O dX1_hull_48 ?_
              refine x_iload_n O dX1_hull_51 rfl ?_
              refine x_sipush O dX1_hull_52 ks_2197 ?_
              refine x_imulN O dX1_hull_55 ?_
              refine x_iload_n O dX1_hull_56 rfl ?_
              refine x_iaddN O dX1_hull_57 ?_
              refine ldM O (by omega) dX1_hull_58 ?_
              refine x_if_eqZ O dX1_hull_59 (fun c5 => ?_) (fun c5 => ?_)
              · refine x_iconst O dX1_hull_66 kc_0 ?_
                refine stD O (by omega) zI_0 dX1_hull_67 ?_
                refine x_iincN [some (.ref h), some (.int (nI y)), some (.int (nI z)), some (.int (nI (p + 1))), none, none, none] O dX1_hull_68 rfl rfl ?_
                refine x_goto O dX1_hull_71 ?_
                exact ih20 _ (by omega) (p + 1) _ rfl (by omega) (by exact blkB_s0 hD1 (by show _ = (_ || _); rw [c4, c5]; rfl))
              · refine x_iconst O dX1_hull_62 kc_1 ?_
                refine x_goto O dX1_hull_63 ?_
                refine stD O (by omega) zI_1 dX1_hull_67 ?_
                refine x_iincN [some (.ref h), some (.int (nI y)), some (.int (nI z)), some (.int (nI (p + 1))), none, none, none] O dX1_hull_68 rfl rfl ?_
                refine x_goto O dX1_hull_71 ?_
                exact ih20 _ (by omega) (p + 1) _ rfl (by omega) (by exact blkB_s0 hD1 (by show _ = (_ || _); rw [c4, c5]; rfl))
      exact lp20 _ 0 _ rfl (by omega) (by exact blk_0)
    · refine x_if_eqT O dX1_hull_13 ?_
      refine x_iconst O dX1_hull_16 kc_m1 ?_
      exact E _ _ _ _ _ dX1_hull_17 rfl (Or.inl ⟨y, hy, rfl, (Or.inr ⟨hz, (by exact ⟨rfl, rfl⟩)⟩)⟩)
  · refine x_if_neT O dX1_hull_5 ?_
    refine x_iconst O dX1_hull_16 kc_m1 ?_
    exact E _ _ _ _ _ dX1_hull_17 rfl (Or.inr ⟨hy, (by exact ⟨rfl, rfl⟩)⟩)
set_option maxHeartbeats 4000000 in
theorem mX1_copy {l : Launch} {D : va_G} {h hM hD : Nat} {cM cD : ClassId} (fM : Nat → Bool) (fD : Nat → Bool) (y0 : Int32) (z0 : Int32) : Ct (wM h hM hD cM cD) D vwCl (tM cM cD) l yX1_copy cX1_copy 4 .int { frames := 1, cells := 0, slots := 0, locals := 21 } [.ref h, .int y0, .int z0] (fM, fD) (fun r u => inZ y0 (fun y => inZ z0 (fun z => r = nI 0 ∧ u = (blk fM (y * 2197) 2197 (fun p => fM (z * 2197 + p)), fD)) (r = (-1) ∧ u = (fM, fD))) (r = (-1) ∧ u = (fM, fD))) := by
  refine ct_entry wM_addr (by decide) (by simp [Value.category]) (Nat.le_of_ble_eq_true rfl) ⟨rfl, rfl⟩ ?_
  intro K O E
  show K 0 [some (.ref h), some (.int y0), some (.int z0), none] [] (fM, fD)
  refine x_aload_n O dX1_copy_0 rfl ?_
  refine x_iload_n O dX1_copy_1 rfl ?_
  refine callX1_badZone O ⟨Nat.le_of_ble_eq_true rfl, Nat.le_of_ble_eq_true rfl⟩ (Nat.le_of_ble_eq_true rfl) dX1_copy_2 _ (fun r u hp => ?_)
  rcases hp with ⟨y, hy, rfl, rfl, rfl⟩ | ⟨hy, rfl, rfl⟩
  · refine x_if_neF O dX1_copy_5 ?_
    refine x_aload_n O dX1_copy_8 rfl ?_
    refine x_iload_n O dX1_copy_9 rfl ?_
    refine callX1_badZone O ⟨Nat.le_of_ble_eq_true rfl, Nat.le_of_ble_eq_true rfl⟩ (Nat.le_of_ble_eq_true rfl) dX1_copy_10 _ (fun r u hp => ?_)
    rcases hp with ⟨z, hz, rfl, rfl, rfl⟩ | ⟨hz, rfl, rfl⟩
    · refine x_if_eqF O dX1_copy_13 ?_
      refine x_iconst O dX1_copy_18 kc_0 ?_
      refine x_istore_n [some (.ref h), some (.int (nI y)), some (.int (nI z)), some (.int (nI 0))] O dX1_copy_19 rfl rfl ?_
      have lp20 : ∀ (n p : Nat) (M1 : Nat → Bool), 2197 - p = n → p ≤ 2197 → M1 = blk fM (y * 2197) p (fun p => fM (z * 2197 + p)) → K 20 [some (.ref h), some (.int (nI y)), some (.int (nI z)), some (.int (nI p))] [] (M1, fD) := by
        intro n
        induction n using Nat.strongRecOn with
        | _ n ih20 =>
          intro p M1 hn20 hk20 hM1
          refine x_iload_n O dX1_copy_20 rfl ?_
          refine x_sipush O dX1_copy_21 ks_2197 ?_
          refine x_icmp_geN O dX1_copy_24 (by omega) (fun c1 => ?_) (fun c1 => ?_)
          · obtain rfl : p = 2197 := by omega
            subst hM1
            refine x_iconst O dX1_copy_57 kc_0 ?_
            exact E _ _ _ _ _ dX1_copy_58 rfl (Or.inl ⟨y, hy, rfl, (Or.inl ⟨z, hz, rfl, (by exact ⟨rfl, rfl⟩)⟩)⟩)
          · refine x_aload_n O dX1_copy_27 rfl ?_
            refine fM_M O dX1_copy_28 ?_
            refine x_iload_n O dX1_copy_31 rfl ?_
            refine x_sipush O dX1_copy_32 ks_2197 ?_
            refine x_imulN O dX1_copy_35 ?_
            refine x_iload_n O dX1_copy_36 rfl ?_
            refine x_iaddN O dX1_copy_37 ?_
            refine x_aload_n O dX1_copy_38 rfl ?_
            refine fM_M O dX1_copy_39 ?_
            refine x_iload_n O dX1_copy_42 rfl ?_
            refine x_sipush O dX1_copy_43 ks_2197 ?_
            refine x_imulN O dX1_copy_46 ?_
            refine x_iload_n O dX1_copy_47 rfl ?_
            refine x_iaddN O dX1_copy_48 ?_
            refine ldM O (by omega) dX1_copy_49 ?_
            refine stM O (by omega) rfl dX1_copy_50 ?_
            refine x_iincN [some (.ref h), some (.int (nI y)), some (.int (nI z)), some (.int (nI (p + 1)))] O dX1_copy_51 rfl rfl ?_
            refine x_goto O dX1_copy_54 ?_
            exact ih20 _ (by omega) (p + 1) _ rfl (by omega) (by exact blkB_s hM1 (blk_at hM1 (by omega)))
      exact lp20 _ 0 _ rfl (by omega) (by exact blk_0)
    · refine x_if_eqT O dX1_copy_13 ?_
      refine x_iconst O dX1_copy_16 kc_m1 ?_
      exact E _ _ _ _ _ dX1_copy_17 rfl (Or.inl ⟨y, hy, rfl, (Or.inr ⟨hz, (by exact ⟨rfl, rfl⟩)⟩)⟩)
  · refine x_if_neT O dX1_copy_5 ?_
    refine x_iconst O dX1_copy_16 kc_m1 ?_
    exact E _ _ _ _ _ dX1_copy_17 rfl (Or.inr ⟨hy, (by exact ⟨rfl, rfl⟩)⟩)
set_option maxHeartbeats 4000000 in
theorem mX1_empty {l : Launch} {D : va_G} {h hM hD : Nat} {cM cD : ClassId} (fM : Nat → Bool) (fD : Nat → Bool) (z0 : Int32) : Ct (wM h hM hD cM cD) D vwCl (tM cM cD) l yX1_empty cX1_empty 2 .int { frames := 1, cells := 0, slots := 0, locals := 22 } [.ref h, .int z0] (fM, fD) (fun r u => inZ z0 (fun z => r = nI 1 - zI (someR fM z) ∧ u = (fM, fD)) (r = (-1) ∧ u = (fM, fD))) := by
  refine ct_entry wM_addr (by decide) (by simp [Value.category]) (Nat.le_of_ble_eq_true rfl) ⟨rfl, rfl⟩ ?_
  intro K O E
  show K 0 [some (.ref h), some (.int z0)] [] (fM, fD)
  refine x_aload_n O dX1_empty_0 rfl ?_
  refine x_iload_n O dX1_empty_1 rfl ?_
  refine callX1_badZone O ⟨Nat.le_of_ble_eq_true rfl, Nat.le_of_ble_eq_true rfl⟩ (Nat.le_of_ble_eq_true rfl) dX1_empty_2 _ (fun r u hp => ?_)
  rcases hp with ⟨z, hz, rfl, rfl, rfl⟩ | ⟨hz, rfl, rfl⟩
  · refine x_if_eqF O dX1_empty_5 ?_
    refine x_iconst O dX1_empty_10 kc_1 ?_
    refine x_aload_n O dX1_empty_11 rfl ?_
    refine x_iload_n O dX1_empty_12 rfl ?_
    refine callX1_some O ⟨Nat.le_of_ble_eq_true rfl, Nat.le_of_ble_eq_true rfl⟩ (Nat.le_of_ble_eq_true rfl) dX1_empty_13 _ (by omega) (fun r u hp => ?_)
    obtain ⟨rfl, rfl⟩ := hp
    refine x_isub O dX1_empty_16 ?_
    exact E _ _ _ _ _ dX1_empty_17 rfl (Or.inl ⟨z, hz, rfl, (by exact ⟨rfl, rfl⟩)⟩)
  · refine x_if_eqT O dX1_empty_5 ?_
    refine x_iconst O dX1_empty_8 kc_m1 ?_
    exact E _ _ _ _ _ dX1_empty_9 rfl (Or.inr ⟨hz, (by exact ⟨rfl, rfl⟩)⟩)
set_option maxHeartbeats 4000000 in
theorem mX1_widest {l : Launch} {D : va_G} {h hM hD : Nat} {cM cD : ClassId} (fM : Nat → Bool) (fD : Nat → Bool) (z0 : Int32) (i0 : Int32) (j0 : Int32) : Ct (wM h hM hD cM cD) D vwCl (tM cM cD) l yX1_widest cX1_widest 5 .int { frames := 2, cells := 0, slots := 0, locals := 48 } [.ref h, .int z0, .int i0, .int j0] (fM, fD) (fun r u => inZ z0 (fun z => inP i0 j0 (fun i j => r = (if grI (blk fD 0 2197 (fun p => fM (z * 2197 + p))) i j 2197 = (-100) then (-300) else grI (blk fD 0 2197 (fun p => fM (z * 2197 + p))) i j 2197) ∧ u = (fM, (blk fD 0 2197 (fun p => fM (z * 2197 + p))))) (r = (-200) ∧ u = (fM, fD))) (r = (-100) ∧ u = (fM, fD))) := by
  refine ct_entry wM_addr (by decide) (by simp [Value.category]) (Nat.le_of_ble_eq_true rfl) ⟨rfl, rfl⟩ ?_
  intro K O E
  show K 0 [some (.ref h), some (.int z0), some (.int i0), some (.int j0), none] [] (fM, fD)
  refine x_aload_n O dX1_widest_0 rfl ?_
  refine x_iload_n O dX1_widest_1 rfl ?_
  refine callX1_badZone O ⟨Nat.le_of_ble_eq_true rfl, Nat.le_of_ble_eq_true rfl⟩ (Nat.le_of_ble_eq_true rfl) dX1_widest_2 _ (fun r u hp => ?_)
  rcases hp with ⟨z, hz, rfl, rfl, rfl⟩ | ⟨hz, rfl, rfl⟩
  · refine x_if_eqF O dX1_widest_5 ?_
    refine x_aload_n O dX1_widest_11 rfl ?_
    refine x_iload_n O dX1_widest_12 rfl ?_
    refine x_iload_n O dX1_widest_13 rfl ?_
    refine callX1_badPair O ⟨Nat.le_of_ble_eq_true rfl, Nat.le_of_ble_eq_true rfl⟩ (Nat.le_of_ble_eq_true rfl) dX1_widest_14 _ _ (fun r u hp => ?_)
    rcases hp with ⟨i, j, hij, rfl, rfl, rfl, rfl⟩ | ⟨hij, rfl, rfl⟩
    · refine x_if_eqF O dX1_widest_17 ?_
      refine x_iconst O dX1_widest_24 kc_0 ?_
      refine x_istore [some (.ref h), some (.int (nI z)), some (.int (nI i)), some (.int (nI j)), some (.int (nI 0))] O dX1_widest_25 rfl rfl ?_
      have lp27 : ∀ (n p : Nat) (D1 : Nat → Bool), 2197 - p = n → p ≤ 2197 → D1 = blk fD 0 p (fun p => fM (z * 2197 + p)) → K 27 [some (.ref h), some (.int (nI z)), some (.int (nI i)), some (.int (nI j)), some (.int (nI p))] [] (fM, D1) := by
        intro n
        induction n using Nat.strongRecOn with
        | _ n ih27 =>
          intro p D1 hn27 hk27 hD1
          refine x_iload O dX1_widest_27 rfl ?_
          refine x_sipush O dX1_widest_29 ks_2197 ?_
          refine x_icmp_geN O dX1_widest_32 (by omega) (fun c1 => ?_) (fun c1 => ?_)
          · obtain rfl : p = 2197 := by omega
            subst hD1
            refine x_aload_n O dX1_widest_61 rfl ?_
            refine x_iload_n O dX1_widest_62 rfl ?_
            refine x_iload_n O dX1_widest_63 rfl ?_
            refine callX1_greatest O ⟨Nat.le_of_ble_eq_true rfl, Nat.le_of_ble_eq_true rfl⟩ (Nat.le_of_ble_eq_true rfl) dX1_widest_64 _ _ (by omega) (fun r u hp => ?_)
            obtain ⟨rfl, rfl⟩ := hp
            refine x_istore [some (.ref h), some (.int (nI z)), some (.int (nI i)), some (.int (nI j)), some (.int (grI (blk fD 0 2197 (fun p => fM (z * 2197 + p))) i j 2197))] O dX1_widest_67 rfl rfl ?_
            refine x_iload O dX1_widest_69 rfl ?_
            refine x_bipush O dX1_widest_71 kb_m100 ?_
            refine x_icmp_ne O dX1_widest_73 (fun c2 => ?_) (fun c2 => ?_)
            · refine x_iload O dX1_widest_82 rfl ?_
              exact E _ _ _ _ _ dX1_widest_84 rfl (Or.inl ⟨z, hz, rfl, (Or.inl ⟨i, j, hij, rfl, rfl, (by exact ⟨by rw [if_neg c2], rfl⟩)⟩)⟩)
            · refine x_sipush O dX1_widest_76 ks_m300 ?_
              refine x_goto O dX1_widest_79 ?_
              exact E _ _ _ _ _ dX1_widest_84 rfl (Or.inl ⟨z, hz, rfl, (Or.inl ⟨i, j, hij, rfl, rfl, (by exact ⟨by rw [if_pos c2], rfl⟩)⟩)⟩)
          · refine x_aload_n O dX1_widest_35 rfl ?_
            refine fM_D O dX1_widest_36 ?_
            refine x_iload O dX1_widest_39 rfl ?_
            refine x_aload_n O dX1_widest_41 rfl ?_
            refine fM_M O dX1_widest_42 ?_
            refine x_iload_n O dX1_widest_45 rfl ?_
            refine x_sipush O dX1_widest_46 ks_2197 ?_
            refine x_imulN O dX1_widest_49 ?_
            refine x_iload O dX1_widest_50 rfl ?_
            refine x_iaddN O dX1_widest_52 ?_
            refine ldM O (by omega) dX1_widest_53 ?_
            refine stD O (by omega) rfl dX1_widest_54 ?_
            refine x_iincN [some (.ref h), some (.int (nI z)), some (.int (nI i)), some (.int (nI j)), some (.int (nI (p + 1)))] O dX1_widest_55 rfl rfl ?_
            refine x_goto O dX1_widest_58 ?_
            exact ih27 _ (by omega) (p + 1) _ rfl (by omega) (by exact blkB_s0 hD1 rfl)
      exact lp27 _ 0 _ rfl (by omega) (by exact blk_0)
    · refine x_if_eqT O dX1_widest_17 ?_
      refine x_sipush O dX1_widest_20 ks_m200 ?_
      exact E _ _ _ _ _ dX1_widest_23 rfl (Or.inl ⟨z, hz, rfl, (Or.inr ⟨hij, (by exact ⟨rfl, rfl⟩)⟩)⟩)
  · refine x_if_eqT O dX1_widest_5 ?_
    refine x_bipush O dX1_widest_8 kb_m100 ?_
    exact E _ _ _ _ _ dX1_widest_10 rfl (Or.inr ⟨hz, (by exact ⟨rfl, rfl⟩)⟩)
set_option maxHeartbeats 4000000 in
theorem mX1_has {l : Launch} {D : va_G} {h hM hD : Nat} {cM cD : ClassId} (fM : Nat → Bool) (fD : Nat → Bool) (z0 : Int32) (a : Int32) (b : Int32) (c : Int32) : Ct (wM h hM hD cM cD) D vwCl (tM cM cD) l yX1_has cX1_has 5 .int { frames := 1, cells := 0, slots := 0, locals := 21 } [.ref h, .int z0, .int a, .int b, .int c] (fM, fD) (fun r u => inZ z0 (fun z => u = (fM, fD) ∧ ((¬ inBox a b c ∧ r = nI 0) ∨ (∃ a1 b1 c1 : Nat, (a1 ≤ 12 ∧ b1 ≤ 12 ∧ c1 ≤ 12) ∧ a = nI a1 ∧ b = nI b1 ∧ c = nI c1 ∧ r = zI (fM (z * 2197 + 169 * a1 + 13 * b1 + c1))))) (r = (-1) ∧ u = (fM, fD))) := by
  refine ct_entry wM_addr (by decide) (by simp [Value.category]) (Nat.le_of_ble_eq_true rfl) ⟨rfl, rfl⟩ ?_
  intro K O E
  show K 0 [some (.ref h), some (.int z0), some (.int a), some (.int b), some (.int c)] [] (fM, fD)
  refine x_aload_n O dX1_has_0 rfl ?_
  refine x_iload_n O dX1_has_1 rfl ?_
  refine callX1_badZone O ⟨Nat.le_of_ble_eq_true rfl, Nat.le_of_ble_eq_true rfl⟩ (Nat.le_of_ble_eq_true rfl) dX1_has_2 _ (fun r u hp => ?_)
  rcases hp with ⟨z, hz, rfl, rfl, rfl⟩ | ⟨hz, rfl, rfl⟩
  · refine x_if_eqF O dX1_has_5 ?_
    refine x_iload_n O dX1_has_10 rfl ?_
    refine x_if_lt O dX1_has_11 (fun c1 => ?_) (fun c1 => ?_)
    · refine x_iconst O dX1_has_42 kc_0 ?_
      exact E _ _ _ _ _ dX1_has_43 rfl (Or.inl ⟨z, hz, rfl, (by exact ⟨rfl, Or.inl ⟨fun q => by unfold inBox at q; omega, rfl⟩⟩)⟩)
    · refine x_iload_n O dX1_has_14 rfl ?_
      refine x_bipush O dX1_has_15 kb_12 ?_
      refine x_icmp_gtK O dX1_has_17 (by omega) (fun c2 => ?_) (fun c2 => ?_)
      · refine x_iconst O dX1_has_42 kc_0 ?_
        exact E _ _ _ _ _ dX1_has_43 rfl (Or.inl ⟨z, hz, rfl, (by exact ⟨rfl, Or.inl ⟨fun q => by unfold inBox at q; omega, rfl⟩⟩)⟩)
      · refine x_iload_n O dX1_has_20 rfl ?_
        refine x_if_lt O dX1_has_21 (fun c3 => ?_) (fun c3 => ?_)
        · refine x_iconst O dX1_has_42 kc_0 ?_
          exact E _ _ _ _ _ dX1_has_43 rfl (Or.inl ⟨z, hz, rfl, (by exact ⟨rfl, Or.inl ⟨fun q => by unfold inBox at q; omega, rfl⟩⟩)⟩)
        · refine x_iload_n O dX1_has_24 rfl ?_
          refine x_bipush O dX1_has_25 kb_12 ?_
          refine x_icmp_gtK O dX1_has_27 (by omega) (fun c4 => ?_) (fun c4 => ?_)
          · refine x_iconst O dX1_has_42 kc_0 ?_
            exact E _ _ _ _ _ dX1_has_43 rfl (Or.inl ⟨z, hz, rfl, (by exact ⟨rfl, Or.inl ⟨fun q => by unfold inBox at q; omega, rfl⟩⟩)⟩)
          · refine x_iload O dX1_has_30 rfl ?_
            refine x_if_lt O dX1_has_32 (fun c5 => ?_) (fun c5 => ?_)
            · refine x_iconst O dX1_has_42 kc_0 ?_
              exact E _ _ _ _ _ dX1_has_43 rfl (Or.inl ⟨z, hz, rfl, (by exact ⟨rfl, Or.inl ⟨fun q => by unfold inBox at q; omega, rfl⟩⟩)⟩)
            · refine x_iload O dX1_has_35 rfl ?_
              refine x_bipush O dX1_has_37 kb_12 ?_
              refine x_icmp_leK O dX1_has_39 (by omega) (fun c6 => ?_) (fun c6 => ?_)
              · obtain ⟨a1, ha1, rfl⟩ := nI_ofT (x := a) (b := 12) (by omega) (by omega)
                obtain ⟨b1, hb1, rfl⟩ := nI_ofT (x := b) (b := 12) (by omega) (by omega)
                obtain ⟨c1, hc1, rfl⟩ := nI_ofT (x := c) (b := 12) (by omega) (by omega)
                refine x_aload_n O dX1_has_44 rfl ?_
                refine fM_M O dX1_has_45 ?_
                refine x_iload_n O dX1_has_48 rfl ?_
                refine x_sipush O dX1_has_49 ks_2197 ?_
                refine x_imulN O dX1_has_52 ?_
                refine x_sipush O dX1_has_53 ks_169 ?_
                refine x_iload_n O dX1_has_56 rfl ?_
                refine x_imulN O dX1_has_57 ?_
                refine x_iaddN O dX1_has_58 ?_
                refine x_bipush O dX1_has_59 kb_13 ?_
                refine x_iload_n O dX1_has_61 rfl ?_
                refine x_imulN O dX1_has_62 ?_
                refine x_iaddN O dX1_has_63 ?_
                refine x_iload O dX1_has_64 rfl ?_
                refine x_iaddN O dX1_has_66 ?_
                refine ldM O (by omega) dX1_has_67 ?_
                refine x_if_eqZ O dX1_has_68 (fun c7 => ?_) (fun c7 => ?_)
                · refine x_iconst O dX1_has_75 kc_0 ?_
                  exact E _ _ _ _ _ dX1_has_76 rfl (Or.inl ⟨z, hz, rfl, (by exact ⟨rfl, Or.inr ⟨a1, b1, c1, ⟨ha1, hb1, hc1⟩, rfl, rfl, rfl, by rw [c7]; exact zI_0⟩⟩)⟩)
                · refine x_iconst O dX1_has_71 kc_1 ?_
                  refine x_goto O dX1_has_72 ?_
                  exact E _ _ _ _ _ dX1_has_76 rfl (Or.inl ⟨z, hz, rfl, (by exact ⟨rfl, Or.inr ⟨a1, b1, c1, ⟨ha1, hb1, hc1⟩, rfl, rfl, rfl, by rw [c7]; exact zI_1⟩⟩)⟩)
              · refine x_iconst O dX1_has_42 kc_0 ?_
                exact E _ _ _ _ _ dX1_has_43 rfl (Or.inl ⟨z, hz, rfl, (by exact ⟨rfl, Or.inl ⟨fun q => by unfold inBox at q; omega, rfl⟩⟩)⟩)
  · refine x_if_eqT O dX1_has_5 ?_
    refine x_iconst O dX1_has_8 kc_m1 ?_
    exact E _ _ _ _ _ dX1_has_9 rfl (Or.inr ⟨hz, (by exact ⟨rfl, rfl⟩)⟩)
set_option maxHeartbeats 4000000 in
theorem mX1_size {l : Launch} {D : va_G} {h hM hD : Nat} {cM cD : ClassId} (fM : Nat → Bool) (fD : Nat → Bool) (z0 : Int32) : Ct (wM h hM hD cM cD) D vwCl (tM cM cD) l yX1_size cX1_size 4 .int { frames := 1, cells := 0, slots := 0, locals := 21 } [.ref h, .int z0] (fM, fD) (fun r u => inZ z0 (fun z => r = nI (cntB (fun p => fM (z * 2197 + p)) 2197) ∧ u = (fM, fD)) (r = (-1) ∧ u = (fM, fD))) := by
  refine ct_entry wM_addr (by decide) (by simp [Value.category]) (Nat.le_of_ble_eq_true rfl) ⟨rfl, rfl⟩ ?_
  intro K O E
  show K 0 [some (.ref h), some (.int z0), none, none] [] (fM, fD)
  refine x_aload_n O dX1_size_0 rfl ?_
  refine x_iload_n O dX1_size_1 rfl ?_
  refine callX1_badZone O ⟨Nat.le_of_ble_eq_true rfl, Nat.le_of_ble_eq_true rfl⟩ (Nat.le_of_ble_eq_true rfl) dX1_size_2 _ (fun r u hp => ?_)
  rcases hp with ⟨z, hz, rfl, rfl, rfl⟩ | ⟨hz, rfl, rfl⟩
  · refine x_if_eqF O dX1_size_5 ?_
    refine x_iconst O dX1_size_10 kc_0 ?_
    refine x_istore_n [some (.ref h), some (.int (nI z)), some (.int (nI 0)), none] O dX1_size_11 rfl rfl ?_
    refine x_iconst O dX1_size_12 kc_0 ?_
    refine x_istore_n [some (.ref h), some (.int (nI z)), some (.int (nI 0)), some (.int (nI 0))] O dX1_size_13 rfl rfl ?_
    have lp14 : ∀ (n p : Nat) (n1 : Nat), 2197 - p = n → p ≤ 2197 → n1 = cntB (fun p => fM (z * 2197 + p)) p → K 14 [some (.ref h), some (.int (nI z)), some (.int (nI n1)), some (.int (nI p))] [] (fM, fD) := by
      intro n
      induction n using Nat.strongRecOn with
      | _ n ih14 =>
        intro p n1 hn14 hk14 hn1
        refine x_iload_n O dX1_size_14 rfl ?_
        refine x_sipush O dX1_size_15 ks_2197 ?_
        refine x_icmp_geN O dX1_size_18 (by omega) (fun c1 => ?_) (fun c1 => ?_)
        · obtain rfl : p = 2197 := by omega
          subst hn1
          refine x_iload_n O dX1_size_45 rfl ?_
          exact E _ _ _ _ _ dX1_size_46 rfl (Or.inl ⟨z, hz, rfl, (by exact ⟨rfl, rfl⟩)⟩)
        · refine x_aload_n O dX1_size_21 rfl ?_
          refine fM_M O dX1_size_22 ?_
          refine x_iload_n O dX1_size_25 rfl ?_
          refine x_sipush O dX1_size_26 ks_2197 ?_
          refine x_imulN O dX1_size_29 ?_
          refine x_iload_n O dX1_size_30 rfl ?_
          refine x_iaddN O dX1_size_31 ?_
          refine ldM O (by omega) dX1_size_32 ?_
          refine x_if_eqZ O dX1_size_33 (fun c2 => ?_) (fun c2 => ?_)
          · refine x_iincN [some (.ref h), some (.int (nI z)), some (.int (nI n1)), some (.int (nI (p + 1)))] O dX1_size_39 rfl rfl ?_
            refine x_goto O dX1_size_42 ?_
            exact ih14 _ (by omega) (p + 1) _ rfl (by omega) (by rw [cntB, if_neg (by rw [c2]; exact Bool.false_ne_true)]; exact hn1)
          · refine x_iincN [some (.ref h), some (.int (nI z)), some (.int (nI (n1 + 1))), some (.int (nI p))] O dX1_size_36 rfl rfl ?_
            refine x_iincN [some (.ref h), some (.int (nI z)), some (.int (nI (n1 + 1))), some (.int (nI (p + 1)))] O dX1_size_39 rfl rfl ?_
            refine x_goto O dX1_size_42 ?_
            exact ih14 _ (by omega) (p + 1) _ rfl (by omega) (by rw [cntB, if_pos c2, ← hn1])
    exact lp14 _ 0 _ rfl (by omega) (by rfl)
  · refine x_if_eqT O dX1_size_5 ?_
    refine x_iconst O dX1_size_8 kc_m1 ?_
    exact E _ _ _ _ _ dX1_size_9 rfl (Or.inr ⟨hz, (by exact ⟨rfl, rfl⟩)⟩)
set_option maxHeartbeats 4000000 in
theorem mX1_next {l : Launch} {D : va_G} {h hM hD : Nat} {cM cD : ClassId} (fM : Nat → Bool) (fD : Nat → Bool) (z0 : Int32) (t0 : Int32) : Ct (wM h hM hD cM cD) D vwCl (tM cM cD) l yX1_next cX1_next 4 .int { frames := 1, cells := 0, slots := 0, locals := 21 } [.ref h, .int z0, .int t0] (fM, fD) (fun r u => inZ z0 (fun z => u = (fM, fD) ∧ ((∃ p : Nat, p < 2197 ∧ t0.toInt < (p : Int) ∧ fM (z * 2197 + p) = true ∧ (∀ q : Nat, q < p → t0.toInt < (q : Int) → fM (z * 2197 + q) = false) ∧ r = nI p) ∨ ((∀ q : Nat, q < 2197 → t0.toInt < (q : Int) → fM (z * 2197 + q) = false) ∧ r = (-2)))) (r = (-1) ∧ u = (fM, fD))) := by
  refine ct_entry wM_addr (by decide) (by simp [Value.category]) (Nat.le_of_ble_eq_true rfl) ⟨rfl, rfl⟩ ?_
  intro K O E
  show K 0 [some (.ref h), some (.int z0), some (.int t0), none] [] (fM, fD)
  refine x_aload_n O dX1_next_0 rfl ?_
  refine x_iload_n O dX1_next_1 rfl ?_
  refine callX1_badZone O ⟨Nat.le_of_ble_eq_true rfl, Nat.le_of_ble_eq_true rfl⟩ (Nat.le_of_ble_eq_true rfl) dX1_next_2 _ (fun r u hp => ?_)
  rcases hp with ⟨z, hz, rfl, rfl, rfl⟩ | ⟨hz, rfl, rfl⟩
  · refine x_if_eqF O dX1_next_5 ?_
    refine x_iconst O dX1_next_10 kc_0 ?_
    refine x_istore_n [some (.ref h), some (.int (nI z)), some (.int t0), some (.int (nI 0))] O dX1_next_11 rfl rfl ?_
    have lp12 : ∀ (n p : Nat), 2197 - p = n → p ≤ 2197 → (∀ q : Nat, q < p → t0.toInt < (q : Int) → fM (z * 2197 + q) = false) → K 12 [some (.ref h), some (.int (nI z)), some (.int t0), some (.int (nI p))] [] (fM, fD) := by
      intro n
      induction n using Nat.strongRecOn with
      | _ n ih12 =>
        intro p hn12 hk12 hno
        refine x_iload_n O dX1_next_12 rfl ?_
        refine x_sipush O dX1_next_13 ks_2197 ?_
        refine x_icmp_geN O dX1_next_16 (by omega) (fun c1 => ?_) (fun c1 => ?_)
        · obtain rfl : p = 2197 := by omega
          refine x_bipush O dX1_next_47 kb_m2 ?_
          exact E _ _ _ _ _ dX1_next_49 rfl (Or.inl ⟨z, hz, rfl, (by exact ⟨rfl, Or.inr ⟨hno, rfl⟩⟩)⟩)
        · refine x_iload_n O dX1_next_19 rfl ?_
          refine x_iload_n O dX1_next_20 rfl ?_
          refine x_icmp_le O dX1_next_21 (fun c2 => ?_) (fun c2 => ?_)
          · refine x_iincN [some (.ref h), some (.int (nI z)), some (.int t0), some (.int (nI (p + 1)))] O dX1_next_41 rfl rfl ?_
            refine x_goto O dX1_next_44 ?_
            exact ih12 _ (by omega) (p + 1) rfl (by omega) (by exact lt_s hno (fun q => by have e := c2; rw [nI_toInt (by omega)] at e; omega))
          · refine x_aload_n O dX1_next_24 rfl ?_
            refine fM_M O dX1_next_25 ?_
            refine x_iload_n O dX1_next_28 rfl ?_
            refine x_sipush O dX1_next_29 ks_2197 ?_
            refine x_imulN O dX1_next_32 ?_
            refine x_iload_n O dX1_next_33 rfl ?_
            refine x_iaddN O dX1_next_34 ?_
            refine ldM O (by omega) dX1_next_35 ?_
            refine x_if_eqZ O dX1_next_36 (fun c3 => ?_) (fun c3 => ?_)
            · refine x_iincN [some (.ref h), some (.int (nI z)), some (.int t0), some (.int (nI (p + 1)))] O dX1_next_41 rfl rfl ?_
              refine x_goto O dX1_next_44 ?_
              exact ih12 _ (by omega) (p + 1) rfl (by omega) (by exact lt_s hno (fun _ => c3))
            · refine x_iload_n O dX1_next_39 rfl ?_
              exact E _ _ _ _ _ dX1_next_40 rfl (Or.inl ⟨z, hz, rfl, (by exact ⟨rfl, Or.inl ⟨p, c1, by have e := c2; rw [nI_toInt (by omega)] at e; exact e, c3, hno, rfl⟩⟩)⟩)
    exact lp12 _ 0 rfl (by omega) (by intro q hq; omega)
  · refine x_if_eqT O dX1_next_5 ?_
    refine x_iconst O dX1_next_8 kc_m1 ?_
    exact E _ _ _ _ _ dX1_next_9 rfl (Or.inr ⟨hz, (by exact ⟨rfl, rfl⟩)⟩)
set_option maxHeartbeats 4000000 in
theorem mX1_within {l : Launch} {D : va_G} {h hM hD : Nat} {cM cD : ClassId} (fM : Nat → Bool) (fD : Nat → Bool) (y0 : Int32) (z0 : Int32) : Ct (wM h hM hD cM cD) D vwCl (tM cM cD) l yX1_within cX1_within 4 .int { frames := 1, cells := 0, slots := 0, locals := 21 } [.ref h, .int y0, .int z0] (fM, fD) (fun r u => inZ y0 (fun y => inZ z0 (fun z => r = zI (!anyUp (fun p => fM (y * 2197 + p) && !fM (z * 2197 + p)) 2197) ∧ u = (fM, fD)) (r = (-1) ∧ u = (fM, fD))) (r = (-1) ∧ u = (fM, fD))) := by
  refine ct_entry wM_addr (by decide) (by simp [Value.category]) (Nat.le_of_ble_eq_true rfl) ⟨rfl, rfl⟩ ?_
  intro K O E
  show K 0 [some (.ref h), some (.int y0), some (.int z0), none] [] (fM, fD)
  refine x_aload_n O dX1_within_0 rfl ?_
  refine x_iload_n O dX1_within_1 rfl ?_
  refine callX1_badZone O ⟨Nat.le_of_ble_eq_true rfl, Nat.le_of_ble_eq_true rfl⟩ (Nat.le_of_ble_eq_true rfl) dX1_within_2 _ (fun r u hp => ?_)
  rcases hp with ⟨y, hy, rfl, rfl, rfl⟩ | ⟨hy, rfl, rfl⟩
  · refine x_if_neF O dX1_within_5 ?_
    refine x_aload_n O dX1_within_8 rfl ?_
    refine x_iload_n O dX1_within_9 rfl ?_
    refine callX1_badZone O ⟨Nat.le_of_ble_eq_true rfl, Nat.le_of_ble_eq_true rfl⟩ (Nat.le_of_ble_eq_true rfl) dX1_within_10 _ (fun r u hp => ?_)
    rcases hp with ⟨z, hz, rfl, rfl, rfl⟩ | ⟨hz, rfl, rfl⟩
    · refine x_if_eqF O dX1_within_13 ?_
      refine x_iconst O dX1_within_18 kc_0 ?_
      refine x_istore_n [some (.ref h), some (.int (nI y)), some (.int (nI z)), some (.int (nI 0))] O dX1_within_19 rfl rfl ?_
      have lp20 : ∀ (n p : Nat), 2197 - p = n → p ≤ 2197 → anyUp (fun p => fM (y * 2197 + p) && !fM (z * 2197 + p)) p = false → K 20 [some (.ref h), some (.int (nI y)), some (.int (nI z)), some (.int (nI p))] [] (fM, fD) := by
        intro n
        induction n using Nat.strongRecOn with
        | _ n ih20 =>
          intro p hn20 hk20 hany
          refine x_iload_n O dX1_within_20 rfl ?_
          refine x_sipush O dX1_within_21 ks_2197 ?_
          refine x_icmp_geN O dX1_within_24 (by omega) (fun c1 => ?_) (fun c1 => ?_)
          · obtain rfl : p = 2197 := by omega
            refine x_iconst O dX1_within_65 kc_1 ?_
            exact E _ _ _ _ _ dX1_within_66 rfl (Or.inl ⟨y, hy, rfl, (Or.inl ⟨z, hz, rfl, (by exact ⟨by rw [hany]; exact zI_1, rfl⟩)⟩)⟩)
          · refine x_aload_n O dX1_within_27 rfl ?_
            refine fM_M O dX1_within_28 ?_
            refine x_iload_n O dX1_within_31 rfl ?_
            refine x_sipush O dX1_within_32 ks_2197 ?_
            refine x_imulN O dX1_within_35 ?_
            refine x_iload_n O dX1_within_36 rfl ?_
            refine x_iaddN O dX1_within_37 ?_
            refine ldM O (by omega) dX1_within_38 ?_
            refine x_if_eqZ O dX1_within_39 (fun c2 => ?_) (fun c2 => ?_)
            · refine x_iincN [some (.ref h), some (.int (nI y)), some (.int (nI z)), some (.int (nI (p + 1)))] O dX1_within_59 rfl rfl ?_
              refine x_goto O dX1_within_62 ?_
              exact ih20 _ (by omega) (p + 1) rfl (by omega) (by exact anyUp_s hany (by show (_ && !_) = false; rw [c2]; rfl))
            · refine x_aload_n O dX1_within_42 rfl ?_
              refine fM_M O dX1_within_43 ?_
              refine x_iload_n O dX1_within_46 rfl ?_
              refine x_sipush O dX1_within_47 ks_2197 ?_
              refine x_imulN O dX1_within_50 ?_
              refine x_iload_n O dX1_within_51 rfl ?_
              refine x_iaddN O dX1_within_52 ?_
              refine ldM O (by omega) dX1_within_53 ?_
              refine x_if_neZ O dX1_within_54 (fun c3 => ?_) (fun c3 => ?_)
              · refine x_iincN [some (.ref h), some (.int (nI y)), some (.int (nI z)), some (.int (nI (p + 1)))] O dX1_within_59 rfl rfl ?_
                refine x_goto O dX1_within_62 ?_
                exact ih20 _ (by omega) (p + 1) rfl (by omega) (by exact anyUp_s hany (by show (_ && !_) = false; rw [c2, c3]; rfl))
              · refine x_iconst O dX1_within_57 kc_0 ?_
                exact E _ _ _ _ _ dX1_within_58 rfl (Or.inl ⟨y, hy, rfl, (Or.inl ⟨z, hz, rfl, (by exact ⟨by rw [anyUp_hit (k := p) c1 (by show (_ && !_) = true; rw [c2, c3]; rfl)]; exact zI_0, rfl⟩)⟩)⟩)
      exact lp20 _ 0 rfl (by omega) (by rfl)
    · refine x_if_eqT O dX1_within_13 ?_
      refine x_iconst O dX1_within_16 kc_m1 ?_
      exact E _ _ _ _ _ dX1_within_17 rfl (Or.inl ⟨y, hy, rfl, (Or.inr ⟨hz, (by exact ⟨rfl, rfl⟩)⟩)⟩)
  · refine x_if_neT O dX1_within_5 ?_
    refine x_iconst O dX1_within_16 kc_m1 ?_
    exact E _ _ _ _ _ dX1_within_17 rfl (Or.inr ⟨hy, (by exact ⟨rfl, rfl⟩)⟩)
set_option maxHeartbeats 4000000 in
theorem mX1_touch {l : Launch} {D : va_G} {h hM hD : Nat} {cM cD : ClassId} (fM : Nat → Bool) (fD : Nat → Bool) (y0 : Int32) (z0 : Int32) : Ct (wM h hM hD cM cD) D vwCl (tM cM cD) l yX1_touch cX1_touch 4 .int { frames := 1, cells := 0, slots := 0, locals := 21 } [.ref h, .int y0, .int z0] (fM, fD) (fun r u => inZ y0 (fun y => inZ z0 (fun z => r = zI (anyUp (fun p => fM (y * 2197 + p) && fM (z * 2197 + p)) 2197) ∧ u = (fM, fD)) (r = (-1) ∧ u = (fM, fD))) (r = (-1) ∧ u = (fM, fD))) := by
  refine ct_entry wM_addr (by decide) (by simp [Value.category]) (Nat.le_of_ble_eq_true rfl) ⟨rfl, rfl⟩ ?_
  intro K O E
  show K 0 [some (.ref h), some (.int y0), some (.int z0), none] [] (fM, fD)
  refine x_aload_n O dX1_touch_0 rfl ?_
  refine x_iload_n O dX1_touch_1 rfl ?_
  refine callX1_badZone O ⟨Nat.le_of_ble_eq_true rfl, Nat.le_of_ble_eq_true rfl⟩ (Nat.le_of_ble_eq_true rfl) dX1_touch_2 _ (fun r u hp => ?_)
  rcases hp with ⟨y, hy, rfl, rfl, rfl⟩ | ⟨hy, rfl, rfl⟩
  · refine x_if_neF O dX1_touch_5 ?_
    refine x_aload_n O dX1_touch_8 rfl ?_
    refine x_iload_n O dX1_touch_9 rfl ?_
    refine callX1_badZone O ⟨Nat.le_of_ble_eq_true rfl, Nat.le_of_ble_eq_true rfl⟩ (Nat.le_of_ble_eq_true rfl) dX1_touch_10 _ (fun r u hp => ?_)
    rcases hp with ⟨z, hz, rfl, rfl, rfl⟩ | ⟨hz, rfl, rfl⟩
    · refine x_if_eqF O dX1_touch_13 ?_
      refine x_iconst O dX1_touch_18 kc_0 ?_
      refine x_istore_n [some (.ref h), some (.int (nI y)), some (.int (nI z)), some (.int (nI 0))] O dX1_touch_19 rfl rfl ?_
      have lp20 : ∀ (n p : Nat), 2197 - p = n → p ≤ 2197 → anyUp (fun p => fM (y * 2197 + p) && fM (z * 2197 + p)) p = false → K 20 [some (.ref h), some (.int (nI y)), some (.int (nI z)), some (.int (nI p))] [] (fM, fD) := by
        intro n
        induction n using Nat.strongRecOn with
        | _ n ih20 =>
          intro p hn20 hk20 hany
          refine x_iload_n O dX1_touch_20 rfl ?_
          refine x_sipush O dX1_touch_21 ks_2197 ?_
          refine x_icmp_geN O dX1_touch_24 (by omega) (fun c1 => ?_) (fun c1 => ?_)
          · obtain rfl : p = 2197 := by omega
            refine x_iconst O dX1_touch_65 kc_0 ?_
            exact E _ _ _ _ _ dX1_touch_66 rfl (Or.inl ⟨y, hy, rfl, (Or.inl ⟨z, hz, rfl, (by exact ⟨by rw [hany]; exact zI_0, rfl⟩)⟩)⟩)
          · refine x_aload_n O dX1_touch_27 rfl ?_
            refine fM_M O dX1_touch_28 ?_
            refine x_iload_n O dX1_touch_31 rfl ?_
            refine x_sipush O dX1_touch_32 ks_2197 ?_
            refine x_imulN O dX1_touch_35 ?_
            refine x_iload_n O dX1_touch_36 rfl ?_
            refine x_iaddN O dX1_touch_37 ?_
            refine ldM O (by omega) dX1_touch_38 ?_
            refine x_if_eqZ O dX1_touch_39 (fun c2 => ?_) (fun c2 => ?_)
            · refine x_iincN [some (.ref h), some (.int (nI y)), some (.int (nI z)), some (.int (nI (p + 1)))] O dX1_touch_59 rfl rfl ?_
              refine x_goto O dX1_touch_62 ?_
              exact ih20 _ (by omega) (p + 1) rfl (by omega) (by exact anyUp_s hany (by show (_ && _) = false; rw [c2]; rfl))
            · refine x_aload_n O dX1_touch_42 rfl ?_
              refine fM_M O dX1_touch_43 ?_
              refine x_iload_n O dX1_touch_46 rfl ?_
              refine x_sipush O dX1_touch_47 ks_2197 ?_
              refine x_imulN O dX1_touch_50 ?_
              refine x_iload_n O dX1_touch_51 rfl ?_
              refine x_iaddN O dX1_touch_52 ?_
              refine ldM O (by omega) dX1_touch_53 ?_
              refine x_if_eqZ O dX1_touch_54 (fun c3 => ?_) (fun c3 => ?_)
              · refine x_iincN [some (.ref h), some (.int (nI y)), some (.int (nI z)), some (.int (nI (p + 1)))] O dX1_touch_59 rfl rfl ?_
                refine x_goto O dX1_touch_62 ?_
                exact ih20 _ (by omega) (p + 1) rfl (by omega) (by exact anyUp_s hany (by show (_ && _) = false; rw [c2, c3]; rfl))
              · refine x_iconst O dX1_touch_57 kc_1 ?_
                exact E _ _ _ _ _ dX1_touch_58 rfl (Or.inl ⟨y, hy, rfl, (Or.inl ⟨z, hz, rfl, (by exact ⟨by rw [anyUp_hit (k := p) c1 (by show (_ && _) = true; rw [c2, c3]; rfl)]; exact zI_1, rfl⟩)⟩)⟩)
      exact lp20 _ 0 rfl (by omega) (by rfl)
    · refine x_if_eqT O dX1_touch_13 ?_
      refine x_iconst O dX1_touch_16 kc_m1 ?_
      exact E _ _ _ _ _ dX1_touch_17 rfl (Or.inl ⟨y, hy, rfl, (Or.inr ⟨hz, (by exact ⟨rfl, rfl⟩)⟩)⟩)
  · refine x_if_neT O dX1_touch_5 ?_
    refine x_iconst O dX1_touch_16 kc_m1 ?_
    exact E _ _ _ _ _ dX1_touch_17 rfl (Or.inr ⟨hy, (by exact ⟨rfl, rfl⟩)⟩)
end
section
/-! the two constructors -/
set_option maxRecDepth 100000
def inI : Nat → SX
  | 0 => (fun _ => 0, fun _ => false, fun _ => 0)
  | n + 1 => (blk (inI n).1 (16 * n) 16 (fun k => boxV (k / 4) (k % 4)), updB (inI n).2.1 n false, (inI n).2.2)

set_option maxHeartbeats 4000000 in
theorem tailX0_init {l : Launch} {D : va_G} {h hB hN hW : Nat} {cB cN cW : ClassId}  {cells slots : Nat} {K : Nat → List (Option Value) → List Value → SX → Prop} (O : MachX l { frames := 2, cells := cells, slots := slots, locals := 43 } cX0_init 2 D h hB hN hW cB cN cW K) (E : EndV cX0_init K (fun u => u = inI 3)) : K 27 [some (.ref h), none] [] ((inI 0).1, (inI 0).2.1, (inI 0).2.2) := by
  refine x_iconst O dX0_init_27 kc_0 ?_
  refine x_istore_n [some (.ref h), some (.int (nI 0))] O dX0_init_28 rfl rfl ?_
  have lp29 : ∀ (n z : Nat) (B1 : Nat → Int32) (N1 : Nat → Bool) (W1 : Nat → Int32), 3 - z = n → z ≤ 3 → B1 = (inI z).1 → N1 = (inI z).2.1 → W1 = (inI z).2.2 → K 29 [some (.ref h), some (.int (nI z))] [] (B1, N1, W1) := by
    intro n
    induction n using Nat.strongRecOn with
    | _ n ih29 =>
      intro z B1 N1 W1 hn29 hk29 hB1 hN1 hW1
      refine x_iload_n O dX0_init_29 rfl ?_
      refine x_iconst O dX0_init_30 kc_3 ?_
      refine x_icmp_geN O dX0_init_31 (by omega) (fun c1 => ?_) (fun c1 => ?_)
      · obtain rfl : z = 3 := by omega
        subst hB1
        subst hN1
        subst hW1
        exact E _ _ _ _ dX0_init_46 (by rfl)
      · refine x_aload_n O dX0_init_34 rfl ?_
        refine x_iload_n O dX0_init_35 rfl ?_
        refine callX0_all O ⟨Nat.le_of_ble_eq_true rfl, Nat.le_of_ble_eq_true rfl⟩ (Nat.le_of_ble_eq_true rfl) dX0_init_36 _ (fun r u hp => ?_)
        obtain ⟨rfl, rfl⟩ := inZ_nI (by omega) hp
        refine x_pop O dX0_init_39 ?_
        refine x_iincN [some (.ref h), some (.int (nI (z + 1)))] O dX0_init_40 rfl rfl ?_
        refine x_goto O dX0_init_43 ?_
        exact ih29 _ (by omega) (z + 1) _ _ _ rfl (by omega) (by rw [hB1]; rfl) (by rw [hN1]; rfl) (by rw [hW1]; rfl)
  exact lp29 _ 0 _ _ _ rfl (by omega) (by rfl) (by rfl) (by rfl)

set_option maxHeartbeats 4000000 in
theorem tailX1_init {l : Launch} {D : va_G} {h hM hD : Nat} {cM cD : ClassId}  {cells slots : Nat} {K : Nat → List (Option Value) → List Value → SM → Prop} (O : MachM l { frames := 1, cells := cells, slots := slots, locals := 12 } cX1_init 2 D h hM hD cM cD K) (E : EndV cX1_init K (fun u => u = (blk (fun _ => false) 0 6591 (fun _ => true), fun _ => false))) : K 22 [some (.ref h), none] [] ((fun _ => false), (fun _ => false)) := by
  refine x_iconst O dX1_init_22 kc_0 ?_
  refine x_istore_n [some (.ref h), some (.int (nI 0))] O dX1_init_23 rfl rfl ?_
  have lp24 : ∀ (n p : Nat) (M1 : Nat → Bool), 6591 - p = n → p ≤ 6591 → M1 = blk (fun _ => false) 0 p (fun _ => true) → K 24 [some (.ref h), some (.int (nI p))] [] (M1, (fun _ => false)) := by
    intro n
    induction n using Nat.strongRecOn with
    | _ n ih24 =>
      intro p M1 hn24 hk24 hM1
      refine x_iload_n O dX1_init_24 rfl ?_
      refine x_sipush O dX1_init_25 ks_6591 ?_
      refine x_icmp_geN O dX1_init_28 (by omega) (fun c1 => ?_) (fun c1 => ?_)
      · obtain rfl : p = 6591 := by omega
        subst hM1
        exact E _ _ _ _ dX1_init_44 (by rfl)
      · refine x_aload_n O dX1_init_31 rfl ?_
        refine fM_M O dX1_init_32 ?_
        refine x_iload_n O dX1_init_35 rfl ?_
        refine x_iconst O dX1_init_36 kc_1 ?_
        refine stM O (by omega) zI_1 dX1_init_37 ?_
        refine x_iincN [some (.ref h), some (.int (nI (p + 1)))] O dX1_init_38 rfl rfl ?_
        refine x_goto O dX1_init_41 ?_
        exact ih24 _ (by omega) (p + 1) _ rfl (by omega) (by exact blkB_s0 hM1 rfl)
  exact lp24 _ 0 _ rfl (by omega) (by exact blk_0)

set_option maxHeartbeats 4000000 in
theorem mX0_init (l : Launch) (D : va_G) (h sz : Nat) : Met l yX0_init (ws_ yX0_init cX0_init 2 none) { frames := 2, cells := 3, slots := 67, locals := 43 } (va_Pc [.ref h] (fun U => U.heap.size = sz ∧ va_P D vwCl [(h, .inr (0, [.null, .null, .null]))] U.heap ∧ va_K D vwCl [] U ∧ va_D (fun _ => True) [(h, .inr (0, [.null, .null, .null]))])) (va_Qv (fun u : Nat × Nat × Nat × ClassId × ClassId × ClassId × SX => u.2.2.2.2.2.2 = inI 3) (fun u t => va_P D vwCl (wX h u.1 u.2.1 u.2.2.1 u.2.2.2.1 u.2.2.2.2.1 u.2.2.2.2.2.1 u.2.2.2.2.2.2) t.heap ∧ va_K D vwCl (tX u.2.2.2.1 u.2.2.2.2.1 u.2.2.2.2.2.1) t ∧ va_D (va_A [(h, .inr (0, [.null, .null, .null]))] sz) (wX h u.1 u.2.1 u.2.2.1 u.2.2.2.1 u.2.2.2.2.1 u.2.2.2.2.2.1 u.2.2.2.2.2.2)) (va_A [(h, .inr (0, [.null, .null, .null]))] sz)) 3 67 (va_A [(h, .inr (0, [.null, .null, .null]))] sz) := by
  refine Met.ofW (cc := cX0_init) (maxL := 2) (ret := none) (by decide) rfl ?_
  intro p e s m args below meth c s₁ B hml hv
  obtain ⟨rfl, hsz, hP, hK, hD0⟩ := hv
  have hx := B.exec
  have hb := B.bytes
  have hr := B.returns
  have hts := atoms_spec (ws := ws_ yX0_init cX0_init 2 none) B.pre
  have hts : ∀ w ∈ lw_all, w.before _ s = true := fun w h => hts w (List.mem_cons_of_mem _ h)
  have hown : s.vm.findClass RX0 = some m.cls := findClass_of_methodNamed B.named
  have hlocks := B.notSynchronized
  have hin : meth.name = "<init>" := (name_of_methodNamed B.named B.method).1
  subst hsz
  have hD := hD0.self (sz := s.heap.size)
  generalize hAe : va_A [(h, .inr (0, [.null, .null, .null]))] s.heap.size = A at hD ⊢
  have hA : ∀ q : Nat, s.heap.size ≤ q → A q := fun q h => by rw [← hAe]; exact Or.inr h
  have hS : va_S A s.heap s.heap [] := va_S.rf
  have hl := xl_entry (av := [.ref h]) (n := 2) (by simp [Value.category]) (Nat.le_of_ble_eq_true rfl)
  rw [lg_entry_eq]
  generalize (lg_sl ([.ref h]) ++ List.replicate (2 - (lg_sl ([.ref h])).length) Slot.unset).toArray = ls at hl ⊢
  have hl : xl ls 2 [some (.ref h), none] := hl
  refine lv_aload_n hx hb dX0_init_0.1 rfl (xl_at hl (i := 0) rfl) ?_
  refine W.objInit hx hb hown (hts _ q29) (hts _ q30) (hts _ q31) rfl (by rw [hml]; exact hl.1.1) rfl dX0_init_1.1 (Nat.le_of_ble_eq_true rfl) (Nat.le_of_ble_eq_true rfl) ?_
  refine W.eq (g2 := F0 m 4 ls []) rfl ?_
  refine lv_aload_n hx hb dX0_init_4.1 rfl (xl_at hl (i := 0) rfl) ?_
  refine lv_bipush (v := 48) hx hb dX0_init_5.1 (by decide) ?_
  refine va_newa (atype := .int) (ty := .int) (N' := 48) (a0 := (48, .inl (fun _ => 0))) hx hb (hts _ q52) rfl hK hP hD hS hA (fun cA => rfl) (by decide) (by decide) (by decide) (Nat.le_of_ble_eq_true rfl) (Nat.le_of_ble_eq_true rfl) dX0_init_7.1 (fun aB cB H hK hP hD hS => ?_)
  have hP : va_P D vwCl [(h, .inr (0, [.null, .null, .null])), (aB, .inl (cB, 48, .inl (fun _ => 0)))] H := hP
  have hD : va_D A [(h, .inr (0, [.null, .null, .null])), (aB, .inl (cB, 48, .inl (fun _ => 0)))] := hD
  refine va_putF (D := D) (ci := 0) (v := .ref aB) (ty := .array .int) (C := RX0) (T := TX0) (N := 3) hx hb hts in_X0 tyX0 tyX0_ok nmX0 hown hK hP hD hS 0 rfl rfl 0 (by decide) (hts _ q42) (fun _ h9 => h9) rfl hin rfl (by decide +kernel) rfl rfl (Nat.le_of_ble_eq_true rfl) dX0_init_9.1 (fun H locs hP hD hS => ?_)
  have hP : va_P D vwCl [(h, .inr (0, [.ref aB, .null, .null])), (aB, .inl (cB, 48, .inl (fun _ => 0)))] H := hP
  have hD : va_D A [(h, .inr (0, [.ref aB, .null, .null])), (aB, .inl (cB, 48, .inl (fun _ => 0)))] := hD
  refine lv_aload_n hx hb dX0_init_12.1 rfl (xl_at hl (i := 0) rfl) ?_
  refine lv_iconst (v := 3) hx hb dX0_init_13.1 (by decide) ?_
  refine va_newa (atype := .boolean) (ty := .boolean) (N' := 3) (a0 := (3, .inl (fun _ => 0))) hx hb (hts _ q53) rfl hK hP hD hS hA (fun cA => rfl) (by decide) (by decide) (by decide) (Nat.le_of_ble_eq_true rfl) (Nat.le_of_ble_eq_true rfl) dX0_init_14.1 (fun aN cN H hK hP hD hS => ?_)
  have hP : va_P D vwCl [(h, .inr (0, [.ref aB, .null, .null])), (aB, .inl (cB, 48, .inl (fun _ => 0))), (aN, .inl (cN, 3, .inl (fun _ => 0)))] H := hP
  have hD : va_D A [(h, .inr (0, [.ref aB, .null, .null])), (aB, .inl (cB, 48, .inl (fun _ => 0))), (aN, .inl (cN, 3, .inl (fun _ => 0)))] := hD
  refine va_putF (D := D) (ci := 0) (v := .ref aN) (ty := .array .boolean) (C := RX0) (T := TX0) (N := 3) hx hb hts in_X0 tyX0 tyX0_ok nmX0 hown hK hP hD hS 0 rfl rfl 1 (by decide) (hts _ q43) (fun _ h9 => h9) rfl hin rfl (by decide +kernel) rfl rfl (Nat.le_of_ble_eq_true rfl) dX0_init_16.1 (fun H locs hP hD hS => ?_)
  have hP : va_P D vwCl [(h, .inr (0, [.ref aB, .ref aN, .null])), (aB, .inl (cB, 48, .inl (fun _ => 0))), (aN, .inl (cN, 3, .inl (fun _ => 0)))] H := hP
  have hD : va_D A [(h, .inr (0, [.ref aB, .ref aN, .null])), (aB, .inl (cB, 48, .inl (fun _ => 0))), (aN, .inl (cN, 3, .inl (fun _ => 0)))] := hD
  refine lv_aload_n hx hb dX0_init_19.1 rfl (xl_at hl (i := 0) rfl) ?_
  refine lv_bipush (v := 16) hx hb dX0_init_20.1 (by decide) ?_
  refine va_newa (atype := .int) (ty := .int) (N' := 16) (a0 := (16, .inl (fun _ => 0))) hx hb (hts _ q52) rfl hK hP hD hS hA (fun cA => rfl) (by decide) (by decide) (by decide) (Nat.le_of_ble_eq_true rfl) (Nat.le_of_ble_eq_true rfl) dX0_init_22.1 (fun aW cW H hK hP hD hS => ?_)
  have hP : va_P D vwCl [(h, .inr (0, [.ref aB, .ref aN, .null])), (aB, .inl (cB, 48, .inl (fun _ => 0))), (aN, .inl (cN, 3, .inl (fun _ => 0))), (aW, .inl (cW, 16, .inl (fun _ => 0)))] H := hP
  have hD : va_D A [(h, .inr (0, [.ref aB, .ref aN, .null])), (aB, .inl (cB, 48, .inl (fun _ => 0))), (aN, .inl (cN, 3, .inl (fun _ => 0))), (aW, .inl (cW, 16, .inl (fun _ => 0)))] := hD
  refine va_putF (D := D) (ci := 0) (v := .ref aW) (ty := .array .int) (C := RX0) (T := TX0) (N := 3) hx hb hts in_X0 tyX0 tyX0_ok nmX0 hown hK hP hD hS 0 rfl rfl 2 (by decide) (hts _ q44) (fun _ h9 => h9) rfl hin rfl (by decide +kernel) rfl rfl (Nat.le_of_ble_eq_true rfl) dX0_init_24.1 (fun H locs hP hD hS => ?_)
  have hP : va_P D vwCl [(h, .inr (0, [.ref aB, .ref aN, .ref aW])), (aB, .inl (cB, 48, .inl (fun _ => 0))), (aN, .inl (cN, 3, .inl (fun _ => 0))), (aW, .inl (cW, 16, .inl (fun _ => 0)))] H := hP
  have hD : va_D A [(h, .inr (0, [.ref aB, .ref aN, .ref aW])), (aB, .inl (cB, 48, .inl (fun _ => 0))), (aN, .inl (cN, 3, .inl (fun _ => 0))), (aW, .inl (cW, 16, .inl (fun _ => 0)))] := hD
  have hK : va_K D vwCl (tX cB cN cW) s := hK
  have hP : va_P D vwCl (wX h aB aN aW cB cN cW ((inI 0).1, (inI 0).2.1, (inI 0).2.2)) H := hP
  refine W.widen (k := 3) (n := 67) (Nat.le_of_ble_eq_true rfl) (Nat.le_of_ble_eq_true rfl) ?_
  refine tailX0_init (cells := 3) (slots := 67) (K := fun pc lv st σ => ∀ (H : Heap) (locs : List Loc) (ls : Array Slot), va_P D vwCl (wX h aB aN aW cB cN cW σ) H → va_S A s.heap H locs → xl ls 2 lv → W p l e _ s m _ below meth c H locs 3 67 _ (F0 m pc ls st)) ⟨p, e, s, m, _, below, meth, c, A, 3, 67, _, ⟨hx, hb, hml, hown, hts⟩, hA, hK, fun σ' => va_D_addr hD rfl, ⟨Nat.le_of_ble_eq_true rfl, Nat.le_of_ble_eq_true rfl⟩, rfl⟩ ?_ H locs ls hP hS hl
  intro pc nx lv u d hpost H locs ls hP hS hl
  exact W.vret hx hb hr (fun t ht hWm => ⟨⟨⟨aB, aN, aW, cB, cN, cW, u⟩, rfl, hpost, by subst ht; exact hP, va_K.moved hWm.alike hK, va_D_addr hD rfl⟩, hS.F ht⟩) hS.2.2 d.1

set_option maxHeartbeats 4000000 in
theorem mX1_init (l : Launch) (D : va_G) (h sz : Nat) : Met l yX1_init (ws_ yX1_init cX1_init 2 none) { frames := 1, cells := 2, slots := 8788, locals := 12 } (va_Pc [.ref h] (fun U => U.heap.size = sz ∧ va_P D vwCl [(h, .inr (1, [.null, .null]))] U.heap ∧ va_K D vwCl [] U ∧ va_D (fun _ => True) [(h, .inr (1, [.null, .null]))])) (va_Qv (fun u : Nat × Nat × ClassId × ClassId × SM => u.2.2.2.2 = (blk (fun _ => false) 0 6591 (fun _ => true), fun _ => false)) (fun u t => va_P D vwCl (wM h u.1 u.2.1 u.2.2.1 u.2.2.2.1 u.2.2.2.2) t.heap ∧ va_K D vwCl (tM u.2.2.1 u.2.2.2.1) t ∧ va_D (va_A [(h, .inr (1, [.null, .null]))] sz) (wM h u.1 u.2.1 u.2.2.1 u.2.2.2.1 u.2.2.2.2)) (va_A [(h, .inr (1, [.null, .null]))] sz)) 2 8788 (va_A [(h, .inr (1, [.null, .null]))] sz) := by
  refine Met.ofW (cc := cX1_init) (maxL := 2) (ret := none) (by decide) rfl ?_
  intro p e s m args below meth c s₁ B hml hv
  obtain ⟨rfl, hsz, hP, hK, hD0⟩ := hv
  have hx := B.exec
  have hb := B.bytes
  have hr := B.returns
  have hts := atoms_spec (ws := ws_ yX1_init cX1_init 2 none) B.pre
  have hts : ∀ w ∈ lw_all, w.before _ s = true := fun w h => hts w (List.mem_cons_of_mem _ h)
  have hown : s.vm.findClass RX1 = some m.cls := findClass_of_methodNamed B.named
  have hlocks := B.notSynchronized
  have hin : meth.name = "<init>" := (name_of_methodNamed B.named B.method).1
  subst hsz
  have hD := hD0.self (sz := s.heap.size)
  generalize hAe : va_A [(h, .inr (1, [.null, .null]))] s.heap.size = A at hD ⊢
  have hA : ∀ q : Nat, s.heap.size ≤ q → A q := fun q h => by rw [← hAe]; exact Or.inr h
  have hS : va_S A s.heap s.heap [] := va_S.rf
  have hl := xl_entry (av := [.ref h]) (n := 2) (by simp [Value.category]) (Nat.le_of_ble_eq_true rfl)
  rw [lg_entry_eq]
  generalize (lg_sl ([.ref h]) ++ List.replicate (2 - (lg_sl ([.ref h])).length) Slot.unset).toArray = ls at hl ⊢
  have hl : xl ls 2 [some (.ref h), none] := hl
  refine lv_aload_n hx hb dX1_init_0.1 rfl (xl_at hl (i := 0) rfl) ?_
  refine W.objInit hx hb hown (hts _ q175) (hts _ q30) (hts _ q31) rfl (by rw [hml]; exact hl.1.1) rfl dX1_init_1.1 (Nat.le_of_ble_eq_true rfl) (Nat.le_of_ble_eq_true rfl) ?_
  refine W.eq (g2 := F0 m 4 ls []) rfl ?_
  refine lv_aload_n hx hb dX1_init_4.1 rfl (xl_at hl (i := 0) rfl) ?_
  refine lv_sipush (v := 6591) hx hb dX1_init_5.1 (by decide) ?_
  refine va_newa (atype := .boolean) (ty := .boolean) (N' := 6591) (a0 := (6591, .inl (fun _ => 0))) hx hb (hts _ q53) rfl hK hP hD hS hA (fun cA => rfl) (by decide) (by decide) (by decide) (Nat.le_of_ble_eq_true rfl) (Nat.le_of_ble_eq_true rfl) dX1_init_8.1 (fun aM cM H hK hP hD hS => ?_)
  have hP : va_P D vwCl [(h, .inr (1, [.null, .null])), (aM, .inl (cM, 6591, .inl (fun _ => 0)))] H := hP
  have hD : va_D A [(h, .inr (1, [.null, .null])), (aM, .inl (cM, 6591, .inl (fun _ => 0)))] := hD
  refine va_putF (D := D) (ci := 1) (v := .ref aM) (ty := .array .boolean) (C := RX1) (T := TX1) (N := 2) hx hb hts in_X1 tyX1 tyX1_ok nmX1 hown hK hP hD hS 0 rfl rfl 0 (by decide) (hts _ q176) (fun _ h9 => h9) rfl hin rfl (by decide +kernel) rfl rfl (Nat.le_of_ble_eq_true rfl) dX1_init_10.1 (fun H locs hP hD hS => ?_)
  have hP : va_P D vwCl [(h, .inr (1, [.ref aM, .null])), (aM, .inl (cM, 6591, .inl (fun _ => 0)))] H := hP
  have hD : va_D A [(h, .inr (1, [.ref aM, .null])), (aM, .inl (cM, 6591, .inl (fun _ => 0)))] := hD
  refine lv_aload_n hx hb dX1_init_13.1 rfl (xl_at hl (i := 0) rfl) ?_
  refine lv_sipush (v := 2197) hx hb dX1_init_14.1 (by decide) ?_
  refine va_newa (atype := .boolean) (ty := .boolean) (N' := 2197) (a0 := (2197, .inl (fun _ => 0))) hx hb (hts _ q53) rfl hK hP hD hS hA (fun cA => rfl) (by decide) (by decide) (by decide) (Nat.le_of_ble_eq_true rfl) (Nat.le_of_ble_eq_true rfl) dX1_init_17.1 (fun aD cD H hK hP hD hS => ?_)
  have hP : va_P D vwCl [(h, .inr (1, [.ref aM, .null])), (aM, .inl (cM, 6591, .inl (fun _ => 0))), (aD, .inl (cD, 2197, .inl (fun _ => 0)))] H := hP
  have hD : va_D A [(h, .inr (1, [.ref aM, .null])), (aM, .inl (cM, 6591, .inl (fun _ => 0))), (aD, .inl (cD, 2197, .inl (fun _ => 0)))] := hD
  refine va_putF (D := D) (ci := 1) (v := .ref aD) (ty := .array .boolean) (C := RX1) (T := TX1) (N := 2) hx hb hts in_X1 tyX1 tyX1_ok nmX1 hown hK hP hD hS 0 rfl rfl 1 (by decide) (hts _ q177) (fun _ h9 => h9) rfl hin rfl (by decide +kernel) rfl rfl (Nat.le_of_ble_eq_true rfl) dX1_init_19.1 (fun H locs hP hD hS => ?_)
  have hP : va_P D vwCl [(h, .inr (1, [.ref aM, .ref aD])), (aM, .inl (cM, 6591, .inl (fun _ => 0))), (aD, .inl (cD, 2197, .inl (fun _ => 0)))] H := hP
  have hD : va_D A [(h, .inr (1, [.ref aM, .ref aD])), (aM, .inl (cM, 6591, .inl (fun _ => 0))), (aD, .inl (cD, 2197, .inl (fun _ => 0)))] := hD
  have hK : va_K D vwCl (tM cM cD) s := hK
  have hP : va_P D vwCl (wM h aM aD cM cD ((fun _ => false), (fun _ => false))) H := hP
  refine W.widen (k := 2) (n := 8788) (Nat.le_of_ble_eq_true rfl) (Nat.le_of_ble_eq_true rfl) ?_
  refine tailX1_init (cells := 2) (slots := 8788) (K := fun pc lv st σ => ∀ (H : Heap) (locs : List Loc) (ls : Array Slot), va_P D vwCl (wM h aM aD cM cD σ) H → va_S A s.heap H locs → xl ls 2 lv → W p l e _ s m _ below meth c H locs 2 8788 _ (F0 m pc ls st)) ⟨p, e, s, m, _, below, meth, c, A, 2, 8788, _, ⟨hx, hb, hml, hown, hts⟩, hA, hK, fun σ' => va_D_addr hD rfl, ⟨Nat.le_of_ble_eq_true rfl, Nat.le_of_ble_eq_true rfl⟩, rfl⟩ ?_ H locs ls hP hS hl
  intro pc nx lv u d hpost H locs ls hP hS hl
  exact W.vret hx hb hr (fun t ht hWm => ⟨⟨⟨aM, aD, cM, cD, u⟩, rfl, hpost, by subst ht; exact hP, va_K.moved hWm.alike hK, va_D_addr hD rfl⟩, hS.F ht⟩) hS.2.2 d.1
end
section
/-! closed tables of bounds: plain theory, no program -/
def zt_S (M : Nat → Nat → Int) (v : Nat → Int) : Prop := ∀ i j, i < 4 → j < 4 → v i - v j ≤ M i j
def zt_C (M : Nat → Nat → Int) : Prop := (∀ i, i < 4 → M i i = 0) ∧ (∀ i j k, i < 4 → j < 4 → k < 4 → M i k ≤ M i j + M j k) ∧ (∀ i, i < 4 → M i 0 ≤ 12) ∧ (∀ i, i < 4 → M 0 i ≤ 0)
theorem zt_hi {M : Nat → Nat → Int} (h : zt_C M) {i j : Nat} (hi : i < 4) (hj : j < 4) : M i j ≤ 12 := by
  have a := h.2.1 i 0 j hi (by omega) hj
  have b := h.2.2.1 i hi
  have c := h.2.2.2 j hj
  omega
theorem zt_lo {M : Nat → Nat → Int} (h : zt_C M) {i j : Nat} (hi : i < 4) (hj : j < 4) : -12 ≤ M i j := by
  have a := h.2.1 i j i hi hj hi
  have b := h.1 i hi
  have c := zt_hi h hj hi
  omega
theorem zt_pos {M : Nat → Nat → Int} (h : zt_C M) {i : Nat} (hi : i < 4) : 0 ≤ M i 0 := by
  have a := h.2.1 0 i 0 (by omega) hi (by omega)
  have b := h.1 0 (by omega)
  have c := h.2.2.2 i hi
  omega
theorem zt_S_congr {M : Nat → Nat → Int} {v w : Nat → Int} (e : ∀ k, k < 4 → v k = w k) (h : zt_S M v) : zt_S M w := by
  intro i j hi hj
  rw [← e i hi, ← e j hj]
  exact h i j hi hj
theorem zt_S_sh {M : Nat → Nat → Int} {v w : Nat → Int} (e : ∀ k, k < 4 → w k = v k - v 0) (h : zt_S M v) : zt_S M w := by
  intro i j hi hj
  have := h i j hi hj
  rw [e i hi, e j hj]
  omega
/-- the greatest of finitely many -/
theorem zt_max (f : Nat → Int) (P : Nat → Prop) : ∀ n, (∃ k, k < n ∧ P k) → ∃ k, k < n ∧ P k ∧ ∀ t, t < n → P t → f t ≤ f k
  | 0, h => by
    obtain ⟨k, h, _⟩ := h
    omega
  | n + 1, h => by
    obtain ⟨k, h, hk⟩ := h
    by_cases hn : ∃ k, k < n ∧ P k
    · obtain ⟨k0, a, b, c⟩ := zt_max f P n hn
      by_cases h2 : P n ∧ f k0 < f n
      · refine ⟨n, by omega, h2.1, fun t ht hp => ?_⟩
        by_cases e : t = n
        · rw [e]; exact Int.le_refl _
        · have := c t (by omega) hp
          omega
      · refine ⟨k0, by omega, b, fun t ht hp => ?_⟩
        by_cases e : t = n
        · rw [e] at hp ⊢
          by_cases h3 : f k0 < f n
          · exact absurd ⟨hp, h3⟩ h2
          · omega
        · exact c t (by omega) hp
    · have e : k = n := by
        by_cases e : k = n
        · exact e
        · exact absurd ⟨k, by omega, hk⟩ hn
      rw [e] at hk
      refine ⟨n, by omega, hk, fun t ht hp => ?_⟩
      by_cases e : t = n
      · rw [e]; exact Int.le_refl _
      · exact absurd ⟨t, by omega, hp⟩ hn
/-- one clock can be put back -/
def zt_u (v : Nat → Int) (c : Nat) (w : Int) : Nat → Int := fun k => if k = c then w else v k
theorem zt_proj {M : Nat → Nat → Int} (h : zt_C M) {c : Nat} (hc : 1 ≤ c ∧ c < 4) {v : Nat → Int} (h0 : v 0 = 0) (hv : ∀ i j, i < 4 → j < 4 → i ≠ c → j ≠ c → v i - v j ≤ M i j) : ∃ w : Int, 0 ≤ w ∧ w ≤ 12 ∧ zt_S M (zt_u v c w) := by
  obtain ⟨k, a, b, m⟩ := zt_max (fun k => v k - M k c) (fun k => k ≠ c) 4 ⟨0, by omega, by show (0 : Nat) ≠ c; omega⟩
  have b : k ≠ c := b
  have m : ∀ t, t < 4 → t ≠ c → v t - M t c ≤ v k - M k c := m
  have up : ∀ j, j < 4 → j ≠ c → (v k - M k c) - v j ≤ M c j := fun j hj hjc => by
    have a1 := hv k j a hj b hjc
    have a2 := h.2.1 k c j a hc.2 hj
    omega
  refine ⟨v k - M k c, ?_, ?_, ?_⟩
  · have a1 := m 0 (by omega) (by omega)
    have a2 := h.2.2.2 c hc.2
    omega
  · have a1 := up 0 (by omega) (by omega)
    have a2 := h.2.2.1 c hc.2
    omega
  · intro i j hi hj
    unfold zt_u
    by_cases hic : i = c
    · by_cases hjc : j = c
      · rw [if_pos hic, if_pos hjc, hic, hjc, h.1 c hc.2]
        omega
      · rw [if_pos hic, if_neg hjc, hic]
        exact up j hj hjc
    · by_cases hjc : j = c
      · rw [if_neg hic, if_pos hjc, hjc]
        have := m i hi hic
        omega
      · rw [if_neg hic, if_neg hjc]
        exact hv i j hi hj hic hjc
/-- readings -/
theorem vl_v0 (p : Nat) : vl p 0 = 0 := by simp [vl]
theorem vl_v1 (p : Nat) : vl p 1 = p / 169 := by simp [vl]
theorem vl_v2 (p : Nat) : vl p 2 = p / 13 % 13 := by simp [vl]
theorem vl_v3 (p : Nat) : vl p 3 = p % 13 := by simp [vl]
theorem lt4 {k : Nat} (h : k < 4) : k = 0 ∨ k = 1 ∨ k = 2 ∨ k = 3 := by omega
def zt_v (p : Nat) : Nat → Int := fun k => (vl p k : Int)
theorem zt_v0 (p : Nat) : zt_v p 0 = 0 := by simp [zt_v, vl]
theorem zt_vr {p : Nat} (h : p < 2197) (k : Nat) : 0 ≤ zt_v p k ∧ zt_v p k ≤ 12 := by
  have := vl_le (k := k) h
  show 0 ≤ ((vl p k : Nat) : Int) ∧ ((vl p k : Nat) : Int) ≤ 12
  omega
theorem zt_mk {v : Nat → Int} (h0 : v 0 = 0) (h : ∀ k, k < 4 → 0 ≤ v k ∧ v k ≤ 12) : ∃ p, p < 2197 ∧ ∀ k, k < 4 → zt_v p k = v k := by
  have h1 := h 1 (by omega)
  have h2 := h 2 (by omega)
  have h3 := h 3 (by omega)
  refine ⟨169 * (v 1).toNat + 13 * (v 2).toNat + (v 3).toNat, by omega, fun k hk => ?_⟩
  unfold zt_v
  rcases lt4 hk with rfl | rfl | rfl | rfl
  · rw [vl_v0, h0]; rfl
  · rw [vl_v1]; omega
  · rw [vl_v2]; omega
  · rw [vl_v3]; omega
theorem zt_abc {a b c : Nat} (ha : a ≤ 12) (hb : b ≤ 12) (hc : c ≤ 12) : zt_v (169 * a + 13 * b + c) 1 = a ∧ zt_v (169 * a + 13 * b + c) 2 = b ∧ zt_v (169 * a + 13 * b + c) 3 = c := by
  unfold zt_v
  rw [vl_v1, vl_v2, vl_v3]
  omega
theorem zt_num {p : Nat} (hp : p < 2197) : (p : Int) = 169 * zt_v p 1 + 13 * zt_v p 2 + zt_v p 3 := by
  unfold zt_v
  rw [vl_v1, vl_v2, vl_v3]
  omega
/-- a reading with the numbers of a solution -/
theorem zt_sol {M : Nat → Nat → Int} (h : zt_C M) {v : Nat → Int} (h0 : v 0 = 0) (hv : zt_S M v) : ∃ p, p < 2197 ∧ zt_S M (zt_v p) ∧ ∀ k, k < 4 → zt_v p k = v k := by
  obtain ⟨p, hp, e⟩ := zt_mk h0 (fun k hk => by
    have a := hv k 0 hk (by omega)
    have b := hv 0 k (by omega) hk
    have c := h.2.2.1 k hk
    have d := h.2.2.2 k hk
    omega)
  exact ⟨p, hp, zt_S_congr (fun k hk => (e k hk).symm) hv, e⟩
/-- each bound is reached -/
theorem zt_att {M : Nat → Nat → Int} (h : zt_C M) {i j : Nat} (hi : i < 4) (hj : j < 4) : ∃ p, p < 2197 ∧ zt_S M (zt_v p) ∧ zt_v p i - zt_v p j = M i j := by
  obtain ⟨p, hp, hs, e⟩ := zt_sol h (v := fun k => M k j - M 0 j) (by show M 0 j - M 0 j = 0; omega) (fun a b ha hb => by
    show M a j - M 0 j - (M b j - M 0 j) ≤ M a b
    have := h.2.1 a b j ha hb hj
    omega)
  refine ⟨p, hp, hs, ?_⟩
  rw [e i hi, e j hj]
  show M i j - M 0 j - (M j j - M 0 j) = M i j
  have := h.1 j hj
  omega
theorem zt_ne {M : Nat → Nat → Int} (h : zt_C M) : ∃ p, p < 2197 ∧ zt_S M (zt_v p) := by
  obtain ⟨p, hp, hs, _⟩ := zt_att h (i := 0) (j := 0) (by omega) (by omega)
  exact ⟨p, hp, hs⟩
/-- each number of a clock between its bounds is reached -/
theorem zt_ext {M : Nat → Nat → Int} (h : zt_C M) {c : Nat} (hc : c < 4) {a : Int} (h1 : -(M 0 c) ≤ a) (h2 : a ≤ M c 0) : ∃ p, p < 2197 ∧ zt_S M (zt_v p) ∧ zt_v p c = a := by
  obtain ⟨p, hp, hs, e⟩ := zt_sol h (v := fun k => min (M k 0) (M k c + a)) (by
    show min (M 0 0) (M 0 c + a) = 0
    have := h.1 0 (by omega)
    omega) (fun i j hi hj => by
    show min (M i 0) (M i c + a) - min (M j 0) (M j c + a) ≤ M i j
    have a1 := h.2.1 i j 0 hi hj (by omega)
    have a2 := h.2.1 i j c hi hj hc
    omega)
  refine ⟨p, hp, hs, ?_⟩
  rw [e c hc]
  show min (M c 0) (M c c + a) = a
  have := h.1 c hc
  omega
/-- tables of words -/
theorem zt_bm {n : Int} (h1 : -1000000 ≤ n) (h2 : n ≤ 1000000) : n.bmod (2 ^ 32) = n := by
  refine Int.bmod_eq_of_le_mul_two ?_ ?_
  · rw [show ((2 ^ 32 : Nat) : Int) = 4294967296 from rfl]; omega
  · rw [show ((2 ^ 32 : Nat) : Int) = 4294967296 from rfl]; omega
theorem zt_add {a b : Int32} (ha : -10000 ≤ a.toInt ∧ a.toInt ≤ 10000) (hb : -10000 ≤ b.toInt ∧ b.toInt ≤ 10000) : (a + b).toInt = a.toInt + b.toInt := by
  rw [Int32.toInt_add]; exact zt_bm (by omega) (by omega)
theorem zt_sub {a b : Int32} (ha : -10000 ≤ a.toInt ∧ a.toInt ≤ 10000) (hb : -10000 ≤ b.toInt ∧ b.toInt ≤ 10000) : (a - b).toInt = a.toInt - b.toInt := by
  rw [Int32.toInt_sub]; exact zt_bm (by omega) (by omega)
theorem zt_neg {a : Int32} (ha : -10000 ≤ a.toInt ∧ a.toInt ≤ 10000) : (-a).toInt = -a.toInt := by
  rw [Int32.toInt_neg]; exact zt_bm (by omega) (by omega)
theorem zt_add3 {a b c : Int32} (ha : -1000 ≤ a.toInt ∧ a.toInt ≤ 1000) (hb : -1000 ≤ b.toInt ∧ b.toInt ≤ 1000) (hc : -1000 ≤ c.toInt ∧ c.toInt ≤ 1000) : (a + b + c).toInt = a.toInt + b.toInt + c.toInt := by
  have e := zt_add (a := a) (b := b) (by omega) (by omega)
  rw [zt_add (by omega) (by omega), e]
def zt_t (W : Nat → Int32) : Nat → Nat → Int := fun p q => (W (4 * p + q)).toInt
/-- narrow's cells, one by one in place, are those of the old table -/
theorem zt_nwIt {W : Nat → Int32} {i j : Nat} {c : Int32} (hC : zt_C (zt_t W)) (hi : i < 4) (hj : j < 4) (hc : -12 ≤ c.toInt ∧ c.toInt ≤ 12) (h0 : 0 ≤ c.toInt + zt_t W j i) :
    ∀ n, n ≤ 16 → ∀ k, k < 16 → (nwIt W i j c n k).toInt = if k < n ∧ zt_t W (k / 4) i + c.toInt + zt_t W j (k % 4) < (W k).toInt then zt_t W (k / 4) i + c.toInt + zt_t W j (k % 4) else (W k).toInt := by
  intro n
  induction n with
  | zero =>
    intro _ k hk
    rw [if_neg (by omega)]
    rfl
  | succ n ih =>
    intro hn k hk
    have ih := ih (by omega)
    have e1 : (nwIt W i j c n (4 * (n / 4) + i)).toInt = zt_t W (n / 4) i := by
      rw [ih (4 * (n / 4) + i) (by omega), show (4 * (n / 4) + i) / 4 = n / 4 by omega, show (4 * (n / 4) + i) % 4 = i by omega]
      exact if_neg (fun q => by
        have q2 : zt_t W (n / 4) i + c.toInt + zt_t W j i < zt_t W (n / 4) i := q.2
        omega)
    have e2 : (nwIt W i j c n (4 * j + n % 4)).toInt = zt_t W j (n % 4) := by
      rw [ih (4 * j + n % 4) (by omega), show (4 * j + n % 4) / 4 = j by omega, show (4 * j + n % 4) % 4 = n % 4 by omega]
      exact if_neg (fun q => by
        have q2 : zt_t W j i + c.toInt + zt_t W j (n % 4) < zt_t W j (n % 4) := q.2
        omega)
    have e3 : (nwIt W i j c n n).toInt = (W n).toInt := by
      rw [ih n (by omega), if_neg (by omega)]
    have b1 := zt_lo hC (i := n / 4) (j := i) (by omega) hi
    have b2 := zt_hi hC (i := n / 4) (j := i) (by omega) hi
    have b3 := zt_lo hC (i := j) (j := n % 4) hj (by omega)
    have b4 := zt_hi hC (i := j) (j := n % 4) hj (by omega)
    have e4 : (nwWay (nwIt W i j c n) i j c n).toInt = zt_t W (n / 4) i + c.toInt + zt_t W j (n % 4) := by
      unfold nwWay
      rw [zt_add3 (by rw [e1]; omega) (by omega) (by rw [e2]; omega), e1, e2]
    show (upd (nwIt W i j c n) n (if (nwWay (nwIt W i j c n) i j c n).toInt < (nwIt W i j c n n).toInt then nwWay (nwIt W i j c n) i j c n else nwIt W i j c n n) k).toInt = _
    by_cases hkn : k = n
    · rw [hkn, pk_us]
      by_cases hl : zt_t W (n / 4) i + c.toInt + zt_t W j (n % 4) < (W n).toInt
      · rw [if_pos (by rw [e4, e3]; exact hl), if_pos ⟨by omega, hl⟩, e4]
      · rw [if_neg (by rw [e4, e3]; exact hl), if_neg (fun q => hl q.2), e3]
    · rw [pk_un hkn, ih k hk]
      by_cases hl : zt_t W (k / 4) i + c.toInt + zt_t W j (k % 4) < (W k).toInt
      · by_cases hk2 : k < n
        · rw [if_pos ⟨hk2, hl⟩, if_pos ⟨by omega, hl⟩]
        · rw [if_neg (fun q => hk2 q.1), if_neg (fun q => by omega)]
      · rw [if_neg (fun q => hl q.2), if_neg (fun q => hl q.2)]
/-- one bound less: the table that comes of it is closed -/
theorem zt_nwC {M N : Nat → Nat → Int} {i j : Nat} {c : Int} (hC : zt_C M) (hi : i < 4) (hj : j < 4) (h0 : 0 ≤ c + M j i)
    (hN : ∀ p q, p < 4 → q < 4 → N p q = if M p i + c + M j q < M p q then M p i + c + M j q else M p q) : zt_C N ∧ ∀ v, zt_S N v ↔ (zt_S M v ∧ v i - v j ≤ c) := by
  have l1 : ∀ p q, p < 4 → q < 4 → N p q ≤ M p q := fun p q hp hq => by
    rw [hN p q hp hq]
    split <;> omega
  have l2 : ∀ p q, p < 4 → q < 4 → N p q ≤ M p i + c + M j q := fun p q hp hq => by
    rw [hN p q hp hq]
    split <;> omega
  have l3 : ∀ p q, p < 4 → q < 4 → N p q = M p q ∨ N p q = M p i + c + M j q := fun p q hp hq => by
    rw [hN p q hp hq]
    split
    · exact Or.inr rfl
    · exact Or.inl rfl
  refine ⟨⟨fun p hp => ?_, fun p r q hp hr hq => ?_, fun p hp => ?_, fun p hp => ?_⟩, fun v => ⟨fun h => ⟨fun p q hp hq => Int.le_trans (h p q hp hq) (l1 p q hp hq), ?_⟩, fun h p q hp hq => ?_⟩⟩
  · have a := hC.1 p hp
    have b := hC.2.1 j p i hj hp hi
    have d := l1 p p hp hp
    rcases l3 p p hp hp with e | e <;> omega
  · have a1 := l1 p q hp hq
    have a2 := l2 p q hp hq
    have b1 := hC.2.1 p r q hp hr hq
    have b2 := hC.2.1 p r i hp hr hi
    have b3 := hC.2.1 j r q hj hr hq
    have b4 := hC.2.1 j r i hj hr hi
    rcases l3 p r hp hr with e | e <;> rcases l3 r q hr hq with e' | e' <;> omega
  · have a := l1 p 0 hp (by omega)
    have b := hC.2.2.1 p hp
    omega
  · have a := l1 0 p (by omega) hp
    have b := hC.2.2.2 p hp
    omega
  · have a := h i j hi hj
    have b := l2 i j hi hj
    have d := hC.1 i hi
    have e := hC.1 j hj
    omega
  · have a := h.1 p q hp hq
    have b := h.1 p i hp hi
    have d := h.1 j q hj hq
    have e := h.2
    rcases l3 p q hp hq with f | f <;> omega
/-- narrow -/
theorem zt_nw {W : Nat → Int32} {i j : Nat} {c : Int32} (hC : zt_C (zt_t W)) (hi : i < 4) (hj : j < 4) (hc : -12 ≤ c.toInt ∧ c.toInt ≤ 12) :
    (nwOk W i j c = true ∧ zt_C (zt_t (nwW W i j c)) ∧ ∀ v, zt_S (zt_t (nwW W i j c)) v ↔ (zt_S (zt_t W) v ∧ v i - v j ≤ c.toInt)) ∨ (nwOk W i j c = false ∧ ∀ v, zt_S (zt_t W) v → c.toInt < v i - v j) := by
  have b1 := zt_lo hC hj hi
  have b2 := zt_hi hC hj hi
  have r : (c + W (4 * j + i)).toInt = c.toInt + zt_t W j i := zt_add (by omega) ⟨by show _ ≤ zt_t W j i; omega, by show zt_t W j i ≤ _; omega⟩
  by_cases h1 : zt_t W i j ≤ c.toInt
  · left
    have e : nwW W i j c = W := by unfold nwW; exact if_pos (Or.inl h1)
    refine ⟨by unfold nwOk; exact decide_eq_true (Or.inl h1), by rw [e]; exact hC, fun v => ?_⟩
    rw [e]
    exact ⟨fun h => ⟨h, Int.le_trans (h i j hi hj) h1⟩, fun h => h.1⟩
  · by_cases h2 : c.toInt + zt_t W j i < 0
    · right
      refine ⟨by
        unfold nwOk
        refine decide_eq_false (fun q => ?_)
        rcases q with q | q
        · exact h1 q
        · rw [r] at q
          omega, fun v h => ?_⟩
      have := h j i hj hi
      omega
    · left
      have e : nwW W i j c = nwIt W i j c 16 := by
        unfold nwW
        rw [if_neg (fun q => by
          rcases q with q | q
          · exact h1 q
          · rw [r] at q
            omega)]
      refine ⟨by
        unfold nwOk
        exact decide_eq_true (Or.inr (by rw [r]; omega)), ?_⟩
      refine zt_nwC hC hi hj (by omega) (fun p q hp hq => ?_)
      rw [e]
      show (nwIt W i j c 16 (4 * p + q)).toInt = _
      rw [zt_nwIt hC hi hj hc (by omega) 16 (Nat.le_refl _) (4 * p + q) (by omega), show (4 * p + q) / 4 = p by omega, show (4 * p + q) % 4 = q by omega]
      by_cases hl : zt_t W p i + c.toInt + zt_t W j q < zt_t W p q
      · rw [if_pos hl, if_pos ⟨by omega, hl⟩]
      · rw [if_neg hl, if_neg (fun q => hl q.2)]
        rfl
/-- fix -/
theorem zt_fx {W : Nat → Int32} {k : Nat} {x : Int32} (hC : zt_C (zt_t W)) (hk : k < 4) (hx : 0 ≤ x.toInt ∧ x.toInt ≤ 12) :
    (fxOk W k x = true ∧ zt_C (zt_t (fxW W k x)) ∧ ∀ v, zt_S (zt_t (fxW W k x)) v ↔ (zt_S (zt_t W) v ∧ v k - v 0 = x.toInt)) ∨ (fxOk W k x = false ∧ ∀ v, zt_S (zt_t W) v → v k - v 0 ≠ x.toInt) := by
  have hn : (-x).toInt = -x.toInt := zt_neg (by omega)
  rcases zt_nw (i := k) (j := 0) (c := x) hC hk (by omega) (by omega) with ⟨a1, a2, a3⟩ | ⟨a1, a2⟩
  · have ew : fxW W k x = nwW (nwW W k 0 x) 0 k (-x) := by unfold fxW; rw [if_pos a1]
    rcases zt_nw (i := 0) (j := k) (c := -x) a2 (by omega) hk (by omega) with ⟨b1, b2, b3⟩ | ⟨b1, b2⟩
    · left
      refine ⟨by unfold fxOk; rw [a1, b1]; rfl, by rw [ew]; exact b2, fun v => ?_⟩
      rw [ew, b3, a3, hn]
      constructor
      · rintro ⟨⟨q1, q2⟩, q3⟩
        exact ⟨q1, by omega⟩
      · rintro ⟨q1, q2⟩
        exact ⟨⟨q1, by omega⟩, by omega⟩
    · right
      refine ⟨by unfold fxOk; rw [a1, b1]; rfl, fun v hv q => ?_⟩
      have := b2 v ((a3 v).mpr ⟨hv, by omega⟩)
      omega
  · right
    refine ⟨by unfold fxOk; rw [a1]; rfl, fun v hv q => ?_⟩
    have := a2 v hv
    omega
/-- has -/
theorem zt_has {W : Nat → Int32} {a b c : Nat} (hC : zt_C (zt_t W)) (ha : a ≤ 12) (hb : b ≤ 12) (hc : c ≤ 12) : hasB W (nI a) (nI b) (nI c) = true ↔ zt_S (zt_t W) (zt_v (169 * a + 13 * b + c)) := by
  obtain ⟨v1, v2, v3⟩ := zt_abc ha hb hc
  have v0 := zt_v0 (169 * a + 13 * b + c)
  have ea : (nI a).toInt = a := nI_toInt (by omega)
  have eb : (nI b).toInt = b := nI_toInt (by omega)
  have ec : (nI c).toInt = c := nI_toInt (by omega)
  unfold hasB
  rcases zt_fx (k := 1) (x := nI a) hC (by omega) (by omega) with ⟨a1, a2, a3⟩ | ⟨a1, a2⟩
  · rcases zt_fx (k := 2) (x := nI b) a2 (by omega) (by omega) with ⟨b1, b2, b3⟩ | ⟨b1, b2⟩
    · rcases zt_fx (k := 3) (x := nI c) b2 (by omega) (by omega) with ⟨c1, c2, c3⟩ | ⟨c1, c2⟩
      · rw [a1, b1, c1]
        refine ⟨fun _ => ?_, fun _ => rfl⟩
        obtain ⟨p, hp, hs⟩ := zt_ne c2
        obtain ⟨hs2, e3⟩ := (c3 _).mp hs
        obtain ⟨hs1, e2⟩ := (b3 _).mp hs2
        obtain ⟨hs0, e1⟩ := (a3 _).mp hs1
        refine zt_S_sh (fun k hk => ?_) hs0
        rcases lt4 hk with rfl | rfl | rfl | rfl <;> omega
      · rw [a1, b1, c1]
        refine ⟨fun h => absurd h (by decide), fun h => ?_⟩
        exact absurd (by omega) (c2 _ ((b3 _).mpr ⟨(a3 _).mpr ⟨h, by omega⟩, by omega⟩))
    · rw [a1, b1]
      refine ⟨fun h => absurd h (by simp), fun h => ?_⟩
      exact absurd (by omega) (b2 _ ((a3 _).mpr ⟨h, by omega⟩))
  · rw [a1]
    refine ⟨fun h => absurd h (by simp), fun h => ?_⟩
    exact absurd (by omega) (a2 _ h)
end
section
/-! close: all ways over each clock in turn -/
def zt_ci (T : Nat → Int32) (o : Nat) : Nat → (Nat → Int32)
  | 0 => T
  | n + 1 => upd (zt_ci T o n) n (if (zt_ci T o n (4 * (n / 4) + o) + zt_ci T o n (4 * o + n % 4)).toInt < (zt_ci T o n n).toInt then zt_ci T o n (4 * (n / 4) + o) + zt_ci T o n (4 * o + n % 4) else zt_ci T o n n)
def zt_co (T : Nat → Int32) : Nat → (Nat → Int32)
  | 0 => T
  | n + 1 => zt_ci (zt_co T n) n 16
theorem tk_upd {f : Nat → Int32} {z n : Nat} {x : Int32} : tkW (upd f (16 * z + n) x) z = upd (tkW f z) n x := by
  funext k
  unfold tkW
  by_cases h : k = n
  · rw [h, pk_us, pk_us]
  · rw [pk_un h, pk_un (by omega)]
theorem tk_upd_ne {f : Nat → Int32} {y z n k : Nat} {x : Int32} (h : y ≠ z) (hn : n < 16) (hk : k < 16) : tkW (upd f (16 * z + n) x) y k = tkW f y k := by
  unfold tkW
  rw [pk_un (by omega)]
theorem tk_clWay {g : Nat → Int32} {z o n : Nat} : clWay g z o n = tkW g z (4 * (n / 4) + o) + tkW g z (4 * o + n % 4) := by
  simp only [clWay, tkW, Nat.add_assoc]
theorem tk_clIn {f : Nat → Int32} {z o : Nat} : ∀ n, tkW (clIn f z o n) z = zt_ci (tkW f z) o n
  | 0 => rfl
  | n + 1 => by
    have ih := tk_clIn (f := f) (z := z) (o := o) n
    rw [clIn, zt_ci, tk_upd, tk_clWay, ih, show clIn f z o n (16 * z + n) = zt_ci (tkW f z) o n n by rw [← ih]; rfl]
theorem tk_clOut {f : Nat → Int32} {z : Nat} : ∀ n, tkW (clOut f z n) z = zt_co (tkW f z) n
  | 0 => rfl
  | n + 1 => by rw [clOut, zt_co, tk_clIn, tk_clOut n]
theorem tk_clIn_ne {f : Nat → Int32} {y z o k : Nat} (h : y ≠ z) (hk : k < 16) : ∀ n, n ≤ 16 → tkW (clIn f z o n) y k = tkW f y k
  | 0, _ => rfl
  | n + 1, hn => by rw [clIn, tk_upd_ne h (by omega) hk, tk_clIn_ne h hk n (by omega)]
theorem tk_clOut_ne {f : Nat → Int32} {y z k : Nat} (h : y ≠ z) (hk : k < 16) : ∀ n, tkW (clOut f z n) y k = tkW f y k
  | 0 => rfl
  | n + 1 => by rw [clOut, tk_clIn_ne h hk 16 (Nat.le_refl _), tk_clOut_ne h hk n]
theorem clN_ne {f : Nat → Int32} {fN : Nat → Bool} {y z : Nat} (h : y ≠ z) : ∀ n, clN f fN z n y = fN y
  | 0 => rfl
  | n + 1 => by rw [clN, updB_ne h, clN_ne h n]
theorem clN_iff {f : Nat → Int32} {fN : Nat → Bool} {z : Nat} : ∀ n, clN f fN z n z = true ↔ (fN z = true ∨ ∃ p, p < n ∧ (f (16 * z + 4 * p + p)).toInt < 0)
  | 0 => by
    rw [clN]
    constructor
    · exact Or.inl
    · rintro (h | ⟨p, h, _⟩)
      · exact h
      · omega
  | n + 1 => by
    rw [clN, updB_self, Bool.or_eq_true, clN_iff n, decide_eq_true_iff]
    constructor
    · rintro ((h | ⟨p, h1, h2⟩) | h)
      · exact Or.inl h
      · exact Or.inr ⟨p, by omega, h2⟩
      · exact Or.inr ⟨n, by omega, h⟩
    · rintro (h | ⟨p, h1, h2⟩)
      · exact Or.inl (Or.inl h)
      · by_cases e : p = n
        · rw [e] at h2
          exact Or.inr h2
        · exact Or.inl (Or.inr ⟨p, by omega, h2⟩)
theorem zt_ciM {T : Nat → Int32} {o : Nat} : ∀ n k, (zt_ci T o n k).toInt ≤ (T k).toInt
  | 0, k => Int.le_refl _
  | n + 1, k => by
    rw [zt_ci]
    have ih := zt_ciM (T := T) (o := o) n
    by_cases h : k = n
    · rw [h, pk_us]
      have := ih n
      split <;> omega
    · rw [pk_un h]
      exact ih k
theorem zt_coM {T : Nat → Int32} : ∀ n k, (zt_co T n k).toInt ≤ (T k).toInt
  | 0, k => Int.le_refl _
  | n + 1, k => by
    rw [zt_co]
    exact Int.le_trans (zt_ciM 16 k) (zt_coM n k)
theorem zt_ciE {T : Nat → Int32} {o : Nat} {L : Int} (ho : o < 4) (hL : 0 ≤ L ∧ L ≤ 1000) (hr : ∀ k, k < 16 → -L ≤ (T k).toInt ∧ (T k).toInt ≤ 12) (h0 : 0 ≤ zt_t T o o) :
    ∀ n, n ≤ 16 → ∀ k, k < 16 → (zt_ci T o n k).toInt = if k < n ∧ zt_t T (k / 4) o + zt_t T o (k % 4) < (T k).toInt then zt_t T (k / 4) o + zt_t T o (k % 4) else (T k).toInt := by
  intro n
  induction n with
  | zero =>
    intro _ k hk
    rw [if_neg (by omega)]
    rfl
  | succ n ih =>
    intro hn k hk
    have ih := ih (by omega)
    have e1 : (zt_ci T o n (4 * (n / 4) + o)).toInt = zt_t T (n / 4) o := by
      rw [ih (4 * (n / 4) + o) (by omega), show (4 * (n / 4) + o) / 4 = n / 4 by omega, show (4 * (n / 4) + o) % 4 = o by omega]
      exact if_neg (fun q => by
        have q2 : zt_t T (n / 4) o + zt_t T o o < zt_t T (n / 4) o := q.2
        omega)
    have e2 : (zt_ci T o n (4 * o + n % 4)).toInt = zt_t T o (n % 4) := by
      rw [ih (4 * o + n % 4) (by omega), show (4 * o + n % 4) / 4 = o by omega, show (4 * o + n % 4) % 4 = n % 4 by omega]
      exact if_neg (fun q => by
        have q2 : zt_t T o o + zt_t T o (n % 4) < zt_t T o (n % 4) := q.2
        omega)
    have e3 : (zt_ci T o n n).toInt = (T n).toInt := by
      rw [ih n (by omega), if_neg (by omega)]
    have b1 : -L ≤ zt_t T (n / 4) o ∧ zt_t T (n / 4) o ≤ 12 := hr (4 * (n / 4) + o) (by omega)
    have b2 : -L ≤ zt_t T o (n % 4) ∧ zt_t T o (n % 4) ≤ 12 := hr (4 * o + n % 4) (by omega)
    have e4 : (zt_ci T o n (4 * (n / 4) + o) + zt_ci T o n (4 * o + n % 4)).toInt = zt_t T (n / 4) o + zt_t T o (n % 4) := by
      rw [zt_add (by rw [e1]; omega) (by rw [e2]; omega), e1, e2]
    rw [zt_ci]
    by_cases hkn : k = n
    · rw [hkn, pk_us]
      by_cases hl : zt_t T (n / 4) o + zt_t T o (n % 4) < (T n).toInt
      · rw [if_pos (by rw [e4, e3]; exact hl), if_pos ⟨by omega, hl⟩, e4]
      · rw [if_neg (by rw [e4, e3]; exact hl), if_neg (fun q => hl q.2), e3]
    · rw [pk_un hkn, ih k hk]
      by_cases hl : zt_t T (k / 4) o + zt_t T o (k % 4) < (T k).toInt
      · by_cases hk2 : k < n
        · rw [if_pos ⟨hk2, hl⟩, if_pos ⟨by omega, hl⟩]
        · rw [if_neg (fun q => hk2 q.1), if_neg (fun q => by omega)]
      · rw [if_neg (fun q => hl q.2), if_neg (fun q => hl q.2)]
/-- the state behind the rounds over the clocks below n -/
def zt_Q (T0 T : Nat → Int32) (n : Nat) (L : Int) : Prop :=
  ((∃ p, p < 4 ∧ zt_t T p p < 0) ∧ ∀ v, ¬ zt_S (zt_t T0) v) ∨
  ((∀ p, p < 4 → 0 ≤ zt_t T p p) ∧ (∀ k, k < 16 → -L ≤ (T k).toInt ∧ (T k).toInt ≤ 12) ∧ (∀ r p q, r < n → p < 4 → q < 4 → zt_t T p q ≤ zt_t T p r + zt_t T r q) ∧ ∀ v, zt_S (zt_t T) v ↔ zt_S (zt_t T0) v)
theorem zt_Qs {T0 T : Nat → Int32} {n : Nat} {L : Int} (hn : n < 4) (hL : 12 ≤ L ∧ L ≤ 1000) (h : zt_Q T0 T n L) : zt_Q T0 (zt_ci T n 16) (n + 1) (2 * L) := by
  rcases h with ⟨⟨p, hp, h1⟩, h2⟩ | ⟨h1, h2, h3, h4⟩
  · exact Or.inl ⟨⟨p, hp, Int.lt_of_le_of_lt (zt_ciM 16 _) h1⟩, h2⟩
  · have E := zt_ciE (T := T) hn (by omega) h2 (h1 n hn) 16 (Nat.le_refl _)
    have hN : ∀ p q, p < 4 → q < 4 → zt_t (zt_ci T n 16) p q = if zt_t T p n + zt_t T n q < zt_t T p q then zt_t T p n + zt_t T n q else zt_t T p q := by
      intro p q hp hq
      have e := E (4 * p + q) (by omega)
      rw [show (4 * p + q) / 4 = p by omega, show (4 * p + q) % 4 = q by omega] at e
      show (zt_ci T n 16 (4 * p + q)).toInt = _
      rw [e]
      by_cases hl : zt_t T p n + zt_t T n q < zt_t T p q
      · rw [if_pos hl, if_pos ⟨by omega, hl⟩]
      · rw [if_neg hl, if_neg (fun q => hl q.2)]
        rfl
    generalize hTN : zt_t (zt_ci T n 16) = N at hN
    have l1 : ∀ p q, p < 4 → q < 4 → N p q ≤ zt_t T p q := fun p q hp hq => by
      rw [hN p q hp hq]
      split <;> omega
    have l2 : ∀ p q, p < 4 → q < 4 → N p q ≤ zt_t T p n + zt_t T n q := fun p q hp hq => by
      rw [hN p q hp hq]
      split <;> omega
    have l3 : ∀ p q, p < 4 → q < 4 → N p q = zt_t T p q ∨ N p q = zt_t T p n + zt_t T n q := fun p q hp hq => by
      rw [hN p q hp hq]
      split
      · exact Or.inr rfl
      · exact Or.inl rfl
    have hS : ∀ v, zt_S N v ↔ zt_S (zt_t T0) v := fun v => by
      rw [← h4 v]
      refine ⟨fun h p q hp hq => Int.le_trans (h p q hp hq) (l1 p q hp hq), fun h p q hp hq => ?_⟩
      have a := h p q hp hq
      have b := h p n hp hn
      have c := h n q hn hq
      rcases l3 p q hp hq with e | e <;> omega
    unfold zt_Q
    rw [hTN]
    by_cases hneg : ∃ p, p < 4 ∧ N p p < 0
    · refine Or.inl ⟨hneg, fun v hv => ?_⟩
      obtain ⟨p, hp, hlt⟩ := hneg
      have := (hS v).mpr hv p p hp hp
      omega
    · refine Or.inr ⟨fun p hp => ?_, fun k hk => ?_, fun r p q hr hp hq => ?_, hS⟩
      · by_cases q : N p p < 0
        · exact absurd ⟨p, hp, q⟩ hneg
        · omega
      · have e := E k hk
        have b0 := h2 k hk
        have b1 : -L ≤ zt_t T (k / 4) n ∧ zt_t T (k / 4) n ≤ 12 := h2 (4 * (k / 4) + n) (by omega)
        have b2 : -L ≤ zt_t T n (k % 4) ∧ zt_t T n (k % 4) ≤ 12 := h2 (4 * n + k % 4) (by omega)
        rw [e]
        split <;> omega
      · have a1 := l1 p q hp hq
        have a2 := l2 p q hp hq
        have d := h1 n hn
        by_cases hrn : r = n
        · rw [hrn]
          rcases l3 p n hp hn with e | e <;> rcases l3 n q hn hq with e' | e' <;> omega
        · have hr : r < n := by omega
          have b1 := h3 r p q hr hp hq
          have b2 := h3 r p n hr hp hn
          have b3 := h3 r n q hr hn hq
          have b4 := h3 r n n hr hn hn
          rcases l3 p r hp (by omega) with e | e <;> rcases l3 r q (by omega) hq with e' | e' <;> omega
theorem zt_Q4 {T0 : Nat → Int32} (hr : ∀ k, k < 16 → -12 ≤ (T0 k).toInt ∧ (T0 k).toInt ≤ 12) (hd : ∀ p, p < 4 → zt_t T0 p p = 0) : zt_Q T0 (zt_co T0 4) 4 192 := by
  have q0 : zt_Q T0 (zt_co T0 0) 0 12 := Or.inr ⟨fun p hp => by rw [zt_co, hd p hp]; exact Int.le_refl _, hr, fun r p q h => by omega, fun v => Iff.rfl⟩
  have q1 := zt_Qs (by omega) (by omega) q0
  have q2 := zt_Qs (by omega) (by omega) q1
  have q3 := zt_Qs (by omega) (by omega) q2
  exact zt_Qs (by omega) (by omega) q3
/-- close -/
theorem zt_cl {f : Nat → Int32} {fN : Nat → Bool} {z : Nat} (hN : fN z = false) (hr : ∀ k, k < 16 → -12 ≤ (tkW f z k).toInt ∧ (tkW f z k).toInt ≤ 12) (hd : ∀ p, p < 4 → zt_t (tkW f z) p p = 0) (h0 : ∀ p, p < 4 → zt_t (tkW f z) 0 p ≤ 0) :
    (clN (clOut f z 4) fN z 4 z = true ∧ ∀ v, ¬ zt_S (zt_t (tkW f z)) v) ∨ (clN (clOut f z 4) fN z 4 z = false ∧ zt_C (zt_t (tkW (clOut f z 4) z)) ∧ ∀ v, zt_S (zt_t (tkW (clOut f z 4) z)) v ↔ zt_S (zt_t (tkW f z)) v) := by
  have hq := zt_Q4 hr hd
  have hm : ∀ k, (zt_co (tkW f z) 4 k).toInt ≤ (tkW f z k).toInt := zt_coM 4
  rw [← tk_clOut 4] at hq hm
  have hi := clN_iff (f := clOut f z 4) (fN := fN) (z := z) 4
  rcases hq with ⟨⟨p, hp, h1⟩, h2⟩ | ⟨h1, h2, h3, h4⟩
  · refine Or.inl ⟨hi.mpr (Or.inr ⟨p, hp, ?_⟩), h2⟩
    rw [Nat.add_assoc]
    exact h1
  · refine Or.inr ⟨?_, ⟨fun p hp => ?_, fun p r q hp hr hq => h3 r p q hr hp hq, fun p hp => (h2 (4 * p + 0) (by omega)).2, fun p hp => Int.le_trans (hm (4 * 0 + p)) (h0 p hp)⟩, h4⟩
    · refine Bool.eq_false_iff.mpr (fun q => ?_)
      rcases hi.mp q with q | ⟨p, hp, q⟩
      · rw [hN] at q
        cases q
      · rw [Nat.add_assoc] at q
        have : 0 ≤ (clOut f z 4 (16 * z + (4 * p + p))).toInt := h1 p hp
        omega
    · have a := h1 p hp
      have b : zt_t (tkW (clOut f z 4) z) p p ≤ zt_t (tkW f z) p p := hm (4 * p + p)
      have c := hd p hp
      omega
end
section
/-! set, free, follow, pass, back: the tables that they make; the model's readings -/
def zt_st (T : Nat → Int32) (c : Nat) (v : Int32) : Nat → (Nat → Int32)
  | 0 => T
  | n + 1 => if n = c then zt_st T c v n else upd (upd (zt_st T c v n) (4 * c + n) (v + zt_st T c v n n)) (4 * n + c) (upd (zt_st T c v n) (4 * c + n) (v + zt_st T c v n n) (4 * n) - v)
theorem tk_stF {f : Nat → Int32} {z c : Nat} {v : Int32} : ∀ n, tkW (stF f z c v n) z = zt_st (tkW f z) c v n
  | 0 => rfl
  | n + 1 => by
    have ih := tk_stF (f := f) (z := z) (c := c) (v := v) n
    rw [stF, zt_st]
    by_cases h : n = c
    · rw [if_pos h, if_pos h, ih]
    · rw [if_neg h, if_neg h]
      have e1 : stF f z c v n (16 * z + n) = zt_st (tkW f z) c v n n := by rw [← ih]; rfl
      generalize stF f z c v n = X at ih e1 ⊢
      rw [e1]
      have e2 : ∀ y, upd X (16 * z + 4 * c + n) y (16 * z + 4 * n) = upd (zt_st (tkW f z) c v n) (4 * c + n) y (4 * n) := fun y => by
        rw [Nat.add_assoc, ← ih, ← tk_upd]; rfl
      rw [e2, Nat.add_assoc (16 * z) (4 * n) c, tk_upd, Nat.add_assoc (16 * z) (4 * c) n, tk_upd, ih]
theorem tk_stF_ne {f : Nat → Int32} {y z c k : Nat} {v : Int32} (h : y ≠ z) (hc : c < 4) (hk : k < 16) : ∀ n, n ≤ 4 → tkW (stF f z c v n) y k = tkW f y k
  | 0, _ => rfl
  | n + 1, hn => by
    have ih := tk_stF_ne (f := f) (v := v) h hc hk n (by omega)
    rw [stF]
    by_cases h2 : n = c
    · rw [if_pos h2, ih]
    · rw [if_neg h2, Nat.add_assoc (16 * z) (4 * n) c, tk_upd_ne h (by omega) hk, Nat.add_assoc (16 * z) (4 * c) n, tk_upd_ne h (by omega) hk, ih]
theorem zt_stE {T : Nat → Int32} {c : Nat} {v : Int32} (hc : 1 ≤ c ∧ c < 4) {p q : Nat} (hp : p < 4) (hq : q < 4) : zt_st T c v 4 (4 * p + q) = if p = c then (if q = c then T (4 * p + q) else v + T q) else if q = c then T (4 * p) - v else T (4 * p + q) := by
  have hc : c = 1 ∨ c = 2 ∨ c = 3 := by omega
  rcases hc with rfl | rfl | rfl <;> rcases lt4 hp with rfl | rfl | rfl | rfl <;> rcases lt4 hq with rfl | rfl | rfl | rfl <;> simp [zt_st, upd]
def zt_fr (T : Nat → Int32) (c : Nat) : Nat → (Nat → Int32)
  | 0 => T
  | n + 1 => if n = c then zt_fr T c n else upd (upd (zt_fr T c n) (4 * c + n) (nI 12 + zt_fr T c n n)) (4 * n + c) (upd (zt_fr T c n) (4 * c + n) (nI 12 + zt_fr T c n n) (4 * n))
theorem tk_frF {f : Nat → Int32} {z c : Nat} : ∀ n, tkW (frF f z c n) z = zt_fr (tkW f z) c n
  | 0 => rfl
  | n + 1 => by
    have ih := tk_frF (f := f) (z := z) (c := c) n
    rw [frF, zt_fr]
    by_cases h : n = c
    · rw [if_pos h, if_pos h, ih]
    · rw [if_neg h, if_neg h]
      have e1 : frF f z c n (16 * z + n) = zt_fr (tkW f z) c n n := by rw [← ih]; rfl
      generalize frF f z c n = X at ih e1 ⊢
      rw [e1]
      have e2 : ∀ y, upd X (16 * z + 4 * c + n) y (16 * z + 4 * n) = upd (zt_fr (tkW f z) c n) (4 * c + n) y (4 * n) := fun y => by
        rw [Nat.add_assoc, ← ih, ← tk_upd]; rfl
      rw [e2, Nat.add_assoc (16 * z) (4 * n) c, tk_upd, Nat.add_assoc (16 * z) (4 * c) n, tk_upd, ih]
theorem tk_frF_ne {f : Nat → Int32} {y z c k : Nat} (h : y ≠ z) (hc : c < 4) (hk : k < 16) : ∀ n, n ≤ 4 → tkW (frF f z c n) y k = tkW f y k
  | 0, _ => rfl
  | n + 1, hn => by
    have ih := tk_frF_ne (f := f) h hc hk n (by omega)
    rw [frF]
    by_cases h2 : n = c
    · rw [if_pos h2, ih]
    · rw [if_neg h2, Nat.add_assoc (16 * z) (4 * n) c, tk_upd_ne h (by omega) hk, Nat.add_assoc (16 * z) (4 * c) n, tk_upd_ne h (by omega) hk, ih]
theorem zt_frE {T : Nat → Int32} {c : Nat} (hc : 1 ≤ c ∧ c < 4) {p q : Nat} (hp : p < 4) (hq : q < 4) : zt_fr T c 4 (4 * p + q) = if p = c then (if q = c then T (4 * p + q) else nI 12 + T q) else if q = c then T (4 * p) else T (4 * p + q) := by
  have hc : c = 1 ∨ c = 2 ∨ c = 3 := by omega
  rcases hc with rfl | rfl | rfl <;> rcases lt4 hp with rfl | rfl | rfl | rfl <;> rcases lt4 hq with rfl | rfl | rfl | rfl <;> simp [zt_fr, upd]
def zt_fl (T : Nat → Int32) (i j : Nat) : Nat → (Nat → Int32)
  | 0 => T
  | n + 1 => if n = i then zt_fl T i j n else upd (upd (zt_fl T i j n) (4 * i + n) (zt_fl T i j n (4 * j + n))) (4 * n + i) (upd (zt_fl T i j n) (4 * i + n) (zt_fl T i j n (4 * j + n)) (4 * n + j))
theorem tk_flF {f : Nat → Int32} {z i j : Nat} : ∀ n, tkW (flF f z i j n) z = zt_fl (tkW f z) i j n
  | 0 => rfl
  | n + 1 => by
    have ih := tk_flF (f := f) (z := z) (i := i) (j := j) n
    rw [flF, zt_fl]
    by_cases h : n = i
    · rw [if_pos h, if_pos h, ih]
    · rw [if_neg h, if_neg h]
      have e1 : flF f z i j n (16 * z + 4 * j + n) = zt_fl (tkW f z) i j n (4 * j + n) := by rw [← ih, Nat.add_assoc]; rfl
      generalize flF f z i j n = X at ih e1 ⊢
      rw [e1]
      have e2 : ∀ y, upd X (16 * z + 4 * i + n) y (16 * z + 4 * n + j) = upd (zt_fl (tkW f z) i j n) (4 * i + n) y (4 * n + j) := fun y => by
        rw [Nat.add_assoc (16 * z) (4 * i) n, Nat.add_assoc (16 * z) (4 * n) j, ← ih, ← tk_upd]; rfl
      rw [e2, Nat.add_assoc (16 * z) (4 * n) i, tk_upd, Nat.add_assoc (16 * z) (4 * i) n, tk_upd, ih]
theorem tk_flF_ne {f : Nat → Int32} {y z i j k : Nat} (h : y ≠ z) (hi : i < 4) (hk : k < 16) : ∀ n, n ≤ 4 → tkW (flF f z i j n) y k = tkW f y k
  | 0, _ => rfl
  | n + 1, hn => by
    have ih := tk_flF_ne (f := f) (j := j) h hi hk n (by omega)
    rw [flF]
    by_cases h2 : n = i
    · rw [if_pos h2, ih]
    · rw [if_neg h2, Nat.add_assoc (16 * z) (4 * n) i, tk_upd_ne h (by omega) hk, Nat.add_assoc (16 * z) (4 * i) n, tk_upd_ne h (by omega) hk, ih]
theorem zt_flE {T : Nat → Int32} {i j : Nat} (hi : 1 ≤ i ∧ i < 4) (hj : 1 ≤ j ∧ j < 4) (hij : i ≠ j) {p q : Nat} (hp : p < 4) (hq : q < 4) : zt_fl T i j 4 (4 * p + q) = if p = i then (if q = i then T (4 * p + q) else T (4 * j + q)) else if q = i then T (4 * p + j) else T (4 * p + q) := by
  have hi : i = 1 ∨ i = 2 ∨ i = 3 := by omega
  have hj : j = 1 ∨ j = 2 ∨ j = 3 := by omega
  rcases hi with rfl | rfl | rfl <;> rcases hj with rfl | rfl | rfl <;> first | exact absurd rfl hij | skip
  all_goals rcases lt4 hp with rfl | rfl | rfl | rfl <;> rcases lt4 hq with rfl | rfl | rfl | rfl <;> simp [zt_fl, upd]
/-- the same, on bounds: set -/
theorem zt_setC {M N : Nat → Nat → Int} {c : Nat} {x : Int} (hC : zt_C M) (hc : 1 ≤ c ∧ c < 4) (hx : 0 ≤ x ∧ x ≤ 12)
    (hN : ∀ p q, p < 4 → q < 4 → N p q = if p = c then (if q = c then 0 else x + M 0 q) else if q = c then M p 0 - x else M p q) :
    zt_C N ∧ ∀ v : Nat → Int, v 0 = 0 → (zt_S N v ↔ (v c = x ∧ ∀ i j, i < 4 → j < 4 → i ≠ c → j ≠ c → v i - v j ≤ M i j)) := by
  have h00 := hC.1 0 (by omega)
  refine ⟨⟨fun p hp => ?_, fun p r q hp hr hq => ?_, fun p hp => ?_, fun p hp => ?_⟩, fun v hv => ⟨fun h => ⟨?_, fun i j hi hj hic hjc => ?_⟩, fun h i j hi hj => ?_⟩⟩
  · have := hC.1 p hp
    rw [hN p p hp hp]
    split <;> omega
  · have a1 := hC.2.1 p r q hp hr hq
    have a2 := hC.2.1 p 0 q hp (by omega) hq
    have a3 := hC.2.1 p r 0 hp hr (by omega)
    have a4 := hC.2.1 0 r q (by omega) hr hq
    have a5 := hC.2.1 0 r 0 (by omega) hr (by omega)
    rw [hN p q hp hq, hN p r hp hr, hN r q hr hq]
    by_cases e1 : p = c <;> by_cases e2 : q = c <;> by_cases e3 : r = c <;> simp only [e1, e2, e3, if_true, if_false] at * <;> omega
  · have a := hC.2.2.1 p hp
    rw [hN p 0 hp (by omega), if_neg (show ¬ 0 = c by omega), if_neg (show ¬ 0 = c by omega)]
    split <;> omega
  · have a := hC.2.2.2 p hp
    rw [hN 0 p (by omega) hp, if_neg (show ¬ 0 = c by omega)]
    split <;> omega
  · have a := h c 0 hc.2 (by omega)
    have b := h 0 c (by omega) hc.2
    rw [hN c 0 hc.2 (by omega), if_pos rfl, if_neg (show ¬ 0 = c by omega)] at a
    rw [hN 0 c (by omega) hc.2, if_neg (show ¬ 0 = c by omega), if_pos rfl] at b
    omega
  · have a := h i j hi hj
    rw [hN i j hi hj, if_neg hic, if_neg hjc] at a
    exact a
  · rw [hN i j hi hj]
    by_cases e1 : i = c
    · by_cases e2 : j = c
      · rw [if_pos e1, if_pos e2, e1, e2]; omega
      · have a := h.2 0 j (by omega) hj (by omega) e2
        rw [if_pos e1, if_neg e2, e1]; omega
    · by_cases e2 : j = c
      · have a := h.2 i 0 hi (by omega) e1 (by omega)
        rw [if_neg e1, if_pos e2, e2]; omega
      · have a := h.2 i j hi hj e1 e2
        rw [if_neg e1, if_neg e2]; exact a
/-- free -/
theorem zt_freeC {M N : Nat → Nat → Int} {c : Nat} (hC : zt_C M) (hc : 1 ≤ c ∧ c < 4)
    (hN : ∀ p q, p < 4 → q < 4 → N p q = if p = c then (if q = c then 0 else 12 + M 0 q) else if q = c then M p 0 else M p q) :
    zt_C N ∧ ∀ v : Nat → Int, v 0 = 0 → 0 ≤ v c → v c ≤ 12 → (zt_S N v ↔ ∀ i j, i < 4 → j < 4 → i ≠ c → j ≠ c → v i - v j ≤ M i j) := by
  have h00 := hC.1 0 (by omega)
  refine ⟨⟨fun p hp => ?_, fun p r q hp hr hq => ?_, fun p hp => ?_, fun p hp => ?_⟩, fun v hv hv1 hv2 => ⟨fun h i j hi hj hic hjc => ?_, fun h i j hi hj => ?_⟩⟩
  · have := hC.1 p hp
    rw [hN p p hp hp]
    split <;> omega
  · have a1 := hC.2.1 p r q hp hr hq
    have a2 := hC.2.1 p 0 q hp (by omega) hq
    have a3 := hC.2.1 p r 0 hp hr (by omega)
    have a4 := hC.2.1 0 r q (by omega) hr hq
    have a5 := hC.2.1 0 r 0 (by omega) hr (by omega)
    rw [hN p q hp hq, hN p r hp hr, hN r q hr hq]
    by_cases e1 : p = c <;> by_cases e2 : q = c <;> by_cases e3 : r = c <;> simp only [e1, e2, e3, if_true, if_false] at * <;> omega
  · have a := hC.2.2.1 p hp
    rw [hN p 0 hp (by omega), if_neg (show ¬ 0 = c by omega), if_neg (show ¬ 0 = c by omega)]
    split <;> omega
  · have a := hC.2.2.2 p hp
    rw [hN 0 p (by omega) hp, if_neg (show ¬ 0 = c by omega)]
    split <;> omega
  · have a := h i j hi hj
    rw [hN i j hi hj, if_neg hic, if_neg hjc] at a
    exact a
  · rw [hN i j hi hj]
    by_cases e1 : i = c
    · by_cases e2 : j = c
      · rw [if_pos e1, if_pos e2, e1, e2]; omega
      · have a := h 0 j (by omega) hj (by omega) e2
        rw [if_pos e1, if_neg e2, e1]; omega
    · by_cases e2 : j = c
      · have a := h i 0 hi (by omega) e1 (by omega)
        rw [if_neg e1, if_pos e2, e2]; omega
      · have a := h i j hi hj e1 e2
        rw [if_neg e1, if_neg e2]; exact a
/-- follow -/
theorem zt_folC {M N : Nat → Nat → Int} {c d : Nat} (hC : zt_C M) (hc : 1 ≤ c ∧ c < 4) (hd : 1 ≤ d ∧ d < 4) (hcd : c ≠ d)
    (hN : ∀ p q, p < 4 → q < 4 → N p q = if p = c then (if q = c then 0 else M d q) else if q = c then M p d else M p q) :
    zt_C N ∧ ∀ v : Nat → Int, (zt_S N v ↔ (v c = v d ∧ ∀ i j, i < 4 → j < 4 → i ≠ c → j ≠ c → v i - v j ≤ M i j)) := by
  have h00 := hC.1 d hd.2
  refine ⟨⟨fun p hp => ?_, fun p r q hp hr hq => ?_, fun p hp => ?_, fun p hp => ?_⟩, fun v => ⟨fun h => ⟨?_, fun i j hi hj hic hjc => ?_⟩, fun h i j hi hj => ?_⟩⟩
  · have := hC.1 p hp
    rw [hN p p hp hp]
    split <;> omega
  · have a1 := hC.2.1 p r q hp hr hq
    have a2 := hC.2.1 p d q hp hd.2 hq
    have a3 := hC.2.1 p r d hp hr hd.2
    have a4 := hC.2.1 d r q hd.2 hr hq
    have a5 := hC.2.1 d r d hd.2 hr hd.2
    rw [hN p q hp hq, hN p r hp hr, hN r q hr hq]
    by_cases e1 : p = c <;> by_cases e2 : q = c <;> by_cases e3 : r = c <;> simp only [e1, e2, e3, if_true, if_false] at * <;> omega
  · have a := hC.2.2.1 p hp
    have b := hC.2.2.1 d hd.2
    rw [hN p 0 hp (by omega), if_neg (show ¬ 0 = c by omega), if_neg (show ¬ 0 = c by omega)]
    split <;> omega
  · have a := hC.2.2.2 p hp
    have b := hC.2.2.2 d hd.2
    rw [hN 0 p (by omega) hp, if_neg (show ¬ 0 = c by omega)]
    split <;> omega
  · have a := h c d hc.2 hd.2
    have b := h d c hd.2 hc.2
    rw [hN c d hc.2 hd.2, if_pos rfl, if_neg (fun q => hcd q.symm)] at a
    rw [hN d c hd.2 hc.2, if_neg (fun q => hcd q.symm), if_pos rfl] at b
    omega
  · have a := h i j hi hj
    rw [hN i j hi hj, if_neg hic, if_neg hjc] at a
    exact a
  · rw [hN i j hi hj]
    by_cases e1 : i = c
    · by_cases e2 : j = c
      · rw [if_pos e1, if_pos e2, e1, e2]; omega
      · have a := h.2 d j hd.2 hj (fun q => hcd q.symm) e2
        rw [if_pos e1, if_neg e2, e1, h.1]; exact a
    · by_cases e2 : j = c
      · have a := h.2 i d hi hd.2 e1 (fun q => hcd q.symm)
        rw [if_neg e1, if_pos e2, e2, h.1]; exact a
      · have a := h.2 i j hi hj e1 e2
        rw [if_neg e1, if_neg e2]; exact a
/-- the model's readings with one clock put anew -/
theorem zt_wt {p k w t : Nat} (hp : p < 2197) (hk : 1 ≤ k ∧ k < 4) (hw : w ≤ 12) (ht : t < 4) : zt_v (wt p k w) t = zt_u (zt_v p) k w t := by
  have hk : k = 1 ∨ k = 2 ∨ k = 3 := by omega
  rcases hk with rfl | rfl | rfl <;> rcases lt4 ht with rfl | rfl | rfl | rfl <;> simp only [zt_v, zt_u, wt, vl_v0, vl_v1, vl_v2, vl_v3, if_true, if_false, Nat.reduceEqDiff, Nat.one_ne_zero, Nat.zero_ne_one] <;> omega
theorem zt_at {M : Nat → Nat → Int} {m : Nat → Bool} (hC : zt_C M) (hm : ∀ p, p < 2197 → (m p = true ↔ zt_S M (zt_v p))) {p k : Nat} (hp : p < 2197) (hk : 1 ≤ k ∧ k < 4) :
    anyUp (fun v => m (wt p k v)) 13 = true ↔ ∀ i j, i < 4 → j < 4 → i ≠ k → j ≠ k → zt_v p i - zt_v p j ≤ M i j := by
  rw [anyUp_iff]
  constructor
  · rintro ⟨w, hw, h⟩ i j hi hj hik hjk
    have a := (hm _ (wt_lt hp (by omega))).mp h i j hi hj
    rw [zt_wt hp hk (by omega) hi, zt_wt hp hk (by omega) hj] at a
    unfold zt_u at a
    rw [if_neg hik, if_neg hjk] at a
    exact a
  · intro h
    obtain ⟨w, h1, h2, h3⟩ := zt_proj hC hk (zt_v0 p) h
    refine ⟨w.toNat, by omega, (hm _ (wt_lt hp (by omega))).mpr ?_⟩
    refine zt_S_congr (fun t ht => ?_) h3
    rw [zt_wt hp hk (by omega) ht, show ((w.toNat : Nat) : Int) = w by omega]
/-- all clocks moved back -/
theorem zt_vP {p d k : Nat} (hp : p < 2197) (h1 : d ≤ vl p 1) (h2 : d ≤ vl p 2) (h3 : d ≤ vl p 3) (hk : k < 4) (h0 : k ≠ 0) : p - 183 * d < 2197 ∧ 183 * d ≤ p ∧ zt_v (p - 183 * d) k = zt_v p k - d := by
  have e := vl_all hp
  have r1 := vl_le (k := 1) hp
  have r2 := vl_le (k := 2) hp
  have r3 := vl_le (k := 3) hp
  have x1 : zt_v p 1 = ((vl p 1 : Nat) : Int) := rfl
  have x2 : zt_v p 2 = ((vl p 2 : Nat) : Int) := rfl
  have x3 : zt_v p 3 = ((vl p 3 : Nat) : Int) := rfl
  have e2 : p - 183 * d = 169 * (vl p 1 - d) + 13 * (vl p 2 - d) + (vl p 3 - d) := by omega
  obtain ⟨a1, a2, a3⟩ := zt_abc (a := vl p 1 - d) (b := vl p 2 - d) (c := vl p 3 - d) (by omega) (by omega) (by omega)
  refine ⟨by omega, by omega, ?_⟩
  rw [e2]
  rcases lt4 hk with rfl | rfl | rfl | rfl
  · exact absurd rfl h0
  · rw [a1, x1]; omega
  · rw [a2, x2]; omega
  · rw [a3, x3]; omega
theorem zt_vB {p d k : Nat} (hp : p < 2197) (h1 : vl p 1 + d ≤ 12) (h2 : vl p 2 + d ≤ 12) (h3 : vl p 3 + d ≤ 12) (hk : k < 4) (h0 : k ≠ 0) : p + 183 * d < 2197 ∧ zt_v (p + 183 * d) k = zt_v p k + d := by
  have e := vl_all hp
  have x1 : zt_v p 1 = ((vl p 1 : Nat) : Int) := rfl
  have x2 : zt_v p 2 = ((vl p 2 : Nat) : Int) := rfl
  have x3 : zt_v p 3 = ((vl p 3 : Nat) : Int) := rfl
  have e2 : p + 183 * d = 169 * (vl p 1 + d) + 13 * (vl p 2 + d) + (vl p 3 + d) := by omega
  obtain ⟨a1, a2, a3⟩ := zt_abc (a := vl p 1 + d) (b := vl p 2 + d) (c := vl p 3 + d) (by omega) (by omega) (by omega)
  refine ⟨by omega, ?_⟩
  rw [e2]
  rcases lt4 hk with rfl | rfl | rfl | rfl
  · exact absurd rfl h0
  · rw [a1, x1]; omega
  · rw [a2, x2]; omega
  · rw [a3, x3]; omega
theorem zt_passE {M A : Nat → Nat → Int} {m : Nat → Bool} (hC : zt_C M) (hm : ∀ p, p < 2197 → (m p = true ↔ zt_S M (zt_v p))) (hA : ∀ p q, p < 4 → q < 4 → A p q = if q = 0 ∧ p ≠ 0 then 12 else M p q) {p : Nat} (hp : p < 2197) :
    anyUp (fun d => insP p d && m (p - 183 * d)) 13 = true ↔ zt_S A (zt_v p) := by
  rw [anyUp_iff]
  constructor
  · rintro ⟨d, hd, h⟩
    rw [Bool.and_eq_true] at h
    obtain ⟨hi, h⟩ := h
    obtain ⟨d1, d2, d3⟩ := of_decide_eq_true hi
    have hq := (zt_vP (k := 1) hp d1 d2 d3 (by omega) (by omega)).1
    have hs := (hm _ hq).mp h
    have ev : ∀ k, k < 4 → k ≠ 0 → zt_v (p - 183 * d) k = zt_v p k - d := fun k hk h0 => (zt_vP hp d1 d2 d3 hk h0).2.2
    have e0 := zt_v0 (p - 183 * d)
    have e0' := zt_v0 p
    intro i j hi hj
    have a := hs i j hi hj
    have r := (zt_vr hp i).2
    rw [hA i j hi hj]
    by_cases c1 : i = 0
    · rw [if_neg (fun q => q.2 c1)]
      by_cases c2 : j = 0
      · rw [c1, c2] at a ⊢; omega
      · rw [ev j hj c2, c1] at a
        rw [c1]; omega
    · by_cases c2 : j = 0
      · rw [if_pos ⟨c2, c1⟩, c2]; omega
      · rw [if_neg (fun q => c2 q.1)]
        rw [ev i hi c1, ev j hj c2] at a
        omega
  · intro h
    obtain ⟨k, hk, -, mx⟩ := zt_max (fun k => zt_v p k - M k 0) (fun _ => True) 4 ⟨0, by omega, trivial⟩
    have mx : ∀ t, t < 4 → zt_v p t - M t 0 ≤ zt_v p k - M k 0 := fun t ht => mx t ht trivial
    have e0 := zt_v0 p
    have m0 := mx 0 (by omega)
    have h00 := hC.1 0 (by omega)
    have up : ∀ j, j < 4 → j ≠ 0 → zt_v p k - M k 0 ≤ zt_v p j + M 0 j := fun j hj hj0 => by
      have a := h k j hk hj
      rw [hA k j hk hj, if_neg (fun q => hj0 q.1)] at a
      have b := hC.2.1 k 0 j hk (by omega) hj
      omega
    have up1 : ∀ j, j < 4 → j ≠ 0 → zt_v p k - M k 0 ≤ zt_v p j := fun j hj hj0 => by
      have a := up j hj hj0
      have b := hC.2.2.2 j hj
      omega
    have hd : ∃ d : Nat, (d : Int) = zt_v p k - M k 0 := ⟨(zt_v p k - M k 0).toNat, by omega⟩
    obtain ⟨d, hd⟩ := hd
    rw [← hd] at mx up up1
    have d1 : d ≤ vl p 1 := by have := up1 1 (by omega) (by omega); unfold zt_v at this; omega
    have d2 : d ≤ vl p 2 := by have := up1 2 (by omega) (by omega); unfold zt_v at this; omega
    have d3 : d ≤ vl p 3 := by have := up1 3 (by omega) (by omega); unfold zt_v at this; omega
    have ev : ∀ k, k < 4 → k ≠ 0 → zt_v (p - 183 * d) k = zt_v p k - d := fun k hk h0 => (zt_vP hp d1 d2 d3 hk h0).2.2
    have r := vl_le (k := 1) hp
    refine ⟨d, by omega, ?_⟩
    rw [Bool.and_eq_true]
    refine ⟨decide_eq_true ⟨d1, d2, d3⟩, (hm _ (zt_vP (k := 1) hp d1 d2 d3 (by omega) (by omega)).1).mpr ?_⟩
    have f0 := zt_v0 (p - 183 * d)
    intro i j hi hj
    have a := h i j hi hj
    rw [hA i j hi hj] at a
    by_cases c1 : i = 0
    · by_cases c2 : j = 0
      · rw [c1, c2]; omega
      · rw [c1, ev j hj c2]
        have := up j hj c2
        omega
    · by_cases c2 : j = 0
      · rw [c2, ev i hi c1]
        have := mx i hi
        omega
      · rw [if_neg (fun q => c2 q.1)] at a
        rw [ev i hi c1, ev j hj c2]
        omega
theorem zt_backE {M A : Nat → Nat → Int} {m : Nat → Bool} (hC : zt_C M) (hm : ∀ p, p < 2197 → (m p = true ↔ zt_S M (zt_v p))) (hA : ∀ p q, p < 4 → q < 4 → A p q = if p = 0 ∧ q ≠ 0 then 0 else M p q) {p : Nat} (hp : p < 2197) :
    anyUp (fun d => insB p d && m (p + 183 * d)) 13 = true ↔ zt_S A (zt_v p) := by
  rw [anyUp_iff]
  constructor
  · rintro ⟨d, hd, h⟩
    rw [Bool.and_eq_true] at h
    obtain ⟨hi, h⟩ := h
    obtain ⟨d1, d2, d3⟩ := of_decide_eq_true hi
    have hq := (zt_vB (k := 1) hp d1 d2 d3 (by omega) (by omega)).1
    have hs := (hm _ hq).mp h
    have ev : ∀ k, k < 4 → k ≠ 0 → zt_v (p + 183 * d) k = zt_v p k + d := fun k hk h0 => (zt_vB hp d1 d2 d3 hk h0).2
    have e0 := zt_v0 (p + 183 * d)
    have e0' := zt_v0 p
    intro i j hi hj
    have a := hs i j hi hj
    have r := (zt_vr hp j).1
    rw [hA i j hi hj]
    by_cases c1 : i = 0
    · by_cases c2 : j = 0
      · rw [if_neg (fun q => q.2 c2)]
        rw [c1, c2] at a ⊢; omega
      · rw [if_pos ⟨c1, c2⟩, c1]; omega
    · rw [if_neg (fun q => c1 q.1)]
      by_cases c2 : j = 0
      · rw [ev i hi c1, c2] at a
        rw [c2]; omega
      · rw [ev i hi c1, ev j hj c2] at a
        omega
  · intro h
    obtain ⟨k, hk, -, mx⟩ := zt_max (fun k => - zt_v p k - M 0 k) (fun _ => True) 4 ⟨0, by omega, trivial⟩
    have mx : ∀ t, t < 4 → - zt_v p t - M 0 t ≤ - zt_v p k - M 0 k := fun t ht => mx t ht trivial
    have e0 := zt_v0 p
    have m0 := mx 0 (by omega)
    have h00 := hC.1 0 (by omega)
    have up : ∀ i, i < 4 → i ≠ 0 → zt_v p i + (- zt_v p k - M 0 k) ≤ M i 0 := fun i hi hi0 => by
      have a := h i k hi hk
      rw [hA i k hi hk, if_neg (fun q => hi0 q.1)] at a
      have b := hC.2.1 i 0 k hi (by omega) hk
      omega
    have up1 : ∀ i, i < 4 → i ≠ 0 → zt_v p i + (- zt_v p k - M 0 k) ≤ 12 := fun i hi hi0 => by
      have a := up i hi hi0
      have b := hC.2.2.1 i hi
      omega
    have hd : ∃ d : Nat, (d : Int) = - zt_v p k - M 0 k := ⟨(- zt_v p k - M 0 k).toNat, by omega⟩
    obtain ⟨d, hd⟩ := hd
    rw [← hd] at mx up up1
    have d1 : vl p 1 + d ≤ 12 := by have := up1 1 (by omega) (by omega); unfold zt_v at this; omega
    have d2 : vl p 2 + d ≤ 12 := by have := up1 2 (by omega) (by omega); unfold zt_v at this; omega
    have d3 : vl p 3 + d ≤ 12 := by have := up1 3 (by omega) (by omega); unfold zt_v at this; omega
    have ev : ∀ k, k < 4 → k ≠ 0 → zt_v (p + 183 * d) k = zt_v p k + d := fun k hk h0 => (zt_vB hp d1 d2 d3 hk h0).2
    refine ⟨d, by omega, ?_⟩
    rw [Bool.and_eq_true]
    refine ⟨decide_eq_true ⟨d1, d2, d3⟩, (hm _ (zt_vB (k := 1) hp d1 d2 d3 (by omega) (by omega)).1).mpr ?_⟩
    have f0 := zt_v0 (p + 183 * d)
    intro i j hi hj
    have a := h i j hi hj
    rw [hA i j hi hj] at a
    by_cases c1 : i = 0
    · by_cases c2 : j = 0
      · rw [c1, c2]; omega
      · rw [c1, ev j hj c2]
        have := mx j hj
        omega
    · rw [if_neg (fun q => c1 q.1)] at a
      by_cases c2 : j = 0
      · rw [c2, ev i hi c1]
        have := up i hi c1
        omega
      · rw [ev i hi c1, ev j hj c2]
        omega
end
section
/-! the relation of the two classes' states -/
def zt_R (T : Nat → Int32) (n : Bool) (m : Nat → Bool) : Prop := (n = true ∧ ∀ p, p < 2197 → m p = false) ∨ (n = false ∧ zt_C (zt_t T) ∧ ∀ p, p < 2197 → (m p = true ↔ zt_S (zt_t T) (zt_v p)))
def zt_m (f : Nat → Bool) (z : Nat) : Nat → Bool := fun p => f (z * 2197 + p)
def zt_Rel (σ : SX) (τ : SM) : Prop := ∀ z, z < 3 → zt_R (tkW σ.1 z) (σ.2.1 z) (zt_m τ.1 z)
theorem zt_t_congr {T T' : Nat → Int32} (h : ∀ k, k < 16 → T k = T' k) {p q : Nat} (hp : p < 4) (hq : q < 4) : zt_t T p q = zt_t T' p q := by
  unfold zt_t
  rw [h (4 * p + q) (by omega)]
theorem zt_C_congr {M N : Nat → Nat → Int} (h : ∀ p q, p < 4 → q < 4 → M p q = N p q) (hC : zt_C M) : zt_C N :=
  ⟨fun i hi => by rw [← h i i hi hi]; exact hC.1 i hi, fun i j k hi hj hk => by rw [← h i k hi hk, ← h i j hi hj, ← h j k hj hk]; exact hC.2.1 i j k hi hj hk, fun i hi => by rw [← h i 0 hi (by omega)]; exact hC.2.2.1 i hi, fun i hi => by rw [← h 0 i (by omega) hi]; exact hC.2.2.2 i hi⟩
theorem zt_S_tc {M N : Nat → Nat → Int} (h : ∀ p q, p < 4 → q < 4 → M p q = N p q) {v : Nat → Int} : zt_S M v ↔ zt_S N v :=
  ⟨fun a i j hi hj => by rw [← h i j hi hj]; exact a i j hi hj, fun a i j hi hj => by rw [h i j hi hj]; exact a i j hi hj⟩
theorem zt_R_congr {T T' : Nat → Int32} {n n' : Bool} {m m' : Nat → Bool} (hT : ∀ k, k < 16 → T k = T' k) (hn : n = n') (hm : ∀ p, p < 2197 → m p = m' p) (h : zt_R T n m) : zt_R T' n' m' := by
  subst hn
  have ht : ∀ p q, p < 4 → q < 4 → zt_t T p q = zt_t T' p q := fun p q hp hq => zt_t_congr hT hp hq
  rcases h with ⟨a, b⟩ | ⟨a, b, c⟩
  · exact Or.inl ⟨a, fun p hp => by rw [← hm p hp]; exact b p hp⟩
  · exact Or.inr ⟨a, zt_C_congr ht b, fun p hp => by rw [← hm p hp, c p hp]; exact zt_S_tc ht⟩
/-- one zone anew -/
theorem zt_put {fB fB' fW fW' : Nat → Int32} {fN fN' fM fM' fD fD' : Nat → Bool} {y : Nat} (h : zt_Rel (fB, fN, fW) (fM, fD)) (hB : ∀ z k, z ≠ y → k < 16 → tkW fB' z k = tkW fB z k) (hN : ∀ z, z ≠ y → fN' z = fN z) (hM : ∀ z p, z ≠ y → p < 2197 → zt_m fM' z p = zt_m fM z p) (hy : zt_R (tkW fB' y) (fN' y) (zt_m fM' y)) : zt_Rel (fB', fN', fW') (fM', fD') := by
  intro z hz
  by_cases e : z = y
  · subst e
    exact hy
  · exact zt_R_congr (fun k hk => (hB z k e hk).symm) (hN z e).symm (fun p hp => (hM z p e hp).symm) (h z hz)
theorem zm_blk {fM g : Nat → Bool} {y p : Nat} (hp : p < 2197) : zt_m (blk fM (y * 2197) 2197 g) y p = g p := by
  unfold zt_m
  exact blk_in hp
theorem zm_blk_ne {fM g : Nat → Bool} {z y p : Nat} (h : z ≠ y) (hp : p < 2197) : zt_m (blk fM (y * 2197) 2197 g) z p = zt_m fM z p := by
  unfold zt_m
  exact blk_out (by omega)
theorem blk0_in {α : Type} {f g : Nat → α} {n t : Nat} (h : t < n) : blk f 0 n g t = g t := by
  have := blk_in (f := f) (g := g) (o := 0) h
  rwa [Nat.zero_add] at this
theorem zm_blk2 {fM fD g : Nat → Bool} {y p : Nat} (hp : p < 2197) : zt_m (blk fM (y * 2197) 2197 (blk fD 0 2197 g)) y p = g p := by
  rw [zm_blk hp, blk0_in hp]
theorem tk_blk {fB g : Nat → Int32} {y k : Nat} (hk : k < 16) : tkW (blk fB (16 * y) 16 g) y k = g k := by
  unfold tkW
  exact blk_in hk
theorem tk_blk_ne {fB g : Nat → Int32} {z y k : Nat} (h : z ≠ y) (hk : k < 16) : tkW (blk fB (16 * y) 16 g) z k = tkW fB z k := by
  unfold tkW
  exact blk_out (by omega)
theorem zt_some {f : Nat → Bool} {z : Nat} : someR f z = true ↔ ∃ p, p < 2197 ∧ zt_m f z p = true := anyUp_iff 2197
theorem zt_left {T : Nat → Int32} {n : Bool} {f : Nat → Bool} {z : Nat} (h : zt_R T n (zt_m f z)) : lfI n = zI (someR f z) := by
  rcases h with ⟨a, b⟩ | ⟨a, b, c⟩
  · have e : someR f z = false := Bool.eq_false_iff.mpr (fun q => by
      obtain ⟨p, hp, q⟩ := zt_some.mp q
      rw [b p hp] at q
      cases q)
    rw [a, e]
    exact zI_0
  · obtain ⟨p, hp, hs⟩ := zt_ne b
    have e : someR f z = true := zt_some.mpr ⟨p, hp, (c p hp).mpr hs⟩
    rw [a, e]
    exact zI_1
/-- the answer 'something is left', and one zone anew -/
theorem zt_fin {fB fB' fW fW' : Nat → Int32} {fN fN' fM fM' fD fD' : Nat → Bool} {y : Nat} {r1 r2 : Int32} (h : zt_Rel (fB, fN, fW) (fM, fD)) (hB : ∀ z k, z ≠ y → k < 16 → tkW fB' z k = tkW fB z k) (hN : ∀ z, z ≠ y → fN' z = fN z) (hM : ∀ z p, z ≠ y → p < 2197 → zt_m fM' z p = zt_m fM z p) (hy : zt_R (tkW fB' y) (fN' y) (zt_m fM' y)) (e1 : r1 = lfI (fN' y)) (e2 : r2 = zI (someR fM' y)) : r1 = r2 ∧ zt_Rel (fB', fN', fW') (fM', fD') :=
  ⟨by rw [e1, e2]; exact zt_left hy, zt_put h hB hN hM hy⟩
/-- both classes take a number for the same zone, clock, pair -/
theorem zz_Z {z0 : Int32} {g1 g2 : Nat → Prop} {b1 b2 P : Prop} (h1 : inZ z0 g1 b1) (h2 : inZ z0 g2 b2) (hg : ∀ z, z < 3 → g1 z → g2 z → P) (hb : b1 → b2 → P) : P := by
  rcases h1 with ⟨z, hz, e, a⟩ | ⟨n, a⟩
  · rcases h2 with ⟨z', hz', e', a'⟩ | ⟨n', a'⟩
    · have q : z = z' := (nI_eq (by omega) (by omega)).mp (e.symm.trans e')
      subst q
      exact hg z hz a a'
    · rw [e, nI_toInt (by omega)] at n'
      omega
  · rcases h2 with ⟨z', hz', e', a'⟩ | ⟨n', a'⟩
    · rw [e', nI_toInt (by omega)] at n
      omega
    · exact hb a a'
theorem zz_C {k0 : Int32} {g1 g2 : Nat → Prop} {b1 b2 P : Prop} (h1 : inC k0 g1 b1) (h2 : inC k0 g2 b2) (hg : ∀ k, 1 ≤ k ∧ k < 4 → g1 k → g2 k → P) (hb : b1 → b2 → P) : P := by
  rcases h1 with ⟨z, hz, e, a⟩ | ⟨n, a⟩
  · rcases h2 with ⟨z', hz', e', a'⟩ | ⟨n', a'⟩
    · have q : z = z' := (nI_eq (by omega) (by omega)).mp (e.symm.trans e')
      subst q
      exact hg z hz a a'
    · rw [e, nI_toInt (by omega)] at n'
      omega
  · rcases h2 with ⟨z', hz', e', a'⟩ | ⟨n', a'⟩
    · rw [e', nI_toInt (by omega)] at n
      omega
    · exact hb a a'
theorem zz_P {i0 j0 : Int32} {g1 g2 : Nat → Nat → Prop} {b1 b2 P : Prop} (h1 : inP i0 j0 g1 b1) (h2 : inP i0 j0 g2 b2) (hg : ∀ i j, i < 4 → j < 4 → i ≠ j → g1 i j → g2 i j → P) (hb : b1 → b2 → P) : P := by
  have key : ∀ i j : Nat, (i < 4 ∧ j < 4 ∧ i ≠ j) → i0 = nI i → j0 = nI j → ¬ (i0.toInt < 0 ∨ 3 < i0.toInt ∨ j0.toInt < 0 ∨ 3 < j0.toInt ∨ i0 = j0) := by
    intro i j hij ei ej q
    have q5 : ¬ i0 = j0 := fun e => hij.2.2 ((nI_eq (by omega) (by omega)).mp (ei.symm.trans (e.trans ej)))
    have a : i0.toInt = (i : Int) := by rw [ei]; exact nI_toInt (by omega)
    have b : j0.toInt = (j : Int) := by rw [ej]; exact nI_toInt (by omega)
    rcases q with q | q | q | q | q
    · omega
    · omega
    · omega
    · omega
    · exact q5 q
  rcases h1 with ⟨i, j, hij, ei, ej, a⟩ | ⟨n, a⟩
  · rcases h2 with ⟨i', j', hij', ei', ej', a'⟩ | ⟨n', a'⟩
    · have q : i = i' := (nI_eq (by omega) (by omega)).mp (ei.symm.trans ei')
      have q2 : j = j' := (nI_eq (by omega) (by omega)).mp (ej.symm.trans ej')
      subst q
      subst q2
      exact hg i j hij.1 hij.2.1 hij.2.2 a a'
    · exact absurd n' (key i j hij ei ej)
  · rcases h2 with ⟨i', j', hij', ei', ej', a'⟩ | ⟨n', a'⟩
    · exact absurd n (key i' j' hij' ei' ej')
    · exact hb a a'
theorem zt_dif {p i j : Nat} (hp : p < 2197) : (nI (vl p i) - nI (vl p j)).toInt = zt_v p i - zt_v p j := by
  have a := vl_le (k := i) hp
  have b := vl_le (k := j) hp
  exact pk_sub_toInt (by omega) (by omega)
/-- the box, and the single reading 0 -/
theorem zt_box : zt_R (fun k => boxV (k / 4) (k % 4)) false (fun _ => true) := by
  have ht : ∀ p q, p < 4 → q < 4 → zt_t (fun k => boxV (k / 4) (k % 4)) p q = if p = q ∨ p = 0 then 0 else 12 := by
    intro p q hp hq
    show (boxV ((4 * p + q) / 4) ((4 * p + q) % 4)).toInt = _
    rw [show (4 * p + q) / 4 = p by omega, show (4 * p + q) % 4 = q by omega]
    unfold boxV
    by_cases c : p = q ∨ p = 0
    · rw [if_pos c, if_pos c, nI_toInt (by omega)]; rfl
    · rw [if_neg c, if_neg c, nI_toInt (by omega)]; rfl
  refine Or.inr ⟨rfl, ⟨fun i hi => ?_, fun i j k hi hj hk => ?_, fun i hi => ?_, fun i hi => ?_⟩, fun p hp => ⟨fun _ i j hi hj => ?_, fun _ => rfl⟩⟩
  · rw [ht i i hi hi, if_pos (Or.inl rfl)]
  · rw [ht i k hi hk, ht i j hi hj, ht j k hj hk]
    split <;> split <;> split <;> omega
  · rw [ht i 0 hi (by omega)]
    split <;> omega
  · rw [ht 0 i (by omega) hi, if_pos (Or.inr rfl)]
    exact Int.le_refl _
  · rw [ht i j hi hj]
    have a := zt_vr hp i
    have b := zt_vr hp j
    have c := zt_v0 p
    split
    · rename_i e
      rcases e with e | e
      · rw [e]; omega
      · rw [e]; omega
    · omega
theorem zt_nil : zt_R (fun _ => nI 0) false (fun p => decide (p = 0)) := by
  have ht : ∀ p q, zt_t (fun _ => nI 0) p q = 0 := by
    intro p q
    show (nI 0).toInt = 0
    rw [nI_toInt (by omega)]; rfl
  refine Or.inr ⟨rfl, ⟨fun i hi => ht i i, fun i j k hi hj hk => ?_, fun i hi => ?_, fun i hi => ?_⟩, fun p hp => ?_⟩
  · rw [ht, ht, ht]; omega
  · rw [ht]; omega
  · rw [ht]; omega
  · rw [decide_eq_true_iff]
    have e := zt_num hp
    have e0 := zt_v0 p
    constructor
    · intro h i j hi hj
      have r1 := zt_vr hp 1
      have r2 := zt_vr hp 2
      have r3 := zt_vr hp 3
      rw [ht]
      rcases lt4 hi with rfl | rfl | rfl | rfl <;> rcases lt4 hj with rfl | rfl | rfl | rfl <;> omega
    · intro h
      have a1 := h 1 0 (by omega) (by omega)
      have a2 := h 2 0 (by omega) (by omega)
      have a3 := h 3 0 (by omega) (by omega)
      rw [ht] at a1 a2 a3
      omega
end
section
/-! each operation: both classes answer alike, and the relation is kept -/
section OPS
variable {fB fW : Nat → Int32} {fN fM fD : Nat → Bool} {r1 r2 : Int32} {u1 : SX} {u2 : SM}
theorem La_all {z0 : Int32} (h : zt_Rel (fB, fN, fW) (fM, fD)) (h1 : inZ z0 (fun z => r1 = nI 0 ∧ u1 = (blk fB (16 * z) 16 (fun k => boxV (k / 4) (k % 4)), updB fN z false, fW)) (r1 = (-1) ∧ u1 = (fB, fN, fW)))
    (h2 : inZ z0 (fun z => r2 = nI 0 ∧ u2 = (blk fM (z * 2197) 2197 (fun _ => true), fD)) (r2 = (-1) ∧ u2 = (fM, fD))) : r1 = r2 ∧ zt_Rel u1 u2 := by
  refine zz_Z h1 h2 (fun z hz a b => ?_) (fun a b => ?_)
  · obtain ⟨rfl, rfl⟩ := a
    obtain ⟨rfl, rfl⟩ := b
    refine ⟨rfl, zt_put (y := z) h (fun y k hne hk => tk_blk_ne hne hk) (fun y hne => updB_ne hne) (fun y p hne hp => zm_blk_ne hne hp) ?_⟩
    exact zt_R_congr (fun k hk => (tk_blk hk).symm) (updB_self _ _ _).symm (fun p hp => (zm_blk hp).symm) zt_box
  · obtain ⟨rfl, rfl⟩ := a
    obtain ⟨rfl, rfl⟩ := b
    exact ⟨rfl, h⟩
theorem La_zero {z0 : Int32} (h : zt_Rel (fB, fN, fW) (fM, fD)) (h1 : inZ z0 (fun z => r1 = nI 0 ∧ u1 = (blk fB (16 * z) 16 (fun _ => nI 0), updB fN z false, fW)) (r1 = (-1) ∧ u1 = (fB, fN, fW)))
    (h2 : inZ z0 (fun z => r2 = nI 0 ∧ u2 = (blk fM (z * 2197) 2197 (fun p => decide (p = 0)), fD)) (r2 = (-1) ∧ u2 = (fM, fD))) : r1 = r2 ∧ zt_Rel u1 u2 := by
  refine zz_Z h1 h2 (fun z hz a b => ?_) (fun a b => ?_)
  · obtain ⟨rfl, rfl⟩ := a
    obtain ⟨rfl, rfl⟩ := b
    refine ⟨rfl, zt_put (y := z) h (fun y k hne hk => tk_blk_ne hne hk) (fun y hne => updB_ne hne) (fun y p hne hp => zm_blk_ne hne hp) ?_⟩
    exact zt_R_congr (fun k hk => (tk_blk hk).symm) (updB_self _ _ _).symm (fun p hp => (zm_blk hp).symm) zt_nil
  · obtain ⟨rfl, rfl⟩ := a
    obtain ⟨rfl, rfl⟩ := b
    exact ⟨rfl, h⟩
theorem La_keep {z0 i0 j0 c : Int32} (h : zt_Rel (fB, fN, fW) (fM, fD))
    (h1 : inZ z0 (fun z => inP i0 j0 (fun i j => (-12 ≤ c.toInt ∧ c.toInt ≤ 12 ∧ u1 = tgS fB fN fW z i j c ∧ r1 = lfI (u1.2.1 z)) ∨ ((c.toInt < -12 ∨ 12 < c.toInt) ∧ r1 = (-3) ∧ u1 = (fB, fN, fW))) (r1 = (-2) ∧ u1 = (fB, fN, fW))) (r1 = (-1) ∧ u1 = (fB, fN, fW)))
    (h2 : inZ z0 (fun z => inP i0 j0 (fun i j => (-12 ≤ c.toInt ∧ c.toInt ≤ 12 ∧ u2 = (blk fM (z * 2197) 2197 (blk fD 0 2197 (fun p => fM (z * 2197 + p) && decide ((nI (vl p i) - nI (vl p j)).toInt ≤ c.toInt))), blk fD 0 2197 (fun p => fM (z * 2197 + p) && decide ((nI (vl p i) - nI (vl p j)).toInt ≤ c.toInt))) ∧ r2 = zI (someR u2.1 z)) ∨ ((c.toInt < -12 ∨ 12 < c.toInt) ∧ r2 = (-3) ∧ u2 = (fM, fD))) (r2 = (-2) ∧ u2 = (fM, fD))) (r2 = (-1) ∧ u2 = (fM, fD))) : r1 = r2 ∧ zt_Rel u1 u2 := by
  refine zz_Z h1 h2 (fun z hz a b => ?_) (fun a b => ?_)
  · refine zz_P a b (fun i j hi hj hij a b => ?_) (fun a b => ?_)
    · rcases a with ⟨c1, c2, rfl, e1⟩ | ⟨c1, rfl, rfl⟩
      · rcases b with ⟨-, -, rfl, e2⟩ | ⟨c3, -, -⟩
        · rcases h z hz with ⟨n, m⟩ | ⟨n, hC, hm⟩
          · have n : fN z = true := n
            have e : tgS fB fN fW z i j c = (fB, fN, fW) := by unfold tgS; rw [if_pos n]
            rw [e] at e1 ⊢
            refine zt_fin (y := z) h (fun _ _ _ _ => rfl) (fun _ _ => rfl) (fun y p hne hp => zm_blk_ne hne hp) (Or.inl ⟨n, fun p hp => ?_⟩) e1 e2
            rw [zm_blk2 hp, show fM (z * 2197 + p) = false from m p hp]; rfl
          · have n : fN z = false := n
            have hm : ∀ p, p < 2197 → (fM (z * 2197 + p) = true ↔ zt_S (zt_t (tkW fB z)) (zt_v p)) := hm
            have hC : zt_C (zt_t (tkW fB z)) := hC
            rcases zt_nw hC hi hj ⟨c1, c2⟩ with ⟨b1, b2, b3⟩ | ⟨b1, b2⟩
            · have e : tgS fB fN fW z i j c = (blk fB (16 * z) 16 (nwW (tkW fB z) i j c), updB fN z false, nwW (tkW fB z) i j c) := by unfold tgS; rw [if_neg (by rw [n]; decide), if_pos b1]
              rw [e] at e1 ⊢
              refine zt_fin (y := z) h (fun y k hne hk => tk_blk_ne hne hk) (fun y hne => updB_ne hne) (fun y p hne hp => zm_blk_ne hne hp) ?_ e1 e2
              refine zt_R_congr (fun k hk => (tk_blk hk).symm) (updB_self _ _ _).symm (fun p hp => rfl) (Or.inr ⟨rfl, b2, fun p hp => ?_⟩)
              rw [zm_blk2 hp, b3, Bool.and_eq_true, decide_eq_true_iff, hm p hp, zt_dif hp]
            · have e : tgS fB fN fW z i j c = (fB, updB fN z true, nwW (tkW fB z) i j c) := by unfold tgS; rw [if_neg (by rw [n]; decide), if_neg (by rw [b1]; decide)]
              rw [e] at e1 ⊢
              refine zt_fin (y := z) h (fun _ _ _ _ => rfl) (fun y hne => updB_ne hne) (fun y p hne hp => zm_blk_ne hne hp) (Or.inl ⟨updB_self _ _ _, fun p hp => ?_⟩) e1 e2
              rw [zm_blk2 hp]
              refine Bool.eq_false_iff.mpr (fun q => ?_)
              rw [Bool.and_eq_true, decide_eq_true_iff, hm p hp, zt_dif hp] at q
              have := b2 _ q.1
              omega
        · omega
      · rcases b with ⟨c3, c4, -, -⟩ | ⟨-, rfl, rfl⟩
        · omega
        · exact ⟨rfl, h⟩
    · obtain ⟨rfl, rfl⟩ := a
      obtain ⟨rfl, rfl⟩ := b
      exact ⟨rfl, h⟩
  · obtain ⟨rfl, rfl⟩ := a
    obtain ⟨rfl, rfl⟩ := b
    exact ⟨rfl, h⟩
theorem tk_ps {f : Nat → Int32} {z p q : Nat} (hp : p < 4) (hq : q < 4) : tkW (psB f z) z (4 * p + q) = if q = 0 ∧ p ≠ 0 then nI 12 else tkW f z (4 * p + q) := by
  unfold psB
  rw [tk_upd, tk_upd, tk_upd]
  rcases lt4 hp with rfl | rfl | rfl | rfl <;> rcases lt4 hq with rfl | rfl | rfl | rfl <;> simp [upd]
theorem tk_ps_ne {f : Nat → Int32} {y z k : Nat} (h : y ≠ z) (hk : k < 16) : tkW (psB f z) y k = tkW f y k := by
  unfold psB
  rw [tk_upd_ne h (by omega) hk, tk_upd_ne h (by omega) hk, tk_upd_ne h (by omega) hk]
theorem tk_bk {f : Nat → Int32} {z p q : Nat} (hp : p < 4) (hq : q < 4) : tkW (bkB f z) z (4 * p + q) = if p = 0 ∧ q ≠ 0 then nI 0 else tkW f z (4 * p + q) := by
  unfold bkB
  rw [tk_upd, tk_upd, tk_upd]
  rcases lt4 hp with rfl | rfl | rfl | rfl <;> rcases lt4 hq with rfl | rfl | rfl | rfl <;> simp [upd]
theorem tk_bk_ne {f : Nat → Int32} {y z k : Nat} (h : y ≠ z) (hk : k < 16) : tkW (bkB f z) y k = tkW f y k := by
  unfold bkB
  rw [tk_upd_ne h (by omega) hk, tk_upd_ne h (by omega) hk, tk_upd_ne h (by omega) hk]
theorem zt_dec {k : Nat} (hk : k < 16) : ∃ p q, p < 4 ∧ q < 4 ∧ k = 4 * p + q := ⟨k / 4, k % 4, by omega, by omega, by omega⟩
/-- close, as a new zone: the marks are those of the table that is closed -/
theorem zt_clR {f : Nat → Int32} {gN m : Nat → Bool} {z : Nat} (hN : gN z = false) (hr : ∀ p q, p < 4 → q < 4 → -12 ≤ zt_t (tkW f z) p q ∧ zt_t (tkW f z) p q ≤ 12) (hd : ∀ p, p < 4 → zt_t (tkW f z) p p = 0) (h0 : ∀ p, p < 4 → zt_t (tkW f z) 0 p ≤ 0)
    (hm : ∀ p, p < 2197 → (m p = true ↔ zt_S (zt_t (tkW f z)) (zt_v p))) : zt_R (tkW (clOut f z 4) z) (clN (clOut f z 4) gN z 4 z) m := by
  rcases zt_cl hN (fun k hk => by obtain ⟨p, q, hp, hq, rfl⟩ := zt_dec hk; exact hr p q hp hq) hd h0 with ⟨a, b⟩ | ⟨a, b, c⟩
  · refine Or.inl ⟨a, fun p hp => Bool.eq_false_iff.mpr (fun q => ?_)⟩
    exact b _ ((hm p hp).mp q)
  · exact Or.inr ⟨a, b, fun p hp => by rw [hm p hp, c]⟩
theorem La_pass {z0 : Int32} (h : zt_Rel (fB, fN, fW) (fM, fD))
    (h1 : inZ z0 (fun z => u1 = (if fN z then (fB, fN, fW) else clS (psB fB z) fN fW z) ∧ r1 = lfI (u1.2.1 z)) (r1 = (-1) ∧ u1 = (fB, fN, fW)))
    (h2 : inZ z0 (fun z => u2 = (blk fM (z * 2197) 2197 (blk fD 0 2197 (fun p => shP fM z p)), blk fD 0 2197 (fun p => shP fM z p)) ∧ r2 = zI (someR u2.1 z)) (r2 = (-1) ∧ u2 = (fM, fD))) : r1 = r2 ∧ zt_Rel u1 u2 := by
  refine zz_Z h1 h2 (fun z hz a b => ?_) (fun a b => ?_)
  · obtain ⟨rfl, e1⟩ := a
    obtain ⟨rfl, e2⟩ := b
    have esh : ∀ p, p < 2197 → shP fM z p = anyUp (fun d => insP p d && zt_m fM z (p - 183 * d)) 13 := by
      intro p hp
      unfold shP
      refine congrArg (fun f => anyUp f 13) (funext fun d => ?_)
      by_cases q : insP p d = true
      · obtain ⟨d1, d2, d3⟩ := of_decide_eq_true q
        have := (zt_vP (k := 1) hp d1 d2 d3 (by omega) (by omega)).2.1
        unfold zt_m
        rw [show z * 2197 + p - 183 * d = z * 2197 + (p - 183 * d) by omega]
      · rw [Bool.eq_false_iff.mpr q]; rfl
    rcases h z hz with ⟨n, m⟩ | ⟨n, hC, hm⟩
    · have n : fN z = true := n
      rw [if_pos n] at e1 ⊢
      refine zt_fin (y := z) h (fun _ _ _ _ => rfl) (fun _ _ => rfl) (fun y p hne hp => zm_blk_ne hne hp) (Or.inl ⟨n, fun p hp => ?_⟩) e1 e2
      rw [zm_blk2 hp, esh p hp]
      refine Bool.eq_false_iff.mpr (fun q => ?_)
      obtain ⟨d, hd, q⟩ := (anyUp_iff 13).mp q
      rw [m _ (by omega), Bool.and_false] at q
      cases q
    · have n : fN z = false := n
      rw [if_neg (by rw [n]; decide)] at e1 ⊢
      have hC : zt_C (zt_t (tkW fB z)) := hC
      have hA : ∀ p q, p < 4 → q < 4 → zt_t (tkW (psB fB z) z) p q = if q = 0 ∧ p ≠ 0 then 12 else zt_t (tkW fB z) p q := fun p q hp hq => by
        show (tkW (psB fB z) z (4 * p + q)).toInt = _
        rw [tk_ps hp hq]
        by_cases c : q = 0 ∧ p ≠ 0
        · rw [if_pos c, if_pos c, nI_toInt (by omega)]; rfl
        · rw [if_neg c, if_neg c]; rfl
      refine zt_fin (y := z) h (fun y k hne hk => by rw [tk_clOut_ne hne hk 4, tk_ps_ne hne hk]) (fun y hne => clN_ne hne 4) (fun y p hne hp => zm_blk_ne hne hp) ?_ e1 e2
      refine zt_clR n (fun p q hp hq => ?_) (fun p hp => ?_) (fun p hp => ?_) (fun p hp => ?_)
      · have a := zt_lo hC hp hq
        have b := zt_hi hC hp hq
        rw [hA p q hp hq]
        split <;> omega
      · have a := hC.1 p hp
        rw [hA p p hp hp, if_neg (fun q => q.2 q.1)]
        exact a
      · have a := hC.2.2.2 p hp
        rw [hA 0 p (by omega) hp, if_neg (fun q => q.2 rfl)]
        exact a
      · rw [zm_blk2 hp, esh p hp]
        exact zt_passE hC hm hA hp
  · obtain ⟨rfl, rfl⟩ := a
    obtain ⟨rfl, rfl⟩ := b
    exact ⟨rfl, h⟩
theorem La_back {z0 : Int32} (h : zt_Rel (fB, fN, fW) (fM, fD))
    (h1 : inZ z0 (fun z => u1 = (if fN z then (fB, fN, fW) else clS (bkB fB z) fN fW z) ∧ r1 = lfI (u1.2.1 z)) (r1 = (-1) ∧ u1 = (fB, fN, fW)))
    (h2 : inZ z0 (fun z => u2 = (blk fM (z * 2197) 2197 (blk fD 0 2197 (fun p => shB fM z p)), blk fD 0 2197 (fun p => shB fM z p)) ∧ r2 = zI (someR u2.1 z)) (r2 = (-1) ∧ u2 = (fM, fD))) : r1 = r2 ∧ zt_Rel u1 u2 := by
  refine zz_Z h1 h2 (fun z hz a b => ?_) (fun a b => ?_)
  · obtain ⟨rfl, e1⟩ := a
    obtain ⟨rfl, e2⟩ := b
    have esh : ∀ p, p < 2197 → shB fM z p = anyUp (fun d => insB p d && zt_m fM z (p + 183 * d)) 13 := by
      intro p hp
      unfold shB
      refine congrArg (fun f => anyUp f 13) (funext fun d => ?_)
      unfold zt_m
      rw [Nat.mul_one, Nat.add_assoc]
    rcases h z hz with ⟨n, m⟩ | ⟨n, hC, hm⟩
    · have n : fN z = true := n
      rw [if_pos n] at e1 ⊢
      refine zt_fin (y := z) h (fun _ _ _ _ => rfl) (fun _ _ => rfl) (fun y p hne hp => zm_blk_ne hne hp) (Or.inl ⟨n, fun p hp => ?_⟩) e1 e2
      rw [zm_blk2 hp, esh p hp]
      refine Bool.eq_false_iff.mpr (fun q => ?_)
      obtain ⟨d, hd, q⟩ := (anyUp_iff 13).mp q
      rw [Bool.and_eq_true] at q
      obtain ⟨q1, q2⟩ := q
      obtain ⟨d1, d2, d3⟩ := of_decide_eq_true q1
      rw [m _ (zt_vB (k := 1) hp d1 d2 d3 (by omega) (by omega)).1] at q2
      cases q2
    · have n : fN z = false := n
      rw [if_neg (by rw [n]; decide)] at e1 ⊢
      have hC : zt_C (zt_t (tkW fB z)) := hC
      have hA : ∀ p q, p < 4 → q < 4 → zt_t (tkW (bkB fB z) z) p q = if p = 0 ∧ q ≠ 0 then 0 else zt_t (tkW fB z) p q := fun p q hp hq => by
        show (tkW (bkB fB z) z (4 * p + q)).toInt = _
        rw [tk_bk hp hq]
        by_cases c : p = 0 ∧ q ≠ 0
        · rw [if_pos c, if_pos c, nI_toInt (by omega)]; rfl
        · rw [if_neg c, if_neg c]; rfl
      refine zt_fin (y := z) h (fun y k hne hk => by rw [tk_clOut_ne hne hk 4, tk_bk_ne hne hk]) (fun y hne => clN_ne hne 4) (fun y p hne hp => zm_blk_ne hne hp) ?_ e1 e2
      refine zt_clR n (fun p q hp hq => ?_) (fun p hp => ?_) (fun p hp => ?_) (fun p hp => ?_)
      · have a := zt_lo hC hp hq
        have b := zt_hi hC hp hq
        rw [hA p q hp hq]
        split <;> omega
      · have a := hC.1 p hp
        rw [hA p p hp hp, if_neg (fun q => q.2 q.1)]
        exact a
      · have a := hC.2.2.2 p hp
        rw [hA 0 p (by omega) hp]
        split <;> omega
      · rw [zm_blk2 hp, esh p hp]
        exact zt_backE hC hm hA hp
  · obtain ⟨rfl, rfl⟩ := a
    obtain ⟨rfl, rfl⟩ := b
    exact ⟨rfl, h⟩
end OPS
end
section
/-! set, free, follow, meet, copy, empty, has, within, touch -/
section OPS
variable {fB fW : Nat → Int32} {fN fM fD : Nat → Bool} {r1 r2 : Int32} {u1 : SX} {u2 : SM}
theorem zt_atF {f : Nat → Bool} {z p k : Nat} : atR f z p k = anyUp (fun v => zt_m f z (wt p k v)) 13 := rfl
/-- nothing marked: nothing differs from a mark at one clock -/
theorem zt_at0 {m : Nat → Bool} {p k : Nat} (hp : p < 2197) (h : ∀ p, p < 2197 → m p = false) : anyUp (fun v => m (wt p k v)) 13 = false := by
  refine Bool.eq_false_iff.mpr (fun q => ?_)
  obtain ⟨v, hv, q⟩ := (anyUp_iff 13).mp q
  rw [h _ (wt_lt hp (by omega))] at q
  cases q
theorem La_set {z0 k0 v : Int32} (h : zt_Rel (fB, fN, fW) (fM, fD))
    (h1 : inZ z0 (fun z => inC k0 (fun k => (0 ≤ v.toInt ∧ v.toInt ≤ 12 ∧ u1 = (if fN z then fB else stF fB z k v 4, fN, fW) ∧ r1 = lfI (fN z)) ∨ ((v.toInt < 0 ∨ 12 < v.toInt) ∧ r1 = (-3) ∧ u1 = (fB, fN, fW))) (r1 = (-2) ∧ u1 = (fB, fN, fW))) (r1 = (-1) ∧ u1 = (fB, fN, fW)))
    (h2 : inZ z0 (fun z => inC k0 (fun k => (0 ≤ v.toInt ∧ v.toInt ≤ 12 ∧ u2 = (blk fM (z * 2197) 2197 (blk fD 0 2197 (fun p => decide (nI (vl p k) = v) && atR fM z p k)), blk fD 0 2197 (fun p => decide (nI (vl p k) = v) && atR fM z p k)) ∧ r2 = zI (someR u2.1 z)) ∨ ((v.toInt < 0 ∨ 12 < v.toInt) ∧ r2 = (-3) ∧ u2 = (fM, fD))) (r2 = (-2) ∧ u2 = (fM, fD))) (r2 = (-1) ∧ u2 = (fM, fD))) : r1 = r2 ∧ zt_Rel u1 u2 := by
  refine zz_Z h1 h2 (fun z hz a b => ?_) (fun a b => ?_)
  · refine zz_C a b (fun k hk a b => ?_) (fun a b => ?_)
    · rcases a with ⟨c1, c2, rfl, e1⟩ | ⟨c1, rfl, rfl⟩
      · rcases b with ⟨-, -, rfl, e2⟩ | ⟨c3, -, -⟩
        · rcases h z hz with ⟨n, m⟩ | ⟨n, hC, hm⟩
          · have n : fN z = true := n
            rw [if_pos n]
            refine zt_fin (y := z) h (fun _ _ _ _ => rfl) (fun _ _ => rfl) (fun y p hne hp => zm_blk_ne hne hp) (Or.inl ⟨n, fun p hp => ?_⟩) e1 e2
            rw [zm_blk2 hp, zt_atF, zt_at0 hp m, Bool.and_false]
          · have n : fN z = false := n
            have hC : zt_C (zt_t (tkW fB z)) := hC
            rw [if_neg (by rw [n]; decide)]
            have hN : ∀ p q, p < 4 → q < 4 → zt_t (tkW (stF fB z k v 4) z) p q = if p = k then (if q = k then 0 else v.toInt + zt_t (tkW fB z) 0 q) else if q = k then zt_t (tkW fB z) p 0 - v.toInt else zt_t (tkW fB z) p q := by
              intro p q hp hq
              rw [tk_stF 4]
              show (zt_st (tkW fB z) k v 4 (4 * p + q)).toInt = _
              rw [zt_stE hk hp hq]
              have b1 := zt_lo hC (i := 0) (j := q) (by omega) hq
              have b2 := zt_hi hC (i := 0) (j := q) (by omega) hq
              have b3 := zt_lo hC (i := p) (j := 0) hp (by omega)
              have b4 := zt_hi hC (i := p) (j := 0) hp (by omega)
              have t1 : (tkW fB z q).toInt = zt_t (tkW fB z) 0 q := by unfold zt_t; rw [Nat.mul_zero, Nat.zero_add]
              have t2 : (tkW fB z (4 * p)).toInt = zt_t (tkW fB z) p 0 := rfl
              by_cases e1 : p = k
              · by_cases e2 : q = k
                · rw [if_pos e1, if_pos e2, if_pos e1, if_pos e2]
                  have := hC.1 p hp
                  rw [e1] at this ⊢
                  rw [e2]
                  exact this
                · rw [if_pos e1, if_neg e2, if_pos e1, if_neg e2, zt_add (by omega) (by omega), t1]
              · by_cases e2 : q = k
                · rw [if_neg e1, if_pos e2, if_neg e1, if_pos e2, zt_sub (by omega) (by omega), t2]
                · rw [if_neg e1, if_neg e2, if_neg e1, if_neg e2]; rfl
            obtain ⟨hC2, hS⟩ := zt_setC hC hk ⟨c1, c2⟩ hN
            refine zt_fin (y := z) h (fun y t hne ht => tk_stF_ne hne hk.2 ht 4 (Nat.le_refl _)) (fun _ _ => rfl) (fun y p hne hp => zm_blk_ne hne hp) (Or.inr ⟨n, hC2, fun p hp => ?_⟩) e1 e2
            rw [zm_blk2 hp, hS _ (zt_v0 p), Bool.and_eq_true, decide_eq_true_iff, zt_atF, zt_at hC hm hp hk]
            have r := vl_le (k := k) hp
            have e : nI (vl p k) = v ↔ zt_v p k = v.toInt := by
              rw [← Int32.toInt_inj, nI_toInt (by omega)]; rfl
            rw [e]
        · omega
      · rcases b with ⟨c3, c4, -, -⟩ | ⟨-, rfl, rfl⟩
        · omega
        · exact ⟨rfl, h⟩
    · obtain ⟨rfl, rfl⟩ := a
      obtain ⟨rfl, rfl⟩ := b
      exact ⟨rfl, h⟩
  · obtain ⟨rfl, rfl⟩ := a
    obtain ⟨rfl, rfl⟩ := b
    exact ⟨rfl, h⟩
theorem La_free {z0 k0 : Int32} (h : zt_Rel (fB, fN, fW) (fM, fD))
    (h1 : inZ z0 (fun z => inC k0 (fun k => u1 = (if fN z then fB else frF fB z k 4, fN, fW) ∧ r1 = lfI (fN z)) (r1 = (-2) ∧ u1 = (fB, fN, fW))) (r1 = (-1) ∧ u1 = (fB, fN, fW)))
    (h2 : inZ z0 (fun z => inC k0 (fun k => u2 = (blk fM (z * 2197) 2197 (blk fD 0 2197 (fun p => atR fM z p k)), blk fD 0 2197 (fun p => atR fM z p k)) ∧ r2 = zI (someR u2.1 z)) (r2 = (-2) ∧ u2 = (fM, fD))) (r2 = (-1) ∧ u2 = (fM, fD))) : r1 = r2 ∧ zt_Rel u1 u2 := by
  refine zz_Z h1 h2 (fun z hz a b => ?_) (fun a b => ?_)
  · refine zz_C a b (fun k hk a b => ?_) (fun a b => ?_)
    · obtain ⟨rfl, e1⟩ := a
      obtain ⟨rfl, e2⟩ := b
      rcases h z hz with ⟨n, m⟩ | ⟨n, hC, hm⟩
      · have n : fN z = true := n
        rw [if_pos n]
        refine zt_fin (y := z) h (fun _ _ _ _ => rfl) (fun _ _ => rfl) (fun y p hne hp => zm_blk_ne hne hp) (Or.inl ⟨n, fun p hp => ?_⟩) e1 e2
        rw [zm_blk2 hp, zt_atF, zt_at0 hp m]
      · have n : fN z = false := n
        have hC : zt_C (zt_t (tkW fB z)) := hC
        rw [if_neg (by rw [n]; decide)]
        have hN : ∀ p q, p < 4 → q < 4 → zt_t (tkW (frF fB z k 4) z) p q = if p = k then (if q = k then 0 else 12 + zt_t (tkW fB z) 0 q) else if q = k then zt_t (tkW fB z) p 0 else zt_t (tkW fB z) p q := by
          intro p q hp hq
          rw [tk_frF 4]
          show (zt_fr (tkW fB z) k 4 (4 * p + q)).toInt = _
          rw [zt_frE hk hp hq]
          have b1 := zt_lo hC (i := 0) (j := q) (by omega) hq
          have b2 := zt_hi hC (i := 0) (j := q) (by omega) hq
          have t1 : (tkW fB z q).toInt = zt_t (tkW fB z) 0 q := by unfold zt_t; rw [Nat.mul_zero, Nat.zero_add]
          have t12 : (nI 12).toInt = 12 := by rw [nI_toInt (by omega)]; rfl
          by_cases e1 : p = k
          · by_cases e2 : q = k
            · rw [if_pos e1, if_pos e2, if_pos e1, if_pos e2]
              have := hC.1 p hp
              rw [e1] at this ⊢
              rw [e2]
              exact this
            · rw [if_pos e1, if_neg e2, if_pos e1, if_neg e2, zt_add (by omega) (by omega), t1, t12]
          · by_cases e2 : q = k
            · rw [if_neg e1, if_pos e2, if_neg e1, if_pos e2]; rfl
            · rw [if_neg e1, if_neg e2, if_neg e1, if_neg e2]; rfl
        obtain ⟨hC2, hS⟩ := zt_freeC hC hk hN
        refine zt_fin (y := z) h (fun y t hne ht => tk_frF_ne hne hk.2 ht 4 (Nat.le_refl _)) (fun _ _ => rfl) (fun y p hne hp => zm_blk_ne hne hp) (Or.inr ⟨n, hC2, fun p hp => ?_⟩) e1 e2
        rw [zm_blk2 hp, hS _ (zt_v0 p) (zt_vr hp k).1 (zt_vr hp k).2, zt_atF, zt_at hC hm hp hk]
    · obtain ⟨rfl, rfl⟩ := a
      obtain ⟨rfl, rfl⟩ := b
      exact ⟨rfl, h⟩
  · obtain ⟨rfl, rfl⟩ := a
    obtain ⟨rfl, rfl⟩ := b
    exact ⟨rfl, h⟩
theorem La_follow {z0 i0 j0 : Int32} (h : zt_Rel (fB, fN, fW) (fM, fD))
    (h1 : inZ z0 (fun z => inC i0 (fun i => inC j0 (fun j => u1 = (if i ≠ j ∧ fN z = false then flF fB z i j 4 else fB, fN, fW) ∧ r1 = lfI (fN z)) (r1 = (-2) ∧ u1 = (fB, fN, fW))) (r1 = (-2) ∧ u1 = (fB, fN, fW))) (r1 = (-1) ∧ u1 = (fB, fN, fW)))
    (h2 : inZ z0 (fun z => inC i0 (fun i => inC j0 (fun j => (i = j ∧ u2 = (fM, fD) ∧ r2 = zI (someR fM z)) ∨ (i ≠ j ∧ u2 = (blk fM (z * 2197) 2197 (blk fD 0 2197 (fun p => decide (vl p i = vl p j) && atR fM z p i)), blk fD 0 2197 (fun p => decide (vl p i = vl p j) && atR fM z p i)) ∧ r2 = zI (someR u2.1 z))) (r2 = (-2) ∧ u2 = (fM, fD))) (r2 = (-2) ∧ u2 = (fM, fD))) (r2 = (-1) ∧ u2 = (fM, fD))) : r1 = r2 ∧ zt_Rel u1 u2 := by
  refine zz_Z h1 h2 (fun z hz a b => ?_) (fun a b => ?_)
  · refine zz_C a b (fun i hi a b => ?_) (fun a b => ?_)
    · refine zz_C a b (fun j hj a b => ?_) (fun a b => ?_)
      · obtain ⟨rfl, e1⟩ := a
        rcases b with ⟨hij, rfl, e2⟩ | ⟨hij, rfl, e2⟩
        · rw [if_neg (fun q => q.1 hij)]
          exact ⟨by rw [e1, e2]; exact zt_left (h z hz), h⟩
        · rcases h z hz with ⟨n, m⟩ | ⟨n, hC, hm⟩
          · have n : fN z = true := n
            rw [if_neg (fun q => by rw [n] at q; exact absurd q.2 (by decide))]
            refine zt_fin (y := z) h (fun _ _ _ _ => rfl) (fun _ _ => rfl) (fun y p hne hp => zm_blk_ne hne hp) (Or.inl ⟨n, fun p hp => ?_⟩) e1 e2
            rw [zm_blk2 hp, zt_atF, zt_at0 hp m, Bool.and_false]
          · have n : fN z = false := n
            have hC : zt_C (zt_t (tkW fB z)) := hC
            rw [if_pos ⟨hij, n⟩]
            have hN : ∀ p q, p < 4 → q < 4 → zt_t (tkW (flF fB z i j 4) z) p q = if p = i then (if q = i then 0 else zt_t (tkW fB z) j q) else if q = i then zt_t (tkW fB z) p j else zt_t (tkW fB z) p q := by
              intro p q hp hq
              rw [tk_flF 4]
              show (zt_fl (tkW fB z) i j 4 (4 * p + q)).toInt = _
              rw [zt_flE hi hj hij hp hq]
              by_cases e1 : p = i
              · by_cases e2 : q = i
                · rw [if_pos e1, if_pos e2, if_pos e1, if_pos e2]
                  have := hC.1 p hp
                  rw [e1] at this ⊢
                  rw [e2]
                  exact this
                · rw [if_pos e1, if_neg e2, if_pos e1, if_neg e2]; rfl
              · by_cases e2 : q = i
                · rw [if_neg e1, if_pos e2, if_neg e1, if_pos e2]; rfl
                · rw [if_neg e1, if_neg e2, if_neg e1, if_neg e2]; rfl
            obtain ⟨hC2, hS⟩ := zt_folC hC hi hj hij hN
            refine zt_fin (y := z) h (fun y t hne ht => tk_flF_ne hne hi.2 ht 4 (Nat.le_refl _)) (fun _ _ => rfl) (fun y p hne hp => zm_blk_ne hne hp) (Or.inr ⟨n, hC2, fun p hp => ?_⟩) e1 e2
            rw [zm_blk2 hp, hS, Bool.and_eq_true, decide_eq_true_iff, zt_atF, zt_at hC hm hp hi]
            have e : vl p i = vl p j ↔ zt_v p i = zt_v p j := by
              unfold zt_v
              omega
            rw [e]
      · obtain ⟨rfl, rfl⟩ := a
        obtain ⟨rfl, rfl⟩ := b
        exact ⟨rfl, h⟩
    · obtain ⟨rfl, rfl⟩ := a
      obtain ⟨rfl, rfl⟩ := b
      exact ⟨rfl, h⟩
  · obtain ⟨rfl, rfl⟩ := a
    obtain ⟨rfl, rfl⟩ := b
    exact ⟨rfl, h⟩
theorem La_meet {y0 z0 : Int32} (h : zt_Rel (fB, fN, fW) (fM, fD))
    (h1 : inZ y0 (fun y => inZ z0 (fun z => u1 = (if fN y = true ∨ fN z = true then (fB, updB fN y true, fW) else clS (blk fB (16 * y) 16 (fun k => if (fB (16 * z + k)).toInt < (fB (16 * y + k)).toInt then fB (16 * z + k) else fB (16 * y + k))) (updB fN y false) fW y) ∧ r1 = lfI (u1.2.1 y)) (r1 = (-1) ∧ u1 = (fB, fN, fW))) (r1 = (-1) ∧ u1 = (fB, fN, fW)))
    (h2 : inZ y0 (fun y => inZ z0 (fun z => u2 = (blk fM (y * 2197) 2197 (blk fD 0 2197 (fun p => fM (y * 2197 + p) && fM (z * 2197 + p))), blk fD 0 2197 (fun p => fM (y * 2197 + p) && fM (z * 2197 + p))) ∧ r2 = zI (someR u2.1 y)) (r2 = (-1) ∧ u2 = (fM, fD))) (r2 = (-1) ∧ u2 = (fM, fD))) : r1 = r2 ∧ zt_Rel u1 u2 := by
  refine zz_Z h1 h2 (fun y hy a b => ?_) (fun a b => ?_)
  · refine zz_Z a b (fun z hz a b => ?_) (fun a b => ?_)
    · obtain ⟨rfl, e1⟩ := a
      obtain ⟨rfl, e2⟩ := b
      have none : (fN y = true ∨ fN z = true) → (∀ p, p < 2197 → (fM (y * 2197 + p) && fM (z * 2197 + p)) = false) → r1 = r2 ∧ zt_Rel (if fN y = true ∨ fN z = true then (fB, updB fN y true, fW) else clS (blk fB (16 * y) 16 (fun k => if (fB (16 * z + k)).toInt < (fB (16 * y + k)).toInt then fB (16 * z + k) else fB (16 * y + k))) (updB fN y false) fW y) (blk fM (y * 2197) 2197 (blk fD 0 2197 (fun p => fM (y * 2197 + p) && fM (z * 2197 + p))), blk fD 0 2197 (fun p => fM (y * 2197 + p) && fM (z * 2197 + p))) := by
        intro n m
        rw [if_pos n] at e1 ⊢
        refine zt_fin (y := y) h (fun _ _ _ _ => rfl) (fun t hne => updB_ne hne) (fun t p hne hp => zm_blk_ne hne hp) (Or.inl ⟨updB_self _ _ _, fun p hp => ?_⟩) e1 e2
        rw [zm_blk2 hp]
        exact m p hp
      rcases h y hy with ⟨n, m⟩ | ⟨n, hC, hm⟩
      · exact none (Or.inl n) (fun p hp => by rw [show fM (y * 2197 + p) = false from m p hp]; rfl)
      · rcases h z hz with ⟨n', m'⟩ | ⟨n', hC', hm'⟩
        · exact none (Or.inr n') (fun p hp => by rw [show fM (z * 2197 + p) = false from m' p hp, Bool.and_false])
        · have n : fN y = false := n
          have n' : fN z = false := n'
          have hC : zt_C (zt_t (tkW fB y)) := hC
          have hC' : zt_C (zt_t (tkW fB z)) := hC'
          rw [if_neg (fun q => by rw [n, n'] at q; rcases q with q | q <;> cases q)] at e1 ⊢
          have hA : ∀ p q, p < 4 → q < 4 → zt_t (tkW (blk fB (16 * y) 16 (fun k => if (fB (16 * z + k)).toInt < (fB (16 * y + k)).toInt then fB (16 * z + k) else fB (16 * y + k))) y) p q = if zt_t (tkW fB z) p q < zt_t (tkW fB y) p q then zt_t (tkW fB z) p q else zt_t (tkW fB y) p q := fun p q hp hq => by
            show (tkW _ y (4 * p + q)).toInt = _
            rw [tk_blk (show 4 * p + q < 16 by omega)]
            by_cases c : zt_t (tkW fB z) p q < zt_t (tkW fB y) p q
            · rw [if_pos c, if_pos (show (fB (16 * z + (4 * p + q))).toInt < (fB (16 * y + (4 * p + q))).toInt from c)]; rfl
            · rw [if_neg c, if_neg (show ¬ (fB (16 * z + (4 * p + q))).toInt < (fB (16 * y + (4 * p + q))).toInt from c)]; rfl
          refine zt_fin (y := y) h (fun t k hne hk => by rw [tk_clOut_ne hne hk 4, tk_blk_ne hne hk]) (fun t hne => by rw [clN_ne hne 4, updB_ne hne]) (fun t p hne hp => zm_blk_ne hne hp) ?_ e1 e2
          refine zt_clR (updB_self _ _ _) (fun p q hp hq => ?_) (fun p hp => ?_) (fun p hp => ?_) (fun p hp => ?_)
          · have a := zt_lo hC hp hq
            have b := zt_hi hC hp hq
            have a' := zt_lo hC' hp hq
            have b' := zt_hi hC' hp hq
            rw [hA p q hp hq]
            split <;> omega
          · have a := hC.1 p hp
            have b := hC'.1 p hp
            rw [hA p p hp hp]
            split <;> omega
          · have a := hC.2.2.2 p hp
            have b := hC'.2.2.2 p hp
            rw [hA 0 p (by omega) hp]
            split <;> omega
          · rw [zm_blk2 hp, Bool.and_eq_true, show (fM (y * 2197 + p) = true ↔ _) from hm p hp, show (fM (z * 2197 + p) = true ↔ _) from hm' p hp]
            constructor
            · intro q i j hi hj
              have a := q.1 i j hi hj
              have b := q.2 i j hi hj
              rw [hA i j hi hj]
              split
              · exact b
              · exact a
            · intro q
              refine ⟨fun i j hi hj => ?_, fun i j hi hj => ?_⟩
              · have a := q i j hi hj
                rw [hA i j hi hj] at a
                split at a
                · show _ ≤ zt_t (tkW fB y) i j
                  omega
                · exact a
              · have a := q i j hi hj
                rw [hA i j hi hj] at a
                split at a
                · exact a
                · show _ ≤ zt_t (tkW fB z) i j
                  omega
    · obtain ⟨rfl, rfl⟩ := a
      obtain ⟨rfl, rfl⟩ := b
      exact ⟨rfl, h⟩
  · obtain ⟨rfl, rfl⟩ := a
    obtain ⟨rfl, rfl⟩ := b
    exact ⟨rfl, h⟩
theorem La_copy {y0 z0 : Int32} (h : zt_Rel (fB, fN, fW) (fM, fD))
    (h1 : inZ y0 (fun y => inZ z0 (fun z => r1 = nI 0 ∧ u1 = (blk fB (16 * y) 16 (fun k => fB (16 * z + k)), updB fN y (fN z), fW)) (r1 = (-1) ∧ u1 = (fB, fN, fW))) (r1 = (-1) ∧ u1 = (fB, fN, fW)))
    (h2 : inZ y0 (fun y => inZ z0 (fun z => r2 = nI 0 ∧ u2 = (blk fM (y * 2197) 2197 (fun p => fM (z * 2197 + p)), fD)) (r2 = (-1) ∧ u2 = (fM, fD))) (r2 = (-1) ∧ u2 = (fM, fD))) : r1 = r2 ∧ zt_Rel u1 u2 := by
  refine zz_Z h1 h2 (fun y hy a b => ?_) (fun a b => ?_)
  · refine zz_Z a b (fun z hz a b => ?_) (fun a b => ?_)
    · obtain ⟨rfl, rfl⟩ := a
      obtain ⟨rfl, rfl⟩ := b
      refine ⟨rfl, zt_put (y := y) h (fun t k hne hk => tk_blk_ne hne hk) (fun t hne => updB_ne hne) (fun t p hne hp => zm_blk_ne hne hp) ?_⟩
      exact zt_R_congr (fun k hk => (tk_blk hk).symm) (updB_self _ _ _).symm (fun p hp => (zm_blk hp).symm) (h z hz)
    · obtain ⟨rfl, rfl⟩ := a
      obtain ⟨rfl, rfl⟩ := b
      exact ⟨rfl, h⟩
  · obtain ⟨rfl, rfl⟩ := a
    obtain ⟨rfl, rfl⟩ := b
    exact ⟨rfl, h⟩
theorem La_empty {z0 : Int32} (h : zt_Rel (fB, fN, fW) (fM, fD)) (h1 : inZ z0 (fun z => r1 = zI (fN z) ∧ u1 = (fB, fN, fW)) (r1 = (-1) ∧ u1 = (fB, fN, fW)))
    (h2 : inZ z0 (fun z => r2 = nI 1 - zI (someR fM z) ∧ u2 = (fM, fD)) (r2 = (-1) ∧ u2 = (fM, fD))) : r1 = r2 ∧ zt_Rel u1 u2 := by
  refine zz_Z h1 h2 (fun z hz a b => ?_) (fun a b => ?_)
  · obtain ⟨rfl, rfl⟩ := a
    obtain ⟨rfl, rfl⟩ := b
    refine ⟨?_, h⟩
    rw [← zt_left (h z hz)]
    show zI (fN z) = nI 1 - lfI (fN z)
    cases fN z <;> decide
  · obtain ⟨rfl, rfl⟩ := a
    obtain ⟨rfl, rfl⟩ := b
    exact ⟨rfl, h⟩
theorem La_has {z0 a b c : Int32} (h : zt_Rel (fB, fN, fW) (fM, fD))
    (h1 : inZ z0 (fun z => (((fN z = true ∨ ¬ inBox a b c) ∧ r1 = nI 0) ∨ (fN z = false ∧ inBox a b c ∧ r1 = zI (hasB (tkW fB z) a b c))) ∧ ∃ W, u1 = (fB, fN, W)) (r1 = (-1) ∧ u1 = (fB, fN, fW)))
    (h2 : inZ z0 (fun z => u2 = (fM, fD) ∧ ((¬ inBox a b c ∧ r2 = nI 0) ∨ (∃ a1 b1 c1 : Nat, (a1 ≤ 12 ∧ b1 ≤ 12 ∧ c1 ≤ 12) ∧ a = nI a1 ∧ b = nI b1 ∧ c = nI c1 ∧ r2 = zI (fM (z * 2197 + 169 * a1 + 13 * b1 + c1))))) (r2 = (-1) ∧ u2 = (fM, fD))) : r1 = r2 ∧ zt_Rel u1 u2 := by
  refine zz_Z h1 h2 (fun z hz p q => ?_) (fun p q => ?_)
  · obtain ⟨p, W, rfl⟩ := p
    obtain ⟨rfl, q⟩ := q
    refine ⟨?_, h⟩
    rcases q with ⟨q1, q2⟩ | ⟨a1, b1, c1, ⟨ha, hb, hc⟩, rfl, rfl, rfl, q2⟩
    · rcases p with ⟨p1, p2⟩ | ⟨p1, p2, p3⟩
      · rw [p2, q2]
      · exact absurd p2 q1
    · have hbox : inBox (nI a1) (nI b1) (nI c1) := by
        unfold inBox
        rw [nI_toInt (by omega), nI_toInt (by omega), nI_toInt (by omega)]
        omega
      have hlt : 169 * a1 + 13 * b1 + c1 < 2197 := by omega
      have em : fM (z * 2197 + 169 * a1 + 13 * b1 + c1) = zt_m fM z (169 * a1 + 13 * b1 + c1) := by
        unfold zt_m
        rw [show z * 2197 + 169 * a1 + 13 * b1 + c1 = z * 2197 + (169 * a1 + 13 * b1 + c1) by omega]
      rw [q2, em]
      rcases h z hz with ⟨n, m⟩ | ⟨n, hC, hm⟩
      · have m : zt_m fM z (169 * a1 + 13 * b1 + c1) = false := m _ hlt
        have n : fN z = true := n
        rw [m]
        rcases p with ⟨p1, p2⟩ | ⟨p1, p2, p3⟩
        · rw [p2]; exact zI_0
        · rw [n] at p1; cases p1
      · have n : fN z = false := n
        rcases p with ⟨p1, p2⟩ | ⟨p1, p2, p3⟩
        · rcases p1 with p1 | p1
          · rw [n] at p1; cases p1
          · exact absurd hbox p1
        · rw [p3]
          have e : hasB (tkW fB z) (nI a1) (nI b1) (nI c1) = zt_m fM z (169 * a1 + 13 * b1 + c1) := by
            rw [Bool.eq_iff_iff, zt_has hC ha hb hc]
            exact (hm _ hlt).symm
          rw [e]
  · obtain ⟨rfl, rfl⟩ := p
    obtain ⟨rfl, rfl⟩ := q
    exact ⟨rfl, h⟩
theorem La_within {y0 z0 : Int32} (h : zt_Rel (fB, fN, fW) (fM, fD))
    (h1 : inZ y0 (fun y => inZ z0 (fun z => u1 = (fB, fN, fW) ∧ (((fN y = true ∨ fN z = true) ∧ r1 = zI (fN y)) ∨ ((fN y = false ∧ fN z = false) ∧ ((r1 = nI 1 ∧ ∀ k, k < 16 → (fB (16 * y + k)).toInt ≤ (fB (16 * z + k)).toInt) ∨ (r1 = nI 0 ∧ ∃ k, k < 16 ∧ (fB (16 * z + k)).toInt < (fB (16 * y + k)).toInt))))) (r1 = (-1) ∧ u1 = (fB, fN, fW))) (r1 = (-1) ∧ u1 = (fB, fN, fW)))
    (h2 : inZ y0 (fun y => inZ z0 (fun z => r2 = zI (!anyUp (fun p => fM (y * 2197 + p) && !fM (z * 2197 + p)) 2197) ∧ u2 = (fM, fD)) (r2 = (-1) ∧ u2 = (fM, fD))) (r2 = (-1) ∧ u2 = (fM, fD))) : r1 = r2 ∧ zt_Rel u1 u2 := by
  refine zz_Z h1 h2 (fun y hy a b => ?_) (fun a b => ?_)
  · refine zz_Z a b (fun z hz a b => ?_) (fun a b => ?_)
    · obtain ⟨rfl, ab⟩ := a
      obtain ⟨e2, rfl⟩ := b
      refine ⟨?_, h⟩
      rw [e2]
      have hit : (∃ p, p < 2197 ∧ zt_m fM y p = true ∧ zt_m fM z p = false) → zI (!anyUp (fun p => fM (y * 2197 + p) && !fM (z * 2197 + p)) 2197) = nI 0 := by
        rintro ⟨p, hp, q1, q2⟩
        rw [anyUp_hit (f := fun p => fM (y * 2197 + p) && !fM (z * 2197 + p)) hp (by
          show (zt_m fM y p && !zt_m fM z p) = true
          rw [q1, q2]; rfl)]
        exact zI_0.symm
      have all : (∀ p, p < 2197 → zt_m fM y p = true → zt_m fM z p = true) → zI (!anyUp (fun p => fM (y * 2197 + p) && !fM (z * 2197 + p)) 2197) = nI 1 := by
        intro q
        have e : anyUp (fun p => fM (y * 2197 + p) && !fM (z * 2197 + p)) 2197 = false := by
          refine Bool.eq_false_iff.mpr (fun t => ?_)
          obtain ⟨p, hp, t⟩ := (anyUp_iff 2197).mp t
          rw [Bool.and_eq_true] at t
          have t2 : zt_m fM z p = true := q p hp t.1
          have t3 : (!zt_m fM z p) = true := t.2
          rw [t2] at t3
          cases t3
        rw [e]
        exact zI_1.symm
      rcases h y hy with ⟨n, m⟩ | ⟨n, hC, hm⟩
      · have n : fN y = true := n
        rw [all (fun p hp q => by rw [show zt_m fM y p = false from m p hp] at q; cases q)]
        rcases ab with ⟨_, a⟩ | ⟨⟨a, _⟩, _⟩
        · rw [a, n]; exact zI_1.symm
        · rw [n] at a; cases a
      · have n : fN y = false := n
        have hC : zt_C (zt_t (tkW fB y)) := hC
        rcases h z hz with ⟨n', m'⟩ | ⟨n', hC', hm'⟩
        · have n' : fN z = true := n'
          obtain ⟨p, hp, hs⟩ := zt_ne hC
          rw [hit ⟨p, hp, (hm p hp).mpr hs, m' p hp⟩]
          rcases ab with ⟨_, a⟩ | ⟨⟨_, a⟩, _⟩
          · rw [a, n]; exact zI_0.symm
          · rw [n'] at a; cases a
        · have n' : fN z = false := n'
          rcases ab with ⟨a, _⟩ | ⟨_, ⟨a, b⟩ | ⟨a, k, hk, b⟩⟩
          · rw [n, n'] at a
            rcases a with a | a <;> cases a
          · rw [a, all (fun p hp q => (hm' p hp).mpr (fun i j hi hj => ?_))]
            have q := (hm p hp).mp q i j hi hj
            exact Int.le_trans q (b (4 * i + j) (by omega))
          · obtain ⟨i, j, hi, hj, rfl⟩ := zt_dec hk
            obtain ⟨p, hp, hs, e⟩ := zt_att hC hi hj
            rw [a, hit ⟨p, hp, (hm p hp).mpr hs, Bool.eq_false_iff.mpr (fun q => ?_)⟩]
            have q := (hm' p hp).mp q i j hi hj
            have b : zt_t (tkW fB z) i j < zt_t (tkW fB y) i j := b
            have q : zt_v p i - zt_v p j ≤ zt_t (tkW fB z) i j := q
            omega
    · obtain ⟨rfl, rfl⟩ := a
      obtain ⟨rfl, rfl⟩ := b
      exact ⟨rfl, h⟩
  · obtain ⟨rfl, rfl⟩ := a
    obtain ⟨rfl, rfl⟩ := b
    exact ⟨rfl, h⟩
theorem zt_to {y z : Nat} (hC : zt_C (zt_t (tkW fB y))) (hC' : zt_C (zt_t (tkW fB z))) : ∀ n, n ≤ 16 → (∀ t, t < n → nwOk (toIt fB y z t) (t / 4) (t % 4) (fB (16 * z + t)) = true) →
    zt_C (zt_t (toIt fB y z n)) ∧ ∀ v, zt_S (zt_t (toIt fB y z n)) v ↔ (zt_S (zt_t (tkW fB y)) v ∧ ∀ t, t < n → v (t / 4) - v (t % 4) ≤ (fB (16 * z + t)).toInt)
  | 0, _, _ => ⟨hC, fun v => ⟨fun h => ⟨h, fun t ht => by omega⟩, fun h => h.1⟩⟩
  | n + 1, hn, ok => by
    obtain ⟨a, b⟩ := zt_to hC hC' n (by omega) (fun t ht => ok t (by omega))
    have r : -12 ≤ (fB (16 * z + n)).toInt ∧ (fB (16 * z + n)).toInt ≤ 12 := by
      have e : (fB (16 * z + n)).toInt = zt_t (tkW fB z) (n / 4) (n % 4) := by
        unfold zt_t tkW
        rw [show 4 * (n / 4) + n % 4 = n by omega]
      rw [e]
      exact ⟨zt_lo hC' (by omega) (by omega), zt_hi hC' (by omega) (by omega)⟩
    rcases zt_nw (i := n / 4) (j := n % 4) (c := fB (16 * z + n)) a (by omega) (by omega) r with ⟨c1, c2, c3⟩ | ⟨c1, c2⟩
    · refine ⟨c2, fun v => ?_⟩
      rw [toIt, c3 v, b v]
      constructor
      · rintro ⟨⟨q1, q2⟩, q3⟩
        refine ⟨q1, fun t ht => ?_⟩
        by_cases e : t = n
        · rw [e]; exact q3
        · exact q2 t (by omega)
      · rintro ⟨q1, q2⟩
        exact ⟨⟨q1, fun t ht => q2 t (by omega)⟩, q2 n (by omega)⟩
    · rw [ok n (by omega)] at c1
      cases c1
theorem La_touch {y0 z0 : Int32} (h : zt_Rel (fB, fN, fW) (fM, fD))
    (h1 : inZ y0 (fun y => inZ z0 (fun z => ((fN y = true ∨ fN z = true) ∧ r1 = nI 0 ∧ u1 = (fB, fN, fW)) ∨ ((fN y = false ∧ fN z = false) ∧ (∃ W, u1 = (fB, fN, W)) ∧ ((r1 = nI 1 ∧ ∀ t, t < 16 → nwOk (toIt fB y z t) (t / 4) (t % 4) (fB (16 * z + t)) = true) ∨ (r1 = nI 0 ∧ ∃ k, k < 16 ∧ (∀ t, t < k → nwOk (toIt fB y z t) (t / 4) (t % 4) (fB (16 * z + t)) = true) ∧ nwOk (toIt fB y z k) (k / 4) (k % 4) (fB (16 * z + k)) = false)))) (r1 = (-1) ∧ u1 = (fB, fN, fW))) (r1 = (-1) ∧ u1 = (fB, fN, fW)))
    (h2 : inZ y0 (fun y => inZ z0 (fun z => r2 = zI (anyUp (fun p => fM (y * 2197 + p) && fM (z * 2197 + p)) 2197) ∧ u2 = (fM, fD)) (r2 = (-1) ∧ u2 = (fM, fD))) (r2 = (-1) ∧ u2 = (fM, fD))) : r1 = r2 ∧ zt_Rel u1 u2 := by
  refine zz_Z h1 h2 (fun y hy a b => ?_) (fun a b => ?_)
  · refine zz_Z a b (fun z hz a b => ?_) (fun a b => ?_)
    · obtain ⟨e2, rfl⟩ := b
      have none : (∀ p, p < 2197 → zt_m fM y p = true → zt_m fM z p = true → False) → zI (anyUp (fun p => fM (y * 2197 + p) && fM (z * 2197 + p)) 2197) = nI 0 := by
        intro q
        have e : anyUp (fun p => fM (y * 2197 + p) && fM (z * 2197 + p)) 2197 = false := by
          refine Bool.eq_false_iff.mpr (fun t => ?_)
          obtain ⟨p, hp, t⟩ := (anyUp_iff 2197).mp t
          rw [Bool.and_eq_true] at t
          exact q p hp t.1 t.2
        rw [e]
        exact zI_0.symm
      rcases a with ⟨n, rfl, rfl⟩ | ⟨⟨n, n'⟩, ⟨W, rfl⟩, ab⟩
      · refine ⟨?_, h⟩
        rw [e2, none (fun p hp q1 q2 => ?_)]
        rcases n with n | n
        · rcases h y hy with ⟨_, m⟩ | ⟨n2, _⟩
          · rw [m p hp] at q1; cases q1
          · have n2 : fN y = false := n2
            rw [n] at n2; cases n2
        · rcases h z hz with ⟨_, m⟩ | ⟨n2, _⟩
          · rw [m p hp] at q2; cases q2
          · have n2 : fN z = false := n2
            rw [n] at n2; cases n2
      · refine ⟨?_, h⟩
        rw [e2]
        rcases h y hy with ⟨n2, _⟩ | ⟨_, hC, hm⟩
        · have n2 : fN y = true := n2
          rw [n] at n2; cases n2
        · rcases h z hz with ⟨n2, _⟩ | ⟨_, hC', hm'⟩
          · have n2 : fN z = true := n2
            rw [n'] at n2; cases n2
          · have hC : zt_C (zt_t (tkW fB y)) := hC
            have hC' : zt_C (zt_t (tkW fB z)) := hC'
            rcases ab with ⟨a, ok⟩ | ⟨a, k, hk, ok, bad⟩
            · obtain ⟨c, s⟩ := zt_to hC hC' 16 (Nat.le_refl _) ok
              obtain ⟨p, hp, hs⟩ := zt_ne c
              obtain ⟨s1, s2⟩ := (s _).mp hs
              have s3 : zt_S (zt_t (tkW fB z)) (zt_v p) := fun i j hi hj => by
                have q := s2 (4 * i + j) (by omega)
                rw [show (4 * i + j) / 4 = i by omega, show (4 * i + j) % 4 = j by omega] at q
                exact q
              rw [a, anyUp_hit (f := fun p => fM (y * 2197 + p) && fM (z * 2197 + p)) hp (by
                show (zt_m fM y p && zt_m fM z p) = true
                rw [(hm p hp).mpr s1, (hm' p hp).mpr s3]; rfl)]
              exact zI_1
            · rw [a, none (fun p hp q1 q2 => ?_)]
              obtain ⟨c, s⟩ := zt_to hC hC' k (by omega) ok
              have q1 := (hm p hp).mp q1
              have q2 := (hm' p hp).mp q2
              have q3 : ∀ t, t < 16 → zt_v p (t / 4) - zt_v p (t % 4) ≤ (fB (16 * z + t)).toInt := fun t ht => by
                have q := q2 (t / 4) (t % 4) (by omega) (by omega)
                unfold zt_t tkW at q
                rw [show 4 * (t / 4) + t % 4 = t by omega] at q
                exact q
              have e : (fB (16 * z + k)).toInt = zt_t (tkW fB z) (k / 4) (k % 4) := by
                unfold zt_t tkW
                rw [show 4 * (k / 4) + k % 4 = k by omega]
              have r1 := zt_lo hC' (i := k / 4) (j := k % 4) (by omega) (by omega)
              have r2 := zt_hi hC' (i := k / 4) (j := k % 4) (by omega) (by omega)
              rcases zt_nw (i := k / 4) (j := k % 4) (c := fB (16 * z + k)) c (by omega) (by omega) (by omega) with ⟨c1, c2, c3⟩ | ⟨c1, c2⟩
              · rw [bad] at c1; cases c1
              · have t1 := c2 _ ((s (zt_v p)).mpr ⟨q1, fun t ht => q3 t (by omega)⟩)
                have t2 := q3 k hk
                omega
    · obtain ⟨rfl, rfl⟩ := a
      obtain ⟨rfl, rfl⟩ := b
      exact ⟨rfl, h⟩
  · obtain ⟨rfl, rfl⟩ := a
    obtain ⟨rfl, rfl⟩ := b
    exact ⟨rfl, h⟩
end OPS
end
section
/-! hull and widest: the greatest difference over the marks -/
theorem zt_gr {f : Nat → Bool} {i j : Nat} : ∀ n, n ≤ 2197 → (∀ p, p < n → f p = true → zt_v p i - zt_v p j ≤ (grI f i j n).toInt) ∧ (((grI f i j n).toInt = -100 ∧ ∀ p, p < n → f p = false) ∨ ∃ p, p < n ∧ f p = true ∧ zt_v p i - zt_v p j = (grI f i j n).toInt)
  | 0, _ => ⟨fun p hp => by omega, Or.inl ⟨(by decide : ((-100 : Int32)).toInt = -100), fun p hp => by omega⟩⟩
  | n + 1, hn => by
    obtain ⟨a, b⟩ := zt_gr (f := f) (i := i) (j := j) n (by omega)
    have e := zt_dif (p := n) (i := i) (j := j) (by omega)
    have ri := zt_vr (p := n) (by omega) i
    have rj := zt_vr (p := n) (by omega) j
    rw [grI]
    by_cases c : f n = true ∧ (grI f i j n).toInt < (nI (vl n i) - nI (vl n j)).toInt
    · rw [if_pos c, e]
      refine ⟨fun p hp hf => ?_, Or.inr ⟨n, by omega, c.1, rfl⟩⟩
      by_cases q : p = n
      · rw [q]; exact Int.le_refl _
      · have := a p (by omega) hf
        omega
    · rw [if_neg c]
      refine ⟨fun p hp hf => ?_, ?_⟩
      · by_cases q : p = n
        · rw [q] at hf ⊢
          by_cases d : (grI f i j n).toInt < (nI (vl n i) - nI (vl n j)).toInt
          · exact absurd ⟨hf, d⟩ c
          · omega
        · exact a p (by omega) hf
      · rcases b with ⟨b1, b2⟩ | ⟨p, hp, b1, b2⟩
        · refine Or.inl ⟨b1, fun p hp => ?_⟩
          by_cases q : p = n
          · rw [q]
            refine Bool.eq_false_iff.mpr (fun hf => c ⟨hf, ?_⟩)
            omega
          · exact b2 p (by omega)
        · exact Or.inr ⟨p, by omega, b1, b2⟩
/-- over the readings of a closed table it is the bound -/
theorem zt_grC {f : Nat → Bool} {M : Nat → Nat → Int} (hC : zt_C M) (hm : ∀ p, p < 2197 → (f p = true ↔ zt_S M (zt_v p))) {i j : Nat} (hi : i < 4) (hj : j < 4) : (grI f i j 2197).toInt = M i j := by
  obtain ⟨a, b⟩ := zt_gr (f := f) (i := i) (j := j) 2197 (Nat.le_refl _)
  obtain ⟨p, hp, hs, e⟩ := zt_att hC hi hj
  have a1 := a p hp ((hm p hp).mpr hs)
  rcases b with ⟨_, b⟩ | ⟨q, hq, b1, b2⟩
  · have := (hm p hp).mpr hs
    rw [b p hp] at this
    cases this
  · have := (hm q hq).mp b1 i j hi hj
    omega
theorem zt_gr0 {f : Nat → Bool} (hm : ∀ p, p < 2197 → f p = false) {i j : Nat} : (grI f i j 2197).toInt = -100 := by
  obtain ⟨a, b⟩ := zt_gr (f := f) (i := i) (j := j) 2197 (Nat.le_refl _)
  rcases b with ⟨b, _⟩ | ⟨q, hq, b1, b2⟩
  · exact b
  · rw [hm q hq] at b1
    cases b1
theorem zt_grU {f : Nat → Bool} {M N : Nat → Nat → Int} (hC : zt_C M) (hC' : zt_C N) (hm : ∀ p, p < 2197 → (f p = true ↔ (zt_S M (zt_v p) ∨ zt_S N (zt_v p)))) {i j : Nat} (hi : i < 4) (hj : j < 4) : (grI f i j 2197).toInt = if M i j < N i j then N i j else M i j := by
  obtain ⟨a, b⟩ := zt_gr (f := f) (i := i) (j := j) 2197 (Nat.le_refl _)
  obtain ⟨p, hp, hs, e⟩ := zt_att hC hi hj
  obtain ⟨p', hp', hs', e'⟩ := zt_att hC' hi hj
  have a1 := a p hp ((hm p hp).mpr (Or.inl hs))
  have a2 := a p' hp' ((hm p' hp').mpr (Or.inr hs'))
  rcases b with ⟨_, b⟩ | ⟨q, hq, b1, b2⟩
  · have := (hm p hp).mpr (Or.inl hs)
    rw [b p hp] at this
    cases this
  · rcases (hm q hq).mp b1 with c | c
    · have := c i j hi hj
      split <;> omega
    · have := c i j hi hj
      split <;> omega
theorem zt_hu {fM fD : Nat → Bool} {y : Nat} : ∀ n, ∀ p, p < 2197 → (zt_m (huM fM fD y n) y p = true ↔ ∀ t, t < n → zt_v p (t / 4) - zt_v p (t % 4) ≤ (grI fD (t / 4) (t % 4) 2197).toInt)
  | 0, p, hp => by
    rw [huM, zm_blk hp]
    exact ⟨fun _ t ht => by omega, fun _ => rfl⟩
  | n + 1, p, hp => by
    rw [huM, drM, zm_blk hp, Bool.and_eq_true, show (huM fM fD y n (y * 2197 + p) = true ↔ _) from zt_hu n p hp, decide_eq_true_iff, zt_dif hp]
    constructor
    · rintro ⟨a, b⟩ t ht
      by_cases e : t = n
      · rw [e]; exact b
      · exact a t (by omega)
    · intro a
      exact ⟨fun t ht => a t (by omega), a n (by omega)⟩
theorem zt_hu_ne {fM fD : Nat → Bool} {y z p : Nat} (h : z ≠ y) (hp : p < 2197) : ∀ n, zt_m (huM fM fD y n) z p = zt_m fM z p
  | 0 => by rw [huM, zm_blk_ne h hp]
  | n + 1 => by rw [huM, drM, zm_blk_ne h hp, zt_hu_ne h hp n]
theorem zt_hu16 {fM fD : Nat → Bool} {y p : Nat} {M : Nat → Nat → Int} (hg : ∀ i j, i < 4 → j < 4 → (grI fD i j 2197).toInt = M i j) (hp : p < 2197) : zt_m (huM fM fD y 16) y p = true ↔ zt_S M (zt_v p) := by
  rw [zt_hu 16 p hp]
  constructor
  · intro a i j hi hj
    have q := a (4 * i + j) (by omega)
    rw [show (4 * i + j) / 4 = i by omega, show (4 * i + j) % 4 = j by omega, hg i j hi hj] at q
    exact q
  · intro a t ht
    have q := a (t / 4) (t % 4) (by omega) (by omega)
    rw [hg (t / 4) (t % 4) (by omega) (by omega)]
    exact q
section OPS
variable {fB fW : Nat → Int32} {fN fM fD : Nat → Bool} {r1 r2 : Int32} {u1 : SX} {u2 : SM}
theorem La_widest {z0 i0 j0 : Int32} (h : zt_Rel (fB, fN, fW) (fM, fD))
    (h1 : inZ z0 (fun z => inP i0 j0 (fun i j => r1 = (if fN z then (-300) else fB (16 * z + 4 * i + j)) ∧ u1 = (fB, fN, fW)) (r1 = (-200) ∧ u1 = (fB, fN, fW))) (r1 = (-100) ∧ u1 = (fB, fN, fW)))
    (h2 : inZ z0 (fun z => inP i0 j0 (fun i j => r2 = (if grI (blk fD 0 2197 (fun p => fM (z * 2197 + p))) i j 2197 = (-100) then (-300) else grI (blk fD 0 2197 (fun p => fM (z * 2197 + p))) i j 2197) ∧ u2 = (fM, (blk fD 0 2197 (fun p => fM (z * 2197 + p))))) (r2 = (-200) ∧ u2 = (fM, fD))) (r2 = (-100) ∧ u2 = (fM, fD))) : r1 = r2 ∧ zt_Rel u1 u2 := by
  refine zz_Z h1 h2 (fun z hz a b => ?_) (fun a b => ?_)
  · refine zz_P a b (fun i j hi hj hij a b => ?_) (fun a b => ?_)
    · obtain ⟨rfl, rfl⟩ := a
      obtain ⟨rfl, rfl⟩ := b
      refine ⟨?_, h⟩
      have ed : ∀ p, p < 2197 → blk fD 0 2197 (fun p => fM (z * 2197 + p)) p = zt_m fM z p := fun p hp => blk0_in hp
      have e100 : ((-100 : Int32)).toInt = -100 := by decide
      rcases h z hz with ⟨n, m⟩ | ⟨n, hC, hm⟩
      · have n : fN z = true := n
        have g := zt_gr0 (f := blk fD 0 2197 (fun p => fM (z * 2197 + p))) (i := i) (j := j) (fun p hp => by rw [ed p hp]; exact m p hp)
        rw [if_pos n, if_pos (Int32.toInt_inj.mp (by rw [g, e100]))]
      · have n : fN z = false := n
        have hC : zt_C (zt_t (tkW fB z)) := hC
        have g := zt_grC (f := blk fD 0 2197 (fun p => fM (z * 2197 + p))) hC (fun p hp => by rw [ed p hp]; exact hm p hp) hi hj
        have lo := zt_lo hC hi hj
        rw [if_neg (by rw [n]; decide), if_neg (fun q => by rw [q, e100] at g; omega)]
        refine Int32.toInt_inj.mp ?_
        rw [g, Nat.add_assoc]; rfl
    · obtain ⟨rfl, rfl⟩ := a
      obtain ⟨rfl, rfl⟩ := b
      exact ⟨rfl, h⟩
  · obtain ⟨rfl, rfl⟩ := a
    obtain ⟨rfl, rfl⟩ := b
    exact ⟨rfl, h⟩
theorem La_hull {y0 z0 : Int32} (h : zt_Rel (fB, fN, fW) (fM, fD))
    (h1 : inZ y0 (fun y => inZ z0 (fun z => u1 = (if fN y then (blk fB (16 * y) 16 (fun k => fB (16 * z + k)), updB fN y (fN z), fW) else if fN z then (fB, fN, fW) else (blk fB (16 * y) 16 (fun k => if (fB (16 * y + k)).toInt < (fB (16 * z + k)).toInt then fB (16 * z + k) else fB (16 * y + k)), fN, fW)) ∧ r1 = lfI (u1.2.1 y)) (r1 = (-1) ∧ u1 = (fB, fN, fW))) (r1 = (-1) ∧ u1 = (fB, fN, fW)))
    (h2 : inZ y0 (fun y => inZ z0 (fun z => u2 = (huM fM (blk fD 0 2197 (fun q => fM (y * 2197 + q) || fM (z * 2197 + q))) y 16, blk fD 0 2197 (fun q => fM (y * 2197 + q) || fM (z * 2197 + q))) ∧ r2 = zI (someR u2.1 y)) (r2 = (-1) ∧ u2 = (fM, fD))) (r2 = (-1) ∧ u2 = (fM, fD))) : r1 = r2 ∧ zt_Rel u1 u2 := by
  refine zz_Z h1 h2 (fun y hy a b => ?_) (fun a b => ?_)
  · refine zz_Z a b (fun z hz a b => ?_) (fun a b => ?_)
    · obtain ⟨rfl, e1⟩ := a
      obtain ⟨rfl, e2⟩ := b
      have ed : ∀ p, p < 2197 → blk fD 0 2197 (fun q => fM (y * 2197 + q) || fM (z * 2197 + q)) p = (zt_m fM y p || zt_m fM z p) := fun p hp => blk0_in hp
      generalize blk fD 0 2197 (fun q => fM (y * 2197 + q) || fM (z * 2197 + q)) = G at ed e2 ⊢
      rcases h y hy with ⟨n, m⟩ | ⟨n, hC, hm⟩
      · have n : fN y = true := n
        rw [if_pos n] at e1 ⊢
        refine zt_fin (y := y) h (fun t k hne hk => tk_blk_ne hne hk) (fun t hne => updB_ne hne) (fun t p hne hp => zt_hu_ne hne hp 16) ?_ e1 e2
        rcases h z hz with ⟨n', m'⟩ | ⟨n', hC', hm'⟩
        · have n' : fN z = true := n'
          refine Or.inl ⟨by rw [updB_self]; exact n', fun p hp => Bool.eq_false_iff.mpr (fun q => ?_)⟩
          have q := (zt_hu 16 p hp).mp q 0 (by omega)
          rw [zt_gr0 (fun p hp => by rw [ed p hp, m p hp, m' p hp]; rfl)] at q
          have a := zt_vr hp (0 / 4)
          have b := zt_vr hp (0 % 4)
          omega
        · have n' : fN z = false := n'
          refine zt_R_congr (fun k hk => (tk_blk hk).symm) (updB_self _ _ _).symm (fun p hp => rfl) (Or.inr ⟨n', hC', fun p hp => ?_⟩)
          exact zt_hu16 (fun i j hi hj => zt_grC hC' (fun p hp => by rw [ed p hp, m p hp, Bool.false_or]; exact hm' p hp) hi hj) hp
      · have n : fN y = false := n
        have hC : zt_C (zt_t (tkW fB y)) := hC
        rw [if_neg (by rw [n]; decide)] at e1 ⊢
        rcases h z hz with ⟨n', m'⟩ | ⟨n', hC', hm'⟩
        · have n' : fN z = true := n'
          rw [if_pos n'] at e1 ⊢
          refine zt_fin (y := y) h (fun _ _ _ _ => rfl) (fun _ _ => rfl) (fun t p hne hp => zt_hu_ne hne hp 16) (Or.inr ⟨n, hC, fun p hp => ?_⟩) e1 e2
          exact zt_hu16 (fun i j hi hj => zt_grC hC (fun p hp => by rw [ed p hp, m' p hp, Bool.or_false]; exact hm p hp) hi hj) hp
        · have n' : fN z = false := n'
          have hC' : zt_C (zt_t (tkW fB z)) := hC'
          rw [if_neg (by rw [n']; decide)] at e1 ⊢
          have hA : ∀ p q, p < 4 → q < 4 → zt_t (tkW (blk fB (16 * y) 16 (fun k => if (fB (16 * y + k)).toInt < (fB (16 * z + k)).toInt then fB (16 * z + k) else fB (16 * y + k))) y) p q = if zt_t (tkW fB y) p q < zt_t (tkW fB z) p q then zt_t (tkW fB z) p q else zt_t (tkW fB y) p q := fun p q hp hq => by
            show (tkW _ y (4 * p + q)).toInt = _
            rw [tk_blk (show 4 * p + q < 16 by omega)]
            by_cases c : zt_t (tkW fB y) p q < zt_t (tkW fB z) p q
            · rw [if_pos c, if_pos (show (fB (16 * y + (4 * p + q))).toInt < (fB (16 * z + (4 * p + q))).toInt from c)]; rfl
            · rw [if_neg c, if_neg (show ¬ (fB (16 * y + (4 * p + q))).toInt < (fB (16 * z + (4 * p + q))).toInt from c)]; rfl
          refine zt_fin (y := y) h (fun t k hne hk => tk_blk_ne hne hk) (fun _ _ => rfl) (fun t p hne hp => zt_hu_ne hne hp 16) (Or.inr ⟨n, ⟨fun p hp => ?_, fun p r q hp hr hq => ?_, fun p hp => ?_, fun p hp => ?_⟩, fun p hp => ?_⟩) e1 e2
          · have a := hC.1 p hp
            have b := hC'.1 p hp
            rw [hA p p hp hp]
            split <;> omega
          · have a := hC.2.1 p r q hp hr hq
            have b := hC'.2.1 p r q hp hr hq
            rw [hA p q hp hq, hA p r hp hr, hA r q hr hq]
            split <;> split <;> split <;> omega
          · have a := hC.2.2.1 p hp
            have b := hC'.2.2.1 p hp
            rw [hA p 0 hp (by omega)]
            split <;> omega
          · have a := hC.2.2.2 p hp
            have b := hC'.2.2.2 p hp
            rw [hA 0 p (by omega) hp]
            split <;> omega
          · refine zt_hu16 (fun i j hi hj => ?_) hp
            rw [hA i j hi hj]
            exact zt_grU hC hC' (fun p hp => by rw [ed p hp, Bool.or_eq_true, hm p hp, hm' p hp]) hi hj
    · obtain ⟨rfl, rfl⟩ := a
      obtain ⟨rfl, rfl⟩ := b
      exact ⟨rfl, h⟩
  · obtain ⟨rfl, rfl⟩ := a
    obtain ⟨rfl, rfl⟩ := b
    exact ⟨rfl, h⟩
end OPS
end
section
/-! size: the sum over clock 1 and clock 2 of the spans of clock 3 is the number of marks -/
theorem zt_szOk {fB : Nat → Int32} {z : Nat} (hC : zt_C (zt_t (tkW fB z))) : szOk fB z := by
  have e1 : (fB (16 * z + 1)).toInt = zt_t (tkW fB z) 0 1 := rfl
  have e4 : (fB (16 * z + 4)).toInt = zt_t (tkW fB z) 1 0 := rfl
  have a1 := hC.2.2.2 1 (by omega)
  have a2 := hC.2.2.1 1 (by omega)
  have a3 := hC.2.1 1 0 1 (by omega) (by omega) (by omega)
  have a4 := hC.1 1 (by omega)
  have a5 := zt_lo hC (i := 0) (j := 1) (by omega) (by omega)
  refine ⟨(-(zt_t (tkW fB z) 0 1)).toNat, (zt_t (tkW fB z) 1 0).toNat, by omega, by omega, ?_, ?_, fun a h1 h2 => ?_⟩
  · refine Int32.toInt_inj.mp ?_
    have n1 : (nI (-(zt_t (tkW fB z) 0 1)).toNat).toInt = (((-(zt_t (tkW fB z) 0 1)).toNat : Nat) : Int) := nI_toInt (by omega)
    rw [zt_neg (by omega), n1, e1]
    omega
  · refine Int32.toInt_inj.mp ?_
    rw [nI_toInt (by omega), e4]
    omega
  · obtain ⟨p, hp, hs, ea⟩ := zt_ext hC (c := 1) (a := (a : Int)) (by omega) (by omega) (by omega)
    have xa : (nI a).toInt = a := nI_toInt (by omega)
    rcases zt_fx (k := 1) (x := nI a) hC (by omega) (by omega) with ⟨b1, b2, b3⟩ | ⟨b1, b2⟩
    · have f2 : (fxW (tkW fB z) 1 (nI a) 2).toInt = zt_t (fxW (tkW fB z) 1 (nI a)) 0 2 := rfl
      have f8 : (fxW (tkW fB z) 1 (nI a) 8).toInt = zt_t (fxW (tkW fB z) 1 (nI a)) 2 0 := rfl
      have c1 := b2.2.2.2 2 (by omega)
      have c2 := b2.2.2.1 2 (by omega)
      have c3 := b2.2.1 2 0 2 (by omega) (by omega) (by omega)
      have c4 := b2.1 2 (by omega)
      have c5 := zt_lo b2 (i := 0) (j := 2) (by omega) (by omega)
      refine ⟨(-(zt_t (fxW (tkW fB z) 1 (nI a)) 0 2)).toNat, (zt_t (fxW (tkW fB z) 1 (nI a)) 2 0).toNat, by omega, by omega, ?_, ?_⟩
      · refine Int32.toInt_inj.mp ?_
        have n1 : (nI (-(zt_t (fxW (tkW fB z) 1 (nI a)) 0 2)).toNat).toInt = (((-(zt_t (fxW (tkW fB z) 1 (nI a)) 0 2)).toNat : Nat) : Int) := nI_toInt (by omega)
        rw [zt_neg (by omega), n1, f2]
        omega
      · refine Int32.toInt_inj.mp ?_
        rw [nI_toInt (by omega), f8]
        omega
    · have e0 := zt_v0 p
      exact absurd (by omega) (b2 _ hs)
def zsm (g : Nat → Nat) : Nat → Nat
  | 0 => 0
  | n + 1 => zsm g n + g n
theorem zsm_congr {g g' : Nat → Nat} : ∀ n, (∀ k, k < n → g k = g' k) → zsm g n = zsm g' n
  | 0, _ => rfl
  | n + 1, h => by rw [zsm, zsm, zsm_congr n (fun k hk => h k (by omega)), h n (by omega)]
theorem zsm_0 {g : Nat → Nat} : ∀ n, (∀ k, k < n → g k = 0) → zsm g n = 0
  | 0, _ => rfl
  | n + 1, h => by rw [zsm, zsm_0 n (fun k hk => h k (by omega)), h n (by omega)]
theorem zsm_tail {g : Nat → Nat} {m : Nat} : ∀ n, m ≤ n → (∀ k, m ≤ k → k < n → g k = 0) → zsm g n = zsm g m
  | 0, h, _ => by rw [show m = 0 by omega]
  | n + 1, h, h0 => by
    by_cases e : m = n + 1
    · rw [e]
    · rw [zsm, zsm_tail n (by omega) (fun k hk hk2 => h0 k hk (by omega)), h0 n (by omega) (by omega)]; rfl
theorem zsm_cut {G : Nat → Nat} {lo hi n : Nat} (hn : hi < n) (h1 : ∀ b, b < lo → b < n → G b = 0) (h2 : ∀ b, hi < b → b < n → G b = 0) : zsm (fun b => if lo ≤ b then G b else 0) (hi + 1) = zsm G n := by
  rw [zsm_tail (g := G) (m := hi + 1) n (by omega) (fun k hk hk2 => h2 k (by omega) hk2)]
  refine zsm_congr _ (fun k hk => ?_)
  by_cases c : lo ≤ k
  · rw [if_pos c]
  · rw [if_neg c, h1 k (by omega) (by omega)]
theorem cnt_0 {f : Nat → Bool} : ∀ n, (∀ k, k < n → f k = false) → cntB f n = 0
  | 0, _ => rfl
  | n + 1, h => by
    rw [cntB, cnt_0 n (fun k hk => h k (by omega)), if_neg (by rw [h n (by omega)]; decide)]
theorem cnt_add {f : Nat → Bool} (m : Nat) : ∀ n, cntB f (m + n) = cntB f m + cntB (fun t => f (m + t)) n
  | 0 => rfl
  | n + 1 => by
    show (if f (m + n) then cntB f (m + n) + 1 else cntB f (m + n)) = cntB f m + (if f (m + n) then cntB (fun t => f (m + t)) n + 1 else cntB (fun t => f (m + t)) n)
    rw [cnt_add m n]
    by_cases c : f (m + n) = true
    · rw [if_pos c, if_pos c]; omega
    · rw [if_neg c, if_neg c]
theorem cnt_mul {f : Nat → Bool} (w : Nat) : ∀ n, cntB f (n * w) = zsm (fun a => cntB (fun t => f (a * w + t)) w) n
  | 0 => by rw [Nat.zero_mul]; rfl
  | n + 1 => by rw [Nat.succ_mul, cnt_add, cnt_mul w n]; rfl
theorem cnt_3 {f : Nat → Bool} : cntB f 2197 = zsm (fun a => zsm (fun b => cntB (fun c => f (a * 169 + (b * 13 + c))) 13) 13) 13 := by
  rw [show (2197 : Nat) = 13 * 169 from rfl, cnt_mul 169 13]
  refine zsm_congr _ (fun a _ => ?_)
  rw [show (169 : Nat) = 13 * 13 from rfl, cnt_mul 13 13]
theorem cnt_iv {f : Nat → Bool} {L H : Int} (hL : 0 ≤ L) : ∀ n : Nat, (∀ c : Nat, c < n → (f c = true ↔ (L ≤ (c : Int) ∧ (c : Int) ≤ H))) → ((H < L ∨ (n : Int) ≤ L) → (cntB f n : Int) = 0) ∧ (L ≤ H → L ≤ (n : Int) → (n : Int) ≤ H + 1 → (cntB f n : Int) = n - L) ∧ (L ≤ H → H + 1 ≤ (n : Int) → (cntB f n : Int) = H + 1 - L)
  | 0, _ => by
    have e : cntB f 0 = 0 := rfl
    rw [e]
    omega
  | n + 1, h => by
    have ih := cnt_iv (f := f) hL n (fun c hc => h c (by omega))
    have hn := h n (by omega)
    have e : cntB f (n + 1) = if f n then cntB f n + 1 else cntB f n := rfl
    by_cases c : f n = true
    · rw [if_pos c] at e
      have q := hn.mp c
      rw [e]
      omega
    · rw [if_neg c] at e
      have q : ¬ (L ≤ (n : Int) ∧ (n : Int) ≤ H) := fun q => c (hn.mpr q)
      rw [e]
      omega
theorem mnV_t (x y : Int32) : (mnV x y).toInt = min x.toInt y.toInt := by
  unfold mnV
  split <;> omega
theorem mxV_t (x y : Int32) : (mxV x y).toInt = max x.toInt y.toInt := by
  unfold mxV
  split <;> omega
/-- the span of clock 3, with clock 1 fixed at a and clock 2 at b -/
theorem zt_span {W : Nat → Int32} {a b : Nat} {f : Nat → Bool} (hC : zt_C (zt_t W)) (ha : a ≤ 12) (hb : b ≤ 12) (h1 : zt_t W 1 0 = a) (h2 : zt_t W 0 1 = -(a : Int)) (h3 : -(zt_t W 0 2) ≤ (b : Int)) (h4 : (b : Int) ≤ zt_t W 2 0)
    (hf : ∀ c, c < 13 → (f c = true ↔ zt_S (zt_t W) (zt_v (169 * a + 13 * b + c)))) : spanF W (nI a) (nI b) = nI (cntB f 13) := by
  have xa : (nI a).toInt = a := nI_toInt (by omega)
  have xb : (nI b).toInt = b := nI_toInt (by omega)
  have w14 : (W 14).toInt = zt_t W 3 2 := rfl
  have w13 : (W 13).toInt = zt_t W 3 1 := rfl
  have w12 : (W 12).toInt = zt_t W 3 0 := rfl
  have w11 : (W 11).toInt = zt_t W 2 3 := rfl
  have w7 : (W 7).toInt = zt_t W 1 3 := rfl
  have w3 : (W 3).toInt = zt_t W 0 3 := rfl
  have b32 := zt_lo hC (i := 3) (j := 2) (by omega) (by omega)
  have c32 := zt_hi hC (i := 3) (j := 2) (by omega) (by omega)
  have b31 := zt_lo hC (i := 3) (j := 1) (by omega) (by omega)
  have c31 := zt_hi hC (i := 3) (j := 1) (by omega) (by omega)
  have b23 := zt_lo hC (i := 2) (j := 3) (by omega) (by omega)
  have c23 := zt_hi hC (i := 2) (j := 3) (by omega) (by omega)
  have b13 := zt_lo hC (i := 1) (j := 3) (by omega) (by omega)
  have c13 := zt_hi hC (i := 1) (j := 3) (by omega) (by omega)
  have b30 := zt_pos hC (i := 3) (by omega)
  have c30 := hC.2.2.1 3 (by omega)
  have b03 := zt_lo hC (i := 0) (j := 3) (by omega) (by omega)
  have c03 := hC.2.2.2 3 (by omega)
  have t02 := hC.2.1 0 1 2 (by omega) (by omega) (by omega)
  have t20 := hC.2.1 2 1 0 (by omega) (by omega) (by omega)
  have d0 := hC.1 0 (by omega)
  have d1 := hC.1 1 (by omega)
  have d2 := hC.1 2 (by omega)
  have d3 := hC.1 3 (by omega)
  have eH : (spanHi W (nI a) (nI b)).toInt = min (zt_t W 3 2 + b) (min (zt_t W 3 1 + a) (zt_t W 3 0)) := by
    unfold spanHi
    rw [mnV_t, mnV_t, zt_add (by omega) (by omega), zt_add (by omega) (by omega), w14, w13, w12, xa, xb]
  have eL : (spanLo W (nI a) (nI b)).toInt = max (b - zt_t W 2 3) (max (a - zt_t W 1 3) (-(zt_t W 0 3))) := by
    unfold spanLo
    rw [mxV_t, mxV_t, zt_sub (by omega) (by omega), zt_sub (by omega) (by omega), zt_neg (by omega), w11, w7, w3, xa, xb]
  generalize hH : (spanHi W (nI a) (nI b)).toInt = H at eH
  generalize hL : (spanLo W (nI a) (nI b)).toInt = L at eL
  have iv : ∀ c : Nat, c < 13 → (f c = true ↔ (L ≤ (c : Int) ∧ (c : Int) ≤ H)) := by
    intro c hc
    rw [hf c hc]
    obtain ⟨v1, v2, v3⟩ := zt_abc ha hb (show c ≤ 12 by omega)
    have v0 := zt_v0 (169 * a + 13 * b + c)
    constructor
    · intro h
      have k1 := h 3 2 (by omega) (by omega)
      have k2 := h 3 1 (by omega) (by omega)
      have k3 := h 3 0 (by omega) (by omega)
      have k4 := h 2 3 (by omega) (by omega)
      have k5 := h 1 3 (by omega) (by omega)
      have k6 := h 0 3 (by omega) (by omega)
      omega
    · intro h i j hi hj
      rcases lt4 hi with rfl | rfl | rfl | rfl <;> rcases lt4 hj with rfl | rfl | rfl | rfl <;> omega
  have cnt := cnt_iv (by omega) 13 iv
  have c13 : cntB f 13 < 2147483648 := by omega
  refine Int32.toInt_inj.mp ?_
  rw [nI_toInt c13]
  unfold spanF
  rw [hH, hL]
  by_cases c : H < L
  · rw [if_pos c, nI_toInt (by omega)]
    have := cnt.1 (Or.inl c)
    omega
  · rw [if_neg c]
    have s1 := zt_sub (a := spanHi W (nI a) (nI b)) (b := spanLo W (nI a) (nI b)) (by omega) (by omega)
    have o1 : (nI 1).toInt = 1 := by rw [nI_toInt (by omega)]; rfl
    rw [zt_add (by omega) (by omega), s1, hH, hL, o1]
    have := cnt.2.2 (by omega) (by omega)
    omega
theorem smJ_z {s : Int32} {g : Nat → Int32} {G : Nat → Nat} {lo : Nat} : ∀ n, (∀ b, lo ≤ b → b < n → g b = nI (G b)) → smJ s g lo n = s + nI (zsm (fun b => if lo ≤ b then G b else 0) n)
  | 0, _ => by
    rw [smJ, zsm, show nI 0 = (0 : Int32) from rfl, Int32.add_zero]
  | n + 1, h => by
    rw [smJ, zsm, smJ_z n (fun b h1 h2 => h b h1 (by omega))]
    by_cases c : lo ≤ n
    · rw [if_pos c, if_pos c, h n c (by omega), ← nI_add, Int32.add_assoc]
    · rw [if_neg c, if_neg c, Nat.add_zero]
theorem szA_z {fB : Nat → Int32} {z lo : Nat} {R : Nat → Nat} : ∀ n, (∀ a s, lo ≤ a → a < n → rowS fB z s a = s + nI (R a)) → szA fB z lo n = nI (zsm (fun a => if lo ≤ a then R a else 0) n)
  | 0, _ => rfl
  | n + 1, h => by
    rw [szA, zsm, szA_z n (fun a s h1 h2 => h a s h1 (by omega))]
    by_cases c : lo ≤ n
    · rw [if_pos c, if_pos c, h n _ c (by omega), nI_add]
    · rw [if_neg c, if_neg c, Nat.add_zero]
theorem zt_size {fB : Nat → Int32} {z : Nat} {m : Nat → Bool} (hC : zt_C (zt_t (tkW fB z))) (hm : ∀ p, p < 2197 → (m p = true ↔ zt_S (zt_t (tkW fB z)) (zt_v p))) : szA fB z (-(fB (16 * z + 1))).toNatClampNeg ((fB (16 * z + 4)).toNatClampNeg + 1) = nI (cntB m 2197) := by
  obtain ⟨lo, hi, h1, h2, q1, q4, row⟩ := zt_szOk hC
  have n1 : (nI lo).toInt = lo := nI_toInt (by omega)
  have n4 : (nI hi).toInt = hi := nI_toInt (by omega)
  have m01 : zt_t (tkW fB z) 0 1 = -(lo : Int) := by
    show (fB (16 * z + 1)).toInt = _
    rw [q1, zt_neg (by omega), n1]
  have m10 : zt_t (tkW fB z) 1 0 = (hi : Int) := by
    show (fB (16 * z + 4)).toInt = _
    rw [q4, n4]
  rw [q1, q4, nI_negneg, nI_clamp (by omega), nI_clamp (by omega), cnt_3]
  have hp : ∀ a b c, a < 13 → b < 13 → c < 13 → a * 169 + (b * 13 + c) = 169 * a + 13 * b + c ∧ 169 * a + 13 * b + c < 2197 := fun a b c ha hb hc => ⟨by omega, by omega⟩
  rw [szA_z (R := fun a => zsm (fun b => cntB (fun c => m (a * 169 + (b * 13 + c))) 13) 13) (hi + 1) (fun a s ha1 ha2 => ?_)]
  · rw [zsm_cut (G := fun a => zsm (fun b => cntB (fun c => m (a * 169 + (b * 13 + c))) 13) 13) (n := 13) (by omega) (fun a ha1 ha2 => ?_) (fun a ha1 ha2 => ?_)]
    · refine zsm_0 _ (fun b hb => cnt_0 _ (fun c hc => Bool.eq_false_iff.mpr (fun q => ?_)))
      have q : m (a * 169 + (b * 13 + c)) = true := q
      obtain ⟨e, lt⟩ := hp a b c ha2 hb hc
      rw [e, hm _ lt] at q
      obtain ⟨v1, v2, v3⟩ := zt_abc (show a ≤ 12 by omega) (show b ≤ 12 by omega) (show c ≤ 12 by omega)
      have v0 := zt_v0 (169 * a + 13 * b + c)
      have k := q 0 1 (by omega) (by omega)
      omega
    · refine zsm_0 _ (fun b hb => cnt_0 _ (fun c hc => Bool.eq_false_iff.mpr (fun q => ?_)))
      have q : m (a * 169 + (b * 13 + c)) = true := q
      obtain ⟨e, lt⟩ := hp a b c ha2 hb hc
      rw [e, hm _ lt] at q
      obtain ⟨v1, v2, v3⟩ := zt_abc (show a ≤ 12 by omega) (show b ≤ 12 by omega) (show c ≤ 12 by omega)
      have v0 := zt_v0 (169 * a + 13 * b + c)
      have k := q 1 0 (by omega) (by omega)
      omega
  · obtain ⟨lo2, hi2, g1, g2, r2, r8⟩ := row a ha1 (by omega)
    have xa : (nI a).toInt = a := nI_toInt (by omega)
    have l2 : (nI lo2).toInt = lo2 := nI_toInt (by omega)
    have l8 : (nI hi2).toInt = hi2 := nI_toInt (by omega)
    obtain ⟨p, hpp, hs, ea⟩ := zt_ext hC (c := 1) (a := (a : Int)) (by omega) (by omega) (by omega)
    rcases zt_fx (k := 1) (x := nI a) hC (by omega) (by omega) with ⟨b1, b2, b3⟩ | ⟨b1, b2⟩
    · have m02 : zt_t (fxW (tkW fB z) 1 (nI a)) 0 2 = -(lo2 : Int) := by
        show (fxW (tkW fB z) 1 (nI a) 2).toInt = _
        rw [r2, zt_neg (by omega), l2]
      have m20 : zt_t (fxW (tkW fB z) 1 (nI a)) 2 0 = (hi2 : Int) := by
        show (fxW (tkW fB z) 1 (nI a) 8).toInt = _
        rw [r8, l8]
      have k10 : zt_t (fxW (tkW fB z) 1 (nI a)) 1 0 = a := by
        obtain ⟨p, hp, hs, e⟩ := zt_att b2 (i := 1) (j := 0) (by omega) (by omega)
        have := ((b3 _).mp hs).2
        omega
      have k01 : zt_t (fxW (tkW fB z) 1 (nI a)) 0 1 = -(a : Int) := by
        obtain ⟨p, hp, hs, e⟩ := zt_att b2 (i := 0) (j := 1) (by omega) (by omega)
        have := ((b3 _).mp hs).2
        omega
      have hf : ∀ b, b < 13 → ∀ c, c < 13 → (m (a * 169 + (b * 13 + c)) = true ↔ zt_S (zt_t (fxW (tkW fB z) 1 (nI a))) (zt_v (169 * a + 13 * b + c))) := by
        intro b hb c hc
        obtain ⟨e, lt⟩ := hp a b c (by omega) hb hc
        obtain ⟨v1, v2, v3⟩ := zt_abc (show a ≤ 12 by omega) (show b ≤ 12 by omega) (show c ≤ 12 by omega)
        have v0 := zt_v0 (169 * a + 13 * b + c)
        rw [e, hm _ lt, b3]
        exact ⟨fun q => ⟨q, by omega⟩, fun q => q.1⟩
      unfold rowS
      rw [r2, r8, nI_negneg, nI_clamp (by omega), nI_clamp (by omega), smJ_z (G := fun b => cntB (fun c => m (a * 169 + (b * 13 + c))) 13) (hi2 + 1) (fun b hb1 hb2 => ?_)]
      · rw [zsm_cut (G := fun b => cntB (fun c => m (a * 169 + (b * 13 + c))) 13) (n := 13) (by omega) (fun b hb1 hb2 => ?_) (fun b hb1 hb2 => ?_)]
        · refine cnt_0 _ (fun c hc => Bool.eq_false_iff.mpr (fun q => ?_))
          have q := (hf b hb2 c hc).mp q
          obtain ⟨v1, v2, v3⟩ := zt_abc (show a ≤ 12 by omega) (show b ≤ 12 by omega) (show c ≤ 12 by omega)
          have v0 := zt_v0 (169 * a + 13 * b + c)
          have k := q 0 2 (by omega) (by omega)
          omega
        · refine cnt_0 _ (fun c hc => Bool.eq_false_iff.mpr (fun q => ?_))
          have q := (hf b hb2 c hc).mp q
          obtain ⟨v1, v2, v3⟩ := zt_abc (show a ≤ 12 by omega) (show b ≤ 12 by omega) (show c ≤ 12 by omega)
          have v0 := zt_v0 (169 * a + 13 * b + c)
          have k := q 2 0 (by omega) (by omega)
          omega
      · exact zt_span b2 (by omega) (by omega) k10 k01 (by omega) (by omega) (hf b (by omega))
    · have e0 := zt_v0 p
      exact absurd (by omega) (b2 _ hs)
section OPS
variable {fB fW : Nat → Int32} {fN fM fD : Nat → Bool} {r1 r2 : Int32} {u1 : SX} {u2 : SM}
theorem zt_Rsz (h : zt_Rel (fB, fN, fW) (fM, fD)) : ∀ z, z < 3 → fN z = false → szOk fB z := by
  intro z hz n
  rcases h z hz with ⟨n', m⟩ | ⟨n', hC, hm⟩
  · have n' : fN z = true := n'
    rw [n] at n'
    cases n'
  · exact zt_szOk hC
theorem La_size {z0 : Int32} (h : zt_Rel (fB, fN, fW) (fM, fD))
    (h1 : inZ z0 (fun z => ((fN z = true ∧ r1 = nI 0) ∨ (fN z = false ∧ r1 = szA fB z (-(fB (16 * z + 1))).toNatClampNeg ((fB (16 * z + 4)).toNatClampNeg + 1))) ∧ ∃ W, u1 = (fB, fN, W)) (r1 = (-1) ∧ u1 = (fB, fN, fW)))
    (h2 : inZ z0 (fun z => r2 = nI (cntB (fun p => fM (z * 2197 + p)) 2197) ∧ u2 = (fM, fD)) (r2 = (-1) ∧ u2 = (fM, fD))) : r1 = r2 ∧ zt_Rel u1 u2 := by
  refine zz_Z h1 h2 (fun z hz a b => ?_) (fun a b => ?_)
  · obtain ⟨a, W, rfl⟩ := a
    obtain ⟨rfl, rfl⟩ := b
    refine ⟨?_, h⟩
    rcases h z hz with ⟨n, m⟩ | ⟨n, hC, hm⟩
    · have n : fN z = true := n
      rcases a with ⟨_, a⟩ | ⟨a, _⟩
      · rw [a, cnt_0 (f := fun p => fM (z * 2197 + p)) 2197 m]
      · rw [n] at a; cases a
    · have n : fN z = false := n
      rcases a with ⟨a, _⟩ | ⟨_, a⟩
      · rw [n] at a; cases a
      · rw [a]
        exact zt_size (m := fun p => fM (z * 2197 + p)) hC hm
  · obtain ⟨rfl, rfl⟩ := a
    obtain ⟨rfl, rfl⟩ := b
    exact ⟨rfl, h⟩
end OPS
end
section
/-! next: the least reading behind a number -/
theorem zt_nneg {c : Nat} (hc : c ≤ 100) : (-nI c).toInt = -(c : Int) := by
  have e : (nI c).toInt = c := nI_toInt (by omega)
  rw [zt_neg (by omega), e]
theorem zt_ff {fB : Nat → Int32} {z a b c : Nat} (hC : zt_C (zt_t (tkW fB z))) (ha : a ≤ 12) (hb : b ≤ 12) (hc : c ≤ 12) :
    (∃ p, p < 2197 ∧ ffR fB z a b c = nI p ∧ zt_S (zt_t (tkW fB z)) (zt_v p) ∧ zt_v p 1 = a ∧ zt_v p 2 = b ∧ (c : Int) ≤ zt_v p 3 ∧ ∀ q, q < 2197 → zt_S (zt_t (tkW fB z)) (zt_v q) → zt_v q 1 = a → zt_v q 2 = b → (c : Int) ≤ zt_v q 3 → zt_v p 3 ≤ zt_v q 3) ∨
    (ffR fB z a b c = (-1) ∧ ∀ q, zt_S (zt_t (tkW fB z)) (zt_v q) → zt_v q 1 = a → zt_v q 2 = b → zt_v q 3 < c) := by
  have ea : (nI a).toInt = a := nI_toInt (by omega)
  have eb : (nI b).toInt = b := nI_toInt (by omega)
  have ec := zt_nneg (c := c) (by omega)
  rcases zt_fx (k := 1) (x := nI a) hC (by omega) (by omega) with ⟨a1, a2, a3⟩ | ⟨a1, a2⟩
  · rcases zt_fx (k := 2) (x := nI b) a2 (by omega) (by omega) with ⟨b1, b2, b3⟩ | ⟨b1, b2⟩
    · rcases zt_nw (i := 0) (j := 3) (c := -nI c) b2 (by omega) (by omega) (by omega) with ⟨c1, c2, c3⟩ | ⟨c1, c2⟩
      · left
        obtain ⟨p, hp, hs, e⟩ := zt_att c2 (i := 0) (j := 3) (by omega) (by omega)
        obtain ⟨s2, e3⟩ := (c3 _).mp hs
        obtain ⟨s1, e2⟩ := (b3 _).mp s2
        obtain ⟨s0, e1⟩ := (a3 _).mp s1
        have v0 := zt_v0 p
        have lo := zt_lo c2 (i := 0) (j := 3) (by omega) (by omega)
        have hi := zt_hi c2 (i := 0) (j := 3) (by omega) (by omega)
        refine ⟨p, hp, ?_, s0, by omega, by omega, by omega, fun q hq sq q1 q2 q3 => ?_⟩
        · unfold ffR
          rw [if_pos ⟨a1, b1, c1⟩]
          have w3 : (nwW (fxW (fxW (tkW fB z) 1 (nI a)) 2 (nI b)) 0 3 (-nI c) 3).toInt = zt_t (nwW (fxW (fxW (tkW fB z) 1 (nI a)) 2 (nI b)) 0 3 (-nI c)) 0 3 := rfl
          have x : (nI (169 * a + 13 * b)).toInt = ((169 * a + 13 * b : Nat) : Int) := nI_toInt (by omega)
          have num := zt_num hp
          refine Int32.toInt_inj.mp ?_
          rw [zt_sub (by omega) (by omega), nI_toInt (show p < 2 ^ 31 by omega), x, w3]
          omega
        · have w0 := zt_v0 q
          have k := (c3 _).mpr ⟨(b3 _).mpr ⟨(a3 _).mpr ⟨sq, by omega⟩, by omega⟩, by omega⟩ 0 3 (by omega) (by omega)
          omega
      · right
        refine ⟨by unfold ffR; exact if_neg (fun t => by rw [c1] at t; exact absurd t.2.2 (by decide)), fun q sq q1 q2 => ?_⟩
        have w0 := zt_v0 q
        have k := c2 _ ((b3 _).mpr ⟨(a3 _).mpr ⟨sq, by omega⟩, by omega⟩)
        omega
    · right
      refine ⟨by unfold ffR; exact if_neg (fun t => by rw [b1] at t; exact absurd t.2.1 (by decide)), fun q sq q1 q2 => ?_⟩
      have w0 := zt_v0 q
      exact absurd (by omega) (b2 _ ((a3 _).mpr ⟨sq, by omega⟩))
  · right
    refine ⟨by unfold ffR; exact if_neg (fun t => by rw [a1] at t; exact absurd t.1 (by decide)), fun q sq q1 q2 => ?_⟩
    have w0 := zt_v0 q
    exact absurd (by omega) (a2 _ sq)
theorem zt_low {N : Nat → Nat → Int} {W : Nat → Int32} {k : Nat} (hN : N = zt_t W) (hC : zt_C N) (hk : k < 4) : ∃ y : Nat, y ≤ 12 ∧ -(W k) = nI y ∧ (y : Int) = -(N 0 k) := by
  subst hN
  have e : (W k).toInt = zt_t W 0 k := by
    unfold zt_t
    rw [Nat.mul_zero, Nat.zero_add]
  have a := zt_lo hC (i := 0) (j := k) (by omega) hk
  have b := hC.2.2.2 k hk
  refine ⟨(-(zt_t W 0 k)).toNat, by omega, Int32.toInt_inj.mp ?_, by omega⟩
  rw [zt_neg (by omega), nI_toInt (by omega), e]
  omega
theorem zt_fs {fB : Nat → Int32} {z a b : Nat} (hC : zt_C (zt_t (tkW fB z))) (ha : a ≤ 12) :
    (∃ p, p < 2197 ∧ fsR fB z a b = nI p ∧ zt_S (zt_t (tkW fB z)) (zt_v p) ∧ zt_v p 1 = a ∧ (b : Int) ≤ zt_v p 2 ∧ ∀ q, q < 2197 → zt_S (zt_t (tkW fB z)) (zt_v q) → zt_v q 1 = a → (b : Int) ≤ zt_v q 2 → zt_v p 2 < zt_v q 2 ∨ (zt_v p 2 = zt_v q 2 ∧ zt_v p 3 ≤ zt_v q 3)) ∨
    (fsR fB z a b = (-1) ∧ ∀ q, q < 2197 → zt_S (zt_t (tkW fB z)) (zt_v q) → zt_v q 1 = a → zt_v q 2 < b) := by
  have ea : (nI a).toInt = a := nI_toInt (by omega)
  rcases zt_fx (k := 1) (x := nI a) hC (by omega) (by omega) with ⟨a1, a2, a3⟩ | ⟨a1, a2⟩
  · by_cases hb : b ≤ 12
    · have eb := zt_nneg (c := b) (by omega)
      rcases zt_nw (i := 0) (j := 2) (c := -nI b) a2 (by omega) (by omega) (by omega) with ⟨c1, c2, c3⟩ | ⟨c1, c2⟩
      · left
        have c2 : zt_C (zt_t (fsW fB z a b)) := c2
        have c3 : ∀ v, zt_S (zt_t (fsW fB z a b)) v ↔ (zt_S (zt_t (fxW (tkW fB z) 1 (nI a))) v ∧ v 0 - v 2 ≤ (-nI b).toInt) := c3
        obtain ⟨p0, hp0, hs0, e0⟩ := zt_att c2 (i := 0) (j := 2) (by omega) (by omega)
        obtain ⟨y, hy, ey, ny⟩ := zt_low rfl c2 (k := 2) (by omega)
        have xy : (nI y).toInt = y := nI_toInt (by omega)
        have v00 := zt_v0 p0
        rcases zt_fx (k := 2) (x := nI y) c2 (by omega) (by omega) with ⟨d1, d2, d3⟩ | ⟨d1, d2⟩
        · obtain ⟨p, hp, hs, e⟩ := zt_att d2 (i := 0) (j := 3) (by omega) (by omega)
          obtain ⟨s2, e3⟩ := (d3 _).mp hs
          obtain ⟨s1, e2⟩ := (c3 _).mp s2
          obtain ⟨s0, e1⟩ := (a3 _).mp s1
          have v0 := zt_v0 p
          have lo := zt_lo d2 (i := 0) (j := 3) (by omega) (by omega)
          have hi := zt_hi d2 (i := 0) (j := 3) (by omega) (by omega)
          refine ⟨p, hp, ?_, s0, by omega, by omega, fun q hq sq q1 q2 => ?_⟩
          · unfold fsR
            rw [if_pos ⟨a1, hb, c1⟩, ey, pk_mul, nI_add]
            have w3 : (fxW (fsW fB z a b) 2 (nI y) 3).toInt = zt_t (fxW (fsW fB z a b) 2 (nI y)) 0 3 := rfl
            have x : (nI (169 * a + 13 * y)).toInt = ((169 * a + 13 * y : Nat) : Int) := nI_toInt (by omega)
            have num := zt_num hp
            refine Int32.toInt_inj.mp ?_
            rw [zt_sub (by omega) (by omega), nI_toInt (show p < 2 ^ 31 by omega), x, w3]
            omega
          · have w0 := zt_v0 q
            have sw := (c3 _).mpr ⟨(a3 _).mpr ⟨sq, by omega⟩, by omega⟩
            have k := sw 0 2 (by omega) (by omega)
            by_cases c : zt_v q 2 = y
            · have k3 := (d3 _).mpr ⟨sw, by omega⟩ 0 3 (by omega) (by omega)
              right
              omega
            · left
              omega
        · exact absurd (by omega) (d2 _ hs0)
      · right
        refine ⟨by unfold fsR; exact if_neg (fun t => by rw [c1] at t; exact absurd t.2.2 (by decide)), fun q hq sq q1 => ?_⟩
        have w0 := zt_v0 q
        have k := c2 _ ((a3 _).mpr ⟨sq, by omega⟩)
        omega
    · right
      refine ⟨by unfold fsR; exact if_neg (fun t => hb t.2.1), fun q hq sq q1 => ?_⟩
      have r := zt_vr hq 2
      omega
  · right
    refine ⟨by unfold fsR; exact if_neg (fun t => by rw [a1] at t; exact absurd t.1 (by decide)), fun q hq sq q1 => ?_⟩
    have w0 := zt_v0 q
    exact absurd (by omega) (a2 _ sq)
theorem zt_fb {fB : Nat → Int32} {z a : Nat} (hC : zt_C (zt_t (tkW fB z))) :
    (∃ p, p < 2197 ∧ fbR fB z a = nI p ∧ zt_S (zt_t (tkW fB z)) (zt_v p) ∧ (a : Int) ≤ zt_v p 1 ∧ ∀ q, q < 2197 → zt_S (zt_t (tkW fB z)) (zt_v q) → (a : Int) ≤ zt_v q 1 → zt_v p 1 < zt_v q 1 ∨ (zt_v p 1 = zt_v q 1 ∧ (zt_v p 2 < zt_v q 2 ∨ (zt_v p 2 = zt_v q 2 ∧ zt_v p 3 ≤ zt_v q 3)))) ∨
    (fbR fB z a = (-2) ∧ ∀ q, q < 2197 → zt_S (zt_t (tkW fB z)) (zt_v q) → zt_v q 1 < a) := by
  by_cases ha : a ≤ 12
  · have ea := zt_nneg (c := a) (by omega)
    rcases zt_nw (i := 0) (j := 1) (c := -nI a) hC (by omega) (by omega) (by omega) with ⟨c1, c2, c3⟩ | ⟨c1, c2⟩
    · left
      have c2 : zt_C (zt_t (fbW fB z a)) := c2
      have c3 : ∀ v, zt_S (zt_t (fbW fB z a)) v ↔ (zt_S (zt_t (tkW fB z)) v ∧ v 0 - v 1 ≤ (-nI a).toInt) := c3
      obtain ⟨p0, hp0, hs0, e0⟩ := zt_att c2 (i := 0) (j := 1) (by omega) (by omega)
      obtain ⟨x, hx, ex, nx⟩ := zt_low rfl c2 (k := 1) (by omega)
      have xx : (nI x).toInt = x := nI_toInt (by omega)
      have v00 := zt_v0 p0
      rcases zt_fx (k := 1) (x := nI x) c2 (by omega) (by omega) with ⟨d1, d2, d3⟩ | ⟨d1, d2⟩
      · rw [← ex] at d2 d3
        have d2 : zt_C (zt_t (fbW2 fB z a)) := d2
        have d3 : ∀ v, zt_S (zt_t (fbW2 fB z a)) v ↔ (zt_S (zt_t (fbW fB z a)) v ∧ v 1 - v 0 = (-(fbW fB z a 1)).toInt) := d3
        rw [ex] at d3
        obtain ⟨p1, hp1, hs1, e1⟩ := zt_att d2 (i := 0) (j := 2) (by omega) (by omega)
        obtain ⟨y, hy, ey, ny⟩ := zt_low rfl d2 (k := 2) (by omega)
        have xy : (nI y).toInt = y := nI_toInt (by omega)
        have v01 := zt_v0 p1
        rcases zt_fx (k := 2) (x := nI y) d2 (by omega) (by omega) with ⟨f1, f2, f3⟩ | ⟨f1, f2⟩
        · obtain ⟨p, hp, hs, e⟩ := zt_att f2 (i := 0) (j := 3) (by omega) (by omega)
          obtain ⟨s3, e4⟩ := (f3 _).mp hs
          obtain ⟨s2, e3⟩ := (d3 _).mp s3
          obtain ⟨s1, e2⟩ := (c3 _).mp s2
          have v0 := zt_v0 p
          have lo := zt_lo f2 (i := 0) (j := 3) (by omega) (by omega)
          have hi := zt_hi f2 (i := 0) (j := 3) (by omega) (by omega)
          refine ⟨p, hp, ?_, s1, by omega, fun q hq sq q1 => ?_⟩
          · unfold fbR
            rw [if_pos ⟨ha, c1⟩, ey, ex, pk_mul, pk_mul, nI_add]
            have w3 : (fxW (fbW2 fB z a) 2 (nI y) 3).toInt = zt_t (fxW (fbW2 fB z a) 2 (nI y)) 0 3 := rfl
            have x : (nI (169 * x + 13 * y)).toInt = ((169 * x + 13 * y : Nat) : Int) := nI_toInt (by omega)
            have num := zt_num hp
            refine Int32.toInt_inj.mp ?_
            rw [zt_sub (by omega) (by omega), nI_toInt (show p < 2 ^ 31 by omega), x, w3]
            omega
          · have w0 := zt_v0 q
            have sw := (c3 _).mpr ⟨sq, by omega⟩
            have k := sw 0 1 (by omega) (by omega)
            by_cases c : zt_v q 1 = x
            · have sw2 := (d3 _).mpr ⟨sw, by omega⟩
              have k2 := sw2 0 2 (by omega) (by omega)
              right
              refine ⟨by omega, ?_⟩
              by_cases c' : zt_v q 2 = y
              · have k3 := (f3 _).mpr ⟨sw2, by omega⟩ 0 3 (by omega) (by omega)
                right
                omega
              · left
                omega
            · left
              omega
        · exact absurd (by omega) (f2 _ hs1)
      · exact absurd (by omega) (d2 _ hs0)
    · right
      refine ⟨by unfold fbR; exact if_neg (fun t => by rw [c1] at t; exact absurd t.2 (by decide)), fun q hq sq => ?_⟩
      have w0 := zt_v0 q
      have k := c2 _ sq
      omega
  · right
    refine ⟨by unfold fbR; exact if_neg (fun t => ha t.1), fun q hq sq => ?_⟩
    have r := zt_vr hq 1
    omega
/-- the first mark at or behind f -/
def zt_F (m : Nat → Bool) (f : Nat) (r : Int32) : Prop := (∃ p, p < 2197 ∧ f ≤ p ∧ m p = true ∧ (∀ q, q < p → f ≤ q → m q = false) ∧ r = nI p) ∨ ((∀ q, q < 2197 → f ≤ q → m q = false) ∧ r = (-2))
theorem zt_F_eq {m : Nat → Bool} {f : Nat} {r r' : Int32} (h : zt_F m f r) (h' : zt_F m f r') : r = r' := by
  rcases h with ⟨p, hp, h1, h2, h3, rfl⟩ | ⟨h1, rfl⟩
  · rcases h' with ⟨p', hp', h1', h2', h3', rfl⟩ | ⟨h1', rfl⟩
    · have e : p = p' := by
        rcases Nat.lt_trichotomy p p' with c | c | c
        · rw [h3' p c h1] at h2; cases h2
        · exact c
        · rw [h3 p' c h1'] at h2'; cases h2'
      rw [e]
    · rw [h1' p hp h1] at h2; cases h2
  · rcases h' with ⟨p', hp', h1', h2', h3', rfl⟩ | ⟨h1', rfl⟩
    · rw [h1 p' hp' h1'] at h2'; cases h2'
    · rfl
theorem zt_next {fB : Nat → Int32} {z f : Nat} {m : Nat → Bool} (hC : zt_C (zt_t (tkW fB z))) (hm : ∀ p, p < 2197 → (m p = true ↔ zt_S (zt_t (tkW fB z)) (zt_v p))) (hf : f < 2197) : zt_F m f (nxR fB z f) := by
  have dig : (f : Int) = 169 * ((f / 169 : Nat) : Int) + 13 * ((f / 13 % 13 : Nat) : Int) + ((f % 13 : Nat) : Int) := by omega
  have ha : f / 169 ≤ 12 := by omega
  have hb : f / 13 % 13 ≤ 12 := by omega
  have hc : f % 13 ≤ 12 := by omega
  unfold nxR
  have fb := zt_fb (a := f / 169 + 1) hC
  have fs := zt_fs (a := f / 169) (b := f / 13 % 13 + 1) hC ha
  have ff := zt_ff (c := f % 13) hC ha hb hc
  generalize f / 169 = a at *
  generalize f / 13 % 13 = b at *
  generalize f % 13 = c at *
  have n1 : ((-1 : Int32)).toInt = -1 := by decide
  rcases ff with ⟨p, hp, e, s, p1, p2, p3, mn⟩ | ⟨e, none1⟩
  · have ep : (nI p).toInt = p := nI_toInt (by omega)
    rw [e, if_pos (by omega)]
    have np := zt_num hp
    refine Or.inl ⟨p, hp, by omega, (hm p hp).mpr s, fun q hq fq => Bool.eq_false_iff.mpr (fun t => ?_), rfl⟩
    have sq := (hm q (by omega)).mp t
    have nq := zt_num (show q < 2197 by omega)
    have r1 := zt_vr (show q < 2197 by omega) 1
    have r2 := zt_vr (show q < 2197 by omega) 2
    have r3 := zt_vr (show q < 2197 by omega) 3
    have r4 := zt_vr hp 3
    have q1 : zt_v q 1 = a := by omega
    have q2 : zt_v q 2 = b := by omega
    have := mn q (by omega) sq q1 q2 (by omega)
    omega
  · rw [e, if_neg (by omega)]
    rcases fs with ⟨p, hp, e', s, p1, p2, mn⟩ | ⟨e', none2⟩
    · have ep : (nI p).toInt = p := nI_toInt (by omega)
      rw [e', if_pos (by omega)]
      have np := zt_num hp
      have r2' := zt_vr hp 2
      have r4 := zt_vr hp 3
      refine Or.inl ⟨p, hp, by omega, (hm p hp).mpr s, fun q hq fq => Bool.eq_false_iff.mpr (fun t => ?_), rfl⟩
      have sq := (hm q (by omega)).mp t
      have nq := zt_num (show q < 2197 by omega)
      have r1 := zt_vr (show q < 2197 by omega) 1
      have r2 := zt_vr (show q < 2197 by omega) 2
      have r3 := zt_vr (show q < 2197 by omega) 3
      have q1 : zt_v q 1 = a := by omega
      by_cases q2 : zt_v q 2 = b
      · have := none1 q sq q1 q2
        omega
      · have := mn q (by omega) sq q1 (by omega)
        omega
    · rw [e', if_neg (by omega)]
      have low : ∀ q, q < 2197 → f ≤ q → m q = true → (a : Int) + 1 ≤ zt_v q 1 := by
        intro q hq fq t
        have sq := (hm q hq).mp t
        have nq := zt_num hq
        have r1 := zt_vr hq 1
        have r2 := zt_vr hq 2
        have r3 := zt_vr hq 3
        by_cases q1 : zt_v q 1 = a
        · have k2 := none2 q hq sq q1
          by_cases q2 : zt_v q 2 = b
          · have := none1 q sq q1 q2
            omega
          · omega
        · omega
      rcases fb with ⟨p, hp, e'', s, p1, mn⟩ | ⟨e'', none3⟩
      · rw [e'']
        have np := zt_num hp
        have r2' := zt_vr hp 2
        have r4 := zt_vr hp 3
        refine Or.inl ⟨p, hp, by omega, (hm p hp).mpr s, fun q hq fq => Bool.eq_false_iff.mpr (fun t => ?_), rfl⟩
        have sq := (hm q (by omega)).mp t
        have nq := zt_num (show q < 2197 by omega)
        have r1 := zt_vr (show q < 2197 by omega) 1
        have r2 := zt_vr (show q < 2197 by omega) 2
        have r3 := zt_vr (show q < 2197 by omega) 3
        have := low q (by omega) fq t
        have := mn q (by omega) sq (by omega)
        omega
      · rw [e'']
        refine Or.inr ⟨fun q hq fq => Bool.eq_false_iff.mpr (fun t => ?_), rfl⟩
        have := low q hq fq t
        have := none3 q hq ((hm q hq).mp t)
        omega
section OPS
variable {fB fW : Nat → Int32} {fN fM fD : Nat → Bool} {r1 r2 : Int32} {u1 : SX} {u2 : SM}
theorem La_next {z0 t0 : Int32} (h : zt_Rel (fB, fN, fW) (fM, fD))
    (h1 : inZ z0 (fun z => ((fN z = true ∨ 2196 ≤ t0.toInt) ∧ r1 = (-2) ∧ u1 = (fB, fN, fW)) ∨ (fN z = false ∧ t0.toInt < 2196 ∧ ∃ f : Nat, f < 2197 ∧ ((t0.toInt < 0 ∧ f = 0) ∨ t0.toInt + 1 = f) ∧ r1 = nxR fB z f ∧ ∃ W, u1 = (fB, fN, W))) (r1 = (-1) ∧ u1 = (fB, fN, fW)))
    (h2 : inZ z0 (fun z => u2 = (fM, fD) ∧ ((∃ p : Nat, p < 2197 ∧ t0.toInt < (p : Int) ∧ fM (z * 2197 + p) = true ∧ (∀ q : Nat, q < p → t0.toInt < (q : Int) → fM (z * 2197 + q) = false) ∧ r2 = nI p) ∨ ((∀ q : Nat, q < 2197 → t0.toInt < (q : Int) → fM (z * 2197 + q) = false) ∧ r2 = (-2)))) (r2 = (-1) ∧ u2 = (fM, fD))) : r1 = r2 ∧ zt_Rel u1 u2 := by
  refine zz_Z h1 h2 (fun z hz a b => ?_) (fun a b => ?_)
  · obtain ⟨rfl, bb⟩ := b
    rcases a with ⟨n, e1, rfl⟩ | ⟨n, ht, f, hf, hft, e1, W, rfl⟩
    · refine ⟨?_, h⟩
      rw [e1]
      rcases bb with ⟨p, hp, b1, b2, b3, b4⟩ | ⟨b1, b2⟩
      · rcases n with n | n
        · rcases h z hz with ⟨_, m⟩ | ⟨n2, _⟩
          · have m : fM (z * 2197 + p) = false := m p hp
            rw [b2] at m; cases m
          · have n2 : fN z = false := n2
            rw [n] at n2; cases n2
        · omega
      · rw [b2]
    · refine ⟨?_, h⟩
      rcases h z hz with ⟨n2, _⟩ | ⟨_, hC, hm⟩
      · have n2 : fN z = true := n2
        rw [n] at n2; cases n2
      · have F1 := zt_next hC hm hf
        have F2 : zt_F (zt_m fM z) f r2 := by
          rcases bb with ⟨p, hp, b1, b2, b3, b4⟩ | ⟨b1, b2⟩
          · exact Or.inl ⟨p, hp, by omega, b2, fun q hq fq => b3 q hq (by omega), b4⟩
          · exact Or.inr ⟨fun q hq fq => b1 q hq (by omega), b2⟩
        rw [e1]
        exact zt_F_eq F1 F2
  · obtain ⟨rfl, rfl⟩ := a
    obtain ⟨rfl, rfl⟩ := b
    exact ⟨rfl, h⟩
end OPS
end
section
/-! starting text (skeleton): the law's own words -/
set_option maxRecDepth 100000
/-! THE CLAIM OUT OF ONE WALK OF THE LAW'S BODY. Your part is whole_start (and what it stands on); all else here is the same for every law, but numbers. -/
def R_law : String := "ClockZonesLaw"
def lw_P (b : Addr) (xs : List Int32) (args : Array Value) (s : State) : Prop := args = #[.ref b] ∧ s.IntsAt b xs ∧ xs.length ≤ 320 ∧ (Jvm.Cond.and given_1 narrow_1).before args s = true
def lw_Q (_ : Array Value) (s : State) (o : Outcome) (t : State) : Prop := o = .returned (some (.int 1)) ∧ Framed s o t [] 600000 7290000
def lw_Z (below : List Frame) (a : Array Value) (s : State) : State → Prop := fun t => ∃ o, t.status = .running ∧ Ended t below o ∧ lw_Q a s o t
/-- the law's own end, with 1 on the stack, nothing written that was there before, its room as the claim has it -/
theorem lw_ret {p : Program} {l : Launch} {e : Env} {s : State} {m : MethodId} {below : List Frame} {meth : Method} {c : Code} {b : Nat} (hx : p.tables.exec = Jvm.exec) (hb : c.code = code) (hr : meth.sig.returnType = ret) (hlocks : meth.locks = false) {pc : Nat} {H : Heap} {ls : Array Slot} (hdg : decode code pc = .ok (.ireturn, 1)) : W p l e room_1 s m #[Value.ref b] below meth c H [] 600000 7290000 (lw_Z below #[Value.ref b] s) (F0 m pc ls [.int 1]) := by
  intro T hT X
  obtain ⟨fs, hret, hrun, hended, hW, hframe⟩ := X.leave (v := some (.int 1)) (hlocks := hlocks) (fun h => by rw [hr] at h; cases h)
  have hmeth' : T.vm.method? m = some meth := X.method'
  refine ⟨T.setFrames fs, ?_, .returned (some (.int 1)), hrun, hended, rfl, ⟨_, rfl⟩, hW, hframe⟩
  jvm_step X.here [X.here.top, hx, hb, hdg, hmeth', hr, ret, narrow_b1]
  (try refine ⟨rfl, ?_⟩); (try refine ⟨rfl, ?_⟩)
  first | (intro acts; rw [hret _ acts rfl rfl rfl]) | rw [hret _ _ rfl rfl rfl]
  exact Steps.refl _
/-- what holds at the law's entry: the machine, the code, the tables' words (any of lw_tbl by 'hts w (by decide +kernel)'), the script of L ints xs at the cell b, what the Statement gives of the start (any of its parts by flat_of_before) -/
def lw_At (p : Program) (s : State) (m : MethodId) (meth : Method) (c : Code) (b L : Nat) (xs : Nat → Int32) : Prop :=
  p.tables.exec = Jvm.exec ∧ c.code = code ∧ meth.sig.returnType = ret ∧ c.maxLocals = 4 ∧ s.vm.findClass R_law = some m.cls ∧ (∀ w ∈ lw_tbl, w.before #[Value.ref b] s = true) ∧ va_X b L xs s s.heap ∧ b < s.heap.size ∧ meth.locks = false ∧ (Jvm.Cond.and given_1 narrow_1).before #[Value.ref b] s = true
end
section
/-! the law's machine: both worlds side by side, the script -/
set_option maxRecDepth 100000
abbrev SL : Type := SX × SM
def wL (h hB hN hW : Nat) (cB cN cW : ClassId) (g hM hD : Nat) (cM cD : ClassId) (σ : SL) : va_W := wX h hB hN hW cB cN cW σ.1 ++ wM g hM hD cM cD σ.2
theorem wL_addr {h hB hN hW : Nat} {cB cN cW : ClassId} {g hM hD : Nat} {cM cD : ClassId} : ∀ σ σ', (wL h hB hN hW cB cN cW g hM hD cM cD σ).map Prod.fst = (wL h hB hN hW cB cN cW g hM hD cM cD σ').map Prod.fst := fun _ _ => rfl
section LC
variable {l : Launch} {R : Room} {cc : ByteArray} {nL : Nat} {own : String} {D : va_G} {h hB hN hW : Nat} {cB cN cW : ClassId} {g hM hD : Nat} {cM cD : ClassId} {K : Nat → List (Option Value) → List Value → SL → Prop}
variable {pc nx : Nat} {lv : List (Option Value)} {st stk : List Value} {σ : SX} {τ : SM} {y : MethodName} {code : ByteArray} {maxL idx n : Nat} {ty : FieldType} {rm : Room} {As : List Value}
theorem l_callX {post : Int32 → SX → Prop} (O : Mach (wL h hB hN hW cB cN cW g hM hD cM cD) l R cc nL own D vwCl (tX cB cN cW ++ tM cM cD) K) (hMt : Ct (wX h hB hN hW cB cN cW) D vwCl (tX cB cN cW) l y code maxL ty rm (.ref h :: As) σ post) (hlw : GoodIn lw_all (wsV own idx RX0 y (ws_ y code maxL (some ty)))) (hrm : rm.cells = 0 ∧ rm.slots = 0)
    (hd : y.cls = RX0 ∧ y.cls ≠ "java/lang/invoke/MethodHandle" ∧ y.cls ≠ "java/lang/invoke/VarHandle" ∧ (parseMethodDescriptor y.desc).map (fun d => d.parameters.length) = some n) (hnn : As.length = n) (hR : rm.frames + 1 ≤ R.frames ∧ 8 + (maxL + 11) + rm.locals ≤ R.locals)
    (hst : (st.map fun v => v.category).sum ≤ 8) (hstk : stk = As.reverse ++ .ref h :: st) (d : Dc cc pc (.invokevirtual idx) 3 nx)
    (k : ∀ r u, post r u → K nx lv (.int r :: st) (u, τ)) : K pc lv stk (σ, τ) := by
  obtain ⟨p, e, s, m, args, below, meth, c, A, cells, slots, Q, hF, hA, hK, hDD, hRm, rfl⟩ := O
  obtain ⟨d, rfl⟩ := d
  subst hstk
  intro H locs ls hP hS hl
  have hts := hF.2.2.2.2
  have hPc := hP.sub (ws' := wX h hB hN hW cB cN cW σ) [0, 1, 2, 3] rfl
  have hDc := (hDD (σ, τ)).sub (ws' := wX h hB hN hW cB cN cW σ) [0, 1, 2, 3] (by decide) rfl
  have hKc := hK.sub (tys' := tX cB cN cW) [0, 1, 2] rfl
  have hFc := va_free (wc := wX h hB hN hW cB cN cW σ) (hDD (σ, τ)) hS hA [0, 1, 2, 3] rfl
  refine va_calli (va_runV (As := As) (rest := st) hF (hMt H.size) (cwV n hts hlw rfl hrm.1 hrm.2 hd hR) ⟨fun a U g mk q => by obtain ⟨q0, q1, qP, qK, qD⟩ := q; exact ⟨q0, q1, qP, va_K.moved (u := U) (U := U.calling g mk a) (Vm.Alike.refl U.vm) qK, qD⟩, va_recv hKc hPc (ci := 0) (q0 := 0) rfl rfl, fun U hU hW => ⟨rfl, by rw [hU], by rw [hU]; exact hPc, va_K.moved hW.alike hKc, hDc.weaken (fun _ _ _ _ => trivial)⟩⟩ rfl hnn hl.1.1 rfl (lv_room hst) d ⟨hRm.1, hRm.2⟩) hS (fun q _ h => hFc q h) hFc (fun r u t H1 locs1 ht hvm hp hB1 hz1 hk1 hS1 => ?_)
  rw [ht] at hB1
  obtain ⟨hP2, -⟩ := va_join (wr := wM g hM hD cM cD τ) (w1 := wX h hB hN hW cB cN cW u) hP (hDD (σ, τ)) [0, 1, 2, 3] [4, 5, 6] rfl rfl (by decide) (by decide) hk1 hFc hB1 (va_D_addr (hDc.self (sz := H.size)) rfl)
  exact k r u hp H1 locs1 ls (hP2.sub (ws' := wL h hB hN hW cB cN cW g hM hD cM cD (u, τ)) [3, 4, 5, 6, 0, 1, 2] rfl) hS1 hl
theorem l_callM {post : Int32 → SM → Prop} (O : Mach (wL h hB hN hW cB cN cW g hM hD cM cD) l R cc nL own D vwCl (tX cB cN cW ++ tM cM cD) K) (hMt : Ct (wM g hM hD cM cD) D vwCl (tM cM cD) l y code maxL ty rm (.ref g :: As) τ post) (hlw : GoodIn lw_all (wsV own idx RX1 y (ws_ y code maxL (some ty)))) (hrm : rm.cells = 0 ∧ rm.slots = 0)
    (hd : y.cls = RX1 ∧ y.cls ≠ "java/lang/invoke/MethodHandle" ∧ y.cls ≠ "java/lang/invoke/VarHandle" ∧ (parseMethodDescriptor y.desc).map (fun d => d.parameters.length) = some n) (hnn : As.length = n) (hR : rm.frames + 1 ≤ R.frames ∧ 8 + (maxL + 11) + rm.locals ≤ R.locals)
    (hst : (st.map fun v => v.category).sum ≤ 8) (hstk : stk = As.reverse ++ .ref g :: st) (d : Dc cc pc (.invokevirtual idx) 3 nx)
    (k : ∀ r u, post r u → K nx lv (.int r :: st) (σ, u)) : K pc lv stk (σ, τ) := by
  obtain ⟨p, e, s, m, args, below, meth, c, A, cells, slots, Q, hF, hA, hK, hDD, hRm, rfl⟩ := O
  obtain ⟨d, rfl⟩ := d
  subst hstk
  intro H locs ls hP hS hl
  have hts := hF.2.2.2.2
  have hPc := hP.sub (ws' := wM g hM hD cM cD τ) [4, 5, 6] rfl
  have hDc := (hDD (σ, τ)).sub (ws' := wM g hM hD cM cD τ) [4, 5, 6] (by decide) rfl
  have hKc := hK.sub (tys' := tM cM cD) [3, 4] rfl
  have hFc := va_free (wc := wM g hM hD cM cD τ) (hDD (σ, τ)) hS hA [4, 5, 6] rfl
  refine va_calli (va_runV (As := As) (rest := st) hF (hMt H.size) (cwV n hts hlw rfl hrm.1 hrm.2 hd hR) ⟨fun a U g mk q => by obtain ⟨q0, q1, qP, qK, qD⟩ := q; exact ⟨q0, q1, qP, va_K.moved (u := U) (U := U.calling g mk a) (Vm.Alike.refl U.vm) qK, qD⟩, va_recv hKc hPc (ci := 1) (q0 := 0) rfl rfl, fun U hU hW => ⟨rfl, by rw [hU], by rw [hU]; exact hPc, va_K.moved hW.alike hKc, hDc.weaken (fun _ _ _ _ => trivial)⟩⟩ rfl hnn hl.1.1 rfl (lv_room hst) d ⟨hRm.1, hRm.2⟩) hS (fun q _ h => hFc q h) hFc (fun r u t H1 locs1 ht hvm hp hB1 hz1 hk1 hS1 => ?_)
  rw [ht] at hB1
  obtain ⟨hP2, -⟩ := va_join (wr := wX h hB hN hW cB cN cW σ) (w1 := wM g hM hD cM cD u) hP (hDD (σ, τ)) [4, 5, 6] [0, 1, 2, 3] rfl rfl (by decide) (by decide) hk1 hFc hB1 (va_D_addr (hDc.self (sz := H.size)) rfl)
  exact k r u hp H1 locs1 ls hP2 hS1 hl
theorem x_tableOut (O : Mach (wL h hB hN hW cB cN cW g hM hD cM cD) l R cc nL own D vwCl (tX cB cN cW ++ tM cM cD) K) {dflt lo hi : Int} {offs : Array Int} {len tgt : Nat} {x : Int32} {ς : SL} (d : Dc cc pc (.tableswitch dflt lo hi offs) len nx) (hh : x.toInt < lo ∨ hi < x.toInt) (ht : (pc : Int) + dflt = (tgt : Int)) (k : K tgt lv st ς) : K pc lv (.int x :: st) ς := by
  obtain ⟨p, e, s, m, args, below, meth, c, A, cells, slots, Q, ⟨hx, hb, hml, hown, hts⟩, hA, hK, hDD, hR, rfl⟩ := O
  intro H locs ls hP hS hl
  exact lv_tableOut hx hb d.1 hh ht (k H locs ls hP hS hl)
theorem x_tableIn (O : Mach (wL h hB hN hW cB cN cW g hM hD cM cD) l R cc nL own D vwCl (tX cB cN cW ++ tM cM cD) K) {dflt lo hi : Int} {offs : Array Int} {len tgt : Nat} {x : Int32} {off : Int} {ς : SL} (d : Dc cc pc (.tableswitch dflt lo hi offs) len nx) (h1 : ¬ x.toInt < lo) (h2 : ¬ hi < x.toInt) (ho : offs[(x.toInt - lo).toNat]? = some off) (ht : (pc : Int) + off = (tgt : Int)) (k : K tgt lv st ς) : K pc lv (.int x :: st) ς := by
  obtain ⟨p, e, s, m, args, below, meth, c, A, cells, slots, Q, ⟨hx, hb, hml, hown, hts⟩, hA, hK, hDD, hR, rfl⟩ := O
  intro H locs ls hP hS hl
  exact lv_tableIn hx hb d.1 h1 h2 ho ht (k H locs ls hP hS hl)
end LC
/-- the machine in the law's body -/
def LawM (l : Launch) (b L : Nat) (xs : Nat → Int32) (D : va_G) (h hB hN hW : Nat) (cB cN cW : ClassId) (g hM hD : Nat) (cM cD : ClassId) (K : Nat → List (Option Value) → List Value → SL → Prop) : Prop :=
  Mach (wL h hB hN hW cB cN cW g hM hD cM cD) l room_1 cL_law 4 R_law D vwCl (tX cB cN cW ++ tM cM cD) K ∧
  (∀ (pc nx : Nat) (lv : List (Option Value)) (st : List Value) (σ : SL) (n : Nat), n < L → Dc cL_law pc .iaload 1 nx → K nx lv (.int (xs n) :: st) σ → K pc lv (.int (nI n) :: .ref b :: st) σ) ∧
  (∀ (pc nx : Nat) (lv : List (Option Value)) (st : List Value) (σ : SL), Dc cL_law pc .arraylength 1 nx → K nx lv (.int (nI L) :: st) σ → K pc lv (.ref b :: st) σ) ∧
  ∀ (pc nx : Nat) (lv : List (Option Value)) (σ : SL), Dc cL_law pc .ireturn 1 nx → K pc lv [.int 1] σ
theorem LawM.of {p : Program} {l : Launch} {e : Env} {s : State} {m : MethodId} {below : List Frame} {meth : Method} {c : Code} {b L : Nat} {xs : Nat → Int32} (hL : L ≤ 320) (C0 : lw_At p s m meth c b L xs) {D : va_G} {h hB hN hW : Nat} {cB cN cW : ClassId} {g hM hD : Nat} {cM cD : ClassId}
    (hK : va_K D vwCl (tX cB cN cW ++ tM cM cD) s) {σ0 : SL} (hD0 : va_D (fun q : Nat => s.heap.size ≤ q) (wL h hB hN hW cB cN cW g hM hD cM cD σ0)) :
    LawM l b L xs D h hB hN hW cB cN cW g hM hD cM cD (fun pc lv st σ => ∀ (H : Heap) (locs : List Loc) (ls : Array Slot), va_P D vwCl (wL h hB hN hW cB cN cW g hM hD cM cD σ) H → va_S (fun q : Nat => s.heap.size ≤ q) s.heap H locs → xl ls 4 lv → W p l e room_1 s m #[Value.ref b] below meth c H locs 7 8860 (lw_Z below #[Value.ref b] s) (F0 m pc ls st)) := by
  obtain ⟨hx, hb, hr, hml, hown, hts, hX, hbl, hlocks, hgv⟩ := C0
  have hA : ∀ q : Nat, s.heap.size ≤ q → (fun q : Nat => s.heap.size ≤ q) q := fun _ h => h
  have hbA : ¬ (fun q : Nat => s.heap.size ≤ q) b := Nat.not_le.mpr hbl
  refine ⟨⟨p, e, s, m, #[Value.ref b], below, meth, c, fun q : Nat => s.heap.size ≤ q, 7, 8860, lw_Z below #[Value.ref b] s, ⟨hx, hb, hml, hown, fun w hw => hts w (lw_all_tbl hw)⟩, hA, hK, fun σ => va_D_addr hD0 (wL_addr _ _), ⟨Nat.le_of_ble_eq_true rfl, Nat.le_of_ble_eq_true rfl⟩, rfl⟩, ?_, ?_, ?_⟩
  · intro pc nx lv st σ n hn d k H locs ls hP hS hl
    obtain ⟨d, rfl⟩ := d
    refine va_sld hx hb hX hbl hbA hS (vp_in_nI hn (by omega)) d ?_
    rw [nI_clamp (by omega)]
    exact k H locs ls hP hS hl
  · intro pc nx lv st σ d k H locs ls hP hS hl
    obtain ⟨d, rfl⟩ := d
    exact va_slen hx hb hX hbl hbA hS d (k H locs ls hP hS hl)
  · intro pc nx lv σ d H locs ls hP hS hl
    refine va_forget (fun q hq => hS.2.2 q hq) ?_
    refine W.widen (k := 600000) (n := 7290000) (Nat.le_of_ble_eq_true rfl) (Nat.le_of_ble_eq_true rfl) ?_
    exact lw_ret hx hb hr hlocks d.1
/-- the two new objects agree -/
theorem zt_init : zt_Rel (inI 3) (blk (fun _ => false) 0 6591 (fun _ => true), fun _ => false) := by
  intro z hz
  have hm : ∀ p, p < 2197 → (fun _ : Nat => true) p = zt_m (blk (fun _ => false) 0 6591 (fun _ => true)) z p := fun p hp => (blk0_in (f := fun _ => false) (g := fun _ => true) (show z * 2197 + p < 6591 by omega)).symm
  have hz : z = 0 ∨ z = 1 ∨ z = 2 := by omega
  rcases hz with rfl | rfl | rfl
  · exact zt_R_congr (fun k hk => by
      show _ = tkW (blk (blk (blk (fun _ => 0) (16 * 0) 16 (fun k => boxV (k / 4) (k % 4))) (16 * 1) 16 (fun k => boxV (k / 4) (k % 4))) (16 * 2) 16 (fun k => boxV (k / 4) (k % 4))) 0 k
      rw [tk_blk_ne (by omega) hk, tk_blk_ne (by omega) hk, tk_blk hk]) rfl hm zt_box
  · exact zt_R_congr (fun k hk => by
      show _ = tkW (blk (blk (blk (fun _ => 0) (16 * 0) 16 (fun k => boxV (k / 4) (k % 4))) (16 * 1) 16 (fun k => boxV (k / 4) (k % 4))) (16 * 2) 16 (fun k => boxV (k / 4) (k % 4))) 1 k
      rw [tk_blk_ne (by omega) hk, tk_blk hk]) rfl hm zt_box
  · exact zt_R_congr (fun k hk => by
      show _ = tkW (blk (blk (blk (fun _ => 0) (16 * 0) 16 (fun k => boxV (k / 4) (k % 4))) (16 * 1) 16 (fun k => boxV (k / 4) (k % 4))) (16 * 2) 16 (fun k => boxV (k / 4) (k % 4))) 2 k
      rw [tk_blk hk]) rfl hm zt_box
end
section
/-! the cases of the law's switch (printed by gen/mklaw.py) -/
set_option maxRecDepth 100000
section LW
variable {l : Launch} {b L : Nat} {xs : Nat → Int32} {D : va_G} {h hB hN hW : Nat} {cB cN cW : ClassId} {g hM hD : Nat} {cM cD : ClassId} {K : Nat → List (Option Value) → List Value → SL → Prop}
set_option maxHeartbeats 4000000 in
theorem lc_all (M : LawM l b L xs D h hB hN hW cB cN cW g hM hD cM cD K) {i : Nat} (hi : i + 5 ≤ L) {fB fW : Nat → Int32} {fN fM fD : Nat → Bool} (hrel : zt_Rel (fB, fN, fW) (fM, fD)) (kont : ∀ u1 u2, zt_Rel u1 u2 → K 724 [some (.ref b), some (.ref h), some (.ref g), some (.int (nI i))] [] (u1, u2)) : K 120 [some (.ref b), some (.ref h), some (.ref g), some (.int (nI i))] [] ((fB, fN, fW), (fM, fD)) := by
  obtain ⟨O, sld, slen, rt⟩ := M
  refine x_aload_n O dL_law_120 rfl ?_
  refine x_aload_n O dL_law_121 rfl ?_
  refine x_iload_n O dL_law_122 rfl ?_
  refine x_iconst O dL_law_123 kc_1 ?_
  refine x_iaddN O dL_law_124 ?_
  refine sld _ _ _ _ _ (i + 1) (by omega) dL_law_125 ?_
  refine l_callX (n := 1) (As := [.int (xs (i + 1))]) O (mX0_all fB fN fW (xs (i + 1))) (lw_V q54 q33 q34 q22 q35) ⟨rfl, rfl⟩ (by decide +kernel) rfl ⟨Nat.le_of_ble_eq_true rfl, Nat.le_of_ble_eq_true rfl⟩ (Nat.le_of_ble_eq_true rfl) rfl dL_law_126 (fun r1 u1 p1 => ?_)
  refine x_aload_n O dL_law_129 rfl ?_
  refine x_aload_n O dL_law_130 rfl ?_
  refine x_iload_n O dL_law_131 rfl ?_
  refine x_iconst O dL_law_132 kc_1 ?_
  refine x_iaddN O dL_law_133 ?_
  refine sld _ _ _ _ _ (i + 1) (by omega) dL_law_134 ?_
  refine l_callM (n := 1) (As := [.int (xs (i + 1))]) O (mX1_all fM fD (xs (i + 1))) (lw_V q183 q184 q185 q23 q186) ⟨rfl, rfl⟩ (by decide +kernel) rfl ⟨Nat.le_of_ble_eq_true rfl, Nat.le_of_ble_eq_true rfl⟩ (Nat.le_of_ble_eq_true rfl) rfl dL_law_135 (fun r2 u2 p2 => ?_)
  obtain ⟨e, hrel2⟩ := La_all hrel p1 p2
  exact x_icmp_eq O dL_law_138 (fun _ => kont _ _ hrel2) (fun q => absurd e q)
set_option maxHeartbeats 4000000 in
theorem lc_zero (M : LawM l b L xs D h hB hN hW cB cN cW g hM hD cM cD K) {i : Nat} (hi : i + 5 ≤ L) {fB fW : Nat → Int32} {fN fM fD : Nat → Bool} (hrel : zt_Rel (fB, fN, fW) (fM, fD)) (kont : ∀ u1 u2, zt_Rel u1 u2 → K 724 [some (.ref b), some (.ref h), some (.ref g), some (.int (nI i))] [] (u1, u2)) : K 143 [some (.ref b), some (.ref h), some (.ref g), some (.int (nI i))] [] ((fB, fN, fW), (fM, fD)) := by
  obtain ⟨O, sld, slen, rt⟩ := M
  refine x_aload_n O dL_law_143 rfl ?_
  refine x_aload_n O dL_law_144 rfl ?_
  refine x_iload_n O dL_law_145 rfl ?_
  refine x_iconst O dL_law_146 kc_1 ?_
  refine x_iaddN O dL_law_147 ?_
  refine sld _ _ _ _ _ (i + 1) (by omega) dL_law_148 ?_
  refine l_callX (n := 1) (As := [.int (xs (i + 1))]) O (mX0_zero fB fN fW (xs (i + 1))) (lw_V q55 q56 q57 q22 q58) ⟨rfl, rfl⟩ (by decide +kernel) rfl ⟨Nat.le_of_ble_eq_true rfl, Nat.le_of_ble_eq_true rfl⟩ (Nat.le_of_ble_eq_true rfl) rfl dL_law_149 (fun r1 u1 p1 => ?_)
  refine x_aload_n O dL_law_152 rfl ?_
  refine x_aload_n O dL_law_153 rfl ?_
  refine x_iload_n O dL_law_154 rfl ?_
  refine x_iconst O dL_law_155 kc_1 ?_
  refine x_iaddN O dL_law_156 ?_
  refine sld _ _ _ _ _ (i + 1) (by omega) dL_law_157 ?_
  refine l_callM (n := 1) (As := [.int (xs (i + 1))]) O (mX1_zero fM fD (xs (i + 1))) (lw_V q191 q192 q193 q23 q194) ⟨rfl, rfl⟩ (by decide +kernel) rfl ⟨Nat.le_of_ble_eq_true rfl, Nat.le_of_ble_eq_true rfl⟩ (Nat.le_of_ble_eq_true rfl) rfl dL_law_158 (fun r2 u2 p2 => ?_)
  obtain ⟨e, hrel2⟩ := La_zero hrel p1 p2
  exact x_icmp_eq O dL_law_161 (fun _ => kont _ _ hrel2) (fun q => absurd e q)
set_option maxHeartbeats 4000000 in
theorem lc_keep (M : LawM l b L xs D h hB hN hW cB cN cW g hM hD cM cD K) {i : Nat} (hi : i + 5 ≤ L) {fB fW : Nat → Int32} {fN fM fD : Nat → Bool} (hrel : zt_Rel (fB, fN, fW) (fM, fD)) (kont : ∀ u1 u2, zt_Rel u1 u2 → K 724 [some (.ref b), some (.ref h), some (.ref g), some (.int (nI i))] [] (u1, u2)) : K 166 [some (.ref b), some (.ref h), some (.ref g), some (.int (nI i))] [] ((fB, fN, fW), (fM, fD)) := by
  obtain ⟨O, sld, slen, rt⟩ := M
  refine x_aload_n O dL_law_166 rfl ?_
  refine x_aload_n O dL_law_167 rfl ?_
  refine x_iload_n O dL_law_168 rfl ?_
  refine x_iconst O dL_law_169 kc_1 ?_
  refine x_iaddN O dL_law_170 ?_
  refine sld _ _ _ _ _ (i + 1) (by omega) dL_law_171 ?_
  refine x_aload_n O dL_law_172 rfl ?_
  refine x_iload_n O dL_law_173 rfl ?_
  refine x_iconst O dL_law_174 kc_2 ?_
  refine x_iaddN O dL_law_175 ?_
  refine sld _ _ _ _ _ (i + 2) (by omega) dL_law_176 ?_
  refine x_aload_n O dL_law_177 rfl ?_
  refine x_iload_n O dL_law_178 rfl ?_
  refine x_iconst O dL_law_179 kc_3 ?_
  refine x_iaddN O dL_law_180 ?_
  refine sld _ _ _ _ _ (i + 3) (by omega) dL_law_181 ?_
  refine x_aload_n O dL_law_182 rfl ?_
  refine x_iload_n O dL_law_183 rfl ?_
  refine x_iconst O dL_law_184 kc_4 ?_
  refine x_iaddN O dL_law_185 ?_
  refine sld _ _ _ _ _ (i + 4) (by omega) dL_law_186 ?_
  refine l_callX (n := 4) (As := [.int (xs (i + 1)), .int (xs (i + 2)), .int (xs (i + 3)), .int (xs (i + 4))]) O (mX0_keep fB fN fW (xs (i + 1)) (xs (i + 2)) (xs (i + 3)) (xs (i + 4))) (lw_V q59 q60 q61 q22 q62) ⟨rfl, rfl⟩ (by decide +kernel) rfl ⟨Nat.le_of_ble_eq_true rfl, Nat.le_of_ble_eq_true rfl⟩ (Nat.le_of_ble_eq_true rfl) rfl dL_law_187 (fun r1 u1 p1 => ?_)
  refine x_aload_n O dL_law_190 rfl ?_
  refine x_aload_n O dL_law_191 rfl ?_
  refine x_iload_n O dL_law_192 rfl ?_
  refine x_iconst O dL_law_193 kc_1 ?_
  refine x_iaddN O dL_law_194 ?_
  refine sld _ _ _ _ _ (i + 1) (by omega) dL_law_195 ?_
  refine x_aload_n O dL_law_196 rfl ?_
  refine x_iload_n O dL_law_197 rfl ?_
  refine x_iconst O dL_law_198 kc_2 ?_
  refine x_iaddN O dL_law_199 ?_
  refine sld _ _ _ _ _ (i + 2) (by omega) dL_law_200 ?_
  refine x_aload_n O dL_law_201 rfl ?_
  refine x_iload_n O dL_law_202 rfl ?_
  refine x_iconst O dL_law_203 kc_3 ?_
  refine x_iaddN O dL_law_204 ?_
  refine sld _ _ _ _ _ (i + 3) (by omega) dL_law_205 ?_
  refine x_aload_n O dL_law_206 rfl ?_
  refine x_iload_n O dL_law_207 rfl ?_
  refine x_iconst O dL_law_208 kc_4 ?_
  refine x_iaddN O dL_law_209 ?_
  refine sld _ _ _ _ _ (i + 4) (by omega) dL_law_210 ?_
  refine l_callM (n := 4) (As := [.int (xs (i + 1)), .int (xs (i + 2)), .int (xs (i + 3)), .int (xs (i + 4))]) O (mX1_keep fM fD (xs (i + 1)) (xs (i + 2)) (xs (i + 3)) (xs (i + 4))) (lw_V q195 q196 q197 q23 q198) ⟨rfl, rfl⟩ (by decide +kernel) rfl ⟨Nat.le_of_ble_eq_true rfl, Nat.le_of_ble_eq_true rfl⟩ (Nat.le_of_ble_eq_true rfl) rfl dL_law_211 (fun r2 u2 p2 => ?_)
  obtain ⟨e, hrel2⟩ := La_keep hrel p1 p2
  exact x_icmp_eq O dL_law_214 (fun _ => kont _ _ hrel2) (fun q => absurd e q)
set_option maxHeartbeats 4000000 in
theorem lc_pass (M : LawM l b L xs D h hB hN hW cB cN cW g hM hD cM cD K) {i : Nat} (hi : i + 5 ≤ L) {fB fW : Nat → Int32} {fN fM fD : Nat → Bool} (hrel : zt_Rel (fB, fN, fW) (fM, fD)) (kont : ∀ u1 u2, zt_Rel u1 u2 → K 724 [some (.ref b), some (.ref h), some (.ref g), some (.int (nI i))] [] (u1, u2)) : K 219 [some (.ref b), some (.ref h), some (.ref g), some (.int (nI i))] [] ((fB, fN, fW), (fM, fD)) := by
  obtain ⟨O, sld, slen, rt⟩ := M
  refine x_aload_n O dL_law_219 rfl ?_
  refine x_aload_n O dL_law_220 rfl ?_
  refine x_iload_n O dL_law_221 rfl ?_
  refine x_iconst O dL_law_222 kc_1 ?_
  refine x_iaddN O dL_law_223 ?_
  refine sld _ _ _ _ _ (i + 1) (by omega) dL_law_224 ?_
  refine l_callX (n := 1) (As := [.int (xs (i + 1))]) O (mX0_pass fB fN fW (xs (i + 1))) (lw_V q82 q83 q84 q22 q85) ⟨rfl, rfl⟩ (by decide +kernel) rfl ⟨Nat.le_of_ble_eq_true rfl, Nat.le_of_ble_eq_true rfl⟩ (Nat.le_of_ble_eq_true rfl) rfl dL_law_225 (fun r1 u1 p1 => ?_)
  refine x_aload_n O dL_law_228 rfl ?_
  refine x_aload_n O dL_law_229 rfl ?_
  refine x_iload_n O dL_law_230 rfl ?_
  refine x_iconst O dL_law_231 kc_1 ?_
  refine x_iaddN O dL_law_232 ?_
  refine sld _ _ _ _ _ (i + 1) (by omega) dL_law_233 ?_
  refine l_callM (n := 1) (As := [.int (xs (i + 1))]) O (mX1_pass fM fD (xs (i + 1))) (lw_V q215 q216 q217 q23 q218) ⟨rfl, rfl⟩ (by decide +kernel) rfl ⟨Nat.le_of_ble_eq_true rfl, Nat.le_of_ble_eq_true rfl⟩ (Nat.le_of_ble_eq_true rfl) rfl dL_law_234 (fun r2 u2 p2 => ?_)
  obtain ⟨e, hrel2⟩ := La_pass hrel p1 p2
  exact x_icmp_eq O dL_law_237 (fun _ => kont _ _ hrel2) (fun q => absurd e q)
set_option maxHeartbeats 4000000 in
theorem lc_back (M : LawM l b L xs D h hB hN hW cB cN cW g hM hD cM cD K) {i : Nat} (hi : i + 5 ≤ L) {fB fW : Nat → Int32} {fN fM fD : Nat → Bool} (hrel : zt_Rel (fB, fN, fW) (fM, fD)) (kont : ∀ u1 u2, zt_Rel u1 u2 → K 724 [some (.ref b), some (.ref h), some (.ref g), some (.int (nI i))] [] (u1, u2)) : K 242 [some (.ref b), some (.ref h), some (.ref g), some (.int (nI i))] [] ((fB, fN, fW), (fM, fD)) := by
  obtain ⟨O, sld, slen, rt⟩ := M
  refine x_aload_n O dL_law_242 rfl ?_
  refine x_aload_n O dL_law_243 rfl ?_
  refine x_iload_n O dL_law_244 rfl ?_
  refine x_iconst O dL_law_245 kc_1 ?_
  refine x_iaddN O dL_law_246 ?_
  refine sld _ _ _ _ _ (i + 1) (by omega) dL_law_247 ?_
  refine l_callX (n := 1) (As := [.int (xs (i + 1))]) O (mX0_back fB fN fW (xs (i + 1))) (lw_V q90 q91 q92 q22 q93) ⟨rfl, rfl⟩ (by decide +kernel) rfl ⟨Nat.le_of_ble_eq_true rfl, Nat.le_of_ble_eq_true rfl⟩ (Nat.le_of_ble_eq_true rfl) rfl dL_law_248 (fun r1 u1 p1 => ?_)
  refine x_aload_n O dL_law_251 rfl ?_
  refine x_aload_n O dL_law_252 rfl ?_
  refine x_iload_n O dL_law_253 rfl ?_
  refine x_iconst O dL_law_254 kc_1 ?_
  refine x_iaddN O dL_law_255 ?_
  refine sld _ _ _ _ _ (i + 1) (by omega) dL_law_256 ?_
  refine l_callM (n := 1) (As := [.int (xs (i + 1))]) O (mX1_back fM fD (xs (i + 1))) (lw_V q223 q224 q225 q23 q226) ⟨rfl, rfl⟩ (by decide +kernel) rfl ⟨Nat.le_of_ble_eq_true rfl, Nat.le_of_ble_eq_true rfl⟩ (Nat.le_of_ble_eq_true rfl) rfl dL_law_257 (fun r2 u2 p2 => ?_)
  obtain ⟨e, hrel2⟩ := La_back hrel p1 p2
  exact x_icmp_eq O dL_law_260 (fun _ => kont _ _ hrel2) (fun q => absurd e q)
set_option maxHeartbeats 4000000 in
theorem lc_set (M : LawM l b L xs D h hB hN hW cB cN cW g hM hD cM cD K) {i : Nat} (hi : i + 5 ≤ L) {fB fW : Nat → Int32} {fN fM fD : Nat → Bool} (hrel : zt_Rel (fB, fN, fW) (fM, fD)) (kont : ∀ u1 u2, zt_Rel u1 u2 → K 724 [some (.ref b), some (.ref h), some (.ref g), some (.int (nI i))] [] (u1, u2)) : K 265 [some (.ref b), some (.ref h), some (.ref g), some (.int (nI i))] [] ((fB, fN, fW), (fM, fD)) := by
  obtain ⟨O, sld, slen, rt⟩ := M
  refine x_aload_n O dL_law_265 rfl ?_
  refine x_aload_n O dL_law_266 rfl ?_
  refine x_iload_n O dL_law_267 rfl ?_
  refine x_iconst O dL_law_268 kc_1 ?_
  refine x_iaddN O dL_law_269 ?_
  refine sld _ _ _ _ _ (i + 1) (by omega) dL_law_270 ?_
  refine x_aload_n O dL_law_271 rfl ?_
  refine x_iload_n O dL_law_272 rfl ?_
  refine x_iconst O dL_law_273 kc_2 ?_
  refine x_iaddN O dL_law_274 ?_
  refine sld _ _ _ _ _ (i + 2) (by omega) dL_law_275 ?_
  refine x_aload_n O dL_law_276 rfl ?_
  refine x_iload_n O dL_law_277 rfl ?_
  refine x_iconst O dL_law_278 kc_3 ?_
  refine x_iaddN O dL_law_279 ?_
  refine sld _ _ _ _ _ (i + 3) (by omega) dL_law_280 ?_
  refine l_callX (n := 3) (As := [.int (xs (i + 1)), .int (xs (i + 2)), .int (xs (i + 3))]) O (mX0_set fB fN fW (xs (i + 1)) (xs (i + 2)) (xs (i + 3))) (lw_V q94 q95 q96 q22 q97) ⟨rfl, rfl⟩ (by decide +kernel) rfl ⟨Nat.le_of_ble_eq_true rfl, Nat.le_of_ble_eq_true rfl⟩ (Nat.le_of_ble_eq_true rfl) rfl dL_law_281 (fun r1 u1 p1 => ?_)
  refine x_aload_n O dL_law_284 rfl ?_
  refine x_aload_n O dL_law_285 rfl ?_
  refine x_iload_n O dL_law_286 rfl ?_
  refine x_iconst O dL_law_287 kc_1 ?_
  refine x_iaddN O dL_law_288 ?_
  refine sld _ _ _ _ _ (i + 1) (by omega) dL_law_289 ?_
  refine x_aload_n O dL_law_290 rfl ?_
  refine x_iload_n O dL_law_291 rfl ?_
  refine x_iconst O dL_law_292 kc_2 ?_
  refine x_iaddN O dL_law_293 ?_
  refine sld _ _ _ _ _ (i + 2) (by omega) dL_law_294 ?_
  refine x_aload_n O dL_law_295 rfl ?_
  refine x_iload_n O dL_law_296 rfl ?_
  refine x_iconst O dL_law_297 kc_3 ?_
  refine x_iaddN O dL_law_298 ?_
  refine sld _ _ _ _ _ (i + 3) (by omega) dL_law_299 ?_
  refine l_callM (n := 3) (As := [.int (xs (i + 1)), .int (xs (i + 2)), .int (xs (i + 3))]) O (mX1_set fM fD (xs (i + 1)) (xs (i + 2)) (xs (i + 3))) (lw_V q227 q228 q229 q23 q230) ⟨rfl, rfl⟩ (by decide +kernel) rfl ⟨Nat.le_of_ble_eq_true rfl, Nat.le_of_ble_eq_true rfl⟩ (Nat.le_of_ble_eq_true rfl) rfl dL_law_300 (fun r2 u2 p2 => ?_)
  obtain ⟨e, hrel2⟩ := La_set hrel p1 p2
  exact x_icmp_eq O dL_law_303 (fun _ => kont _ _ hrel2) (fun q => absurd e q)
set_option maxHeartbeats 4000000 in
theorem lc_free (M : LawM l b L xs D h hB hN hW cB cN cW g hM hD cM cD K) {i : Nat} (hi : i + 5 ≤ L) {fB fW : Nat → Int32} {fN fM fD : Nat → Bool} (hrel : zt_Rel (fB, fN, fW) (fM, fD)) (kont : ∀ u1 u2, zt_Rel u1 u2 → K 724 [some (.ref b), some (.ref h), some (.ref g), some (.int (nI i))] [] (u1, u2)) : K 308 [some (.ref b), some (.ref h), some (.ref g), some (.int (nI i))] [] ((fB, fN, fW), (fM, fD)) := by
  obtain ⟨O, sld, slen, rt⟩ := M
  refine x_aload_n O dL_law_308 rfl ?_
  refine x_aload_n O dL_law_309 rfl ?_
  refine x_iload_n O dL_law_310 rfl ?_
  refine x_iconst O dL_law_311 kc_1 ?_
  refine x_iaddN O dL_law_312 ?_
  refine sld _ _ _ _ _ (i + 1) (by omega) dL_law_313 ?_
  refine x_aload_n O dL_law_314 rfl ?_
  refine x_iload_n O dL_law_315 rfl ?_
  refine x_iconst O dL_law_316 kc_2 ?_
  refine x_iaddN O dL_law_317 ?_
  refine sld _ _ _ _ _ (i + 2) (by omega) dL_law_318 ?_
  refine l_callX (n := 2) (As := [.int (xs (i + 1)), .int (xs (i + 2))]) O (mX0_free fB fN fW (xs (i + 1)) (xs (i + 2))) (lw_V q101 q102 q103 q22 q104) ⟨rfl, rfl⟩ (by decide +kernel) rfl ⟨Nat.le_of_ble_eq_true rfl, Nat.le_of_ble_eq_true rfl⟩ (Nat.le_of_ble_eq_true rfl) rfl dL_law_319 (fun r1 u1 p1 => ?_)
  refine x_aload_n O dL_law_322 rfl ?_
  refine x_aload_n O dL_law_323 rfl ?_
  refine x_iload_n O dL_law_324 rfl ?_
  refine x_iconst O dL_law_325 kc_1 ?_
  refine x_iaddN O dL_law_326 ?_
  refine sld _ _ _ _ _ (i + 1) (by omega) dL_law_327 ?_
  refine x_aload_n O dL_law_328 rfl ?_
  refine x_iload_n O dL_law_329 rfl ?_
  refine x_iconst O dL_law_330 kc_2 ?_
  refine x_iaddN O dL_law_331 ?_
  refine sld _ _ _ _ _ (i + 2) (by omega) dL_law_332 ?_
  refine l_callM (n := 2) (As := [.int (xs (i + 1)), .int (xs (i + 2))]) O (mX1_free fM fD (xs (i + 1)) (xs (i + 2))) (lw_V q243 q244 q245 q23 q246) ⟨rfl, rfl⟩ (by decide +kernel) rfl ⟨Nat.le_of_ble_eq_true rfl, Nat.le_of_ble_eq_true rfl⟩ (Nat.le_of_ble_eq_true rfl) rfl dL_law_333 (fun r2 u2 p2 => ?_)
  obtain ⟨e, hrel2⟩ := La_free hrel p1 p2
  exact x_icmp_eq O dL_law_336 (fun _ => kont _ _ hrel2) (fun q => absurd e q)
set_option maxHeartbeats 4000000 in
theorem lc_follow (M : LawM l b L xs D h hB hN hW cB cN cW g hM hD cM cD K) {i : Nat} (hi : i + 5 ≤ L) {fB fW : Nat → Int32} {fN fM fD : Nat → Bool} (hrel : zt_Rel (fB, fN, fW) (fM, fD)) (kont : ∀ u1 u2, zt_Rel u1 u2 → K 724 [some (.ref b), some (.ref h), some (.ref g), some (.int (nI i))] [] (u1, u2)) : K 341 [some (.ref b), some (.ref h), some (.ref g), some (.int (nI i))] [] ((fB, fN, fW), (fM, fD)) := by
  obtain ⟨O, sld, slen, rt⟩ := M
  refine x_aload_n O dL_law_341 rfl ?_
  refine x_aload_n O dL_law_342 rfl ?_
  refine x_iload_n O dL_law_343 rfl ?_
  refine x_iconst O dL_law_344 kc_1 ?_
  refine x_iaddN O dL_law_345 ?_
  refine sld _ _ _ _ _ (i + 1) (by omega) dL_law_346 ?_
  refine x_aload_n O dL_law_347 rfl ?_
  refine x_iload_n O dL_law_348 rfl ?_
  refine x_iconst O dL_law_349 kc_2 ?_
  refine x_iaddN O dL_law_350 ?_
  refine sld _ _ _ _ _ (i + 2) (by omega) dL_law_351 ?_
  refine x_aload_n O dL_law_352 rfl ?_
  refine x_iload_n O dL_law_353 rfl ?_
  refine x_iconst O dL_law_354 kc_3 ?_
  refine x_iaddN O dL_law_355 ?_
  refine sld _ _ _ _ _ (i + 3) (by omega) dL_law_356 ?_
  refine l_callX (n := 3) (As := [.int (xs (i + 1)), .int (xs (i + 2)), .int (xs (i + 3))]) O (mX0_follow fB fN fW (xs (i + 1)) (xs (i + 2)) (xs (i + 3))) (lw_V q105 q106 q107 q22 q108) ⟨rfl, rfl⟩ (by decide +kernel) rfl ⟨Nat.le_of_ble_eq_true rfl, Nat.le_of_ble_eq_true rfl⟩ (Nat.le_of_ble_eq_true rfl) rfl dL_law_357 (fun r1 u1 p1 => ?_)
  refine x_aload_n O dL_law_360 rfl ?_
  refine x_aload_n O dL_law_361 rfl ?_
  refine x_iload_n O dL_law_362 rfl ?_
  refine x_iconst O dL_law_363 kc_1 ?_
  refine x_iaddN O dL_law_364 ?_
  refine sld _ _ _ _ _ (i + 1) (by omega) dL_law_365 ?_
  refine x_aload_n O dL_law_366 rfl ?_
  refine x_iload_n O dL_law_367 rfl ?_
  refine x_iconst O dL_law_368 kc_2 ?_
  refine x_iaddN O dL_law_369 ?_
  refine sld _ _ _ _ _ (i + 2) (by omega) dL_law_370 ?_
  refine x_aload_n O dL_law_371 rfl ?_
  refine x_iload_n O dL_law_372 rfl ?_
  refine x_iconst O dL_law_373 kc_3 ?_
  refine x_iaddN O dL_law_374 ?_
  refine sld _ _ _ _ _ (i + 3) (by omega) dL_law_375 ?_
  refine l_callM (n := 3) (As := [.int (xs (i + 1)), .int (xs (i + 2)), .int (xs (i + 3))]) O (mX1_follow fM fD (xs (i + 1)) (xs (i + 2)) (xs (i + 3))) (lw_V q247 q248 q249 q23 q250) ⟨rfl, rfl⟩ (by decide +kernel) rfl ⟨Nat.le_of_ble_eq_true rfl, Nat.le_of_ble_eq_true rfl⟩ (Nat.le_of_ble_eq_true rfl) rfl dL_law_376 (fun r2 u2 p2 => ?_)
  obtain ⟨e, hrel2⟩ := La_follow hrel p1 p2
  exact x_icmp_eq O dL_law_379 (fun _ => kont _ _ hrel2) (fun q => absurd e q)
set_option maxHeartbeats 4000000 in
theorem lc_meet (M : LawM l b L xs D h hB hN hW cB cN cW g hM hD cM cD K) {i : Nat} (hi : i + 5 ≤ L) {fB fW : Nat → Int32} {fN fM fD : Nat → Bool} (hrel : zt_Rel (fB, fN, fW) (fM, fD)) (kont : ∀ u1 u2, zt_Rel u1 u2 → K 724 [some (.ref b), some (.ref h), some (.ref g), some (.int (nI i))] [] (u1, u2)) : K 384 [some (.ref b), some (.ref h), some (.ref g), some (.int (nI i))] [] ((fB, fN, fW), (fM, fD)) := by
  obtain ⟨O, sld, slen, rt⟩ := M
  refine x_aload_n O dL_law_384 rfl ?_
  refine x_aload_n O dL_law_385 rfl ?_
  refine x_iload_n O dL_law_386 rfl ?_
  refine x_iconst O dL_law_387 kc_1 ?_
  refine x_iaddN O dL_law_388 ?_
  refine sld _ _ _ _ _ (i + 1) (by omega) dL_law_389 ?_
  refine x_aload_n O dL_law_390 rfl ?_
  refine x_iload_n O dL_law_391 rfl ?_
  refine x_iconst O dL_law_392 kc_2 ?_
  refine x_iaddN O dL_law_393 ?_
  refine sld _ _ _ _ _ (i + 2) (by omega) dL_law_394 ?_
  refine l_callX (n := 2) (As := [.int (xs (i + 1)), .int (xs (i + 2))]) O (mX0_meet fB fN fW (xs (i + 1)) (xs (i + 2))) (lw_V q109 q110 q111 q22 q112) ⟨rfl, rfl⟩ (by decide +kernel) rfl ⟨Nat.le_of_ble_eq_true rfl, Nat.le_of_ble_eq_true rfl⟩ (Nat.le_of_ble_eq_true rfl) rfl dL_law_395 (fun r1 u1 p1 => ?_)
  refine x_aload_n O dL_law_398 rfl ?_
  refine x_aload_n O dL_law_399 rfl ?_
  refine x_iload_n O dL_law_400 rfl ?_
  refine x_iconst O dL_law_401 kc_1 ?_
  refine x_iaddN O dL_law_402 ?_
  refine sld _ _ _ _ _ (i + 1) (by omega) dL_law_403 ?_
  refine x_aload_n O dL_law_404 rfl ?_
  refine x_iload_n O dL_law_405 rfl ?_
  refine x_iconst O dL_law_406 kc_2 ?_
  refine x_iaddN O dL_law_407 ?_
  refine sld _ _ _ _ _ (i + 2) (by omega) dL_law_408 ?_
  refine l_callM (n := 2) (As := [.int (xs (i + 1)), .int (xs (i + 2))]) O (mX1_meet fM fD (xs (i + 1)) (xs (i + 2))) (lw_V q251 q252 q253 q23 q254) ⟨rfl, rfl⟩ (by decide +kernel) rfl ⟨Nat.le_of_ble_eq_true rfl, Nat.le_of_ble_eq_true rfl⟩ (Nat.le_of_ble_eq_true rfl) rfl dL_law_409 (fun r2 u2 p2 => ?_)
  obtain ⟨e, hrel2⟩ := La_meet hrel p1 p2
  exact x_icmp_eq O dL_law_412 (fun _ => kont _ _ hrel2) (fun q => absurd e q)
set_option maxHeartbeats 4000000 in
theorem lc_hull (M : LawM l b L xs D h hB hN hW cB cN cW g hM hD cM cD K) {i : Nat} (hi : i + 5 ≤ L) {fB fW : Nat → Int32} {fN fM fD : Nat → Bool} (hrel : zt_Rel (fB, fN, fW) (fM, fD)) (kont : ∀ u1 u2, zt_Rel u1 u2 → K 724 [some (.ref b), some (.ref h), some (.ref g), some (.int (nI i))] [] (u1, u2)) : K 417 [some (.ref b), some (.ref h), some (.ref g), some (.int (nI i))] [] ((fB, fN, fW), (fM, fD)) := by
  obtain ⟨O, sld, slen, rt⟩ := M
  refine x_aload_n O dL_law_417 rfl ?_
  refine x_aload_n O dL_law_418 rfl ?_
  refine x_iload_n O dL_law_419 rfl ?_
  refine x_iconst O dL_law_420 kc_1 ?_
  refine x_iaddN O dL_law_421 ?_
  refine sld _ _ _ _ _ (i + 1) (by omega) dL_law_422 ?_
  refine x_aload_n O dL_law_423 rfl ?_
  refine x_iload_n O dL_law_424 rfl ?_
  refine x_iconst O dL_law_425 kc_2 ?_
  refine x_iaddN O dL_law_426 ?_
  refine sld _ _ _ _ _ (i + 2) (by omega) dL_law_427 ?_
  refine l_callX (n := 2) (As := [.int (xs (i + 1)), .int (xs (i + 2))]) O (mX0_hull fB fN fW (xs (i + 1)) (xs (i + 2))) (lw_V q113 q114 q115 q22 q116) ⟨rfl, rfl⟩ (by decide +kernel) rfl ⟨Nat.le_of_ble_eq_true rfl, Nat.le_of_ble_eq_true rfl⟩ (Nat.le_of_ble_eq_true rfl) rfl dL_law_428 (fun r1 u1 p1 => ?_)
  refine x_aload_n O dL_law_431 rfl ?_
  refine x_aload_n O dL_law_432 rfl ?_
  refine x_iload_n O dL_law_433 rfl ?_
  refine x_iconst O dL_law_434 kc_1 ?_
  refine x_iaddN O dL_law_435 ?_
  refine sld _ _ _ _ _ (i + 1) (by omega) dL_law_436 ?_
  refine x_aload_n O dL_law_437 rfl ?_
  refine x_iload_n O dL_law_438 rfl ?_
  refine x_iconst O dL_law_439 kc_2 ?_
  refine x_iaddN O dL_law_440 ?_
  refine sld _ _ _ _ _ (i + 2) (by omega) dL_law_441 ?_
  refine l_callM (n := 2) (As := [.int (xs (i + 1)), .int (xs (i + 2))]) O (mX1_hull fM fD (xs (i + 1)) (xs (i + 2))) (lw_V q255 q256 q257 q23 q258) ⟨rfl, rfl⟩ (by decide +kernel) rfl ⟨Nat.le_of_ble_eq_true rfl, Nat.le_of_ble_eq_true rfl⟩ (Nat.le_of_ble_eq_true rfl) rfl dL_law_442 (fun r2 u2 p2 => ?_)
  obtain ⟨e, hrel2⟩ := La_hull hrel p1 p2
  exact x_icmp_eq O dL_law_445 (fun _ => kont _ _ hrel2) (fun q => absurd e q)
set_option maxHeartbeats 4000000 in
theorem lc_copy (M : LawM l b L xs D h hB hN hW cB cN cW g hM hD cM cD K) {i : Nat} (hi : i + 5 ≤ L) {fB fW : Nat → Int32} {fN fM fD : Nat → Bool} (hrel : zt_Rel (fB, fN, fW) (fM, fD)) (kont : ∀ u1 u2, zt_Rel u1 u2 → K 724 [some (.ref b), some (.ref h), some (.ref g), some (.int (nI i))] [] (u1, u2)) : K 450 [some (.ref b), some (.ref h), some (.ref g), some (.int (nI i))] [] ((fB, fN, fW), (fM, fD)) := by
  obtain ⟨O, sld, slen, rt⟩ := M
  refine x_aload_n O dL_law_450 rfl ?_
  refine x_aload_n O dL_law_451 rfl ?_
  refine x_iload_n O dL_law_452 rfl ?_
  refine x_iconst O dL_law_453 kc_1 ?_
  refine x_iaddN O dL_law_454 ?_
  refine sld _ _ _ _ _ (i + 1) (by omega) dL_law_455 ?_
  refine x_aload_n O dL_law_456 rfl ?_
  refine x_iload_n O dL_law_457 rfl ?_
  refine x_iconst O dL_law_458 kc_2 ?_
  refine x_iaddN O dL_law_459 ?_
  refine sld _ _ _ _ _ (i + 2) (by omega) dL_law_460 ?_
  refine l_callX (n := 2) (As := [.int (xs (i + 1)), .int (xs (i + 2))]) O (mX0_copy fB fN fW (xs (i + 1)) (xs (i + 2))) (lw_V q121 q118 q119 q22 q120) ⟨rfl, rfl⟩ (by decide +kernel) rfl ⟨Nat.le_of_ble_eq_true rfl, Nat.le_of_ble_eq_true rfl⟩ (Nat.le_of_ble_eq_true rfl) rfl dL_law_461 (fun r1 u1 p1 => ?_)
  refine x_aload_n O dL_law_464 rfl ?_
  refine x_aload_n O dL_law_465 rfl ?_
  refine x_iload_n O dL_law_466 rfl ?_
  refine x_iconst O dL_law_467 kc_1 ?_
  refine x_iaddN O dL_law_468 ?_
  refine sld _ _ _ _ _ (i + 1) (by omega) dL_law_469 ?_
  refine x_aload_n O dL_law_470 rfl ?_
  refine x_iload_n O dL_law_471 rfl ?_
  refine x_iconst O dL_law_472 kc_2 ?_
  refine x_iaddN O dL_law_473 ?_
  refine sld _ _ _ _ _ (i + 2) (by omega) dL_law_474 ?_
  refine l_callM (n := 2) (As := [.int (xs (i + 1)), .int (xs (i + 2))]) O (mX1_copy fM fD (xs (i + 1)) (xs (i + 2))) (lw_V q267 q268 q269 q23 q270) ⟨rfl, rfl⟩ (by decide +kernel) rfl ⟨Nat.le_of_ble_eq_true rfl, Nat.le_of_ble_eq_true rfl⟩ (Nat.le_of_ble_eq_true rfl) rfl dL_law_475 (fun r2 u2 p2 => ?_)
  obtain ⟨e, hrel2⟩ := La_copy hrel p1 p2
  exact x_icmp_eq O dL_law_478 (fun _ => kont _ _ hrel2) (fun q => absurd e q)
set_option maxHeartbeats 4000000 in
theorem lc_empty (M : LawM l b L xs D h hB hN hW cB cN cW g hM hD cM cD K) {i : Nat} (hi : i + 5 ≤ L) {fB fW : Nat → Int32} {fN fM fD : Nat → Bool} (hrel : zt_Rel (fB, fN, fW) (fM, fD)) (kont : ∀ u1 u2, zt_Rel u1 u2 → K 724 [some (.ref b), some (.ref h), some (.ref g), some (.int (nI i))] [] (u1, u2)) : K 483 [some (.ref b), some (.ref h), some (.ref g), some (.int (nI i))] [] ((fB, fN, fW), (fM, fD)) := by
  obtain ⟨O, sld, slen, rt⟩ := M
  refine x_aload_n O dL_law_483 rfl ?_
  refine x_aload_n O dL_law_484 rfl ?_
  refine x_iload_n O dL_law_485 rfl ?_
  refine x_iconst O dL_law_486 kc_1 ?_
  refine x_iaddN O dL_law_487 ?_
  refine sld _ _ _ _ _ (i + 1) (by omega) dL_law_488 ?_
  refine l_callX (n := 1) (As := [.int (xs (i + 1))]) O (mX0_empty fB fN fW (xs (i + 1))) (lw_V q122 q123 q124 q22 q125) ⟨rfl, rfl⟩ (by decide +kernel) rfl ⟨Nat.le_of_ble_eq_true rfl, Nat.le_of_ble_eq_true rfl⟩ (Nat.le_of_ble_eq_true rfl) rfl dL_law_489 (fun r1 u1 p1 => ?_)
  refine x_aload_n O dL_law_492 rfl ?_
  refine x_aload_n O dL_law_493 rfl ?_
  refine x_iload_n O dL_law_494 rfl ?_
  refine x_iconst O dL_law_495 kc_1 ?_
  refine x_iaddN O dL_law_496 ?_
  refine sld _ _ _ _ _ (i + 1) (by omega) dL_law_497 ?_
  refine l_callM (n := 1) (As := [.int (xs (i + 1))]) O (mX1_empty fM fD (xs (i + 1))) (lw_V q271 q272 q273 q23 q274) ⟨rfl, rfl⟩ (by decide +kernel) rfl ⟨Nat.le_of_ble_eq_true rfl, Nat.le_of_ble_eq_true rfl⟩ (Nat.le_of_ble_eq_true rfl) rfl dL_law_498 (fun r2 u2 p2 => ?_)
  obtain ⟨e, hrel2⟩ := La_empty hrel p1 p2
  exact x_icmp_eq O dL_law_501 (fun _ => kont _ _ hrel2) (fun q => absurd e q)
set_option maxHeartbeats 4000000 in
theorem lc_widest (M : LawM l b L xs D h hB hN hW cB cN cW g hM hD cM cD K) {i : Nat} (hi : i + 5 ≤ L) {fB fW : Nat → Int32} {fN fM fD : Nat → Bool} (hrel : zt_Rel (fB, fN, fW) (fM, fD)) (kont : ∀ u1 u2, zt_Rel u1 u2 → K 724 [some (.ref b), some (.ref h), some (.ref g), some (.int (nI i))] [] (u1, u2)) : K 506 [some (.ref b), some (.ref h), some (.ref g), some (.int (nI i))] [] ((fB, fN, fW), (fM, fD)) := by
  obtain ⟨O, sld, slen, rt⟩ := M
  refine x_aload_n O dL_law_506 rfl ?_
  refine x_aload_n O dL_law_507 rfl ?_
  refine x_iload_n O dL_law_508 rfl ?_
  refine x_iconst O dL_law_509 kc_1 ?_
  refine x_iaddN O dL_law_510 ?_
  refine sld _ _ _ _ _ (i + 1) (by omega) dL_law_511 ?_
  refine x_aload_n O dL_law_512 rfl ?_
  refine x_iload_n O dL_law_513 rfl ?_
  refine x_iconst O dL_law_514 kc_2 ?_
  refine x_iaddN O dL_law_515 ?_
  refine sld _ _ _ _ _ (i + 2) (by omega) dL_law_516 ?_
  refine x_aload_n O dL_law_517 rfl ?_
  refine x_iload_n O dL_law_518 rfl ?_
  refine x_iconst O dL_law_519 kc_3 ?_
  refine x_iaddN O dL_law_520 ?_
  refine sld _ _ _ _ _ (i + 3) (by omega) dL_law_521 ?_
  refine l_callX (n := 3) (As := [.int (xs (i + 1)), .int (xs (i + 2)), .int (xs (i + 3))]) O (mX0_widest fB fN fW (xs (i + 1)) (xs (i + 2)) (xs (i + 3))) (lw_V q126 q127 q128 q22 q129) ⟨rfl, rfl⟩ (by decide +kernel) rfl ⟨Nat.le_of_ble_eq_true rfl, Nat.le_of_ble_eq_true rfl⟩ (Nat.le_of_ble_eq_true rfl) rfl dL_law_522 (fun r1 u1 p1 => ?_)
  refine x_aload_n O dL_law_525 rfl ?_
  refine x_aload_n O dL_law_526 rfl ?_
  refine x_iload_n O dL_law_527 rfl ?_
  refine x_iconst O dL_law_528 kc_1 ?_
  refine x_iaddN O dL_law_529 ?_
  refine sld _ _ _ _ _ (i + 1) (by omega) dL_law_530 ?_
  refine x_aload_n O dL_law_531 rfl ?_
  refine x_iload_n O dL_law_532 rfl ?_
  refine x_iconst O dL_law_533 kc_2 ?_
  refine x_iaddN O dL_law_534 ?_
  refine sld _ _ _ _ _ (i + 2) (by omega) dL_law_535 ?_
  refine x_aload_n O dL_law_536 rfl ?_
  refine x_iload_n O dL_law_537 rfl ?_
  refine x_iconst O dL_law_538 kc_3 ?_
  refine x_iaddN O dL_law_539 ?_
  refine sld _ _ _ _ _ (i + 3) (by omega) dL_law_540 ?_
  refine l_callM (n := 3) (As := [.int (xs (i + 1)), .int (xs (i + 2)), .int (xs (i + 3))]) O (mX1_widest fM fD (xs (i + 1)) (xs (i + 2)) (xs (i + 3))) (lw_V q275 q276 q277 q23 q278) ⟨rfl, rfl⟩ (by decide +kernel) rfl ⟨Nat.le_of_ble_eq_true rfl, Nat.le_of_ble_eq_true rfl⟩ (Nat.le_of_ble_eq_true rfl) rfl dL_law_541 (fun r2 u2 p2 => ?_)
  obtain ⟨e, hrel2⟩ := La_widest hrel p1 p2
  exact x_icmp_eq O dL_law_544 (fun _ => kont _ _ hrel2) (fun q => absurd e q)
set_option maxHeartbeats 4000000 in
theorem lc_has (M : LawM l b L xs D h hB hN hW cB cN cW g hM hD cM cD K) {i : Nat} (hi : i + 5 ≤ L) {fB fW : Nat → Int32} {fN fM fD : Nat → Bool} (hrel : zt_Rel (fB, fN, fW) (fM, fD)) (kont : ∀ u1 u2, zt_Rel u1 u2 → K 724 [some (.ref b), some (.ref h), some (.ref g), some (.int (nI i))] [] (u1, u2)) : K 549 [some (.ref b), some (.ref h), some (.ref g), some (.int (nI i))] [] ((fB, fN, fW), (fM, fD)) := by
  obtain ⟨O, sld, slen, rt⟩ := M
  refine x_aload_n O dL_law_549 rfl ?_
  refine x_aload_n O dL_law_550 rfl ?_
  refine x_iload_n O dL_law_551 rfl ?_
  refine x_iconst O dL_law_552 kc_1 ?_
  refine x_iaddN O dL_law_553 ?_
  refine sld _ _ _ _ _ (i + 1) (by omega) dL_law_554 ?_
  refine x_aload_n O dL_law_555 rfl ?_
  refine x_iload_n O dL_law_556 rfl ?_
  refine x_iconst O dL_law_557 kc_2 ?_
  refine x_iaddN O dL_law_558 ?_
  refine sld _ _ _ _ _ (i + 2) (by omega) dL_law_559 ?_
  refine x_aload_n O dL_law_560 rfl ?_
  refine x_iload_n O dL_law_561 rfl ?_
  refine x_iconst O dL_law_562 kc_3 ?_
  refine x_iaddN O dL_law_563 ?_
  refine sld _ _ _ _ _ (i + 3) (by omega) dL_law_564 ?_
  refine x_aload_n O dL_law_565 rfl ?_
  refine x_iload_n O dL_law_566 rfl ?_
  refine x_iconst O dL_law_567 kc_4 ?_
  refine x_iaddN O dL_law_568 ?_
  refine sld _ _ _ _ _ (i + 4) (by omega) dL_law_569 ?_
  refine l_callX (n := 4) (As := [.int (xs (i + 1)), .int (xs (i + 2)), .int (xs (i + 3)), .int (xs (i + 4))]) O (mX0_has fB fN fW (xs (i + 1)) (xs (i + 2)) (xs (i + 3)) (xs (i + 4))) (lw_V q130 q131 q132 q22 q133) ⟨rfl, rfl⟩ (by decide +kernel) rfl ⟨Nat.le_of_ble_eq_true rfl, Nat.le_of_ble_eq_true rfl⟩ (Nat.le_of_ble_eq_true rfl) rfl dL_law_570 (fun r1 u1 p1 => ?_)
  refine x_aload_n O dL_law_573 rfl ?_
  refine x_aload_n O dL_law_574 rfl ?_
  refine x_iload_n O dL_law_575 rfl ?_
  refine x_iconst O dL_law_576 kc_1 ?_
  refine x_iaddN O dL_law_577 ?_
  refine sld _ _ _ _ _ (i + 1) (by omega) dL_law_578 ?_
  refine x_aload_n O dL_law_579 rfl ?_
  refine x_iload_n O dL_law_580 rfl ?_
  refine x_iconst O dL_law_581 kc_2 ?_
  refine x_iaddN O dL_law_582 ?_
  refine sld _ _ _ _ _ (i + 2) (by omega) dL_law_583 ?_
  refine x_aload_n O dL_law_584 rfl ?_
  refine x_iload_n O dL_law_585 rfl ?_
  refine x_iconst O dL_law_586 kc_3 ?_
  refine x_iaddN O dL_law_587 ?_
  refine sld _ _ _ _ _ (i + 3) (by omega) dL_law_588 ?_
  refine x_aload_n O dL_law_589 rfl ?_
  refine x_iload_n O dL_law_590 rfl ?_
  refine x_iconst O dL_law_591 kc_4 ?_
  refine x_iaddN O dL_law_592 ?_
  refine sld _ _ _ _ _ (i + 4) (by omega) dL_law_593 ?_
  refine l_callM (n := 4) (As := [.int (xs (i + 1)), .int (xs (i + 2)), .int (xs (i + 3)), .int (xs (i + 4))]) O (mX1_has fM fD (xs (i + 1)) (xs (i + 2)) (xs (i + 3)) (xs (i + 4))) (lw_V q279 q280 q281 q23 q282) ⟨rfl, rfl⟩ (by decide +kernel) rfl ⟨Nat.le_of_ble_eq_true rfl, Nat.le_of_ble_eq_true rfl⟩ (Nat.le_of_ble_eq_true rfl) rfl dL_law_594 (fun r2 u2 p2 => ?_)
  obtain ⟨e, hrel2⟩ := La_has hrel p1 p2
  exact x_icmp_eq O dL_law_597 (fun _ => kont _ _ hrel2) (fun q => absurd e q)
set_option maxHeartbeats 4000000 in
theorem lc_size (M : LawM l b L xs D h hB hN hW cB cN cW g hM hD cM cD K) {i : Nat} (hi : i + 5 ≤ L) {fB fW : Nat → Int32} {fN fM fD : Nat → Bool} (hrel : zt_Rel (fB, fN, fW) (fM, fD)) (kont : ∀ u1 u2, zt_Rel u1 u2 → K 724 [some (.ref b), some (.ref h), some (.ref g), some (.int (nI i))] [] (u1, u2)) : K 602 [some (.ref b), some (.ref h), some (.ref g), some (.int (nI i))] [] ((fB, fN, fW), (fM, fD)) := by
  obtain ⟨O, sld, slen, rt⟩ := M
  refine x_aload_n O dL_law_602 rfl ?_
  refine x_aload_n O dL_law_603 rfl ?_
  refine x_iload_n O dL_law_604 rfl ?_
  refine x_iconst O dL_law_605 kc_1 ?_
  refine x_iaddN O dL_law_606 ?_
  refine sld _ _ _ _ _ (i + 1) (by omega) dL_law_607 ?_
  refine l_callX (n := 1) (As := [.int (xs (i + 1))]) O (mX0_size fB fN fW (xs (i + 1)) (zt_Rsz hrel)) (lw_V q138 q139 q140 q22 q141) ⟨rfl, rfl⟩ (by decide +kernel) rfl ⟨Nat.le_of_ble_eq_true rfl, Nat.le_of_ble_eq_true rfl⟩ (Nat.le_of_ble_eq_true rfl) rfl dL_law_608 (fun r1 u1 p1 => ?_)
  refine x_aload_n O dL_law_611 rfl ?_
  refine x_aload_n O dL_law_612 rfl ?_
  refine x_iload_n O dL_law_613 rfl ?_
  refine x_iconst O dL_law_614 kc_1 ?_
  refine x_iaddN O dL_law_615 ?_
  refine sld _ _ _ _ _ (i + 1) (by omega) dL_law_616 ?_
  refine l_callM (n := 1) (As := [.int (xs (i + 1))]) O (mX1_size fM fD (xs (i + 1))) (lw_V q283 q284 q285 q23 q286) ⟨rfl, rfl⟩ (by decide +kernel) rfl ⟨Nat.le_of_ble_eq_true rfl, Nat.le_of_ble_eq_true rfl⟩ (Nat.le_of_ble_eq_true rfl) rfl dL_law_617 (fun r2 u2 p2 => ?_)
  obtain ⟨e, hrel2⟩ := La_size hrel p1 p2
  exact x_icmp_eq O dL_law_620 (fun _ => kont _ _ hrel2) (fun q => absurd e q)
set_option maxHeartbeats 4000000 in
theorem lc_next (M : LawM l b L xs D h hB hN hW cB cN cW g hM hD cM cD K) {i : Nat} (hi : i + 5 ≤ L) {fB fW : Nat → Int32} {fN fM fD : Nat → Bool} (hrel : zt_Rel (fB, fN, fW) (fM, fD)) (kont : ∀ u1 u2, zt_Rel u1 u2 → K 724 [some (.ref b), some (.ref h), some (.ref g), some (.int (nI i))] [] (u1, u2)) : K 625 [some (.ref b), some (.ref h), some (.ref g), some (.int (nI i))] [] ((fB, fN, fW), (fM, fD)) := by
  obtain ⟨O, sld, slen, rt⟩ := M
  refine x_aload_n O dL_law_625 rfl ?_
  refine x_aload_n O dL_law_626 rfl ?_
  refine x_iload_n O dL_law_627 rfl ?_
  refine x_iconst O dL_law_628 kc_1 ?_
  refine x_iaddN O dL_law_629 ?_
  refine sld _ _ _ _ _ (i + 1) (by omega) dL_law_630 ?_
  refine x_aload_n O dL_law_631 rfl ?_
  refine x_iload_n O dL_law_632 rfl ?_
  refine x_iconst O dL_law_633 kc_2 ?_
  refine x_iaddN O dL_law_634 ?_
  refine sld _ _ _ _ _ (i + 2) (by omega) dL_law_635 ?_
  refine l_callX (n := 2) (As := [.int (xs (i + 1)), .int (xs (i + 2))]) O (mX0_next fB fN fW (xs (i + 1)) (xs (i + 2))) (lw_V q146 q147 q148 q22 q149) ⟨rfl, rfl⟩ (by decide +kernel) rfl ⟨Nat.le_of_ble_eq_true rfl, Nat.le_of_ble_eq_true rfl⟩ (Nat.le_of_ble_eq_true rfl) rfl dL_law_636 (fun r1 u1 p1 => ?_)
  refine x_aload_n O dL_law_639 rfl ?_
  refine x_aload_n O dL_law_640 rfl ?_
  refine x_iload_n O dL_law_641 rfl ?_
  refine x_iconst O dL_law_642 kc_1 ?_
  refine x_iaddN O dL_law_643 ?_
  refine sld _ _ _ _ _ (i + 1) (by omega) dL_law_644 ?_
  refine x_aload_n O dL_law_645 rfl ?_
  refine x_iload_n O dL_law_646 rfl ?_
  refine x_iconst O dL_law_647 kc_2 ?_
  refine x_iaddN O dL_law_648 ?_
  refine sld _ _ _ _ _ (i + 2) (by omega) dL_law_649 ?_
  refine l_callM (n := 2) (As := [.int (xs (i + 1)), .int (xs (i + 2))]) O (mX1_next fM fD (xs (i + 1)) (xs (i + 2))) (lw_V q287 q288 q289 q23 q290) ⟨rfl, rfl⟩ (by decide +kernel) rfl ⟨Nat.le_of_ble_eq_true rfl, Nat.le_of_ble_eq_true rfl⟩ (Nat.le_of_ble_eq_true rfl) rfl dL_law_650 (fun r2 u2 p2 => ?_)
  obtain ⟨e, hrel2⟩ := La_next hrel p1 p2
  exact x_icmp_eq O dL_law_653 (fun _ => kont _ _ hrel2) (fun q => absurd e q)
set_option maxHeartbeats 4000000 in
theorem lc_within (M : LawM l b L xs D h hB hN hW cB cN cW g hM hD cM cD K) {i : Nat} (hi : i + 5 ≤ L) {fB fW : Nat → Int32} {fN fM fD : Nat → Bool} (hrel : zt_Rel (fB, fN, fW) (fM, fD)) (kont : ∀ u1 u2, zt_Rel u1 u2 → K 724 [some (.ref b), some (.ref h), some (.ref g), some (.int (nI i))] [] (u1, u2)) : K 658 [some (.ref b), some (.ref h), some (.ref g), some (.int (nI i))] [] ((fB, fN, fW), (fM, fD)) := by
  obtain ⟨O, sld, slen, rt⟩ := M
  refine x_aload_n O dL_law_658 rfl ?_
  refine x_aload_n O dL_law_659 rfl ?_
  refine x_iload_n O dL_law_660 rfl ?_
  refine x_iconst O dL_law_661 kc_1 ?_
  refine x_iaddN O dL_law_662 ?_
  refine sld _ _ _ _ _ (i + 1) (by omega) dL_law_663 ?_
  refine x_aload_n O dL_law_664 rfl ?_
  refine x_iload_n O dL_law_665 rfl ?_
  refine x_iconst O dL_law_666 kc_2 ?_
  refine x_iaddN O dL_law_667 ?_
  refine sld _ _ _ _ _ (i + 2) (by omega) dL_law_668 ?_
  refine l_callX (n := 2) (As := [.int (xs (i + 1)), .int (xs (i + 2))]) O (mX0_within fB fN fW (xs (i + 1)) (xs (i + 2))) (lw_V q162 q163 q164 q22 q165) ⟨rfl, rfl⟩ (by decide +kernel) rfl ⟨Nat.le_of_ble_eq_true rfl, Nat.le_of_ble_eq_true rfl⟩ (Nat.le_of_ble_eq_true rfl) rfl dL_law_669 (fun r1 u1 p1 => ?_)
  refine x_aload_n O dL_law_672 rfl ?_
  refine x_aload_n O dL_law_673 rfl ?_
  refine x_iload_n O dL_law_674 rfl ?_
  refine x_iconst O dL_law_675 kc_1 ?_
  refine x_iaddN O dL_law_676 ?_
  refine sld _ _ _ _ _ (i + 1) (by omega) dL_law_677 ?_
  refine x_aload_n O dL_law_678 rfl ?_
  refine x_iload_n O dL_law_679 rfl ?_
  refine x_iconst O dL_law_680 kc_2 ?_
  refine x_iaddN O dL_law_681 ?_
  refine sld _ _ _ _ _ (i + 2) (by omega) dL_law_682 ?_
  refine l_callM (n := 2) (As := [.int (xs (i + 1)), .int (xs (i + 2))]) O (mX1_within fM fD (xs (i + 1)) (xs (i + 2))) (lw_V q291 q292 q293 q23 q294) ⟨rfl, rfl⟩ (by decide +kernel) rfl ⟨Nat.le_of_ble_eq_true rfl, Nat.le_of_ble_eq_true rfl⟩ (Nat.le_of_ble_eq_true rfl) rfl dL_law_683 (fun r2 u2 p2 => ?_)
  obtain ⟨e, hrel2⟩ := La_within hrel p1 p2
  exact x_icmp_eq O dL_law_686 (fun _ => kont _ _ hrel2) (fun q => absurd e q)
set_option maxHeartbeats 4000000 in
theorem lc_touch (M : LawM l b L xs D h hB hN hW cB cN cW g hM hD cM cD K) {i : Nat} (hi : i + 5 ≤ L) {fB fW : Nat → Int32} {fN fM fD : Nat → Bool} (hrel : zt_Rel (fB, fN, fW) (fM, fD)) (kont : ∀ u1 u2, zt_Rel u1 u2 → K 724 [some (.ref b), some (.ref h), some (.ref g), some (.int (nI i))] [] (u1, u2)) : K 691 [some (.ref b), some (.ref h), some (.ref g), some (.int (nI i))] [] ((fB, fN, fW), (fM, fD)) := by
  obtain ⟨O, sld, slen, rt⟩ := M
  refine x_aload_n O dL_law_691 rfl ?_
  refine x_aload_n O dL_law_692 rfl ?_
  refine x_iload_n O dL_law_693 rfl ?_
  refine x_iconst O dL_law_694 kc_1 ?_
  refine x_iaddN O dL_law_695 ?_
  refine sld _ _ _ _ _ (i + 1) (by omega) dL_law_696 ?_
  refine x_aload_n O dL_law_697 rfl ?_
  refine x_iload_n O dL_law_698 rfl ?_
  refine x_iconst O dL_law_699 kc_2 ?_
  refine x_iaddN O dL_law_700 ?_
  refine sld _ _ _ _ _ (i + 2) (by omega) dL_law_701 ?_
  refine l_callX (n := 2) (As := [.int (xs (i + 1)), .int (xs (i + 2))]) O (mX0_touch fB fN fW (xs (i + 1)) (xs (i + 2))) (lw_V q166 q167 q168 q22 q169) ⟨rfl, rfl⟩ (by decide +kernel) rfl ⟨Nat.le_of_ble_eq_true rfl, Nat.le_of_ble_eq_true rfl⟩ (Nat.le_of_ble_eq_true rfl) rfl dL_law_702 (fun r1 u1 p1 => ?_)
  refine x_aload_n O dL_law_705 rfl ?_
  refine x_aload_n O dL_law_706 rfl ?_
  refine x_iload_n O dL_law_707 rfl ?_
  refine x_iconst O dL_law_708 kc_1 ?_
  refine x_iaddN O dL_law_709 ?_
  refine sld _ _ _ _ _ (i + 1) (by omega) dL_law_710 ?_
  refine x_aload_n O dL_law_711 rfl ?_
  refine x_iload_n O dL_law_712 rfl ?_
  refine x_iconst O dL_law_713 kc_2 ?_
  refine x_iaddN O dL_law_714 ?_
  refine sld _ _ _ _ _ (i + 2) (by omega) dL_law_715 ?_
  refine l_callM (n := 2) (As := [.int (xs (i + 1)), .int (xs (i + 2))]) O (mX1_touch fM fD (xs (i + 1)) (xs (i + 2))) (lw_V q295 q296 q297 q23 q298) ⟨rfl, rfl⟩ (by decide +kernel) rfl ⟨Nat.le_of_ble_eq_true rfl, Nat.le_of_ble_eq_true rfl⟩ (Nat.le_of_ble_eq_true rfl) rfl dL_law_716 (fun r2 u2 p2 => ?_)
  obtain ⟨e, hrel2⟩ := La_touch hrel p1 p2
  exact x_icmp_eq O dL_law_719 (fun _ => kont _ _ hrel2) (fun q => absurd e q)
end LW
end
section
/-! the law's loop (printed by gen/mkloop.py) -/
set_option maxRecDepth 100000
set_option maxHeartbeats 4000000 in
theorem law_loop {l : Launch} {b L : Nat} {xs : Nat → Int32} {D : va_G} {h hB hN hW : Nat} {cB cN cW : ClassId} {g hM hD : Nat} {cM cD : ClassId} {K : Nat → List (Option Value) → List Value → SL → Prop} (hL : L ≤ 320) (M : LawM l b L xs D h hB hN hW cB cN cW g hM hD cM cD K) :
    ∀ (n i : Nat) (u1 : SX) (u2 : SM), L - i = n → i ≤ L → zt_Rel u1 u2 → K 18 [some (.ref b), some (.ref h), some (.ref g), some (.int (nI i))] [] (u1, u2) := by
  obtain ⟨O, sld, slen, rt⟩ := id M
  intro n
  induction n using Nat.strongRecOn with
  | _ n ih =>
    intro i u1 u2 hn hi hrel
    refine x_iload_n O dL_law_18 rfl ?_
    refine x_aload_n O dL_law_19 rfl ?_
    refine slen _ _ _ _ _ dL_law_20 ?_
    refine x_iconst O dL_law_21 kc_5 ?_
    refine x_isub O dL_law_22 ?_
    have e5 : (nI L - nI 5).toInt = (L : Int) - 5 := pk_sub_toInt (by omega) (by omega)
    have ei : (nI i).toInt = (i : Int) := nI_toInt (by omega)
    refine x_icmp_gt O dL_law_23 (fun c1 => ?_) (fun c1 => ?_)
    · refine x_iconst O dL_law_730 (show Int32.ofInt 1 = 1 by decide) ?_
      exact rt _ _ _ _ dL_law_731
    · have hi5 : i + 5 ≤ L := by omega
      have kont : ∀ u1 u2, zt_Rel u1 u2 → K 724 [some (.ref b), some (.ref h), some (.ref g), some (.int (nI i))] [] (u1, u2) := by
        intro v1 v2 hrel2
        refine x_iinc [some (.ref b), some (.ref h), some (.ref g), some (.int (nI (i + 5)))] O dL_law_724 rfl (show nI i + Int32.ofInt 5 = nI (i + 5) by rw [kc_5, nI_add]) rfl ?_
        refine x_goto O dL_law_727 ?_
        exact ih _ (by omega) (i + 5) v1 v2 rfl hi5 hrel2
      obtain ⟨fB, fN, fW⟩ := u1
      obtain ⟨fM, fD⟩ := u2
      refine x_aload_n O dL_law_26 rfl ?_
      refine x_iload_n O dL_law_27 rfl ?_
      refine sld _ _ _ _ _ i (by omega) dL_law_28 ?_
      refine x_bipush O dL_law_29 kb_31 ?_
      refine x_iand O dL_law_31 ?_
      obtain ⟨j, hj, ej⟩ := pk_andE (xs i) (m := nI 31) 5 (by decide)
      refine x_top ej ?_
      by_cases hj17 : 18 ≤ j
      · have tj : (nI j).toInt = (j : Int) := nI_toInt (by omega)
        exact x_tableOut O dL_law_32 (Or.inr (by omega)) (tgt := 724) rfl (kont _ _ hrel)
      · have cs : j = 0 ∨ j = 1 ∨ j = 2 ∨ j = 3 ∨ j = 4 ∨ j = 5 ∨ j = 6 ∨ j = 7 ∨ j = 8 ∨ j = 9 ∨ j = 10 ∨ j = 11 ∨ j = 12 ∨ j = 13 ∨ j = 14 ∨ j = 15 ∨ j = 16 ∨ j = 17 := by omega
        rcases cs with rfl | rfl | rfl | rfl | rfl | rfl | rfl | rfl | rfl | rfl | rfl | rfl | rfl | rfl | rfl | rfl | rfl | rfl
        · exact x_tableIn O dL_law_32 (off := 88) (tgt := 120) (by decide) (by decide) (by decide) rfl (lc_all M hi5 hrel kont)
        · exact x_tableIn O dL_law_32 (off := 111) (tgt := 143) (by decide) (by decide) (by decide) rfl (lc_zero M hi5 hrel kont)
        · exact x_tableIn O dL_law_32 (off := 134) (tgt := 166) (by decide) (by decide) (by decide) rfl (lc_keep M hi5 hrel kont)
        · exact x_tableIn O dL_law_32 (off := 187) (tgt := 219) (by decide) (by decide) (by decide) rfl (lc_pass M hi5 hrel kont)
        · exact x_tableIn O dL_law_32 (off := 210) (tgt := 242) (by decide) (by decide) (by decide) rfl (lc_back M hi5 hrel kont)
        · exact x_tableIn O dL_law_32 (off := 233) (tgt := 265) (by decide) (by decide) (by decide) rfl (lc_set M hi5 hrel kont)
        · exact x_tableIn O dL_law_32 (off := 276) (tgt := 308) (by decide) (by decide) (by decide) rfl (lc_free M hi5 hrel kont)
        · exact x_tableIn O dL_law_32 (off := 309) (tgt := 341) (by decide) (by decide) (by decide) rfl (lc_follow M hi5 hrel kont)
        · exact x_tableIn O dL_law_32 (off := 352) (tgt := 384) (by decide) (by decide) (by decide) rfl (lc_meet M hi5 hrel kont)
        · exact x_tableIn O dL_law_32 (off := 385) (tgt := 417) (by decide) (by decide) (by decide) rfl (lc_hull M hi5 hrel kont)
        · exact x_tableIn O dL_law_32 (off := 418) (tgt := 450) (by decide) (by decide) (by decide) rfl (lc_copy M hi5 hrel kont)
        · exact x_tableIn O dL_law_32 (off := 451) (tgt := 483) (by decide) (by decide) (by decide) rfl (lc_empty M hi5 hrel kont)
        · exact x_tableIn O dL_law_32 (off := 474) (tgt := 506) (by decide) (by decide) (by decide) rfl (lc_widest M hi5 hrel kont)
        · exact x_tableIn O dL_law_32 (off := 517) (tgt := 549) (by decide) (by decide) (by decide) rfl (lc_has M hi5 hrel kont)
        · exact x_tableIn O dL_law_32 (off := 570) (tgt := 602) (by decide) (by decide) (by decide) rfl (lc_size M hi5 hrel kont)
        · exact x_tableIn O dL_law_32 (off := 593) (tgt := 625) (by decide) (by decide) (by decide) rfl (lc_next M hi5 hrel kont)
        · exact x_tableIn O dL_law_32 (off := 626) (tgt := 658) (by decide) (by decide) (by decide) rfl (lc_within M hi5 hrel kont)
        · exact x_tableIn O dL_law_32 (off := 659) (tgt := 691) (by decide) (by decide) (by decide) rfl (lc_touch M hi5 hrel kont)
end
section
/-! the law from its entry -/
set_option maxRecDepth 100000
theorem law_classes {s0 : State} {b0 : Addr} (ht0 : ∀ w ∈ lw_tbl, w.before #[Value.ref b0] s0 = true) : ∃ (dC : Nat → ClassId) (dI : Nat → Nat → Nat), ∀ (k : Nat) (q : vw_C), vwCl[k]? = some q → u_Kn s0 q.1 q.2.1 q.2.2 (dC k) (dI k) := by
  obtain ⟨c0_, iS0, hKn0⟩ := u_known (C := RX0) (T := TX0) (N := 3) (n := 3) ht0 (fun w h => lw_all_tbl (in_X0 w h)) (ht0 _ (lw_all_tbl q25))
  obtain ⟨c1_, iS1, hKn1⟩ := u_known (C := RX1) (T := TX1) (N := 2) (n := 2) ht0 (fun w h => lw_all_tbl (in_X1 w h)) (ht0 _ (lw_all_tbl q171))
  refine ⟨fun k => if k = 0 then c0_ else c1_, fun k => if k = 0 then iS0 else iS1, ?_⟩
  intro k q hq
  match k, hq with
  | 0, hq => cases hq; exact hKn0
  | 1, hq => cases hq; exact hKn1
  | k + 2, hq => simp [vwCl] at hq
set_option maxHeartbeats 4000000 in
theorem whole_start {p : Program} {e : Env} {s : State} {m : MethodId} {below : List Frame} {meth : Method} {c : Code} (l : Launch) {b L : Nat} {xs : Nat → Int32} (hL : L ≤ 320) (C0 : lw_At p s m meth c b L xs) : W p l e room_1 s m #[Value.ref b] below meth c s.heap [] 0 0 (lw_Z below #[Value.ref b] s) (entryFrame m ([Value.ref b] : List Value).toArray 4) := by
  obtain ⟨hx, hb, hr, hml, hown, hts0, hX, hbl, hlocks, hgv⟩ := id C0
  have hts : ∀ w ∈ lw_all, w.before #[Value.ref b] s = true := fun w h => hts0 w (lw_all_tbl h)
  have hA : ∀ q : Nat, s.heap.size ≤ q → (fun q : Nat => s.heap.size ≤ q) q := fun _ h => h
  obtain ⟨dC, dI, hKc0⟩ := law_classes hts0
  have hS : va_S (fun q : Nat => s.heap.size ≤ q) s.heap s.heap [] := va_S.rf
  have hK : va_K (dC, dI) vwCl [] s := ⟨hKc0, fun k q h => by simp at h⟩
  have hP : va_P (dC, dI) vwCl [] s.heap := fun k q h => by simp at h
  have hD : va_D (fun q : Nat => s.heap.size ≤ q) [] := ⟨fun i j p q h => by simp at h, fun k q h => by simp at h⟩
  have hl := xl_entry (av := [.ref b]) (n := 4) (by simp [Value.category]) (Nat.le_of_ble_eq_true rfl)
  rw [lg_entry_eq]
  generalize (lg_sl ([.ref b]) ++ List.replicate (4 - (lg_sl ([.ref b])).length) Slot.unset).toArray = ls at hl ⊢
  have hl : xl ls 4 [some (.ref b), none, none, none] := hl
  -- the class
  refine va_new (ci := 0) (fs := [.null, .null, .null]) (C := RX0) (T := TX0) (N := 3) hx hb hts in_X0 tyX0 tyX0_ok hown (hts _ q24) (hts _ q25) (hts _ q22) hK hP hD hS hA rfl (fun j hj => by rcases (show j = 0 ∨ j = 1 ∨ j = 2 by omega) with rfl | rfl | rfl <;> rfl) (Nat.le_of_ble_eq_true rfl) (Nat.le_of_ble_eq_true rfl) dL_law_0.1 (fun h H hP hD hS => ?_)
  have hP : va_P (dC, dI) vwCl [(h, .inr (0, [.null, .null, .null]))] H := hP
  have hD : va_D (fun q : Nat => s.heap.size ≤ q) [(h, .inr (0, [.null, .null, .null]))] := hD
  refine W.widen (k := 1) (n := 3) (Nat.le_of_ble_eq_true rfl) (Nat.le_of_ble_eq_true rfl) ?_
  refine lv_dup hx hb dL_law_3.1 rfl ?_
  have hFc := va_free (wc := [(h, .inr (0, [.null, .null, .null]))]) hD hS hA [0] rfl
  refine va_callv (va_runI (As := []) (rest := [.ref h]) ⟨hx, hb, hml, hown, hts⟩ (mX0_init l (dC, dI) h H.size) (cwI 0 hts (lw_meth q28) rfl rfl rfl (hts _ q22) (hts _ q26) (hts _ q27) rfl (by decide +kernel) ⟨Nat.le_of_ble_eq_true rfl, Nat.le_of_ble_eq_true rfl⟩) ⟨fun a U g mk q => by obtain ⟨q0, q1, qP, qK, qD⟩ := q; exact ⟨q0, q1, qP, va_K.moved (u := U) (U := U.calling g mk a) (Vm.Alike.refl U.vm) qK, qD⟩, fun U hU hW => ⟨rfl, by rw [hU], by rw [hU]; exact hP, va_K.moved hW.alike hK, hD.weaken (fun _ _ _ _ => trivial)⟩⟩ rfl rfl hl.1.1 rfl (lv_room (Nat.le_of_ble_eq_true rfl)) dL_law_4.1 ⟨Nat.le_of_ble_eq_true rfl, Nat.le_of_ble_eq_true rfl⟩) hS (fun q _ h => hFc q h) hFc (fun u t H1 locs ht hvm hw hB1 hz1 hk1 hS => ?_)
  obtain ⟨hB, hN, hW, cB, cN, cW, u⟩ := u
  obtain ⟨hP1, hK1, hD1⟩ := hB1
  rw [ht] at hP1
  have hK1 := va_K.moved hvm.symm hK1
  have hw : u = inI 3 := hw
  subst hw
  obtain ⟨hP, hD⟩ := va_join (wr := []) (w1 := wX h hB hN hW cB cN cW (inI 3)) hP hD [0] [] rfl rfl (by decide) (by decide) hk1 hFc hP1 hD1
  have hP : va_P (dC, dI) vwCl (wX h hB hN hW cB cN cW (inI 3)) H1 := hP
  have hD : va_D (fun q : Nat => s.heap.size ≤ q) (wX h hB hN hW cB cN cW (inI 3)) := hD
  have hK : va_K (dC, dI) vwCl (tX cB cN cW) s := hK1
  clear hP1 hD1 hK1 hk1 hFc hz1
  refine W.widen (k := 4) (n := 70) (Nat.le_of_ble_eq_true rfl) (Nat.le_of_ble_eq_true rfl) ?_
  refine lv_astore_n hx hb dL_law_7.1 rfl hl.1 (Nat.le_of_ble_eq_true rfl) rfl (fun ls h' => ?_)
  have hl : xl ls 4 [some (.ref b), some (.ref h), none, none] := xl_set hl (i := 1) rfl h'
  -- the reference
  refine va_new (ci := 1) (fs := [.null, .null]) (C := RX1) (T := TX1) (N := 2) hx hb hts in_X1 tyX1 tyX1_ok hown (hts _ q170) (hts _ q171) (hts _ q23) hK hP hD hS hA rfl (fun j hj => by rcases (show j = 0 ∨ j = 1 by omega) with rfl | rfl <;> rfl) (Nat.le_of_ble_eq_true rfl) (Nat.le_of_ble_eq_true rfl) dL_law_8.1 (fun g H hP hD hS => ?_)
  refine W.widen (k := 5) (n := 72) (Nat.le_of_ble_eq_true rfl) (Nat.le_of_ble_eq_true rfl) ?_
  refine lv_dup hx hb dL_law_11.1 rfl ?_
  have hPc := hP.sub (ws' := [(g, .inr (1, [.null, .null]))]) [4] rfl
  have hDc := hD.sub (ws' := [(g, .inr (1, [.null, .null]))]) [4] (by decide) rfl
  have hKc := hK.sub (tys' := []) [] rfl
  have hFc := va_free (wc := [(g, .inr (1, [.null, .null]))]) hD hS hA [4] rfl
  refine va_callv (va_runI (As := []) (rest := [.ref g]) ⟨hx, hb, hml, hown, hts⟩ (mX1_init l (dC, dI) g H.size) (cwI 0 hts (lw_meth q174) rfl rfl rfl (hts _ q23) (hts _ q172) (hts _ q173) rfl (by decide +kernel) ⟨Nat.le_of_ble_eq_true rfl, Nat.le_of_ble_eq_true rfl⟩) ⟨fun a U g mk q => by obtain ⟨q0, q1, qP, qK, qD⟩ := q; exact ⟨q0, q1, qP, va_K.moved (u := U) (U := U.calling g mk a) (Vm.Alike.refl U.vm) qK, qD⟩, fun U hU hW => ⟨rfl, by rw [hU], by rw [hU]; exact hPc, va_K.moved hW.alike hKc, hDc.weaken (fun _ _ _ _ => trivial)⟩⟩ rfl rfl hl.1.1 rfl (lv_room (Nat.le_of_ble_eq_true rfl)) dL_law_12.1 ⟨Nat.le_of_ble_eq_true rfl, Nat.le_of_ble_eq_true rfl⟩) hS (fun q _ h => hFc q h) hFc (fun u t H2 locs ht hvm hw hB1 hz1 hk1 hS => ?_)
  obtain ⟨hM, hDa, cM, cD, u⟩ := u
  obtain ⟨hP1, hK1, hD1⟩ := hB1
  rw [ht] at hP1
  have hK1 := va_K.moved hvm.symm hK1
  have hw : u = (blk (fun _ => false) 0 6591 (fun _ => true), fun _ => false) := hw
  subst hw
  obtain ⟨hP, hD⟩ := va_join (wr := wX h hB hN hW cB cN cW (inI 3)) (w1 := wM g hM hDa cM cD (blk (fun _ => false) 0 6591 (fun _ => true), fun _ => false)) hP hD [4] [0, 1, 2, 3] rfl rfl (by decide) (by decide) hk1 hFc hP1 hD1
  have hK : va_K (dC, dI) vwCl (tX cB cN cW ++ tM cM cD) s := hK.app hK1
  refine W.widen (k := 7) (n := 8860) (Nat.le_of_ble_eq_true rfl) (Nat.le_of_ble_eq_true rfl) ?_
  refine lv_astore_n hx hb dL_law_15.1 rfl hl.1 (Nat.le_of_ble_eq_true rfl) rfl (fun ls h' => ?_)
  have hl : xl ls 4 [some (.ref b), some (.ref h), some (.ref g), none] := xl_set hl (i := 2) rfl h'
  have hP : va_P (dC, dI) vwCl (wL h hB hN hW cB cN cW g hM hDa cM cD (inI 3, (blk (fun _ => false) 0 6591 (fun _ => true), fun _ => false))) H2 := hP
  have hD : va_D (fun q : Nat => s.heap.size ≤ q) (wL h hB hN hW cB cN cW g hM hDa cM cD (inI 3, (blk (fun _ => false) 0 6591 (fun _ => true), fun _ => false))) := hD
  have LM := LawM.of (l := l) (e := e) (below := below) hL C0 (h := h) (hB := hB) (hN := hN) (hW := hW) (cB := cB) (cN := cN) (cW := cW) (g := g) (hM := hM) (hD := hDa) (cM := cM) (cD := cD) hK (σ0 := (inI 3, (blk (fun _ => false) 0 6591 (fun _ => true), fun _ => false))) hD
  have go := law_loop hL LM L 0 (inI 3) (blk (fun _ => false) 0 6591 (fun _ => true), fun _ => false) rfl (Nat.zero_le _) zt_init
  exact x_iconst LM.1 dL_law_16 kc_0 (x_istore_n [some (.ref b), some (.ref h), some (.ref g), some (.int (nI 0))] LM.1 dL_law_17 rfl rfl go) H2 locs ls hP hS hl
end
section
/-! starting text (skeleton): the claim out of whole_start -/
set_option maxRecDepth 100000
set_option maxHeartbeats 4000000 in
theorem lw_walk (l : Launch) (b : Addr) (xs : List Int32) : MetFree l x (headSpec (Jvm.Cond.code x code maxLocals ret :: tables_1) room_1) (lw_P b xs) (fun _ _ _ _ _ => True) lw_Q := by
  refine MetFree.of_bodyS (code := code) (maxLocals := maxLocals) (ret := ret) (by decide) ?_ ?_
  · intro args s m h hn
    obtain ⟨meth, c, h1, h2, h3, h4, h5, h6, -, -⟩ := Cond.code_spec hn (atoms_spec (ws := Jvm.Cond.code x code maxLocals ret :: tables_1) h _ List.mem_cons_self)
    exact ⟨meth, c, h1, h2, h3, h4, h5, h6⟩
  · intro p e s m args below meth c s₁ B hml0 hP _
    obtain ⟨rfl, hx, hbd, hgv⟩ := hP
    obtain ⟨scr, harrAt, hlist, hof, hsmall⟩ := hx
    obtain ⟨hcb, hkn, -, -⟩ := State.arrayAt?_spec harrAt
    have hown : s.vm.findClass R_law = some m.cls := findClass_of_methodNamed B.named
    have hts0 : ∀ c ∈ (Jvm.Cond.code x code maxLocals ret :: tables_1), c.before #[Value.ref b] s = true := atoms_spec (ws := Jvm.Cond.code x code maxLocals ret :: tables_1) B.pre
    have hts : ∀ w ∈ lw_tbl, w.before #[Value.ref b] s = true := k2_hts_sels lw_privs (fun w hw => hts0 w (List.mem_cons_of_mem _ hw)) lw_privs_ok
    have hml : c.maxLocals = 4 := B.maxLocals_eq (hts0 _ List.mem_cons_self)
    have X₀ : Stand p l e room_1 s m #[Value.ref b] below meth c s₁ [] 0 0 := Stand.of_body B
    have hh0 : s₁.heap = s.heap := by rw [B.state]; rfl
    have hsz : scr.slots.size = xs.length := by rw [← Array.length_toList, hlist, List.length_map]
    have hval : ∀ j : Nat, j < xs.length → scr.slots[j]? = some (.int (xs.getD j 0)) := fun j hj => by
      rw [← Array.getElem?_toList, hlist]
      simp [hj]
    have hbl : b < s.heap.size := (Array.getElem?_eq_some_iff.mp hcb).1
    have hX : va_X b xs.length (fun j => xs.getD j 0) s s.heap := ⟨scr, hcb, hof, hkn, hsz, hval⟩
    have K : W p l e room_1 s m #[Value.ref b] below meth c s₁.heap [] 0 0 (lw_Z below #[Value.ref b] s) (entryFrame m ([Value.ref b] : List Value).toArray 4) := by
      rw [hh0]
      exact whole_start l hbd ⟨B.exec, B.bytes, B.returns, hml, hown, hts, hX, hbl, B.notSynchronized, hgv⟩
    obtain ⟨t, a1, o, b1, b2, b3⟩ := K s₁ rfl X₀
    exact ⟨t, o, a1, b1, b2, b3⟩
theorem lw_pre_spec {args : Array Value} {s : State} (h : (Jvm.Cond.and given_1 narrow_1).before args s = true) (hr : rest_1_c.before args s = true) : ∃ (b : Addr) (xs : List Int32), lw_P b xs args s := by
  have hs := flat_of_before _ h
  have hq := flat_of_before _ hr
  have hc : (Cond.count 1).before args s = true := hs _ (by decide +kernel)
  have harr : (Cond.arrayOf (.arg 0) .int).before args s = true := hs _ (by decide +kernel)
  have hle : (Cond.le (.length (.arg 0)) (.int 320)).before args s = true := hs _ (by decide +kernel)
  have hlen : (Cond.isInt (.length (.arg 0))).before args s = true := hq _ (by decide +kernel)
  have hall : (Cond.all (.arg 0) (.isInt (.elem (.arg 0) (.index 0)))).before args s = true := hq _ (by decide +kernel)
  obtain ⟨b, xs, hb, hx⟩ := State.ints_of_pre rfl harr hlen hall
  have hsm : xs.length < 2 ^ 31 := hx.choose_spec.2.2.2
  have hev : (Term.length (.arg 0)).eval args s none [] s = some (.int xs.length.toInt32) := hx.length_eval hb
  have hv := Cond.le_ints hev (show (Term.int 320).eval args s none [] s = some (.int 320) from rfl)
  have hd : xs.length.toInt32 ≤ 320 := by
    simpa [Cond.before, Cond.holds, hv] using hle
  have hN : xs.length ≤ 320 := (Int32.ofNat_le_ofNat hsm (by decide)).mp (show Int32.ofNat xs.length ≤ Int32.ofNat 320 from hd)
  exact ⟨b, xs, Cond.one_arg hc (show args[0]? = some (.ref b) from hb), hx, hN, h⟩
theorem lw_comes (l : Launch) : Comes l x (Jvm.Cond.code x code maxLocals ret :: tables_1) room_1 (fun tb e args s => Calls_1 tb e args s ∧ rest_1 tb e args s ∧ Pre_1 tb e args s)
    (fun _ _ args s o t => lw_Q args s o t) := by
  intro p e ha hc hk s m args below hf hfit hheap happ hpre
  obtain ⟨b, xs, hP⟩ := lw_pre_spec hpre.2.2 hpre.2.1
  obtain ⟨k, o, h1, h2, h3, hQ⟩ := lw_walk l b xs p e ha hc hk s m args below hf ((Spec.applies_iff_loose hf).mp happ).1 hP trivial
  exact ⟨k, o, h1, h2, h3, hQ⟩
theorem lw_frame {s t : State} {o : Outcome} {args : Array Value} (h : Framed s o t [] 600000 7290000) :
    Framed s o t (fieldLocs frame_1_writes args s ++ arrayLocs frame_1_arrays args s ++ staticLocs frame_1_statics s) 600000 7290000 := h
theorem lw_limb (L : Cond) (hL : ∀ (args : Array Value) (s t : State), L.after args s (.returned (some (.int 1))) t = true) :
    ArmFor flags0 classFile x code maxLocals ret World_1 tables_1 room_1 Calls_1 rest_1 Pre_1
      (fun tb e a s o t => postC L tb e a s o t ∧ Framed s o t (fieldLocs frame_1_writes a s ++ arrayLocs frame_1_arrays a s ++ staticLocs frame_1_statics s) 600000 7290000) := by
  intro l _ _ _ p e ha hc hk s m args below hf hfit hheap happ hpre
  obtain ⟨k, o, h1, h2, h3, rfl, hF⟩ := lw_comes l p e ha hc hk s m args below hf hfit hheap happ hpre
  exact ⟨k, _, h1, h2, h3, hL args s _, lw_frame hF⟩
theorem i_vc : Claimed_1_1 ∧ Claimed_1_2 := ⟨lw_limb limb_1_1 (fun args s t => by simp [limb_1_1, Cond.after, Cond.holds, Cond.value]), lw_limb limb_1_2 (fun args s t => Cond.after_iff.mpr (by
  first | (rw [show limb_1_2 = Cond.eq .result (.int 1) from rfl, Cond.eq_ints (x := 1) (y := 1) rfl rfl]; simp; done) | (simp [limb_1_2, Cond.value, Term.eval]; done)))⟩
end
