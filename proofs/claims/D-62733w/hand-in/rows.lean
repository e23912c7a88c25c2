section
-- ===== PART A: goes FIRST, ahead of the names: the tables' words, and 'selects' of the private methods out of them =====
/-- a private method of a class that the tables say can be made, by its rows of tables_1 -/
def lw_okq (q : MethodName × Nat) : Prop := (q.1.cls ≠ "java/lang/invoke/MethodHandle" ∧ q.1.cls ≠ "java/lang/invoke/VarHandle") ∧ Cond.instantiable q.1.cls q.2 ∈ tables_1 ∧ Cond.privateMethod q.1 ∈ tables_1 ∧ Cond.instanceMethod q.1 ∈ tables_1
set_option maxRecDepth 100000
theorem lw_t1 {w : Cond} (h : w ∈ tables_1_1) : w ∈ tables_1 := List.mem_append_left _ h
theorem lw_t2 {w : Cond} (h : w ∈ tables_1_2) : w ∈ tables_1 := List.mem_append_right _ h
theorem lw_p0 : lw_okq (⟨"RoundPlanner", "badLine", "(I)Z"⟩, 12) := ⟨⟨by decide +kernel, by decide +kernel⟩, lw_t1 (List.mem_of_getElem? (i := 4) rfl), lw_t1 (List.mem_of_getElem? (i := 61) rfl), lw_t1 (List.mem_of_getElem? (i := 62) rfl)⟩
theorem lw_p1 : lw_okq (⟨"RoundPlanner", "hasTrips", "(I)Z"⟩, 12) := ⟨⟨by decide +kernel, by decide +kernel⟩, lw_t1 (List.mem_of_getElem? (i := 4) rfl), lw_t1 (List.mem_of_getElem? (i := 65) rfl), lw_t1 (List.mem_of_getElem? (i := 66) rfl)⟩
theorem lw_p2 : lw_okq (⟨"RoundPlanner", "refusal", "(III)I"⟩, 12) := ⟨⟨by decide +kernel, by decide +kernel⟩, lw_t1 (List.mem_of_getElem? (i := 4) rfl), lw_t1 (List.mem_of_getElem? (i := 85) rfl), lw_t1 (List.mem_of_getElem? (i := 86) rfl)⟩
theorem lw_p3 : lw_okq (⟨"RoundPlanner", "plan", "(III)V"⟩, 12) := ⟨⟨by decide +kernel, by decide +kernel⟩, lw_t1 (List.mem_of_getElem? (i := 4) rfl), lw_t1 (List.mem_of_getElem? (i := 92) rfl), lw_t1 (List.mem_of_getElem? (i := 93) rfl)⟩
theorem lw_p4 : lw_okq (⟨"RoundPlanner", "begin", "(II)V"⟩, 12) := ⟨⟨by decide +kernel, by decide +kernel⟩, lw_t1 (List.mem_of_getElem? (i := 4) rfl), lw_t1 (List.mem_of_getElem? (i := 96) rfl), lw_t1 (List.mem_of_getElem? (i := 97) rfl)⟩
theorem lw_p5 : lw_okq (⟨"RoundPlanner", "walkOn", "()V"⟩, 12) := ⟨⟨by decide +kernel, by decide +kernel⟩, lw_t1 (List.mem_of_getElem? (i := 4) rfl), lw_t1 (List.mem_of_getElem? (i := 101) rfl), lw_t1 (List.mem_of_getElem? (i := 102) rfl)⟩
theorem lw_p6 : lw_okq (⟨"RoundPlanner", "nextRound", "()V"⟩, 12) := ⟨⟨by decide +kernel, by decide +kernel⟩, lw_t1 (List.mem_of_getElem? (i := 4) rfl), lw_t1 (List.mem_of_getElem? (i := 105) rfl), lw_t1 (List.mem_of_getElem? (i := 106) rfl)⟩
theorem lw_p7 : lw_okq (⟨"RoundPlanner", "rideLine", "(I)V"⟩, 12) := ⟨⟨by decide +kernel, by decide +kernel⟩, lw_t1 (List.mem_of_getElem? (i := 4) rfl), lw_t1 (List.mem_of_getElem? (i := 109) rfl), lw_t1 (List.mem_of_getElem? (i := 110) rfl)⟩
theorem lw_p8 : lw_okq (⟨"RoundPlanner", "catchTrip", "(III)I"⟩, 12) := ⟨⟨by decide +kernel, by decide +kernel⟩, lw_t1 (List.mem_of_getElem? (i := 4) rfl), lw_t1 (List.mem_of_getElem? (i := 113) rfl), lw_t1 (List.mem_of_getElem? (i := 114) rfl)⟩
theorem lw_p9 : lw_okq (⟨"RoundPlanner", "arrivalAt", "(I)I"⟩, 12) := ⟨⟨by decide +kernel, by decide +kernel⟩, lw_t1 (List.mem_of_getElem? (i := 4) rfl), lw_t1 (List.mem_of_getElem? (i := 117) rfl), lw_t1 (List.mem_of_getElem? (i := 118) rfl)⟩
theorem lw_p10 : lw_okq (⟨"RoundPlanner", "planBack", "(II)V"⟩, 12) := ⟨⟨by decide +kernel, by decide +kernel⟩, lw_t1 (List.mem_of_getElem? (i := 4) rfl), lw_t1 (List.mem_of_getElem? (i := 133) rfl), lw_t1 (List.mem_of_getElem? (i := 134) rfl)⟩
theorem lw_p11 : lw_okq (⟨"RoundPlanner", "walkBack", "()V"⟩, 12) := ⟨⟨by decide +kernel, by decide +kernel⟩, lw_t1 (List.mem_of_getElem? (i := 4) rfl), lw_t1 (List.mem_of_getElem? (i := 138) rfl), lw_t1 (List.mem_of_getElem? (i := 139) rfl)⟩
theorem lw_p12 : lw_okq (⟨"RoundPlanner", "rideLineBack", "(I)V"⟩, 12) := ⟨⟨by decide +kernel, by decide +kernel⟩, lw_t1 (List.mem_of_getElem? (i := 4) rfl), lw_t1 (List.mem_of_getElem? (i := 142) rfl), lw_t1 (List.mem_of_getElem? (i := 143) rfl)⟩
theorem lw_p13 : lw_okq (⟨"RoundPlanner", "meetTrip", "(III)I"⟩, 12) := ⟨⟨by decide +kernel, by decide +kernel⟩, lw_t1 (List.mem_of_getElem? (i := 4) rfl), lw_t1 (List.mem_of_getElem? (i := 146) rfl), lw_t1 (List.mem_of_getElem? (i := 147) rfl)⟩
theorem lw_p14 : lw_okq (⟨"RoundPlannerModel", "isStop", "(I)Z"⟩, 10) := ⟨⟨by decide +kernel, by decide +kernel⟩, lw_t1 (List.mem_of_getElem? (i := 154) rfl), lw_t1 (List.mem_of_getElem? (i := 195) rfl), lw_t1 (List.mem_of_getElem? (i := 196) rfl)⟩
theorem lw_p15 : lw_okq (⟨"RoundPlannerModel", "isLine", "(I)Z"⟩, 10) := ⟨⟨by decide +kernel, by decide +kernel⟩, lw_t1 (List.mem_of_getElem? (i := 154) rfl), lw_t1 (List.mem_of_getElem? (i := 203) rfl), lw_t1 (List.mem_of_getElem? (i := 204) rfl)⟩
def lw_privs_1 : List (MethodName × Nat) := [(⟨"RoundPlanner", "badLine", "(I)Z"⟩, 12), (⟨"RoundPlanner", "hasTrips", "(I)Z"⟩, 12), (⟨"RoundPlanner", "refusal", "(III)I"⟩, 12), (⟨"RoundPlanner", "plan", "(III)V"⟩, 12), (⟨"RoundPlanner", "begin", "(II)V"⟩, 12), (⟨"RoundPlanner", "walkOn", "()V"⟩, 12), (⟨"RoundPlanner", "nextRound", "()V"⟩, 12), (⟨"RoundPlanner", "rideLine", "(I)V"⟩, 12), (⟨"RoundPlanner", "catchTrip", "(III)I"⟩, 12), (⟨"RoundPlanner", "arrivalAt", "(I)I"⟩, 12), (⟨"RoundPlanner", "planBack", "(II)V"⟩, 12), (⟨"RoundPlanner", "walkBack", "()V"⟩, 12), (⟨"RoundPlanner", "rideLineBack", "(I)V"⟩, 12), (⟨"RoundPlanner", "meetTrip", "(III)I"⟩, 12), (⟨"RoundPlannerModel", "isStop", "(I)Z"⟩, 10), (⟨"RoundPlannerModel", "isLine", "(I)Z"⟩, 10)]
theorem lw_r1 : ∀ q ∈ lw_privs_1, lw_okq q := List.forall_mem_cons.mpr ⟨lw_p0, List.forall_mem_cons.mpr ⟨lw_p1, List.forall_mem_cons.mpr ⟨lw_p2, List.forall_mem_cons.mpr ⟨lw_p3, List.forall_mem_cons.mpr ⟨lw_p4, List.forall_mem_cons.mpr ⟨lw_p5, List.forall_mem_cons.mpr ⟨lw_p6, List.forall_mem_cons.mpr ⟨lw_p7, List.forall_mem_cons.mpr ⟨lw_p8, List.forall_mem_cons.mpr ⟨lw_p9, List.forall_mem_cons.mpr ⟨lw_p10, List.forall_mem_cons.mpr ⟨lw_p11, List.forall_mem_cons.mpr ⟨lw_p12, List.forall_mem_cons.mpr ⟨lw_p13, List.forall_mem_cons.mpr ⟨lw_p14, List.forall_mem_cons.mpr ⟨lw_p15, fun _ h => absurd h List.not_mem_nil⟩⟩⟩⟩⟩⟩⟩⟩⟩⟩⟩⟩⟩⟩⟩⟩
theorem lw_p16 : lw_okq (⟨"RoundPlannerModel", "onLine", "(II)Z"⟩, 10) := ⟨⟨by decide +kernel, by decide +kernel⟩, lw_t1 (List.mem_of_getElem? (i := 154) rfl), lw_t1 (List.mem_of_getElem? (i := 207) rfl), lw_t1 (List.mem_of_getElem? (i := 208) rfl)⟩
theorem lw_p17 : lw_okq (⟨"RoundPlannerModel", "hasTrips", "(I)Z"⟩, 10) := ⟨⟨by decide +kernel, by decide +kernel⟩, lw_t1 (List.mem_of_getElem? (i := 154) rfl), lw_t1 (List.mem_of_getElem? (i := 211) rfl), lw_t1 (List.mem_of_getElem? (i := 212) rfl)⟩
theorem lw_p18 : lw_okq (⟨"RoundPlannerModel", "refusal", "(III)I"⟩, 10) := ⟨⟨by decide +kernel, by decide +kernel⟩, lw_t1 (List.mem_of_getElem? (i := 154) rfl), lw_t1 (List.mem_of_getElem? (i := 235) rfl), lw_t1 (List.mem_of_getElem? (i := 236) rfl)⟩
theorem lw_p19 : lw_okq (⟨"RoundPlannerModel", "isTime", "(I)Z"⟩, 10) := ⟨⟨by decide +kernel, by decide +kernel⟩, lw_t1 (List.mem_of_getElem? (i := 154) rfl), lw_t1 (List.mem_of_getElem? (i := 239) rfl), lw_t2 (List.mem_of_getElem? (i := 0) rfl)⟩
theorem lw_p20 : lw_okq (⟨"RoundPlannerModel", "search", "(III)V"⟩, 10) := ⟨⟨by decide +kernel, by decide +kernel⟩, lw_t1 (List.mem_of_getElem? (i := 154) rfl), lw_t2 (List.mem_of_getElem? (i := 3) rfl), lw_t2 (List.mem_of_getElem? (i := 4) rfl)⟩
theorem lw_p21 : lw_okq (⟨"RoundPlannerModel", "walk", "(I)V"⟩, 10) := ⟨⟨by decide +kernel, by decide +kernel⟩, lw_t1 (List.mem_of_getElem? (i := 154) rfl), lw_t2 (List.mem_of_getElem? (i := 8) rfl), lw_t2 (List.mem_of_getElem? (i := 9) rfl)⟩
theorem lw_p22 : lw_okq (⟨"RoundPlannerModel", "ride", "(III)V"⟩, 10) := ⟨⟨by decide +kernel, by decide +kernel⟩, lw_t1 (List.mem_of_getElem? (i := 154) rfl), lw_t2 (List.mem_of_getElem? (i := 12) rfl), lw_t2 (List.mem_of_getElem? (i := 13) rfl)⟩
theorem lw_p23 : lw_okq (⟨"RoundPlannerModel", "best", "(II)I"⟩, 10) := ⟨⟨by decide +kernel, by decide +kernel⟩, lw_t1 (List.mem_of_getElem? (i := 154) rfl), lw_t2 (List.mem_of_getElem? (i := 16) rfl), lw_t2 (List.mem_of_getElem? (i := 17) rfl)⟩
def lw_privs_2 : List (MethodName × Nat) := [(⟨"RoundPlannerModel", "onLine", "(II)Z"⟩, 10), (⟨"RoundPlannerModel", "hasTrips", "(I)Z"⟩, 10), (⟨"RoundPlannerModel", "refusal", "(III)I"⟩, 10), (⟨"RoundPlannerModel", "isTime", "(I)Z"⟩, 10), (⟨"RoundPlannerModel", "search", "(III)V"⟩, 10), (⟨"RoundPlannerModel", "walk", "(I)V"⟩, 10), (⟨"RoundPlannerModel", "ride", "(III)V"⟩, 10), (⟨"RoundPlannerModel", "best", "(II)I"⟩, 10)]
theorem lw_r2 : ∀ q ∈ lw_privs_2, lw_okq q := List.forall_mem_cons.mpr ⟨lw_p16, List.forall_mem_cons.mpr ⟨lw_p17, List.forall_mem_cons.mpr ⟨lw_p18, List.forall_mem_cons.mpr ⟨lw_p19, List.forall_mem_cons.mpr ⟨lw_p20, List.forall_mem_cons.mpr ⟨lw_p21, List.forall_mem_cons.mpr ⟨lw_p22, List.forall_mem_cons.mpr ⟨lw_p23, fun _ h => absurd h List.not_mem_nil⟩⟩⟩⟩⟩⟩⟩⟩
def lw_privs : List (MethodName × Nat) := lw_privs_1 ++ (lw_privs_2)
def lw_tbl : List Cond := k2_sels lw_privs ++ tables_1
theorem lw_privs_ok : ∀ q ∈ lw_privs, lw_okq q := by
  show ∀ q ∈ lw_privs_1 ++ (lw_privs_2), lw_okq q
  exact List.forall_mem_append.mpr ⟨lw_r1, lw_r2⟩
-- ===== ONE list of words for every method: the tables' words that hold all through a run =====
def lw_all : List Cond := lw_tbl.filter goodWord
/-- a word of the tables by its place: claim/WORDS.tsv -/
theorem lw_w {w : Cond} (i : Nat) (h : lw_tbl[i]? = some w) (g : goodWord w = true) : w ∈ lw_all := List.mem_filter.mpr ⟨List.mem_of_getElem? h, g⟩
theorem lw_all_tbl {w : Cond} (h : w ∈ lw_all) : w ∈ lw_tbl := (List.mem_filter.mp h).1
theorem lw_self : GoodIn lw_all lw_all := fun w h => ⟨h, good_of_word (List.mem_filter.mp h).2⟩
/-- a class's field words, by their places -/
theorem lw_in (ws : List Cond) (ps : List Nat) (hp : ws = ps.filterMap (fun i => lw_tbl[i]?)) (hg : ws.all goodWord = true) : ∀ w ∈ ws, w ∈ lw_all := by
  intro w h
  have h1 := List.all_eq_true.mp hg w h
  rw [hp] at h
  obtain ⟨i, -, hi⟩ := List.mem_filterMap.mp h
  exact lw_w i hi h1
/-- the words of a contract for the method y with code b, L locals, answer r -/
abbrev ws_ (y : MethodName) (b : ByteArray) (L : Nat) (r : Option FieldType) : List Cond := Cond.code y b L r :: lw_all
theorem lw_meth {y : MethodName} {b : ByteArray} {L : Nat} {r : Option FieldType} (h : Cond.code y b L r ∈ lw_all) : GoodIn lw_all (ws_ y b L r) := by
  intro w hw
  rcases List.mem_cons.mp hw with e | e
  · rw [e]
    exact lw_self _ h
  · exact lw_self _ e
theorem lw_app {a c : List Cond} (ha : ∀ w ∈ a, w ∈ lw_all) (hc : GoodIn lw_all c) : GoodIn lw_all (a ++ c) := by
  intro w hw
  rcases List.mem_append.mp hw with e | e
  · exact lw_self w (ha w e)
  · exact hc w e
/-- what a call through an object asks: cwV n hts (lw_V ..) -/
theorem lw_V {own : String} {idx : Nat} {C : String} {y : MethodName} {b : ByteArray} {L : Nat} {r : Option FieldType} (h1 : Cond.methodLink own idx y ∈ lw_all) (h2 : Cond.instanceMethod y ∈ lw_all) (h3 : Cond.selects C y y ∈ lw_all) (h4 : Cond.initialized C ∈ lw_all) (h5 : Cond.code y b L r ∈ lw_all) : GoodIn lw_all (wsV own idx C y (ws_ y b L r)) := by
  refine lw_app ?_ (lw_meth h5)
  intro w hw
  simp only [List.mem_cons, List.not_mem_nil, or_false] at hw
  rcases hw with e | e | e | e
  · rw [e]; exact h1
  · rw [e]; exact h2
  · rw [e]; exact h3
  · rw [e]; exact h4
/-- what a static call asks: va_cwS n hts (lw_S ..) -/
theorem lw_S {own : String} {idx : Nat} {y : MethodName} {b : ByteArray} {L : Nat} {r : Option FieldType} (h1 : Cond.methodLink own idx y ∈ lw_all) (h2 : Cond.static y ∈ lw_all) (h3 : Cond.initialized y.cls ∈ lw_all) (h4 : Cond.code y b L r ∈ lw_all) : GoodIn lw_all (va_wsS own idx y (ws_ y b L r)) := by
  refine lw_app ?_ (lw_meth h4)
  intro w hw
  simp only [List.mem_cons, List.not_mem_nil, or_false] at hw
  rcases hw with e | e | e
  · rw [e]; exact h1
  · rw [e]; exact h2
  · rw [e]; exact h3
/-- the words of a contract for a method WITH HANDLERS (hh: its table) -/
abbrev wsW_ (y : MethodName) (b : ByteArray) (L : Nat) (r : Option FieldType) (hh : List (Nat × Nat × Nat × Nat)) : List Cond := Cond.codeWith y b L r hh :: lw_all
theorem lw_methW {y : MethodName} {b : ByteArray} {L : Nat} {r : Option FieldType} {hh : List (Nat × Nat × Nat × Nat)} (h : Cond.codeWith y b L r hh ∈ lw_all) : GoodIn lw_all (wsW_ y b L r hh) := by
  intro w hw
  rcases List.mem_cons.mp hw with e | e
  · rw [e]
    exact lw_self _ h
  · exact lw_self _ e
/-- any list of words by their places (lw_in), good -/
theorem lw_good {ws : List Cond} (h : ∀ w ∈ ws, w ∈ lw_all) : GoodIn lw_all ws := fun w hw => lw_self w (h w hw)
/-- what a call of a method with handlers asks: vx_cwVW n hts (lw_VW ..), vx_cwSW n hts (lw_SW ..) -/
theorem lw_VW {own : String} {idx : Nat} {C : String} {y : MethodName} {b : ByteArray} {L : Nat} {r : Option FieldType} {hh : List (Nat × Nat × Nat × Nat)} (h1 : Cond.methodLink own idx y ∈ lw_all) (h2 : Cond.instanceMethod y ∈ lw_all) (h3 : Cond.selects C y y ∈ lw_all) (h4 : Cond.initialized C ∈ lw_all) (h5 : Cond.codeWith y b L r hh ∈ lw_all) : GoodIn lw_all (wsV own idx C y (wsW_ y b L r hh)) := by
  refine lw_app ?_ (lw_methW h5)
  intro w hw
  simp only [List.mem_cons, List.not_mem_nil, or_false] at hw
  rcases hw with e | e | e | e
  · rw [e]; exact h1
  · rw [e]; exact h2
  · rw [e]; exact h3
  · rw [e]; exact h4
theorem lw_SW {own : String} {idx : Nat} {y : MethodName} {b : ByteArray} {L : Nat} {r : Option FieldType} {hh : List (Nat × Nat × Nat × Nat)} (h1 : Cond.methodLink own idx y ∈ lw_all) (h2 : Cond.static y ∈ lw_all) (h3 : Cond.initialized y.cls ∈ lw_all) (h4 : Cond.codeWith y b L r hh ∈ lw_all) : GoodIn lw_all (va_wsS own idx y (wsW_ y b L r hh)) := by
  refine lw_app ?_ (lw_methW h4)
  intro w hw
  simp only [List.mem_cons, List.not_mem_nil, or_false] at hw
  rcases hw with e | e | e
  · rw [e]; exact h1
  · rw [e]; exact h2
  · rw [e]; exact h3
/-- a word by its place in its run of the tables -/
theorem lw_at {r : List Cond} (hr : ∀ w ∈ r, w ∈ lw_tbl) {w : Cond} (i : Nat) (h : r[i]? = some w) : w ∈ lw_tbl := hr w (List.mem_of_getElem? h)
theorem lw_g {w : Cond} (h : w ∈ lw_tbl) (g : goodWord w = true) : w ∈ lw_all := List.mem_filter.mpr ⟨h, g⟩
theorem lw_ms : ∀ w ∈ k2_sels lw_privs, w ∈ lw_tbl := fun w h => show w ∈ k2_sels lw_privs ++ tables_1 from List.mem_append_left _ h
theorem lw_m1 : ∀ w ∈ tables_1_1, w ∈ lw_tbl := fun w h => show w ∈ k2_sels lw_privs ++ tables_1 from List.mem_append_right (k2_sels lw_privs) (show w ∈ tables_1 from List.mem_append_left _ h)
theorem lw_m2 : ∀ w ∈ tables_1_2, w ∈ lw_tbl := fun w h => show w ∈ k2_sels lw_privs ++ tables_1 from List.mem_append_right (k2_sels lw_privs) (show w ∈ tables_1 from List.mem_append_right _ h)
theorem qs0 : (Cond.selects "RoundPlanner" ⟨"RoundPlanner", "badLine", "(I)Z"⟩ ⟨"RoundPlanner", "badLine", "(I)Z"⟩) ∈ lw_all := lw_g (lw_at lw_ms 0 rfl) rfl
theorem qs1 : (Cond.selects "RoundPlanner" ⟨"RoundPlanner", "hasTrips", "(I)Z"⟩ ⟨"RoundPlanner", "hasTrips", "(I)Z"⟩) ∈ lw_all := lw_g (lw_at lw_ms 1 rfl) rfl
theorem qs2 : (Cond.selects "RoundPlanner" ⟨"RoundPlanner", "refusal", "(III)I"⟩ ⟨"RoundPlanner", "refusal", "(III)I"⟩) ∈ lw_all := lw_g (lw_at lw_ms 2 rfl) rfl
theorem qs3 : (Cond.selects "RoundPlanner" ⟨"RoundPlanner", "plan", "(III)V"⟩ ⟨"RoundPlanner", "plan", "(III)V"⟩) ∈ lw_all := lw_g (lw_at lw_ms 3 rfl) rfl
theorem qs4 : (Cond.selects "RoundPlanner" ⟨"RoundPlanner", "begin", "(II)V"⟩ ⟨"RoundPlanner", "begin", "(II)V"⟩) ∈ lw_all := lw_g (lw_at lw_ms 4 rfl) rfl
theorem qs5 : (Cond.selects "RoundPlanner" ⟨"RoundPlanner", "walkOn", "()V"⟩ ⟨"RoundPlanner", "walkOn", "()V"⟩) ∈ lw_all := lw_g (lw_at lw_ms 5 rfl) rfl
theorem qs6 : (Cond.selects "RoundPlanner" ⟨"RoundPlanner", "nextRound", "()V"⟩ ⟨"RoundPlanner", "nextRound", "()V"⟩) ∈ lw_all := lw_g (lw_at lw_ms 6 rfl) rfl
theorem qs7 : (Cond.selects "RoundPlanner" ⟨"RoundPlanner", "rideLine", "(I)V"⟩ ⟨"RoundPlanner", "rideLine", "(I)V"⟩) ∈ lw_all := lw_g (lw_at lw_ms 7 rfl) rfl
theorem qs8 : (Cond.selects "RoundPlanner" ⟨"RoundPlanner", "catchTrip", "(III)I"⟩ ⟨"RoundPlanner", "catchTrip", "(III)I"⟩) ∈ lw_all := lw_g (lw_at lw_ms 8 rfl) rfl
theorem qs9 : (Cond.selects "RoundPlanner" ⟨"RoundPlanner", "arrivalAt", "(I)I"⟩ ⟨"RoundPlanner", "arrivalAt", "(I)I"⟩) ∈ lw_all := lw_g (lw_at lw_ms 9 rfl) rfl
theorem qs10 : (Cond.selects "RoundPlanner" ⟨"RoundPlanner", "planBack", "(II)V"⟩ ⟨"RoundPlanner", "planBack", "(II)V"⟩) ∈ lw_all := lw_g (lw_at lw_ms 10 rfl) rfl
theorem qs11 : (Cond.selects "RoundPlanner" ⟨"RoundPlanner", "walkBack", "()V"⟩ ⟨"RoundPlanner", "walkBack", "()V"⟩) ∈ lw_all := lw_g (lw_at lw_ms 11 rfl) rfl
theorem qs12 : (Cond.selects "RoundPlanner" ⟨"RoundPlanner", "rideLineBack", "(I)V"⟩ ⟨"RoundPlanner", "rideLineBack", "(I)V"⟩) ∈ lw_all := lw_g (lw_at lw_ms 12 rfl) rfl
theorem qs13 : (Cond.selects "RoundPlanner" ⟨"RoundPlanner", "meetTrip", "(III)I"⟩ ⟨"RoundPlanner", "meetTrip", "(III)I"⟩) ∈ lw_all := lw_g (lw_at lw_ms 13 rfl) rfl
theorem qs14 : (Cond.selects "RoundPlannerModel" ⟨"RoundPlannerModel", "isStop", "(I)Z"⟩ ⟨"RoundPlannerModel", "isStop", "(I)Z"⟩) ∈ lw_all := lw_g (lw_at lw_ms 14 rfl) rfl
theorem qs15 : (Cond.selects "RoundPlannerModel" ⟨"RoundPlannerModel", "isLine", "(I)Z"⟩ ⟨"RoundPlannerModel", "isLine", "(I)Z"⟩) ∈ lw_all := lw_g (lw_at lw_ms 15 rfl) rfl
theorem qs16 : (Cond.selects "RoundPlannerModel" ⟨"RoundPlannerModel", "onLine", "(II)Z"⟩ ⟨"RoundPlannerModel", "onLine", "(II)Z"⟩) ∈ lw_all := lw_g (lw_at lw_ms 16 rfl) rfl
theorem qs17 : (Cond.selects "RoundPlannerModel" ⟨"RoundPlannerModel", "hasTrips", "(I)Z"⟩ ⟨"RoundPlannerModel", "hasTrips", "(I)Z"⟩) ∈ lw_all := lw_g (lw_at lw_ms 17 rfl) rfl
theorem qs18 : (Cond.selects "RoundPlannerModel" ⟨"RoundPlannerModel", "refusal", "(III)I"⟩ ⟨"RoundPlannerModel", "refusal", "(III)I"⟩) ∈ lw_all := lw_g (lw_at lw_ms 18 rfl) rfl
theorem qs19 : (Cond.selects "RoundPlannerModel" ⟨"RoundPlannerModel", "isTime", "(I)Z"⟩ ⟨"RoundPlannerModel", "isTime", "(I)Z"⟩) ∈ lw_all := lw_g (lw_at lw_ms 19 rfl) rfl
theorem qs20 : (Cond.selects "RoundPlannerModel" ⟨"RoundPlannerModel", "search", "(III)V"⟩ ⟨"RoundPlannerModel", "search", "(III)V"⟩) ∈ lw_all := lw_g (lw_at lw_ms 20 rfl) rfl
theorem qs21 : (Cond.selects "RoundPlannerModel" ⟨"RoundPlannerModel", "walk", "(I)V"⟩ ⟨"RoundPlannerModel", "walk", "(I)V"⟩) ∈ lw_all := lw_g (lw_at lw_ms 21 rfl) rfl
theorem qs22 : (Cond.selects "RoundPlannerModel" ⟨"RoundPlannerModel", "ride", "(III)V"⟩ ⟨"RoundPlannerModel", "ride", "(III)V"⟩) ∈ lw_all := lw_g (lw_at lw_ms 22 rfl) rfl
theorem qs23 : (Cond.selects "RoundPlannerModel" ⟨"RoundPlannerModel", "best", "(II)I"⟩ ⟨"RoundPlannerModel", "best", "(II)I"⟩) ∈ lw_all := lw_g (lw_at lw_ms 23 rfl) rfl
end
section
set_option maxRecDepth 100000
/-! java/lang/Object -/
def RJ0 : String := "java/lang/Object"
abbrev cJ0_init : ByteArray := object_method_1_code
def yJ0_init : MethodName := ⟨RJ0, "<init>", "()V"⟩
theorem q33 : (Jvm.Cond.instanceMethod ({ cls := "java/lang/Object", name := "<init>", desc := "()V" } : Jvm.MethodName)) ∈ lw_all := lw_g (lw_at lw_m1 9 rfl) rfl
theorem q34 : (Jvm.Cond.code ({ cls := "java/lang/Object", name := "<init>", desc := "()V" } : Jvm.MethodName) object_method_1_code (1 : Nat) (Option.none : Option Jvm.ClassFile.FieldType)) ∈ lw_all := lw_g (lw_at lw_m1 10 rfl) rfl
/-! RoundPlanner -/
def RX0 : String := "RoundPlanner"
def TX0 : u_T := fun k => match k with
  | 0 => ("RoundPlanner", "lines", "I", false)
  | 1 => ("RoundPlanner", "size", "[I", true)
  | 2 => ("RoundPlanner", "stopAt", "[I", true)
  | 3 => ("RoundPlanner", "offset", "[I", true)
  | 4 => ("RoundPlanner", "trips", "I", false)
  | 5 => ("RoundPlanner", "lineOf", "[I", true)
  | 6 => ("RoundPlanner", "startOf", "[I", true)
  | 7 => ("RoundPlanner", "walk", "[I", true)
  | 8 => ("RoundPlanner", "ridden", "[I", true)
  | 9 => ("RoundPlanner", "reached", "[I", true)
  | 10 => ("RoundPlanner", "before", "[I", true)
  | _ => ("RoundPlanner", "better", "I", false)
def tyX0 : Nat → FieldType := fun k => match k with
  | 0 => .int
  | 1 => .array .int
  | 2 => .array .int
  | 3 => .array .int
  | 4 => .int
  | 5 => .array .int
  | 6 => .array .int
  | 7 => .array .int
  | 8 => .array .int
  | 9 => .array .int
  | 10 => .array .int
  | _ => .int
abbrev wsX00 : List Cond := u_ws RX0 TX0 12
theorem nmX0 : ∀ a, a < 12 → ∀ b, b < 12 → a ≠ b → (TX0 a).2.1 ≠ (TX0 b).2.1 := by decide +kernel
theorem tyX0_ok : ∀ k, k < 12 → parseFieldDescriptor (TX0 k).2.2.1 = some (tyX0 k) := by decide +kernel
abbrev cX0_init : ByteArray := prog_1_method_1_code
def yX0_init : MethodName := ⟨RX0, "<init>", "()V"⟩
abbrev cX0_line : ByteArray := prog_1_method_4_code
def yX0_line : MethodName := ⟨RX0, "line", "(I)I"⟩
abbrev cX0_badStop : ByteArray := prog_1_method_2_code
def yX0_badStop : MethodName := ⟨RX0, "badStop", "(I)Z"⟩
abbrev cX0_extend : ByteArray := prog_1_method_6_code
def yX0_extend : MethodName := ⟨RX0, "extend", "(III)I"⟩
abbrev cX0_badLine : ByteArray := prog_1_method_3_code
def yX0_badLine : MethodName := ⟨RX0, "badLine", "(I)Z"⟩
abbrev cX0_hasTrips : ByteArray := prog_1_method_5_code
def yX0_hasTrips : MethodName := ⟨RX0, "hasTrips", "(I)Z"⟩
abbrev cX0_trip : ByteArray := prog_1_method_7_code
def yX0_trip : MethodName := ⟨RX0, "trip", "(II)I"⟩
abbrev cX0_footpath : ByteArray := prog_1_method_8_code
def yX0_footpath : MethodName := ⟨RX0, "footpath", "(III)I"⟩
abbrev cX0_delay : ByteArray := prog_1_method_9_code
def yX0_delay : MethodName := ⟨RX0, "delay", "(II)I"⟩
abbrev cX0_earliest : ByteArray := prog_1_method_23_code
def yX0_earliest : MethodName := ⟨RX0, "earliest", "(III)I"⟩
abbrev cX0_refusal : ByteArray := prog_1_method_21_code
def yX0_refusal : MethodName := ⟨RX0, "refusal", "(III)I"⟩
abbrev cX0_badTime : ByteArray := prog_1_method_20_code
def yX0_badTime : MethodName := ⟨RX0, "badTime", "(I)Z"⟩
abbrev cX0_plan : ByteArray := prog_1_method_15_code
def yX0_plan : MethodName := ⟨RX0, "plan", "(III)V"⟩
abbrev cX0_begin : ByteArray := prog_1_method_13_code
def yX0_begin : MethodName := ⟨RX0, "begin", "(II)V"⟩
abbrev cX0_walkOn : ByteArray := prog_1_method_12_code
def yX0_walkOn : MethodName := ⟨RX0, "walkOn", "()V"⟩
abbrev cX0_nextRound : ByteArray := prog_1_method_14_code
def yX0_nextRound : MethodName := ⟨RX0, "nextRound", "()V"⟩
abbrev cX0_rideLine : ByteArray := prog_1_method_11_code
def yX0_rideLine : MethodName := ⟨RX0, "rideLine", "(I)V"⟩
abbrev cX0_catchTrip : ByteArray := prog_1_method_10_code
def yX0_catchTrip : MethodName := ⟨RX0, "catchTrip", "(III)I"⟩
abbrev cX0_arrivalAt : ByteArray := prog_1_method_22_code
def yX0_arrivalAt : MethodName := ⟨RX0, "arrivalAt", "(I)I"⟩
abbrev cX0_earliestWith : ByteArray := prog_1_method_24_code
def yX0_earliestWith : MethodName := ⟨RX0, "earliestWith", "(IIII)I"⟩
abbrev cX0_rides : ByteArray := prog_1_method_25_code
def yX0_rides : MethodName := ⟨RX0, "rides", "(III)I"⟩
abbrev cX0_latest : ByteArray := prog_1_method_26_code
def yX0_latest : MethodName := ⟨RX0, "latest", "(III)I"⟩
abbrev cX0_planBack : ByteArray := prog_1_method_19_code
def yX0_planBack : MethodName := ⟨RX0, "planBack", "(II)V"⟩
abbrev cX0_walkBack : ByteArray := prog_1_method_18_code
def yX0_walkBack : MethodName := ⟨RX0, "walkBack", "()V"⟩
abbrev cX0_rideLineBack : ByteArray := prog_1_method_17_code
def yX0_rideLineBack : MethodName := ⟨RX0, "rideLineBack", "(I)V"⟩
abbrev cX0_meetTrip : ByteArray := prog_1_method_16_code
def yX0_meetTrip : MethodName := ⟨RX0, "meetTrip", "(III)I"⟩
abbrev cX0_within : ByteArray := prog_1_method_27_code
def yX0_within : MethodName := ⟨RX0, "within", "(III)I"⟩
theorem q25 : (Jvm.Cond.initialized "RoundPlanner") ∈ lw_all := lw_g (lw_at lw_m1 1 rfl) rfl
theorem q28 : (Jvm.Cond.instantiable "RoundPlanner" (12 : Nat)) ∈ lw_all := lw_g (lw_at lw_m1 4 rfl) rfl
theorem q30 : (Jvm.Cond.instanceMethod ({ cls := "RoundPlanner", name := "<init>", desc := "()V" } : Jvm.MethodName)) ∈ lw_all := lw_g (lw_at lw_m1 6 rfl) rfl
theorem q31 : (Jvm.Cond.code ({ cls := "RoundPlanner", name := "<init>", desc := "()V" } : Jvm.MethodName) prog_1_method_1_code (1 : Nat) (Option.none : Option Jvm.ClassFile.FieldType)) ∈ lw_all := lw_g (lw_at lw_m1 7 rfl) rfl
theorem q32 : (Jvm.Cond.methodLink "RoundPlanner" (1 : Nat) ({ cls := "java/lang/Object", name := "<init>", desc := "()V" } : Jvm.MethodName)) ∈ lw_all := lw_g (lw_at lw_m1 8 rfl) rfl
theorem q35 : (Jvm.Cond.fieldLink "RoundPlanner" (37 : Nat) "RoundPlanner" "lines" "I") ∈ lw_all := lw_g (lw_at lw_m1 11 rfl) rfl
theorem q36 : (Jvm.Cond.fieldLink "RoundPlanner" (7 : Nat) "RoundPlanner" "size" "[I") ∈ lw_all := lw_g (lw_at lw_m1 12 rfl) rfl
theorem q37 : (Jvm.Cond.fieldLink "RoundPlanner" (13 : Nat) "RoundPlanner" "stopAt" "[I") ∈ lw_all := lw_g (lw_at lw_m1 13 rfl) rfl
theorem q38 : (Jvm.Cond.fieldLink "RoundPlanner" (16 : Nat) "RoundPlanner" "offset" "[I") ∈ lw_all := lw_g (lw_at lw_m1 14 rfl) rfl
theorem q39 : (Jvm.Cond.fieldLink "RoundPlanner" (45 : Nat) "RoundPlanner" "trips" "I") ∈ lw_all := lw_g (lw_at lw_m1 15 rfl) rfl
theorem q40 : (Jvm.Cond.fieldLink "RoundPlanner" (19 : Nat) "RoundPlanner" "lineOf" "[I") ∈ lw_all := lw_g (lw_at lw_m1 16 rfl) rfl
theorem q41 : (Jvm.Cond.fieldLink "RoundPlanner" (22 : Nat) "RoundPlanner" "startOf" "[I") ∈ lw_all := lw_g (lw_at lw_m1 17 rfl) rfl
theorem q42 : (Jvm.Cond.fieldLink "RoundPlanner" (25 : Nat) "RoundPlanner" "walk" "[I") ∈ lw_all := lw_g (lw_at lw_m1 18 rfl) rfl
theorem q43 : (Jvm.Cond.fieldLink "RoundPlanner" (28 : Nat) "RoundPlanner" "ridden" "[I") ∈ lw_all := lw_g (lw_at lw_m1 19 rfl) rfl
theorem q44 : (Jvm.Cond.fieldLink "RoundPlanner" (31 : Nat) "RoundPlanner" "reached" "[I") ∈ lw_all := lw_g (lw_at lw_m1 20 rfl) rfl
theorem q45 : (Jvm.Cond.fieldLink "RoundPlanner" (34 : Nat) "RoundPlanner" "before" "[I") ∈ lw_all := lw_g (lw_at lw_m1 21 rfl) rfl
theorem q46 : (Jvm.Cond.fieldLink "RoundPlanner" (55 : Nat) "RoundPlanner" "better" "I") ∈ lw_all := lw_g (lw_at lw_m1 22 rfl) rfl
theorem q47 : (Jvm.Cond.lays "RoundPlanner" "RoundPlanner" "lines" "I") ∈ lw_all := lw_g (lw_at lw_m1 23 rfl) rfl
theorem q48 : (Jvm.Cond.soleField "RoundPlanner" "lines") ∈ lw_all := lw_g (lw_at lw_m1 24 rfl) rfl
theorem q49 : (Jvm.Cond.laysFinal "RoundPlanner" "RoundPlanner" "size" "[I") ∈ lw_all := lw_g (lw_at lw_m1 25 rfl) rfl
theorem q50 : (Jvm.Cond.soleField "RoundPlanner" "size") ∈ lw_all := lw_g (lw_at lw_m1 26 rfl) rfl
theorem q51 : (Jvm.Cond.laysFinal "RoundPlanner" "RoundPlanner" "stopAt" "[I") ∈ lw_all := lw_g (lw_at lw_m1 27 rfl) rfl
theorem q52 : (Jvm.Cond.soleField "RoundPlanner" "stopAt") ∈ lw_all := lw_g (lw_at lw_m1 28 rfl) rfl
theorem q53 : (Jvm.Cond.laysFinal "RoundPlanner" "RoundPlanner" "offset" "[I") ∈ lw_all := lw_g (lw_at lw_m1 29 rfl) rfl
theorem q54 : (Jvm.Cond.soleField "RoundPlanner" "offset") ∈ lw_all := lw_g (lw_at lw_m1 30 rfl) rfl
theorem q55 : (Jvm.Cond.lays "RoundPlanner" "RoundPlanner" "trips" "I") ∈ lw_all := lw_g (lw_at lw_m1 31 rfl) rfl
theorem q56 : (Jvm.Cond.soleField "RoundPlanner" "trips") ∈ lw_all := lw_g (lw_at lw_m1 32 rfl) rfl
theorem q57 : (Jvm.Cond.laysFinal "RoundPlanner" "RoundPlanner" "lineOf" "[I") ∈ lw_all := lw_g (lw_at lw_m1 33 rfl) rfl
theorem q58 : (Jvm.Cond.soleField "RoundPlanner" "lineOf") ∈ lw_all := lw_g (lw_at lw_m1 34 rfl) rfl
theorem q59 : (Jvm.Cond.laysFinal "RoundPlanner" "RoundPlanner" "startOf" "[I") ∈ lw_all := lw_g (lw_at lw_m1 35 rfl) rfl
theorem q60 : (Jvm.Cond.soleField "RoundPlanner" "startOf") ∈ lw_all := lw_g (lw_at lw_m1 36 rfl) rfl
theorem q61 : (Jvm.Cond.laysFinal "RoundPlanner" "RoundPlanner" "walk" "[I") ∈ lw_all := lw_g (lw_at lw_m1 37 rfl) rfl
theorem q62 : (Jvm.Cond.soleField "RoundPlanner" "walk") ∈ lw_all := lw_g (lw_at lw_m1 38 rfl) rfl
theorem q63 : (Jvm.Cond.laysFinal "RoundPlanner" "RoundPlanner" "ridden" "[I") ∈ lw_all := lw_g (lw_at lw_m1 39 rfl) rfl
theorem q64 : (Jvm.Cond.soleField "RoundPlanner" "ridden") ∈ lw_all := lw_g (lw_at lw_m1 40 rfl) rfl
theorem q65 : (Jvm.Cond.laysFinal "RoundPlanner" "RoundPlanner" "reached" "[I") ∈ lw_all := lw_g (lw_at lw_m1 41 rfl) rfl
theorem q66 : (Jvm.Cond.soleField "RoundPlanner" "reached") ∈ lw_all := lw_g (lw_at lw_m1 42 rfl) rfl
theorem q67 : (Jvm.Cond.laysFinal "RoundPlanner" "RoundPlanner" "before" "[I") ∈ lw_all := lw_g (lw_at lw_m1 43 rfl) rfl
theorem q68 : (Jvm.Cond.soleField "RoundPlanner" "before") ∈ lw_all := lw_g (lw_at lw_m1 44 rfl) rfl
theorem q69 : (Jvm.Cond.lays "RoundPlanner" "RoundPlanner" "better" "I") ∈ lw_all := lw_g (lw_at lw_m1 45 rfl) rfl
theorem q70 : (Jvm.Cond.soleField "RoundPlanner" "better") ∈ lw_all := lw_g (lw_at lw_m1 46 rfl) rfl
theorem q71 : (Jvm.Cond.superclass "RoundPlanner" "java/lang/Object") ∈ lw_all := lw_g (lw_at lw_m1 47 rfl) rfl
theorem q74 : (Jvm.Cond.instanceMethod ({ cls := "RoundPlanner", name := "line", desc := "(I)I" } : Jvm.MethodName)) ∈ lw_all := lw_g (lw_at lw_m1 50 rfl) rfl
theorem q75 : (Jvm.Cond.selects "RoundPlanner" ({ cls := "RoundPlanner", name := "line", desc := "(I)I" } : Jvm.MethodName) ({ cls := "RoundPlanner", name := "line", desc := "(I)I" } : Jvm.MethodName)) ∈ lw_all := lw_g (lw_at lw_m1 51 rfl) rfl
theorem q76 : (Jvm.Cond.code ({ cls := "RoundPlanner", name := "line", desc := "(I)I" } : Jvm.MethodName) prog_1_method_4_code (2 : Nat) (Option.some Jvm.ClassFile.FieldType.int)) ∈ lw_all := lw_g (lw_at lw_m1 52 rfl) rfl
theorem q77 : (Jvm.Cond.methodLink "RoundPlanner" (41 : Nat) ({ cls := "RoundPlanner", name := "badStop", desc := "(I)Z" } : Jvm.MethodName)) ∈ lw_all := lw_g (lw_at lw_m1 53 rfl) rfl
theorem q78 : (Jvm.Cond.static ({ cls := "RoundPlanner", name := "badStop", desc := "(I)Z" } : Jvm.MethodName)) ∈ lw_all := lw_g (lw_at lw_m1 54 rfl) rfl
theorem q79 : (Jvm.Cond.code ({ cls := "RoundPlanner", name := "badStop", desc := "(I)Z" } : Jvm.MethodName) prog_1_method_2_code (1 : Nat) (Option.some Jvm.ClassFile.FieldType.boolean)) ∈ lw_all := lw_g (lw_at lw_m1 55 rfl) rfl
theorem q81 : (Jvm.Cond.instanceMethod ({ cls := "RoundPlanner", name := "extend", desc := "(III)I" } : Jvm.MethodName)) ∈ lw_all := lw_g (lw_at lw_m1 57 rfl) rfl
theorem q82 : (Jvm.Cond.selects "RoundPlanner" ({ cls := "RoundPlanner", name := "extend", desc := "(III)I" } : Jvm.MethodName) ({ cls := "RoundPlanner", name := "extend", desc := "(III)I" } : Jvm.MethodName)) ∈ lw_all := lw_g (lw_at lw_m1 58 rfl) rfl
theorem q83 : (Jvm.Cond.code ({ cls := "RoundPlanner", name := "extend", desc := "(III)I" } : Jvm.MethodName) prog_1_method_6_code (6 : Nat) (Option.some Jvm.ClassFile.FieldType.int)) ∈ lw_all := lw_g (lw_at lw_m1 59 rfl) rfl
theorem q84 : (Jvm.Cond.methodLink "RoundPlanner" (48 : Nat) ({ cls := "RoundPlanner", name := "badLine", desc := "(I)Z" } : Jvm.MethodName)) ∈ lw_all := lw_g (lw_at lw_m1 60 rfl) rfl
theorem q85 : (Jvm.Cond.privateMethod ({ cls := "RoundPlanner", name := "badLine", desc := "(I)Z" } : Jvm.MethodName)) ∈ lw_tbl := lw_at lw_m1 61 rfl
theorem q86 : (Jvm.Cond.instanceMethod ({ cls := "RoundPlanner", name := "badLine", desc := "(I)Z" } : Jvm.MethodName)) ∈ lw_all := lw_g (lw_at lw_m1 62 rfl) rfl
theorem q87 : (Jvm.Cond.code ({ cls := "RoundPlanner", name := "badLine", desc := "(I)Z" } : Jvm.MethodName) prog_1_method_3_code (2 : Nat) (Option.some Jvm.ClassFile.FieldType.boolean)) ∈ lw_all := lw_g (lw_at lw_m1 63 rfl) rfl
theorem q88 : (Jvm.Cond.methodLink "RoundPlanner" (51 : Nat) ({ cls := "RoundPlanner", name := "hasTrips", desc := "(I)Z" } : Jvm.MethodName)) ∈ lw_all := lw_g (lw_at lw_m1 64 rfl) rfl
theorem q89 : (Jvm.Cond.privateMethod ({ cls := "RoundPlanner", name := "hasTrips", desc := "(I)Z" } : Jvm.MethodName)) ∈ lw_tbl := lw_at lw_m1 65 rfl
theorem q90 : (Jvm.Cond.instanceMethod ({ cls := "RoundPlanner", name := "hasTrips", desc := "(I)Z" } : Jvm.MethodName)) ∈ lw_all := lw_g (lw_at lw_m1 66 rfl) rfl
theorem q91 : (Jvm.Cond.code ({ cls := "RoundPlanner", name := "hasTrips", desc := "(I)Z" } : Jvm.MethodName) prog_1_method_5_code (3 : Nat) (Option.some Jvm.ClassFile.FieldType.boolean)) ∈ lw_all := lw_g (lw_at lw_m1 67 rfl) rfl
theorem q93 : (Jvm.Cond.instanceMethod ({ cls := "RoundPlanner", name := "trip", desc := "(II)I" } : Jvm.MethodName)) ∈ lw_all := lw_g (lw_at lw_m1 69 rfl) rfl
theorem q94 : (Jvm.Cond.selects "RoundPlanner" ({ cls := "RoundPlanner", name := "trip", desc := "(II)I" } : Jvm.MethodName) ({ cls := "RoundPlanner", name := "trip", desc := "(II)I" } : Jvm.MethodName)) ∈ lw_all := lw_g (lw_at lw_m1 70 rfl) rfl
theorem q95 : (Jvm.Cond.code ({ cls := "RoundPlanner", name := "trip", desc := "(II)I" } : Jvm.MethodName) prog_1_method_7_code (3 : Nat) (Option.some Jvm.ClassFile.FieldType.int)) ∈ lw_all := lw_g (lw_at lw_m1 71 rfl) rfl
theorem q97 : (Jvm.Cond.instanceMethod ({ cls := "RoundPlanner", name := "footpath", desc := "(III)I" } : Jvm.MethodName)) ∈ lw_all := lw_g (lw_at lw_m1 73 rfl) rfl
theorem q98 : (Jvm.Cond.selects "RoundPlanner" ({ cls := "RoundPlanner", name := "footpath", desc := "(III)I" } : Jvm.MethodName) ({ cls := "RoundPlanner", name := "footpath", desc := "(III)I" } : Jvm.MethodName)) ∈ lw_all := lw_g (lw_at lw_m1 74 rfl) rfl
theorem q99 : (Jvm.Cond.code ({ cls := "RoundPlanner", name := "footpath", desc := "(III)I" } : Jvm.MethodName) prog_1_method_8_code (5 : Nat) (Option.some Jvm.ClassFile.FieldType.int)) ∈ lw_all := lw_g (lw_at lw_m1 75 rfl) rfl
theorem q101 : (Jvm.Cond.instanceMethod ({ cls := "RoundPlanner", name := "delay", desc := "(II)I" } : Jvm.MethodName)) ∈ lw_all := lw_g (lw_at lw_m1 77 rfl) rfl
theorem q102 : (Jvm.Cond.selects "RoundPlanner" ({ cls := "RoundPlanner", name := "delay", desc := "(II)I" } : Jvm.MethodName) ({ cls := "RoundPlanner", name := "delay", desc := "(II)I" } : Jvm.MethodName)) ∈ lw_all := lw_g (lw_at lw_m1 78 rfl) rfl
theorem q103 : (Jvm.Cond.code ({ cls := "RoundPlanner", name := "delay", desc := "(II)I" } : Jvm.MethodName) prog_1_method_9_code (4 : Nat) (Option.some Jvm.ClassFile.FieldType.int)) ∈ lw_all := lw_g (lw_at lw_m1 79 rfl) rfl
theorem q105 : (Jvm.Cond.instanceMethod ({ cls := "RoundPlanner", name := "earliest", desc := "(III)I" } : Jvm.MethodName)) ∈ lw_all := lw_g (lw_at lw_m1 81 rfl) rfl
theorem q106 : (Jvm.Cond.selects "RoundPlanner" ({ cls := "RoundPlanner", name := "earliest", desc := "(III)I" } : Jvm.MethodName) ({ cls := "RoundPlanner", name := "earliest", desc := "(III)I" } : Jvm.MethodName)) ∈ lw_all := lw_g (lw_at lw_m1 82 rfl) rfl
theorem q107 : (Jvm.Cond.code ({ cls := "RoundPlanner", name := "earliest", desc := "(III)I" } : Jvm.MethodName) prog_1_method_23_code (5 : Nat) (Option.some Jvm.ClassFile.FieldType.int)) ∈ lw_all := lw_g (lw_at lw_m1 83 rfl) rfl
theorem q108 : (Jvm.Cond.methodLink "RoundPlanner" (89 : Nat) ({ cls := "RoundPlanner", name := "refusal", desc := "(III)I" } : Jvm.MethodName)) ∈ lw_all := lw_g (lw_at lw_m1 84 rfl) rfl
theorem q109 : (Jvm.Cond.privateMethod ({ cls := "RoundPlanner", name := "refusal", desc := "(III)I" } : Jvm.MethodName)) ∈ lw_tbl := lw_at lw_m1 85 rfl
theorem q110 : (Jvm.Cond.instanceMethod ({ cls := "RoundPlanner", name := "refusal", desc := "(III)I" } : Jvm.MethodName)) ∈ lw_all := lw_g (lw_at lw_m1 86 rfl) rfl
theorem q111 : (Jvm.Cond.code ({ cls := "RoundPlanner", name := "refusal", desc := "(III)I" } : Jvm.MethodName) prog_1_method_21_code (4 : Nat) (Option.some Jvm.ClassFile.FieldType.int)) ∈ lw_all := lw_g (lw_at lw_m1 87 rfl) rfl
theorem q112 : (Jvm.Cond.methodLink "RoundPlanner" (86 : Nat) ({ cls := "RoundPlanner", name := "badTime", desc := "(I)Z" } : Jvm.MethodName)) ∈ lw_all := lw_g (lw_at lw_m1 88 rfl) rfl
theorem q113 : (Jvm.Cond.static ({ cls := "RoundPlanner", name := "badTime", desc := "(I)Z" } : Jvm.MethodName)) ∈ lw_all := lw_g (lw_at lw_m1 89 rfl) rfl
theorem q114 : (Jvm.Cond.code ({ cls := "RoundPlanner", name := "badTime", desc := "(I)Z" } : Jvm.MethodName) prog_1_method_20_code (1 : Nat) (Option.some Jvm.ClassFile.FieldType.boolean)) ∈ lw_all := lw_g (lw_at lw_m1 90 rfl) rfl
theorem q115 : (Jvm.Cond.methodLink "RoundPlanner" (92 : Nat) ({ cls := "RoundPlanner", name := "plan", desc := "(III)V" } : Jvm.MethodName)) ∈ lw_all := lw_g (lw_at lw_m1 91 rfl) rfl
theorem q116 : (Jvm.Cond.privateMethod ({ cls := "RoundPlanner", name := "plan", desc := "(III)V" } : Jvm.MethodName)) ∈ lw_tbl := lw_at lw_m1 92 rfl
theorem q117 : (Jvm.Cond.instanceMethod ({ cls := "RoundPlanner", name := "plan", desc := "(III)V" } : Jvm.MethodName)) ∈ lw_all := lw_g (lw_at lw_m1 93 rfl) rfl
theorem q118 : (Jvm.Cond.code ({ cls := "RoundPlanner", name := "plan", desc := "(III)V" } : Jvm.MethodName) prog_1_method_15_code (5 : Nat) (Option.none : Option Jvm.ClassFile.FieldType)) ∈ lw_all := lw_g (lw_at lw_m1 94 rfl) rfl
theorem q119 : (Jvm.Cond.methodLink "RoundPlanner" (69 : Nat) ({ cls := "RoundPlanner", name := "begin", desc := "(II)V" } : Jvm.MethodName)) ∈ lw_all := lw_g (lw_at lw_m1 95 rfl) rfl
theorem q120 : (Jvm.Cond.privateMethod ({ cls := "RoundPlanner", name := "begin", desc := "(II)V" } : Jvm.MethodName)) ∈ lw_tbl := lw_at lw_m1 96 rfl
theorem q121 : (Jvm.Cond.instanceMethod ({ cls := "RoundPlanner", name := "begin", desc := "(II)V" } : Jvm.MethodName)) ∈ lw_all := lw_g (lw_at lw_m1 97 rfl) rfl
theorem q122 : (Jvm.Cond.code ({ cls := "RoundPlanner", name := "begin", desc := "(II)V" } : Jvm.MethodName) prog_1_method_13_code (4 : Nat) (Option.none : Option Jvm.ClassFile.FieldType)) ∈ lw_all := lw_g (lw_at lw_m1 98 rfl) rfl
theorem q123 : (Jvm.Cond.constant "RoundPlanner" (54 : Nat) (1000000 : Int32)) ∈ lw_all := lw_g (lw_at lw_m1 99 rfl) rfl
theorem q124 : (Jvm.Cond.methodLink "RoundPlanner" (62 : Nat) ({ cls := "RoundPlanner", name := "walkOn", desc := "()V" } : Jvm.MethodName)) ∈ lw_all := lw_g (lw_at lw_m1 100 rfl) rfl
theorem q125 : (Jvm.Cond.privateMethod ({ cls := "RoundPlanner", name := "walkOn", desc := "()V" } : Jvm.MethodName)) ∈ lw_tbl := lw_at lw_m1 101 rfl
theorem q126 : (Jvm.Cond.instanceMethod ({ cls := "RoundPlanner", name := "walkOn", desc := "()V" } : Jvm.MethodName)) ∈ lw_all := lw_g (lw_at lw_m1 102 rfl) rfl
theorem q127 : (Jvm.Cond.code ({ cls := "RoundPlanner", name := "walkOn", desc := "()V" } : Jvm.MethodName) prog_1_method_12_code (5 : Nat) (Option.none : Option Jvm.ClassFile.FieldType)) ∈ lw_all := lw_g (lw_at lw_m1 103 rfl) rfl
theorem q128 : (Jvm.Cond.methodLink "RoundPlanner" (73 : Nat) ({ cls := "RoundPlanner", name := "nextRound", desc := "()V" } : Jvm.MethodName)) ∈ lw_all := lw_g (lw_at lw_m1 104 rfl) rfl
theorem q129 : (Jvm.Cond.privateMethod ({ cls := "RoundPlanner", name := "nextRound", desc := "()V" } : Jvm.MethodName)) ∈ lw_tbl := lw_at lw_m1 105 rfl
theorem q130 : (Jvm.Cond.instanceMethod ({ cls := "RoundPlanner", name := "nextRound", desc := "()V" } : Jvm.MethodName)) ∈ lw_all := lw_g (lw_at lw_m1 106 rfl) rfl
theorem q131 : (Jvm.Cond.code ({ cls := "RoundPlanner", name := "nextRound", desc := "()V" } : Jvm.MethodName) prog_1_method_14_code (2 : Nat) (Option.none : Option Jvm.ClassFile.FieldType)) ∈ lw_all := lw_g (lw_at lw_m1 107 rfl) rfl
theorem q132 : (Jvm.Cond.methodLink "RoundPlanner" (65 : Nat) ({ cls := "RoundPlanner", name := "rideLine", desc := "(I)V" } : Jvm.MethodName)) ∈ lw_all := lw_g (lw_at lw_m1 108 rfl) rfl
theorem q133 : (Jvm.Cond.privateMethod ({ cls := "RoundPlanner", name := "rideLine", desc := "(I)V" } : Jvm.MethodName)) ∈ lw_tbl := lw_at lw_m1 109 rfl
theorem q134 : (Jvm.Cond.instanceMethod ({ cls := "RoundPlanner", name := "rideLine", desc := "(I)V" } : Jvm.MethodName)) ∈ lw_all := lw_g (lw_at lw_m1 110 rfl) rfl
theorem q135 : (Jvm.Cond.code ({ cls := "RoundPlanner", name := "rideLine", desc := "(I)V" } : Jvm.MethodName) prog_1_method_11_code (8 : Nat) (Option.none : Option Jvm.ClassFile.FieldType)) ∈ lw_all := lw_g (lw_at lw_m1 111 rfl) rfl
theorem q136 : (Jvm.Cond.methodLink "RoundPlanner" (58 : Nat) ({ cls := "RoundPlanner", name := "catchTrip", desc := "(III)I" } : Jvm.MethodName)) ∈ lw_all := lw_g (lw_at lw_m1 112 rfl) rfl
theorem q137 : (Jvm.Cond.privateMethod ({ cls := "RoundPlanner", name := "catchTrip", desc := "(III)I" } : Jvm.MethodName)) ∈ lw_tbl := lw_at lw_m1 113 rfl
theorem q138 : (Jvm.Cond.instanceMethod ({ cls := "RoundPlanner", name := "catchTrip", desc := "(III)I" } : Jvm.MethodName)) ∈ lw_all := lw_g (lw_at lw_m1 114 rfl) rfl
theorem q139 : (Jvm.Cond.code ({ cls := "RoundPlanner", name := "catchTrip", desc := "(III)I" } : Jvm.MethodName) prog_1_method_10_code (6 : Nat) (Option.some Jvm.ClassFile.FieldType.int)) ∈ lw_all := lw_g (lw_at lw_m1 115 rfl) rfl
theorem q140 : (Jvm.Cond.methodLink "RoundPlanner" (96 : Nat) ({ cls := "RoundPlanner", name := "arrivalAt", desc := "(I)I" } : Jvm.MethodName)) ∈ lw_all := lw_g (lw_at lw_m1 116 rfl) rfl
theorem q141 : (Jvm.Cond.privateMethod ({ cls := "RoundPlanner", name := "arrivalAt", desc := "(I)I" } : Jvm.MethodName)) ∈ lw_tbl := lw_at lw_m1 117 rfl
theorem q142 : (Jvm.Cond.instanceMethod ({ cls := "RoundPlanner", name := "arrivalAt", desc := "(I)I" } : Jvm.MethodName)) ∈ lw_all := lw_g (lw_at lw_m1 118 rfl) rfl
theorem q143 : (Jvm.Cond.code ({ cls := "RoundPlanner", name := "arrivalAt", desc := "(I)I" } : Jvm.MethodName) prog_1_method_22_code (2 : Nat) (Option.some Jvm.ClassFile.FieldType.int)) ∈ lw_all := lw_g (lw_at lw_m1 119 rfl) rfl
theorem q145 : (Jvm.Cond.instanceMethod ({ cls := "RoundPlanner", name := "earliestWith", desc := "(IIII)I" } : Jvm.MethodName)) ∈ lw_all := lw_g (lw_at lw_m1 121 rfl) rfl
theorem q146 : (Jvm.Cond.selects "RoundPlanner" ({ cls := "RoundPlanner", name := "earliestWith", desc := "(IIII)I" } : Jvm.MethodName) ({ cls := "RoundPlanner", name := "earliestWith", desc := "(IIII)I" } : Jvm.MethodName)) ∈ lw_all := lw_g (lw_at lw_m1 122 rfl) rfl
theorem q147 : (Jvm.Cond.code ({ cls := "RoundPlanner", name := "earliestWith", desc := "(IIII)I" } : Jvm.MethodName) prog_1_method_24_code (7 : Nat) (Option.some Jvm.ClassFile.FieldType.int)) ∈ lw_all := lw_g (lw_at lw_m1 123 rfl) rfl
theorem q149 : (Jvm.Cond.instanceMethod ({ cls := "RoundPlanner", name := "rides", desc := "(III)I" } : Jvm.MethodName)) ∈ lw_all := lw_g (lw_at lw_m1 125 rfl) rfl
theorem q150 : (Jvm.Cond.selects "RoundPlanner" ({ cls := "RoundPlanner", name := "rides", desc := "(III)I" } : Jvm.MethodName) ({ cls := "RoundPlanner", name := "rides", desc := "(III)I" } : Jvm.MethodName)) ∈ lw_all := lw_g (lw_at lw_m1 126 rfl) rfl
theorem q151 : (Jvm.Cond.code ({ cls := "RoundPlanner", name := "rides", desc := "(III)I" } : Jvm.MethodName) prog_1_method_25_code (8 : Nat) (Option.some Jvm.ClassFile.FieldType.int)) ∈ lw_all := lw_g (lw_at lw_m1 127 rfl) rfl
theorem q153 : (Jvm.Cond.instanceMethod ({ cls := "RoundPlanner", name := "latest", desc := "(III)I" } : Jvm.MethodName)) ∈ lw_all := lw_g (lw_at lw_m1 129 rfl) rfl
theorem q154 : (Jvm.Cond.selects "RoundPlanner" ({ cls := "RoundPlanner", name := "latest", desc := "(III)I" } : Jvm.MethodName) ({ cls := "RoundPlanner", name := "latest", desc := "(III)I" } : Jvm.MethodName)) ∈ lw_all := lw_g (lw_at lw_m1 130 rfl) rfl
theorem q155 : (Jvm.Cond.code ({ cls := "RoundPlanner", name := "latest", desc := "(III)I" } : Jvm.MethodName) prog_1_method_26_code (5 : Nat) (Option.some Jvm.ClassFile.FieldType.int)) ∈ lw_all := lw_g (lw_at lw_m1 131 rfl) rfl
theorem q156 : (Jvm.Cond.methodLink "RoundPlanner" (100 : Nat) ({ cls := "RoundPlanner", name := "planBack", desc := "(II)V" } : Jvm.MethodName)) ∈ lw_all := lw_g (lw_at lw_m1 132 rfl) rfl
theorem q157 : (Jvm.Cond.privateMethod ({ cls := "RoundPlanner", name := "planBack", desc := "(II)V" } : Jvm.MethodName)) ∈ lw_tbl := lw_at lw_m1 133 rfl
theorem q158 : (Jvm.Cond.instanceMethod ({ cls := "RoundPlanner", name := "planBack", desc := "(II)V" } : Jvm.MethodName)) ∈ lw_all := lw_g (lw_at lw_m1 134 rfl) rfl
theorem q159 : (Jvm.Cond.code ({ cls := "RoundPlanner", name := "planBack", desc := "(II)V" } : Jvm.MethodName) prog_1_method_19_code (5 : Nat) (Option.none : Option Jvm.ClassFile.FieldType)) ∈ lw_all := lw_g (lw_at lw_m1 135 rfl) rfl
theorem q160 : (Jvm.Cond.constant "RoundPlanner" (76 : Nat) (-1000000 : Int32)) ∈ lw_all := lw_g (lw_at lw_m1 136 rfl) rfl
theorem q161 : (Jvm.Cond.methodLink "RoundPlanner" (80 : Nat) ({ cls := "RoundPlanner", name := "walkBack", desc := "()V" } : Jvm.MethodName)) ∈ lw_all := lw_g (lw_at lw_m1 137 rfl) rfl
theorem q162 : (Jvm.Cond.privateMethod ({ cls := "RoundPlanner", name := "walkBack", desc := "()V" } : Jvm.MethodName)) ∈ lw_tbl := lw_at lw_m1 138 rfl
theorem q163 : (Jvm.Cond.instanceMethod ({ cls := "RoundPlanner", name := "walkBack", desc := "()V" } : Jvm.MethodName)) ∈ lw_all := lw_g (lw_at lw_m1 139 rfl) rfl
theorem q164 : (Jvm.Cond.code ({ cls := "RoundPlanner", name := "walkBack", desc := "()V" } : Jvm.MethodName) prog_1_method_18_code (5 : Nat) (Option.none : Option Jvm.ClassFile.FieldType)) ∈ lw_all := lw_g (lw_at lw_m1 140 rfl) rfl
theorem q165 : (Jvm.Cond.methodLink "RoundPlanner" (83 : Nat) ({ cls := "RoundPlanner", name := "rideLineBack", desc := "(I)V" } : Jvm.MethodName)) ∈ lw_all := lw_g (lw_at lw_m1 141 rfl) rfl
theorem q166 : (Jvm.Cond.privateMethod ({ cls := "RoundPlanner", name := "rideLineBack", desc := "(I)V" } : Jvm.MethodName)) ∈ lw_tbl := lw_at lw_m1 142 rfl
theorem q167 : (Jvm.Cond.instanceMethod ({ cls := "RoundPlanner", name := "rideLineBack", desc := "(I)V" } : Jvm.MethodName)) ∈ lw_all := lw_g (lw_at lw_m1 143 rfl) rfl
theorem q168 : (Jvm.Cond.code ({ cls := "RoundPlanner", name := "rideLineBack", desc := "(I)V" } : Jvm.MethodName) prog_1_method_17_code (8 : Nat) (Option.none : Option Jvm.ClassFile.FieldType)) ∈ lw_all := lw_g (lw_at lw_m1 144 rfl) rfl
theorem q169 : (Jvm.Cond.methodLink "RoundPlanner" (77 : Nat) ({ cls := "RoundPlanner", name := "meetTrip", desc := "(III)I" } : Jvm.MethodName)) ∈ lw_all := lw_g (lw_at lw_m1 145 rfl) rfl
theorem q170 : (Jvm.Cond.privateMethod ({ cls := "RoundPlanner", name := "meetTrip", desc := "(III)I" } : Jvm.MethodName)) ∈ lw_tbl := lw_at lw_m1 146 rfl
theorem q171 : (Jvm.Cond.instanceMethod ({ cls := "RoundPlanner", name := "meetTrip", desc := "(III)I" } : Jvm.MethodName)) ∈ lw_all := lw_g (lw_at lw_m1 147 rfl) rfl
theorem q172 : (Jvm.Cond.code ({ cls := "RoundPlanner", name := "meetTrip", desc := "(III)I" } : Jvm.MethodName) prog_1_method_16_code (6 : Nat) (Option.some Jvm.ClassFile.FieldType.int)) ∈ lw_all := lw_g (lw_at lw_m1 148 rfl) rfl
theorem q174 : (Jvm.Cond.instanceMethod ({ cls := "RoundPlanner", name := "within", desc := "(III)I" } : Jvm.MethodName)) ∈ lw_all := lw_g (lw_at lw_m1 150 rfl) rfl
theorem q175 : (Jvm.Cond.selects "RoundPlanner" ({ cls := "RoundPlanner", name := "within", desc := "(III)I" } : Jvm.MethodName) ({ cls := "RoundPlanner", name := "within", desc := "(III)I" } : Jvm.MethodName)) ∈ lw_all := lw_g (lw_at lw_m1 151 rfl) rfl
theorem q176 : (Jvm.Cond.code ({ cls := "RoundPlanner", name := "within", desc := "(III)I" } : Jvm.MethodName) prog_1_method_27_code (7 : Nat) (Option.some Jvm.ClassFile.FieldType.int)) ∈ lw_all := lw_g (lw_at lw_m1 152 rfl) rfl
theorem in_X0 : ∀ w ∈ wsX00, w ∈ lw_all := lw_in wsX00 [47, 49, 51, 53, 55, 57, 59, 61, 63, 65, 67, 69] (by decide +kernel) (by decide +kernel)
/-! RoundPlannerModel -/
def RX1 : String := "RoundPlannerModel"
def TX1 : u_T := fun k => match k with
  | 0 => ("RoundPlannerModel", "lines", "I", false)
  | 1 => ("RoundPlannerModel", "lineLength", "[I", true)
  | 2 => ("RoundPlannerModel", "stops", "[I", true)
  | 3 => ("RoundPlannerModel", "after", "[I", true)
  | 4 => ("RoundPlannerModel", "trips", "I", false)
  | 5 => ("RoundPlannerModel", "tripLine", "[I", true)
  | 6 => ("RoundPlannerModel", "starts", "[I", true)
  | 7 => ("RoundPlannerModel", "walks", "[I", true)
  | 8 => ("RoundPlannerModel", "off", "[I", true)
  | _ => ("RoundPlannerModel", "there", "[I", true)
def tyX1 : Nat → FieldType := fun k => match k with
  | 0 => .int
  | 1 => .array .int
  | 2 => .array .int
  | 3 => .array .int
  | 4 => .int
  | 5 => .array .int
  | 6 => .array .int
  | 7 => .array .int
  | 8 => .array .int
  | _ => .array .int
abbrev wsX10 : List Cond := u_ws RX1 TX1 10
theorem nmX1 : ∀ a, a < 10 → ∀ b, b < 10 → a ≠ b → (TX1 a).2.1 ≠ (TX1 b).2.1 := by decide +kernel
theorem tyX1_ok : ∀ k, k < 10 → parseFieldDescriptor (TX1 k).2.2.1 = some (tyX1 k) := by decide +kernel
abbrev cX1_init : ByteArray := prog_3_method_1_code
def yX1_init : MethodName := ⟨RX1, "<init>", "()V"⟩
abbrev cX1_line : ByteArray := prog_3_method_5_code
def yX1_line : MethodName := ⟨RX1, "line", "(I)I"⟩
abbrev cX1_isStop : ByteArray := prog_3_method_2_code
def yX1_isStop : MethodName := ⟨RX1, "isStop", "(I)Z"⟩
abbrev cX1_extend : ByteArray := prog_3_method_8_code
def yX1_extend : MethodName := ⟨RX1, "extend", "(III)I"⟩
abbrev cX1_isLine : ByteArray := prog_3_method_3_code
def yX1_isLine : MethodName := ⟨RX1, "isLine", "(I)Z"⟩
abbrev cX1_onLine : ByteArray := prog_3_method_6_code
def yX1_onLine : MethodName := ⟨RX1, "onLine", "(II)Z"⟩
abbrev cX1_hasTrips : ByteArray := prog_3_method_7_code
def yX1_hasTrips : MethodName := ⟨RX1, "hasTrips", "(I)Z"⟩
abbrev cX1_trip : ByteArray := prog_3_method_9_code
def yX1_trip : MethodName := ⟨RX1, "trip", "(II)I"⟩
abbrev cX1_footpath : ByteArray := prog_3_method_10_code
def yX1_footpath : MethodName := ⟨RX1, "footpath", "(III)I"⟩
abbrev cX1_delay : ByteArray := prog_3_method_11_code
def yX1_delay : MethodName := ⟨RX1, "delay", "(II)I"⟩
abbrev cX1_earliest : ByteArray := prog_3_method_17_code
def yX1_earliest : MethodName := ⟨RX1, "earliest", "(III)I"⟩
abbrev cX1_earliestWith : ByteArray := prog_3_method_18_code
def yX1_earliestWith : MethodName := ⟨RX1, "earliestWith", "(IIII)I"⟩
abbrev cX1_refusal : ByteArray := prog_3_method_16_code
def yX1_refusal : MethodName := ⟨RX1, "refusal", "(III)I"⟩
abbrev cX1_isTime : ByteArray := prog_3_method_4_code
def yX1_isTime : MethodName := ⟨RX1, "isTime", "(I)Z"⟩
abbrev cX1_search : ByteArray := prog_3_method_14_code
def yX1_search : MethodName := ⟨RX1, "search", "(III)V"⟩
abbrev cX1_walk : ByteArray := prog_3_method_12_code
def yX1_walk : MethodName := ⟨RX1, "walk", "(I)V"⟩
abbrev cX1_ride : ByteArray := prog_3_method_13_code
def yX1_ride : MethodName := ⟨RX1, "ride", "(III)V"⟩
abbrev cX1_best : ByteArray := prog_3_method_15_code
def yX1_best : MethodName := ⟨RX1, "best", "(II)I"⟩
abbrev cX1_rides : ByteArray := prog_3_method_19_code
def yX1_rides : MethodName := ⟨RX1, "rides", "(III)I"⟩
abbrev cX1_latest : ByteArray := prog_3_method_20_code
def yX1_latest : MethodName := ⟨RX1, "latest", "(III)I"⟩
abbrev cX1_within : ByteArray := prog_3_method_21_code
def yX1_within : MethodName := ⟨RX1, "within", "(III)I"⟩
theorem q26 : (Jvm.Cond.initialized "RoundPlannerModel") ∈ lw_all := lw_g (lw_at lw_m1 2 rfl) rfl
theorem q178 : (Jvm.Cond.instantiable "RoundPlannerModel" (10 : Nat)) ∈ lw_all := lw_g (lw_at lw_m1 154 rfl) rfl
theorem q180 : (Jvm.Cond.instanceMethod ({ cls := "RoundPlannerModel", name := "<init>", desc := "()V" } : Jvm.MethodName)) ∈ lw_all := lw_g (lw_at lw_m1 156 rfl) rfl
theorem q181 : (Jvm.Cond.code ({ cls := "RoundPlannerModel", name := "<init>", desc := "()V" } : Jvm.MethodName) prog_3_method_1_code (1 : Nat) (Option.none : Option Jvm.ClassFile.FieldType)) ∈ lw_all := lw_g (lw_at lw_m1 157 rfl) rfl
theorem q182 : (Jvm.Cond.methodLink "RoundPlannerModel" (1 : Nat) ({ cls := "java/lang/Object", name := "<init>", desc := "()V" } : Jvm.MethodName)) ∈ lw_all := lw_g (lw_at lw_m1 158 rfl) rfl
theorem q183 : (Jvm.Cond.fieldLink "RoundPlannerModel" (34 : Nat) "RoundPlannerModel" "lines" "I") ∈ lw_all := lw_g (lw_at lw_m1 159 rfl) rfl
theorem q184 : (Jvm.Cond.fieldLink "RoundPlannerModel" (7 : Nat) "RoundPlannerModel" "lineLength" "[I") ∈ lw_all := lw_g (lw_at lw_m1 160 rfl) rfl
theorem q185 : (Jvm.Cond.fieldLink "RoundPlannerModel" (13 : Nat) "RoundPlannerModel" "stops" "[I") ∈ lw_all := lw_g (lw_at lw_m1 161 rfl) rfl
theorem q186 : (Jvm.Cond.fieldLink "RoundPlannerModel" (16 : Nat) "RoundPlannerModel" "after" "[I") ∈ lw_all := lw_g (lw_at lw_m1 162 rfl) rfl
theorem q187 : (Jvm.Cond.fieldLink "RoundPlannerModel" (42 : Nat) "RoundPlannerModel" "trips" "I") ∈ lw_all := lw_g (lw_at lw_m1 163 rfl) rfl
theorem q188 : (Jvm.Cond.fieldLink "RoundPlannerModel" (19 : Nat) "RoundPlannerModel" "tripLine" "[I") ∈ lw_all := lw_g (lw_at lw_m1 164 rfl) rfl
theorem q189 : (Jvm.Cond.fieldLink "RoundPlannerModel" (22 : Nat) "RoundPlannerModel" "starts" "[I") ∈ lw_all := lw_g (lw_at lw_m1 165 rfl) rfl
theorem q190 : (Jvm.Cond.fieldLink "RoundPlannerModel" (25 : Nat) "RoundPlannerModel" "walks" "[I") ∈ lw_all := lw_g (lw_at lw_m1 166 rfl) rfl
theorem q191 : (Jvm.Cond.fieldLink "RoundPlannerModel" (28 : Nat) "RoundPlannerModel" "off" "[I") ∈ lw_all := lw_g (lw_at lw_m1 167 rfl) rfl
theorem q192 : (Jvm.Cond.fieldLink "RoundPlannerModel" (31 : Nat) "RoundPlannerModel" "there" "[I") ∈ lw_all := lw_g (lw_at lw_m1 168 rfl) rfl
theorem q193 : (Jvm.Cond.lays "RoundPlannerModel" "RoundPlannerModel" "lines" "I") ∈ lw_all := lw_g (lw_at lw_m1 169 rfl) rfl
theorem q194 : (Jvm.Cond.soleField "RoundPlannerModel" "lines") ∈ lw_all := lw_g (lw_at lw_m1 170 rfl) rfl
theorem q195 : (Jvm.Cond.laysFinal "RoundPlannerModel" "RoundPlannerModel" "lineLength" "[I") ∈ lw_all := lw_g (lw_at lw_m1 171 rfl) rfl
theorem q196 : (Jvm.Cond.soleField "RoundPlannerModel" "lineLength") ∈ lw_all := lw_g (lw_at lw_m1 172 rfl) rfl
theorem q197 : (Jvm.Cond.laysFinal "RoundPlannerModel" "RoundPlannerModel" "stops" "[I") ∈ lw_all := lw_g (lw_at lw_m1 173 rfl) rfl
theorem q198 : (Jvm.Cond.soleField "RoundPlannerModel" "stops") ∈ lw_all := lw_g (lw_at lw_m1 174 rfl) rfl
theorem q199 : (Jvm.Cond.laysFinal "RoundPlannerModel" "RoundPlannerModel" "after" "[I") ∈ lw_all := lw_g (lw_at lw_m1 175 rfl) rfl
theorem q200 : (Jvm.Cond.soleField "RoundPlannerModel" "after") ∈ lw_all := lw_g (lw_at lw_m1 176 rfl) rfl
theorem q201 : (Jvm.Cond.lays "RoundPlannerModel" "RoundPlannerModel" "trips" "I") ∈ lw_all := lw_g (lw_at lw_m1 177 rfl) rfl
theorem q202 : (Jvm.Cond.soleField "RoundPlannerModel" "trips") ∈ lw_all := lw_g (lw_at lw_m1 178 rfl) rfl
theorem q203 : (Jvm.Cond.laysFinal "RoundPlannerModel" "RoundPlannerModel" "tripLine" "[I") ∈ lw_all := lw_g (lw_at lw_m1 179 rfl) rfl
theorem q204 : (Jvm.Cond.soleField "RoundPlannerModel" "tripLine") ∈ lw_all := lw_g (lw_at lw_m1 180 rfl) rfl
theorem q205 : (Jvm.Cond.laysFinal "RoundPlannerModel" "RoundPlannerModel" "starts" "[I") ∈ lw_all := lw_g (lw_at lw_m1 181 rfl) rfl
theorem q206 : (Jvm.Cond.soleField "RoundPlannerModel" "starts") ∈ lw_all := lw_g (lw_at lw_m1 182 rfl) rfl
theorem q207 : (Jvm.Cond.laysFinal "RoundPlannerModel" "RoundPlannerModel" "walks" "[I") ∈ lw_all := lw_g (lw_at lw_m1 183 rfl) rfl
theorem q208 : (Jvm.Cond.soleField "RoundPlannerModel" "walks") ∈ lw_all := lw_g (lw_at lw_m1 184 rfl) rfl
theorem q209 : (Jvm.Cond.laysFinal "RoundPlannerModel" "RoundPlannerModel" "off" "[I") ∈ lw_all := lw_g (lw_at lw_m1 185 rfl) rfl
theorem q210 : (Jvm.Cond.soleField "RoundPlannerModel" "off") ∈ lw_all := lw_g (lw_at lw_m1 186 rfl) rfl
theorem q211 : (Jvm.Cond.laysFinal "RoundPlannerModel" "RoundPlannerModel" "there" "[I") ∈ lw_all := lw_g (lw_at lw_m1 187 rfl) rfl
theorem q212 : (Jvm.Cond.soleField "RoundPlannerModel" "there") ∈ lw_all := lw_g (lw_at lw_m1 188 rfl) rfl
theorem q213 : (Jvm.Cond.superclass "RoundPlannerModel" "java/lang/Object") ∈ lw_all := lw_g (lw_at lw_m1 189 rfl) rfl
theorem q215 : (Jvm.Cond.instanceMethod ({ cls := "RoundPlannerModel", name := "line", desc := "(I)I" } : Jvm.MethodName)) ∈ lw_all := lw_g (lw_at lw_m1 191 rfl) rfl
theorem q216 : (Jvm.Cond.selects "RoundPlannerModel" ({ cls := "RoundPlannerModel", name := "line", desc := "(I)I" } : Jvm.MethodName) ({ cls := "RoundPlannerModel", name := "line", desc := "(I)I" } : Jvm.MethodName)) ∈ lw_all := lw_g (lw_at lw_m1 192 rfl) rfl
theorem q217 : (Jvm.Cond.code ({ cls := "RoundPlannerModel", name := "line", desc := "(I)I" } : Jvm.MethodName) prog_3_method_5_code (2 : Nat) (Option.some Jvm.ClassFile.FieldType.int)) ∈ lw_all := lw_g (lw_at lw_m1 193 rfl) rfl
theorem q218 : (Jvm.Cond.methodLink "RoundPlannerModel" (38 : Nat) ({ cls := "RoundPlannerModel", name := "isStop", desc := "(I)Z" } : Jvm.MethodName)) ∈ lw_all := lw_g (lw_at lw_m1 194 rfl) rfl
theorem q219 : (Jvm.Cond.privateMethod ({ cls := "RoundPlannerModel", name := "isStop", desc := "(I)Z" } : Jvm.MethodName)) ∈ lw_tbl := lw_at lw_m1 195 rfl
theorem q220 : (Jvm.Cond.instanceMethod ({ cls := "RoundPlannerModel", name := "isStop", desc := "(I)Z" } : Jvm.MethodName)) ∈ lw_all := lw_g (lw_at lw_m1 196 rfl) rfl
theorem q221 : (Jvm.Cond.code ({ cls := "RoundPlannerModel", name := "isStop", desc := "(I)Z" } : Jvm.MethodName) prog_3_method_2_code (2 : Nat) (Option.some Jvm.ClassFile.FieldType.boolean)) ∈ lw_all := lw_g (lw_at lw_m1 197 rfl) rfl
theorem q223 : (Jvm.Cond.instanceMethod ({ cls := "RoundPlannerModel", name := "extend", desc := "(III)I" } : Jvm.MethodName)) ∈ lw_all := lw_g (lw_at lw_m1 199 rfl) rfl
theorem q224 : (Jvm.Cond.selects "RoundPlannerModel" ({ cls := "RoundPlannerModel", name := "extend", desc := "(III)I" } : Jvm.MethodName) ({ cls := "RoundPlannerModel", name := "extend", desc := "(III)I" } : Jvm.MethodName)) ∈ lw_all := lw_g (lw_at lw_m1 200 rfl) rfl
theorem q225 : (Jvm.Cond.code ({ cls := "RoundPlannerModel", name := "extend", desc := "(III)I" } : Jvm.MethodName) prog_3_method_8_code (5 : Nat) (Option.some Jvm.ClassFile.FieldType.int)) ∈ lw_all := lw_g (lw_at lw_m1 201 rfl) rfl
theorem q226 : (Jvm.Cond.methodLink "RoundPlannerModel" (45 : Nat) ({ cls := "RoundPlannerModel", name := "isLine", desc := "(I)Z" } : Jvm.MethodName)) ∈ lw_all := lw_g (lw_at lw_m1 202 rfl) rfl
theorem q227 : (Jvm.Cond.privateMethod ({ cls := "RoundPlannerModel", name := "isLine", desc := "(I)Z" } : Jvm.MethodName)) ∈ lw_tbl := lw_at lw_m1 203 rfl
theorem q228 : (Jvm.Cond.instanceMethod ({ cls := "RoundPlannerModel", name := "isLine", desc := "(I)Z" } : Jvm.MethodName)) ∈ lw_all := lw_g (lw_at lw_m1 204 rfl) rfl
theorem q229 : (Jvm.Cond.code ({ cls := "RoundPlannerModel", name := "isLine", desc := "(I)Z" } : Jvm.MethodName) prog_3_method_3_code (2 : Nat) (Option.some Jvm.ClassFile.FieldType.boolean)) ∈ lw_all := lw_g (lw_at lw_m1 205 rfl) rfl
theorem q230 : (Jvm.Cond.methodLink "RoundPlannerModel" (48 : Nat) ({ cls := "RoundPlannerModel", name := "onLine", desc := "(II)Z" } : Jvm.MethodName)) ∈ lw_all := lw_g (lw_at lw_m1 206 rfl) rfl
theorem q231 : (Jvm.Cond.privateMethod ({ cls := "RoundPlannerModel", name := "onLine", desc := "(II)Z" } : Jvm.MethodName)) ∈ lw_tbl := lw_at lw_m1 207 rfl
theorem q232 : (Jvm.Cond.instanceMethod ({ cls := "RoundPlannerModel", name := "onLine", desc := "(II)Z" } : Jvm.MethodName)) ∈ lw_all := lw_g (lw_at lw_m1 208 rfl) rfl
theorem q233 : (Jvm.Cond.code ({ cls := "RoundPlannerModel", name := "onLine", desc := "(II)Z" } : Jvm.MethodName) prog_3_method_6_code (4 : Nat) (Option.some Jvm.ClassFile.FieldType.boolean)) ∈ lw_all := lw_g (lw_at lw_m1 209 rfl) rfl
theorem q234 : (Jvm.Cond.methodLink "RoundPlannerModel" (52 : Nat) ({ cls := "RoundPlannerModel", name := "hasTrips", desc := "(I)Z" } : Jvm.MethodName)) ∈ lw_all := lw_g (lw_at lw_m1 210 rfl) rfl
theorem q235 : (Jvm.Cond.privateMethod ({ cls := "RoundPlannerModel", name := "hasTrips", desc := "(I)Z" } : Jvm.MethodName)) ∈ lw_tbl := lw_at lw_m1 211 rfl
theorem q236 : (Jvm.Cond.instanceMethod ({ cls := "RoundPlannerModel", name := "hasTrips", desc := "(I)Z" } : Jvm.MethodName)) ∈ lw_all := lw_g (lw_at lw_m1 212 rfl) rfl
theorem q237 : (Jvm.Cond.code ({ cls := "RoundPlannerModel", name := "hasTrips", desc := "(I)Z" } : Jvm.MethodName) prog_3_method_7_code (3 : Nat) (Option.some Jvm.ClassFile.FieldType.boolean)) ∈ lw_all := lw_g (lw_at lw_m1 213 rfl) rfl
theorem q239 : (Jvm.Cond.instanceMethod ({ cls := "RoundPlannerModel", name := "trip", desc := "(II)I" } : Jvm.MethodName)) ∈ lw_all := lw_g (lw_at lw_m1 215 rfl) rfl
theorem q240 : (Jvm.Cond.selects "RoundPlannerModel" ({ cls := "RoundPlannerModel", name := "trip", desc := "(II)I" } : Jvm.MethodName) ({ cls := "RoundPlannerModel", name := "trip", desc := "(II)I" } : Jvm.MethodName)) ∈ lw_all := lw_g (lw_at lw_m1 216 rfl) rfl
theorem q241 : (Jvm.Cond.code ({ cls := "RoundPlannerModel", name := "trip", desc := "(II)I" } : Jvm.MethodName) prog_3_method_9_code (3 : Nat) (Option.some Jvm.ClassFile.FieldType.int)) ∈ lw_all := lw_g (lw_at lw_m1 217 rfl) rfl
theorem q243 : (Jvm.Cond.instanceMethod ({ cls := "RoundPlannerModel", name := "footpath", desc := "(III)I" } : Jvm.MethodName)) ∈ lw_all := lw_g (lw_at lw_m1 219 rfl) rfl
theorem q244 : (Jvm.Cond.selects "RoundPlannerModel" ({ cls := "RoundPlannerModel", name := "footpath", desc := "(III)I" } : Jvm.MethodName) ({ cls := "RoundPlannerModel", name := "footpath", desc := "(III)I" } : Jvm.MethodName)) ∈ lw_all := lw_g (lw_at lw_m1 220 rfl) rfl
theorem q245 : (Jvm.Cond.code ({ cls := "RoundPlannerModel", name := "footpath", desc := "(III)I" } : Jvm.MethodName) prog_3_method_10_code (5 : Nat) (Option.some Jvm.ClassFile.FieldType.int)) ∈ lw_all := lw_g (lw_at lw_m1 221 rfl) rfl
theorem q247 : (Jvm.Cond.instanceMethod ({ cls := "RoundPlannerModel", name := "delay", desc := "(II)I" } : Jvm.MethodName)) ∈ lw_all := lw_g (lw_at lw_m1 223 rfl) rfl
theorem q248 : (Jvm.Cond.selects "RoundPlannerModel" ({ cls := "RoundPlannerModel", name := "delay", desc := "(II)I" } : Jvm.MethodName) ({ cls := "RoundPlannerModel", name := "delay", desc := "(II)I" } : Jvm.MethodName)) ∈ lw_all := lw_g (lw_at lw_m1 224 rfl) rfl
theorem q249 : (Jvm.Cond.code ({ cls := "RoundPlannerModel", name := "delay", desc := "(II)I" } : Jvm.MethodName) prog_3_method_11_code (4 : Nat) (Option.some Jvm.ClassFile.FieldType.int)) ∈ lw_all := lw_g (lw_at lw_m1 225 rfl) rfl
theorem q251 : (Jvm.Cond.instanceMethod ({ cls := "RoundPlannerModel", name := "earliest", desc := "(III)I" } : Jvm.MethodName)) ∈ lw_all := lw_g (lw_at lw_m1 227 rfl) rfl
theorem q252 : (Jvm.Cond.selects "RoundPlannerModel" ({ cls := "RoundPlannerModel", name := "earliest", desc := "(III)I" } : Jvm.MethodName) ({ cls := "RoundPlannerModel", name := "earliest", desc := "(III)I" } : Jvm.MethodName)) ∈ lw_all := lw_g (lw_at lw_m1 228 rfl) rfl
theorem q253 : (Jvm.Cond.code ({ cls := "RoundPlannerModel", name := "earliest", desc := "(III)I" } : Jvm.MethodName) prog_3_method_17_code (4 : Nat) (Option.some Jvm.ClassFile.FieldType.int)) ∈ lw_all := lw_g (lw_at lw_m1 229 rfl) rfl
theorem q254 : (Jvm.Cond.methodLink "RoundPlannerModel" (67 : Nat) ({ cls := "RoundPlannerModel", name := "earliestWith", desc := "(IIII)I" } : Jvm.MethodName)) ∈ lw_all := lw_g (lw_at lw_m1 230 rfl) rfl
theorem q255 : (Jvm.Cond.instanceMethod ({ cls := "RoundPlannerModel", name := "earliestWith", desc := "(IIII)I" } : Jvm.MethodName)) ∈ lw_all := lw_g (lw_at lw_m1 231 rfl) rfl
theorem q256 : (Jvm.Cond.selects "RoundPlannerModel" ({ cls := "RoundPlannerModel", name := "earliestWith", desc := "(IIII)I" } : Jvm.MethodName) ({ cls := "RoundPlannerModel", name := "earliestWith", desc := "(IIII)I" } : Jvm.MethodName)) ∈ lw_all := lw_g (lw_at lw_m1 232 rfl) rfl
theorem q257 : (Jvm.Cond.code ({ cls := "RoundPlannerModel", name := "earliestWith", desc := "(IIII)I" } : Jvm.MethodName) prog_3_method_18_code (8 : Nat) (Option.some Jvm.ClassFile.FieldType.int)) ∈ lw_all := lw_g (lw_at lw_m1 233 rfl) rfl
theorem q258 : (Jvm.Cond.methodLink "RoundPlannerModel" (71 : Nat) ({ cls := "RoundPlannerModel", name := "refusal", desc := "(III)I" } : Jvm.MethodName)) ∈ lw_all := lw_g (lw_at lw_m1 234 rfl) rfl
theorem q259 : (Jvm.Cond.privateMethod ({ cls := "RoundPlannerModel", name := "refusal", desc := "(III)I" } : Jvm.MethodName)) ∈ lw_tbl := lw_at lw_m1 235 rfl
theorem q260 : (Jvm.Cond.instanceMethod ({ cls := "RoundPlannerModel", name := "refusal", desc := "(III)I" } : Jvm.MethodName)) ∈ lw_all := lw_g (lw_at lw_m1 236 rfl) rfl
theorem q261 : (Jvm.Cond.code ({ cls := "RoundPlannerModel", name := "refusal", desc := "(III)I" } : Jvm.MethodName) prog_3_method_16_code (4 : Nat) (Option.some Jvm.ClassFile.FieldType.int)) ∈ lw_all := lw_g (lw_at lw_m1 237 rfl) rfl
theorem q262 : (Jvm.Cond.methodLink "RoundPlannerModel" (64 : Nat) ({ cls := "RoundPlannerModel", name := "isTime", desc := "(I)Z" } : Jvm.MethodName)) ∈ lw_all := lw_g (lw_at lw_m1 238 rfl) rfl
theorem q263 : (Jvm.Cond.privateMethod ({ cls := "RoundPlannerModel", name := "isTime", desc := "(I)Z" } : Jvm.MethodName)) ∈ lw_tbl := lw_at lw_m1 239 rfl
theorem q264 : (Jvm.Cond.instanceMethod ({ cls := "RoundPlannerModel", name := "isTime", desc := "(I)Z" } : Jvm.MethodName)) ∈ lw_all := lw_g (lw_at lw_m2 0 rfl) rfl
theorem q265 : (Jvm.Cond.code ({ cls := "RoundPlannerModel", name := "isTime", desc := "(I)Z" } : Jvm.MethodName) prog_3_method_4_code (2 : Nat) (Option.some Jvm.ClassFile.FieldType.boolean)) ∈ lw_all := lw_g (lw_at lw_m2 1 rfl) rfl
theorem q266 : (Jvm.Cond.methodLink "RoundPlannerModel" (75 : Nat) ({ cls := "RoundPlannerModel", name := "search", desc := "(III)V" } : Jvm.MethodName)) ∈ lw_all := lw_g (lw_at lw_m2 2 rfl) rfl
theorem q267 : (Jvm.Cond.privateMethod ({ cls := "RoundPlannerModel", name := "search", desc := "(III)V" } : Jvm.MethodName)) ∈ lw_tbl := lw_at lw_m2 3 rfl
theorem q268 : (Jvm.Cond.instanceMethod ({ cls := "RoundPlannerModel", name := "search", desc := "(III)V" } : Jvm.MethodName)) ∈ lw_all := lw_g (lw_at lw_m2 4 rfl) rfl
theorem q269 : (Jvm.Cond.code ({ cls := "RoundPlannerModel", name := "search", desc := "(III)V" } : Jvm.MethodName) prog_3_method_14_code (6 : Nat) (Option.none : Option Jvm.ClassFile.FieldType)) ∈ lw_all := lw_g (lw_at lw_m2 5 rfl) rfl
theorem q270 : (Jvm.Cond.constant "RoundPlannerModel" (55 : Nat) (100000 : Int32)) ∈ lw_all := lw_g (lw_at lw_m2 6 rfl) rfl
theorem q271 : (Jvm.Cond.methodLink "RoundPlannerModel" (56 : Nat) ({ cls := "RoundPlannerModel", name := "walk", desc := "(I)V" } : Jvm.MethodName)) ∈ lw_all := lw_g (lw_at lw_m2 7 rfl) rfl
theorem q272 : (Jvm.Cond.privateMethod ({ cls := "RoundPlannerModel", name := "walk", desc := "(I)V" } : Jvm.MethodName)) ∈ lw_tbl := lw_at lw_m2 8 rfl
theorem q273 : (Jvm.Cond.instanceMethod ({ cls := "RoundPlannerModel", name := "walk", desc := "(I)V" } : Jvm.MethodName)) ∈ lw_all := lw_g (lw_at lw_m2 9 rfl) rfl
theorem q274 : (Jvm.Cond.code ({ cls := "RoundPlannerModel", name := "walk", desc := "(I)V" } : Jvm.MethodName) prog_3_method_12_code (5 : Nat) (Option.none : Option Jvm.ClassFile.FieldType)) ∈ lw_all := lw_g (lw_at lw_m2 10 rfl) rfl
theorem q275 : (Jvm.Cond.methodLink "RoundPlannerModel" (60 : Nat) ({ cls := "RoundPlannerModel", name := "ride", desc := "(III)V" } : Jvm.MethodName)) ∈ lw_all := lw_g (lw_at lw_m2 11 rfl) rfl
theorem q276 : (Jvm.Cond.privateMethod ({ cls := "RoundPlannerModel", name := "ride", desc := "(III)V" } : Jvm.MethodName)) ∈ lw_tbl := lw_at lw_m2 12 rfl
theorem q277 : (Jvm.Cond.instanceMethod ({ cls := "RoundPlannerModel", name := "ride", desc := "(III)V" } : Jvm.MethodName)) ∈ lw_all := lw_g (lw_at lw_m2 13 rfl) rfl
theorem q278 : (Jvm.Cond.code ({ cls := "RoundPlannerModel", name := "ride", desc := "(III)V" } : Jvm.MethodName) prog_3_method_13_code (9 : Nat) (Option.none : Option Jvm.ClassFile.FieldType)) ∈ lw_all := lw_g (lw_at lw_m2 14 rfl) rfl
theorem q279 : (Jvm.Cond.methodLink "RoundPlannerModel" (78 : Nat) ({ cls := "RoundPlannerModel", name := "best", desc := "(II)I" } : Jvm.MethodName)) ∈ lw_all := lw_g (lw_at lw_m2 15 rfl) rfl
theorem q280 : (Jvm.Cond.privateMethod ({ cls := "RoundPlannerModel", name := "best", desc := "(II)I" } : Jvm.MethodName)) ∈ lw_tbl := lw_at lw_m2 16 rfl
theorem q281 : (Jvm.Cond.instanceMethod ({ cls := "RoundPlannerModel", name := "best", desc := "(II)I" } : Jvm.MethodName)) ∈ lw_all := lw_g (lw_at lw_m2 17 rfl) rfl
theorem q282 : (Jvm.Cond.code ({ cls := "RoundPlannerModel", name := "best", desc := "(II)I" } : Jvm.MethodName) prog_3_method_15_code (5 : Nat) (Option.some Jvm.ClassFile.FieldType.int)) ∈ lw_all := lw_g (lw_at lw_m2 18 rfl) rfl
theorem q285 : (Jvm.Cond.instanceMethod ({ cls := "RoundPlannerModel", name := "rides", desc := "(III)I" } : Jvm.MethodName)) ∈ lw_all := lw_g (lw_at lw_m2 21 rfl) rfl
theorem q286 : (Jvm.Cond.selects "RoundPlannerModel" ({ cls := "RoundPlannerModel", name := "rides", desc := "(III)I" } : Jvm.MethodName) ({ cls := "RoundPlannerModel", name := "rides", desc := "(III)I" } : Jvm.MethodName)) ∈ lw_all := lw_g (lw_at lw_m2 22 rfl) rfl
theorem q287 : (Jvm.Cond.code ({ cls := "RoundPlannerModel", name := "rides", desc := "(III)I" } : Jvm.MethodName) prog_3_method_19_code (6 : Nat) (Option.some Jvm.ClassFile.FieldType.int)) ∈ lw_all := lw_g (lw_at lw_m2 23 rfl) rfl
theorem q288 : (Jvm.Cond.methodLink "RoundPlannerModel" (82 : Nat) ({ cls := "RoundPlannerModel", name := "earliest", desc := "(III)I" } : Jvm.MethodName)) ∈ lw_all := lw_g (lw_at lw_m2 24 rfl) rfl
theorem q290 : (Jvm.Cond.instanceMethod ({ cls := "RoundPlannerModel", name := "latest", desc := "(III)I" } : Jvm.MethodName)) ∈ lw_all := lw_g (lw_at lw_m2 26 rfl) rfl
theorem q291 : (Jvm.Cond.selects "RoundPlannerModel" ({ cls := "RoundPlannerModel", name := "latest", desc := "(III)I" } : Jvm.MethodName) ({ cls := "RoundPlannerModel", name := "latest", desc := "(III)I" } : Jvm.MethodName)) ∈ lw_all := lw_g (lw_at lw_m2 27 rfl) rfl
theorem q292 : (Jvm.Cond.code ({ cls := "RoundPlannerModel", name := "latest", desc := "(III)I" } : Jvm.MethodName) prog_3_method_20_code (6 : Nat) (Option.some Jvm.ClassFile.FieldType.int)) ∈ lw_all := lw_g (lw_at lw_m2 28 rfl) rfl
theorem q294 : (Jvm.Cond.instanceMethod ({ cls := "RoundPlannerModel", name := "within", desc := "(III)I" } : Jvm.MethodName)) ∈ lw_all := lw_g (lw_at lw_m2 30 rfl) rfl
theorem q295 : (Jvm.Cond.selects "RoundPlannerModel" ({ cls := "RoundPlannerModel", name := "within", desc := "(III)I" } : Jvm.MethodName) ({ cls := "RoundPlannerModel", name := "within", desc := "(III)I" } : Jvm.MethodName)) ∈ lw_all := lw_g (lw_at lw_m2 31 rfl) rfl
theorem q296 : (Jvm.Cond.code ({ cls := "RoundPlannerModel", name := "within", desc := "(III)I" } : Jvm.MethodName) prog_3_method_21_code (7 : Nat) (Option.some Jvm.ClassFile.FieldType.int)) ∈ lw_all := lw_g (lw_at lw_m2 32 rfl) rfl
theorem in_X1 : ∀ w ∈ wsX10, w ∈ lw_all := lw_in wsX10 [193, 195, 197, 199, 201, 203, 205, 207, 209, 211] (by decide +kernel) (by decide +kernel)
/-! the law's own entry -/
abbrev cL_law : ByteArray := code
theorem q24 : (Jvm.Cond.initialized "RoundPlannerLaw") ∈ lw_all := lw_g (lw_at lw_m1 0 rfl) rfl
theorem q27 : (Jvm.Cond.classLink "RoundPlannerLaw" (7 : Nat) "RoundPlanner") ∈ lw_all := lw_g (lw_at lw_m1 3 rfl) rfl
theorem q29 : (Jvm.Cond.methodLink "RoundPlannerLaw" (9 : Nat) ({ cls := "RoundPlanner", name := "<init>", desc := "()V" } : Jvm.MethodName)) ∈ lw_all := lw_g (lw_at lw_m1 5 rfl) rfl
theorem q73 : (Jvm.Cond.methodLink "RoundPlannerLaw" (13 : Nat) ({ cls := "RoundPlanner", name := "line", desc := "(I)I" } : Jvm.MethodName)) ∈ lw_all := lw_g (lw_at lw_m1 49 rfl) rfl
theorem q80 : (Jvm.Cond.methodLink "RoundPlannerLaw" (18 : Nat) ({ cls := "RoundPlanner", name := "extend", desc := "(III)I" } : Jvm.MethodName)) ∈ lw_all := lw_g (lw_at lw_m1 56 rfl) rfl
theorem q92 : (Jvm.Cond.methodLink "RoundPlannerLaw" (23 : Nat) ({ cls := "RoundPlanner", name := "trip", desc := "(II)I" } : Jvm.MethodName)) ∈ lw_all := lw_g (lw_at lw_m1 68 rfl) rfl
theorem q96 : (Jvm.Cond.methodLink "RoundPlannerLaw" (28 : Nat) ({ cls := "RoundPlanner", name := "footpath", desc := "(III)I" } : Jvm.MethodName)) ∈ lw_all := lw_g (lw_at lw_m1 72 rfl) rfl
theorem q100 : (Jvm.Cond.methodLink "RoundPlannerLaw" (32 : Nat) ({ cls := "RoundPlanner", name := "delay", desc := "(II)I" } : Jvm.MethodName)) ∈ lw_all := lw_g (lw_at lw_m1 76 rfl) rfl
theorem q104 : (Jvm.Cond.methodLink "RoundPlannerLaw" (36 : Nat) ({ cls := "RoundPlanner", name := "earliest", desc := "(III)I" } : Jvm.MethodName)) ∈ lw_all := lw_g (lw_at lw_m1 80 rfl) rfl
theorem q144 : (Jvm.Cond.methodLink "RoundPlannerLaw" (40 : Nat) ({ cls := "RoundPlanner", name := "earliestWith", desc := "(IIII)I" } : Jvm.MethodName)) ∈ lw_all := lw_g (lw_at lw_m1 120 rfl) rfl
theorem q148 : (Jvm.Cond.methodLink "RoundPlannerLaw" (45 : Nat) ({ cls := "RoundPlanner", name := "rides", desc := "(III)I" } : Jvm.MethodName)) ∈ lw_all := lw_g (lw_at lw_m1 124 rfl) rfl
theorem q152 : (Jvm.Cond.methodLink "RoundPlannerLaw" (49 : Nat) ({ cls := "RoundPlanner", name := "latest", desc := "(III)I" } : Jvm.MethodName)) ∈ lw_all := lw_g (lw_at lw_m1 128 rfl) rfl
theorem q173 : (Jvm.Cond.methodLink "RoundPlannerLaw" (53 : Nat) ({ cls := "RoundPlanner", name := "within", desc := "(III)I" } : Jvm.MethodName)) ∈ lw_all := lw_g (lw_at lw_m1 149 rfl) rfl
theorem q177 : (Jvm.Cond.classLink "RoundPlannerLaw" (10 : Nat) "RoundPlannerModel") ∈ lw_all := lw_g (lw_at lw_m1 153 rfl) rfl
theorem q179 : (Jvm.Cond.methodLink "RoundPlannerLaw" (12 : Nat) ({ cls := "RoundPlannerModel", name := "<init>", desc := "()V" } : Jvm.MethodName)) ∈ lw_all := lw_g (lw_at lw_m1 155 rfl) rfl
theorem q214 : (Jvm.Cond.methodLink "RoundPlannerLaw" (17 : Nat) ({ cls := "RoundPlannerModel", name := "line", desc := "(I)I" } : Jvm.MethodName)) ∈ lw_all := lw_g (lw_at lw_m1 190 rfl) rfl
theorem q222 : (Jvm.Cond.methodLink "RoundPlannerLaw" (22 : Nat) ({ cls := "RoundPlannerModel", name := "extend", desc := "(III)I" } : Jvm.MethodName)) ∈ lw_all := lw_g (lw_at lw_m1 198 rfl) rfl
theorem q238 : (Jvm.Cond.methodLink "RoundPlannerLaw" (27 : Nat) ({ cls := "RoundPlannerModel", name := "trip", desc := "(II)I" } : Jvm.MethodName)) ∈ lw_all := lw_g (lw_at lw_m1 214 rfl) rfl
theorem q242 : (Jvm.Cond.methodLink "RoundPlannerLaw" (31 : Nat) ({ cls := "RoundPlannerModel", name := "footpath", desc := "(III)I" } : Jvm.MethodName)) ∈ lw_all := lw_g (lw_at lw_m1 218 rfl) rfl
theorem q246 : (Jvm.Cond.methodLink "RoundPlannerLaw" (35 : Nat) ({ cls := "RoundPlannerModel", name := "delay", desc := "(II)I" } : Jvm.MethodName)) ∈ lw_all := lw_g (lw_at lw_m1 222 rfl) rfl
theorem q250 : (Jvm.Cond.methodLink "RoundPlannerLaw" (39 : Nat) ({ cls := "RoundPlannerModel", name := "earliest", desc := "(III)I" } : Jvm.MethodName)) ∈ lw_all := lw_g (lw_at lw_m1 226 rfl) rfl
theorem q283 : (Jvm.Cond.methodLink "RoundPlannerLaw" (44 : Nat) ({ cls := "RoundPlannerModel", name := "earliestWith", desc := "(IIII)I" } : Jvm.MethodName)) ∈ lw_all := lw_g (lw_at lw_m2 19 rfl) rfl
theorem q284 : (Jvm.Cond.methodLink "RoundPlannerLaw" (48 : Nat) ({ cls := "RoundPlannerModel", name := "rides", desc := "(III)I" } : Jvm.MethodName)) ∈ lw_all := lw_g (lw_at lw_m2 20 rfl) rfl
theorem q289 : (Jvm.Cond.methodLink "RoundPlannerLaw" (52 : Nat) ({ cls := "RoundPlannerModel", name := "latest", desc := "(III)I" } : Jvm.MethodName)) ∈ lw_all := lw_g (lw_at lw_m2 25 rfl) rfl
theorem q293 : (Jvm.Cond.methodLink "RoundPlannerLaw" (56 : Nat) ({ cls := "RoundPlannerModel", name := "within", desc := "(III)I" } : Jvm.MethodName)) ∈ lw_all := lw_g (lw_at lw_m2 29 rfl) rfl
theorem q72 : (Jvm.Cond.arrayClass Jvm.ClassFile.FieldType.int) ∈ lw_all := lw_g (lw_at lw_m1 48 rfl) rfl
end
section
set_option maxRecDepth 100000
theorem dX0_init_0 : decode cX0_init 0 = .ok (.aload_n 0, 1) := by decide +kernel
theorem dX0_init_1 : decode cX0_init 1 = .ok (.invokespecial 1, 3) := by decide +kernel
theorem dX0_init_4 : decode cX0_init 4 = .ok (.aload_n 0, 1) := by decide +kernel
theorem dX0_init_5 : decode cX0_init 5 = .ok (.iconst 5, 1) := by decide +kernel
theorem dX0_init_6 : decode cX0_init 6 = .ok (.newarray .int, 2) := by decide +kernel
theorem dX0_init_8 : decode cX0_init 8 = .ok (.putfield 7, 3) := by decide +kernel
theorem dX0_init_11 : decode cX0_init 11 = .ok (.aload_n 0, 1) := by decide +kernel
theorem dX0_init_12 : decode cX0_init 12 = .ok (.bipush 30, 2) := by decide +kernel
theorem dX0_init_14 : decode cX0_init 14 = .ok (.newarray .int, 2) := by decide +kernel
theorem dX0_init_16 : decode cX0_init 16 = .ok (.putfield 13, 3) := by decide +kernel
theorem dX0_init_19 : decode cX0_init 19 = .ok (.aload_n 0, 1) := by decide +kernel
theorem dX0_init_20 : decode cX0_init 20 = .ok (.bipush 30, 2) := by decide +kernel
theorem dX0_init_22 : decode cX0_init 22 = .ok (.newarray .int, 2) := by decide +kernel
theorem dX0_init_24 : decode cX0_init 24 = .ok (.putfield 16, 3) := by decide +kernel
theorem dX0_init_27 : decode cX0_init 27 = .ok (.aload_n 0, 1) := by decide +kernel
theorem dX0_init_28 : decode cX0_init 28 = .ok (.bipush 12, 2) := by decide +kernel
theorem dX0_init_30 : decode cX0_init 30 = .ok (.newarray .int, 2) := by decide +kernel
theorem dX0_init_32 : decode cX0_init 32 = .ok (.putfield 19, 3) := by decide +kernel
theorem dX0_init_35 : decode cX0_init 35 = .ok (.aload_n 0, 1) := by decide +kernel
theorem dX0_init_36 : decode cX0_init 36 = .ok (.bipush 12, 2) := by decide +kernel
theorem dX0_init_38 : decode cX0_init 38 = .ok (.newarray .int, 2) := by decide +kernel
theorem dX0_init_40 : decode cX0_init 40 = .ok (.putfield 22, 3) := by decide +kernel
theorem dX0_init_43 : decode cX0_init 43 = .ok (.aload_n 0, 1) := by decide +kernel
theorem dX0_init_44 : decode cX0_init 44 = .ok (.bipush 64, 2) := by decide +kernel
theorem dX0_init_46 : decode cX0_init 46 = .ok (.newarray .int, 2) := by decide +kernel
theorem dX0_init_48 : decode cX0_init 48 = .ok (.putfield 25, 3) := by decide +kernel
theorem dX0_init_51 : decode cX0_init 51 = .ok (.aload_n 0, 1) := by decide +kernel
theorem dX0_init_52 : decode cX0_init 52 = .ok (.bipush 8, 2) := by decide +kernel
theorem dX0_init_54 : decode cX0_init 54 = .ok (.newarray .int, 2) := by decide +kernel
theorem dX0_init_56 : decode cX0_init 56 = .ok (.putfield 28, 3) := by decide +kernel
theorem dX0_init_59 : decode cX0_init 59 = .ok (.aload_n 0, 1) := by decide +kernel
theorem dX0_init_60 : decode cX0_init 60 = .ok (.bipush 8, 2) := by decide +kernel
theorem dX0_init_62 : decode cX0_init 62 = .ok (.newarray .int, 2) := by decide +kernel
theorem dX0_init_64 : decode cX0_init 64 = .ok (.putfield 31, 3) := by decide +kernel
theorem dX0_init_67 : decode cX0_init 67 = .ok (.aload_n 0, 1) := by decide +kernel
theorem dX0_init_68 : decode cX0_init 68 = .ok (.bipush 8, 2) := by decide +kernel
theorem dX0_init_70 : decode cX0_init 70 = .ok (.newarray .int, 2) := by decide +kernel
theorem dX0_init_72 : decode cX0_init 72 = .ok (.putfield 34, 3) := by decide +kernel
theorem dX0_init_75 : decode cX0_init 75 = .ok (.aload_n 0, 1) := by decide +kernel
theorem dX0_init_76 : decode cX0_init 76 = .ok (.iconst 0, 1) := by decide +kernel
theorem dX0_init_77 : decode cX0_init 77 = .ok (.putfield 37, 3) := by decide +kernel
theorem dX0_init_80 : decode cX0_init 80 = .ok (.return_, 1) := by decide +kernel
theorem dX0_line_0 : decode cX0_line 0 = .ok (.iload_n 1, 1) := by decide +kernel
theorem dX0_line_1 : decode cX0_line 1 = .ok (.invokestatic 41, 3) := by decide +kernel
theorem dX0_line_4 : decode cX0_line 4 = .ok (.ifCond .eq 5, 3) := by decide +kernel
theorem dX0_line_7 : decode cX0_line 7 = .ok (.iconst (-1), 1) := by decide +kernel
theorem dX0_line_8 : decode cX0_line 8 = .ok (.ireturn, 1) := by decide +kernel
theorem dX0_line_9 : decode cX0_line 9 = .ok (.aload_n 0, 1) := by decide +kernel
theorem dX0_line_10 : decode cX0_line 10 = .ok (.getfield 37, 3) := by decide +kernel
theorem dX0_line_13 : decode cX0_line 13 = .ok (.iconst 5, 1) := by decide +kernel
theorem dX0_line_14 : decode cX0_line 14 = .ok (.if_icmp .lt 6, 3) := by decide +kernel
theorem dX0_line_17 : decode cX0_line 17 = .ok (.bipush (-4), 2) := by decide +kernel
theorem dX0_line_19 : decode cX0_line 19 = .ok (.ireturn, 1) := by decide +kernel
theorem dX0_line_20 : decode cX0_line 20 = .ok (.aload_n 0, 1) := by decide +kernel
theorem dX0_line_21 : decode cX0_line 21 = .ok (.getfield 7, 3) := by decide +kernel
theorem dX0_line_24 : decode cX0_line 24 = .ok (.aload_n 0, 1) := by decide +kernel
theorem dX0_line_25 : decode cX0_line 25 = .ok (.getfield 37, 3) := by decide +kernel
theorem dX0_line_28 : decode cX0_line 28 = .ok (.iconst 1, 1) := by decide +kernel
theorem dX0_line_29 : decode cX0_line 29 = .ok (.iastore, 1) := by decide +kernel
theorem dX0_line_30 : decode cX0_line 30 = .ok (.aload_n 0, 1) := by decide +kernel
theorem dX0_line_31 : decode cX0_line 31 = .ok (.getfield 13, 3) := by decide +kernel
theorem dX0_line_34 : decode cX0_line 34 = .ok (.aload_n 0, 1) := by decide +kernel
theorem dX0_line_35 : decode cX0_line 35 = .ok (.getfield 37, 3) := by decide +kernel
theorem dX0_line_38 : decode cX0_line 38 = .ok (.bipush 6, 2) := by decide +kernel
theorem dX0_line_40 : decode cX0_line 40 = .ok (.imul, 1) := by decide +kernel
theorem dX0_line_41 : decode cX0_line 41 = .ok (.iload_n 1, 1) := by decide +kernel
theorem dX0_line_42 : decode cX0_line 42 = .ok (.iastore, 1) := by decide +kernel
theorem dX0_line_43 : decode cX0_line 43 = .ok (.aload_n 0, 1) := by decide +kernel
theorem dX0_line_44 : decode cX0_line 44 = .ok (.getfield 16, 3) := by decide +kernel
theorem dX0_line_47 : decode cX0_line 47 = .ok (.aload_n 0, 1) := by decide +kernel
theorem dX0_line_48 : decode cX0_line 48 = .ok (.getfield 37, 3) := by decide +kernel
theorem dX0_line_51 : decode cX0_line 51 = .ok (.bipush 6, 2) := by decide +kernel
theorem dX0_line_53 : decode cX0_line 53 = .ok (.imul, 1) := by decide +kernel
theorem dX0_line_54 : decode cX0_line 54 = .ok (.iconst 0, 1) := by decide +kernel
theorem dX0_line_55 : decode cX0_line 55 = .ok (.iastore, 1) := by decide +kernel
theorem dX0_line_56 : decode cX0_line 56 = .ok (.aload_n 0, 1) := by decide +kernel
theorem dX0_line_57 : decode cX0_line 57 = .ok (.dup, 1) := by decide +kernel
theorem dX0_line_58 : decode cX0_line 58 = .ok (.getfield 37, 3) := by decide +kernel
theorem dX0_line_61 : decode cX0_line 61 = .ok (.iconst 1, 1) := by decide +kernel
theorem dX0_line_62 : decode cX0_line 62 = .ok (.iadd, 1) := by decide +kernel
theorem dX0_line_63 : decode cX0_line 63 = .ok (.putfield 37, 3) := by decide +kernel
theorem dX0_line_66 : decode cX0_line 66 = .ok (.aload_n 0, 1) := by decide +kernel
theorem dX0_line_67 : decode cX0_line 67 = .ok (.getfield 37, 3) := by decide +kernel
theorem dX0_line_70 : decode cX0_line 70 = .ok (.iconst 1, 1) := by decide +kernel
theorem dX0_line_71 : decode cX0_line 71 = .ok (.isub, 1) := by decide +kernel
theorem dX0_line_72 : decode cX0_line 72 = .ok (.ireturn, 1) := by decide +kernel
theorem dX0_badStop_0 : decode cX0_badStop 0 = .ok (.iload_n 0, 1) := by decide +kernel
theorem dX0_badStop_1 : decode cX0_badStop 1 = .ok (.ifCond .lt 9, 3) := by decide +kernel
theorem dX0_badStop_4 : decode cX0_badStop 4 = .ok (.iload_n 0, 1) := by decide +kernel
theorem dX0_badStop_5 : decode cX0_badStop 5 = .ok (.bipush 8, 2) := by decide +kernel
theorem dX0_badStop_7 : decode cX0_badStop 7 = .ok (.if_icmp .lt 7, 3) := by decide +kernel
theorem dX0_badStop_10 : decode cX0_badStop 10 = .ok (.iconst 1, 1) := by decide +kernel
theorem dX0_badStop_11 : decode cX0_badStop 11 = .ok (.goto 4, 3) := by decide +kernel
theorem dX0_badStop_14 : decode cX0_badStop 14 = .ok (.iconst 0, 1) := by decide +kernel
theorem dX0_badStop_15 : decode cX0_badStop 15 = .ok (.ireturn, 1) := by decide +kernel
theorem dX0_extend_0 : decode cX0_extend 0 = .ok (.aload_n 0, 1) := by decide +kernel
theorem dX0_extend_1 : decode cX0_extend 1 = .ok (.iload_n 1, 1) := by decide +kernel
theorem dX0_extend_2 : decode cX0_extend 2 = .ok (.invokevirtual 48, 3) := by decide +kernel
theorem dX0_extend_5 : decode cX0_extend 5 = .ok (.ifCond .eq 6, 3) := by decide +kernel
theorem dX0_extend_8 : decode cX0_extend 8 = .ok (.bipush (-2), 2) := by decide +kernel
theorem dX0_extend_10 : decode cX0_extend 10 = .ok (.ireturn, 1) := by decide +kernel
theorem dX0_extend_11 : decode cX0_extend 11 = .ok (.iload_n 2, 1) := by decide +kernel
theorem dX0_extend_12 : decode cX0_extend 12 = .ok (.invokestatic 41, 3) := by decide +kernel
theorem dX0_extend_15 : decode cX0_extend 15 = .ok (.ifCond .eq 5, 3) := by decide +kernel
theorem dX0_extend_18 : decode cX0_extend 18 = .ok (.iconst (-1), 1) := by decide +kernel
theorem dX0_extend_19 : decode cX0_extend 19 = .ok (.ireturn, 1) := by decide +kernel
theorem dX0_extend_20 : decode cX0_extend 20 = .ok (.aload_n 0, 1) := by decide +kernel
theorem dX0_extend_21 : decode cX0_extend 21 = .ok (.getfield 7, 3) := by decide +kernel
theorem dX0_extend_24 : decode cX0_extend 24 = .ok (.iload_n 1, 1) := by decide +kernel
theorem dX0_extend_25 : decode cX0_extend 25 = .ok (.iaload, 1) := by decide +kernel
theorem dX0_extend_26 : decode cX0_extend 26 = .ok (.istore 4, 2) := by decide +kernel
theorem dX0_extend_28 : decode cX0_extend 28 = .ok (.iconst 0, 1) := by decide +kernel
theorem dX0_extend_29 : decode cX0_extend 29 = .ok (.istore 5, 2) := by decide +kernel
theorem dX0_extend_31 : decode cX0_extend 31 = .ok (.iload 5, 2) := by decide +kernel
theorem dX0_extend_33 : decode cX0_extend 33 = .ok (.iload 4, 2) := by decide +kernel
theorem dX0_extend_35 : decode cX0_extend 35 = .ok (.if_icmp .ge 27, 3) := by decide +kernel
theorem dX0_extend_38 : decode cX0_extend 38 = .ok (.aload_n 0, 1) := by decide +kernel
theorem dX0_extend_39 : decode cX0_extend 39 = .ok (.getfield 13, 3) := by decide +kernel
theorem dX0_extend_42 : decode cX0_extend 42 = .ok (.iload_n 1, 1) := by decide +kernel
theorem dX0_extend_43 : decode cX0_extend 43 = .ok (.bipush 6, 2) := by decide +kernel
theorem dX0_extend_45 : decode cX0_extend 45 = .ok (.imul, 1) := by decide +kernel
theorem dX0_extend_46 : decode cX0_extend 46 = .ok (.iload 5, 2) := by decide +kernel
theorem dX0_extend_48 : decode cX0_extend 48 = .ok (.iadd, 1) := by decide +kernel
theorem dX0_extend_49 : decode cX0_extend 49 = .ok (.iaload, 1) := by decide +kernel
theorem dX0_extend_50 : decode cX0_extend 50 = .ok (.iload_n 2, 1) := by decide +kernel
theorem dX0_extend_51 : decode cX0_extend 51 = .ok (.if_icmp .ne 5, 3) := by decide +kernel
theorem dX0_extend_54 : decode cX0_extend 54 = .ok (.iconst (-1), 1) := by decide +kernel
theorem dX0_extend_55 : decode cX0_extend 55 = .ok (.ireturn, 1) := by decide +kernel
theorem dX0_extend_56 : decode cX0_extend 56 = .ok (.iinc 5 1, 3) := by decide +kernel
theorem dX0_extend_59 : decode cX0_extend 59 = .ok (.goto (-28), 3) := by decide +kernel
theorem dX0_extend_62 : decode cX0_extend 62 = .ok (.iload_n 3, 1) := by decide +kernel
theorem dX0_extend_63 : decode cX0_extend 63 = .ok (.iconst 1, 1) := by decide +kernel
theorem dX0_extend_64 : decode cX0_extend 64 = .ok (.if_icmp .lt 9, 3) := by decide +kernel
theorem dX0_extend_67 : decode cX0_extend 67 = .ok (.iload_n 3, 1) := by decide +kernel
theorem dX0_extend_68 : decode cX0_extend 68 = .ok (.bipush 30, 2) := by decide +kernel
theorem dX0_extend_70 : decode cX0_extend 70 = .ok (.if_icmp .le 6, 3) := by decide +kernel
theorem dX0_extend_73 : decode cX0_extend 73 = .ok (.bipush (-3), 2) := by decide +kernel
theorem dX0_extend_75 : decode cX0_extend 75 = .ok (.ireturn, 1) := by decide +kernel
theorem dX0_extend_76 : decode cX0_extend 76 = .ok (.aload_n 0, 1) := by decide +kernel
theorem dX0_extend_77 : decode cX0_extend 77 = .ok (.iload_n 1, 1) := by decide +kernel
theorem dX0_extend_78 : decode cX0_extend 78 = .ok (.invokevirtual 51, 3) := by decide +kernel
theorem dX0_extend_81 : decode cX0_extend 81 = .ok (.istore 5, 2) := by decide +kernel
theorem dX0_extend_83 : decode cX0_extend 83 = .ok (.iload 4, 2) := by decide +kernel
theorem dX0_extend_85 : decode cX0_extend 85 = .ok (.bipush 6, 2) := by decide +kernel
theorem dX0_extend_87 : decode cX0_extend 87 = .ok (.if_icmp .ge 8, 3) := by decide +kernel
theorem dX0_extend_90 : decode cX0_extend 90 = .ok (.iload 5, 2) := by decide +kernel
theorem dX0_extend_92 : decode cX0_extend 92 = .ok (.ifCond .eq 6, 3) := by decide +kernel
theorem dX0_extend_95 : decode cX0_extend 95 = .ok (.bipush (-4), 2) := by decide +kernel
theorem dX0_extend_97 : decode cX0_extend 97 = .ok (.ireturn, 1) := by decide +kernel
theorem dX0_extend_98 : decode cX0_extend 98 = .ok (.aload_n 0, 1) := by decide +kernel
theorem dX0_extend_99 : decode cX0_extend 99 = .ok (.getfield 13, 3) := by decide +kernel
theorem dX0_extend_102 : decode cX0_extend 102 = .ok (.iload_n 1, 1) := by decide +kernel
theorem dX0_extend_103 : decode cX0_extend 103 = .ok (.bipush 6, 2) := by decide +kernel
theorem dX0_extend_105 : decode cX0_extend 105 = .ok (.imul, 1) := by decide +kernel
theorem dX0_extend_106 : decode cX0_extend 106 = .ok (.iload 4, 2) := by decide +kernel
theorem dX0_extend_108 : decode cX0_extend 108 = .ok (.iadd, 1) := by decide +kernel
theorem dX0_extend_109 : decode cX0_extend 109 = .ok (.iload_n 2, 1) := by decide +kernel
theorem dX0_extend_110 : decode cX0_extend 110 = .ok (.iastore, 1) := by decide +kernel
theorem dX0_extend_111 : decode cX0_extend 111 = .ok (.aload_n 0, 1) := by decide +kernel
theorem dX0_extend_112 : decode cX0_extend 112 = .ok (.getfield 16, 3) := by decide +kernel
theorem dX0_extend_115 : decode cX0_extend 115 = .ok (.iload_n 1, 1) := by decide +kernel
theorem dX0_extend_116 : decode cX0_extend 116 = .ok (.bipush 6, 2) := by decide +kernel
theorem dX0_extend_118 : decode cX0_extend 118 = .ok (.imul, 1) := by decide +kernel
theorem dX0_extend_119 : decode cX0_extend 119 = .ok (.iload 4, 2) := by decide +kernel
theorem dX0_extend_121 : decode cX0_extend 121 = .ok (.iadd, 1) := by decide +kernel
theorem dX0_extend_122 : decode cX0_extend 122 = .ok (.aload_n 0, 1) := by decide +kernel
theorem dX0_extend_123 : decode cX0_extend 123 = .ok (.getfield 16, 3) := by decide +kernel
theorem dX0_extend_126 : decode cX0_extend 126 = .ok (.iload_n 1, 1) := by decide +kernel
theorem dX0_extend_127 : decode cX0_extend 127 = .ok (.bipush 6, 2) := by decide +kernel
theorem dX0_extend_129 : decode cX0_extend 129 = .ok (.imul, 1) := by decide +kernel
theorem dX0_extend_130 : decode cX0_extend 130 = .ok (.iload 4, 2) := by decide +kernel
theorem dX0_extend_132 : decode cX0_extend 132 = .ok (.iadd, 1) := by decide +kernel
theorem dX0_extend_133 : decode cX0_extend 133 = .ok (.iconst 1, 1) := by decide +kernel
theorem dX0_extend_134 : decode cX0_extend 134 = .ok (.isub, 1) := by decide +kernel
theorem dX0_extend_135 : decode cX0_extend 135 = .ok (.iaload, 1) := by decide +kernel
theorem dX0_extend_136 : decode cX0_extend 136 = .ok (.iload_n 3, 1) := by decide +kernel
theorem dX0_extend_137 : decode cX0_extend 137 = .ok (.iadd, 1) := by decide +kernel
theorem dX0_extend_138 : decode cX0_extend 138 = .ok (.iastore, 1) := by decide +kernel
theorem dX0_extend_139 : decode cX0_extend 139 = .ok (.aload_n 0, 1) := by decide +kernel
theorem dX0_extend_140 : decode cX0_extend 140 = .ok (.getfield 7, 3) := by decide +kernel
theorem dX0_extend_143 : decode cX0_extend 143 = .ok (.iload_n 1, 1) := by decide +kernel
theorem dX0_extend_144 : decode cX0_extend 144 = .ok (.iload 4, 2) := by decide +kernel
theorem dX0_extend_146 : decode cX0_extend 146 = .ok (.iconst 1, 1) := by decide +kernel
theorem dX0_extend_147 : decode cX0_extend 147 = .ok (.iadd, 1) := by decide +kernel
theorem dX0_extend_148 : decode cX0_extend 148 = .ok (.iastore, 1) := by decide +kernel
theorem dX0_extend_149 : decode cX0_extend 149 = .ok (.iload 4, 2) := by decide +kernel
theorem dX0_extend_151 : decode cX0_extend 151 = .ok (.iconst 1, 1) := by decide +kernel
theorem dX0_extend_152 : decode cX0_extend 152 = .ok (.iadd, 1) := by decide +kernel
theorem dX0_extend_153 : decode cX0_extend 153 = .ok (.ireturn, 1) := by decide +kernel
theorem dX0_badLine_0 : decode cX0_badLine 0 = .ok (.iload_n 1, 1) := by decide +kernel
theorem dX0_badLine_1 : decode cX0_badLine 1 = .ok (.ifCond .lt 11, 3) := by decide +kernel
theorem dX0_badLine_4 : decode cX0_badLine 4 = .ok (.iload_n 1, 1) := by decide +kernel
theorem dX0_badLine_5 : decode cX0_badLine 5 = .ok (.aload_n 0, 1) := by decide +kernel
theorem dX0_badLine_6 : decode cX0_badLine 6 = .ok (.getfield 37, 3) := by decide +kernel
theorem dX0_badLine_9 : decode cX0_badLine 9 = .ok (.if_icmp .lt 7, 3) := by decide +kernel
theorem dX0_badLine_12 : decode cX0_badLine 12 = .ok (.iconst 1, 1) := by decide +kernel
theorem dX0_badLine_13 : decode cX0_badLine 13 = .ok (.goto 4, 3) := by decide +kernel
theorem dX0_badLine_16 : decode cX0_badLine 16 = .ok (.iconst 0, 1) := by decide +kernel
theorem dX0_badLine_17 : decode cX0_badLine 17 = .ok (.ireturn, 1) := by decide +kernel
theorem dX0_hasTrips_0 : decode cX0_hasTrips 0 = .ok (.iconst 0, 1) := by decide +kernel
theorem dX0_hasTrips_1 : decode cX0_hasTrips 1 = .ok (.istore_n 2, 1) := by decide +kernel
theorem dX0_hasTrips_2 : decode cX0_hasTrips 2 = .ok (.iload_n 2, 1) := by decide +kernel
theorem dX0_hasTrips_3 : decode cX0_hasTrips 3 = .ok (.aload_n 0, 1) := by decide +kernel
theorem dX0_hasTrips_4 : decode cX0_hasTrips 4 = .ok (.getfield 45, 3) := by decide +kernel
theorem dX0_hasTrips_7 : decode cX0_hasTrips 7 = .ok (.if_icmp .ge 21, 3) := by decide +kernel
theorem dX0_hasTrips_10 : decode cX0_hasTrips 10 = .ok (.aload_n 0, 1) := by decide +kernel
theorem dX0_hasTrips_11 : decode cX0_hasTrips 11 = .ok (.getfield 19, 3) := by decide +kernel
theorem dX0_hasTrips_14 : decode cX0_hasTrips 14 = .ok (.iload_n 2, 1) := by decide +kernel
theorem dX0_hasTrips_15 : decode cX0_hasTrips 15 = .ok (.iaload, 1) := by decide +kernel
theorem dX0_hasTrips_16 : decode cX0_hasTrips 16 = .ok (.iload_n 1, 1) := by decide +kernel
theorem dX0_hasTrips_17 : decode cX0_hasTrips 17 = .ok (.if_icmp .ne 5, 3) := by decide +kernel
theorem dX0_hasTrips_20 : decode cX0_hasTrips 20 = .ok (.iconst 1, 1) := by decide +kernel
theorem dX0_hasTrips_21 : decode cX0_hasTrips 21 = .ok (.ireturn, 1) := by decide +kernel
theorem dX0_hasTrips_22 : decode cX0_hasTrips 22 = .ok (.iinc 2 1, 3) := by decide +kernel
theorem dX0_hasTrips_25 : decode cX0_hasTrips 25 = .ok (.goto (-23), 3) := by decide +kernel
theorem dX0_hasTrips_28 : decode cX0_hasTrips 28 = .ok (.iconst 0, 1) := by decide +kernel
theorem dX0_hasTrips_29 : decode cX0_hasTrips 29 = .ok (.ireturn, 1) := by decide +kernel
theorem dX0_trip_0 : decode cX0_trip 0 = .ok (.aload_n 0, 1) := by decide +kernel
theorem dX0_trip_1 : decode cX0_trip 1 = .ok (.iload_n 1, 1) := by decide +kernel
theorem dX0_trip_2 : decode cX0_trip 2 = .ok (.invokevirtual 48, 3) := by decide +kernel
theorem dX0_trip_5 : decode cX0_trip 5 = .ok (.ifCond .eq 6, 3) := by decide +kernel
theorem dX0_trip_8 : decode cX0_trip 8 = .ok (.bipush (-2), 2) := by decide +kernel
theorem dX0_trip_10 : decode cX0_trip 10 = .ok (.ireturn, 1) := by decide +kernel
theorem dX0_trip_11 : decode cX0_trip 11 = .ok (.iload_n 2, 1) := by decide +kernel
theorem dX0_trip_12 : decode cX0_trip 12 = .ok (.ifCond .lt 10, 3) := by decide +kernel
theorem dX0_trip_15 : decode cX0_trip 15 = .ok (.iload_n 2, 1) := by decide +kernel
theorem dX0_trip_16 : decode cX0_trip 16 = .ok (.sipush 500, 3) := by decide +kernel
theorem dX0_trip_19 : decode cX0_trip 19 = .ok (.if_icmp .le 6, 3) := by decide +kernel
theorem dX0_trip_22 : decode cX0_trip 22 = .ok (.bipush (-3), 2) := by decide +kernel
theorem dX0_trip_24 : decode cX0_trip 24 = .ok (.ireturn, 1) := by decide +kernel
theorem dX0_trip_25 : decode cX0_trip 25 = .ok (.aload_n 0, 1) := by decide +kernel
theorem dX0_trip_26 : decode cX0_trip 26 = .ok (.getfield 45, 3) := by decide +kernel
theorem dX0_trip_29 : decode cX0_trip 29 = .ok (.bipush 12, 2) := by decide +kernel
theorem dX0_trip_31 : decode cX0_trip 31 = .ok (.if_icmp .lt 6, 3) := by decide +kernel
theorem dX0_trip_34 : decode cX0_trip 34 = .ok (.bipush (-4), 2) := by decide +kernel
theorem dX0_trip_36 : decode cX0_trip 36 = .ok (.ireturn, 1) := by decide +kernel
theorem dX0_trip_37 : decode cX0_trip 37 = .ok (.aload_n 0, 1) := by decide +kernel
theorem dX0_trip_38 : decode cX0_trip 38 = .ok (.getfield 19, 3) := by decide +kernel
theorem dX0_trip_41 : decode cX0_trip 41 = .ok (.aload_n 0, 1) := by decide +kernel
theorem dX0_trip_42 : decode cX0_trip 42 = .ok (.getfield 45, 3) := by decide +kernel
theorem dX0_trip_45 : decode cX0_trip 45 = .ok (.iload_n 1, 1) := by decide +kernel
theorem dX0_trip_46 : decode cX0_trip 46 = .ok (.iastore, 1) := by decide +kernel
theorem dX0_trip_47 : decode cX0_trip 47 = .ok (.aload_n 0, 1) := by decide +kernel
theorem dX0_trip_48 : decode cX0_trip 48 = .ok (.getfield 22, 3) := by decide +kernel
theorem dX0_trip_51 : decode cX0_trip 51 = .ok (.aload_n 0, 1) := by decide +kernel
theorem dX0_trip_52 : decode cX0_trip 52 = .ok (.getfield 45, 3) := by decide +kernel
theorem dX0_trip_55 : decode cX0_trip 55 = .ok (.iload_n 2, 1) := by decide +kernel
theorem dX0_trip_56 : decode cX0_trip 56 = .ok (.iastore, 1) := by decide +kernel
theorem dX0_trip_57 : decode cX0_trip 57 = .ok (.aload_n 0, 1) := by decide +kernel
theorem dX0_trip_58 : decode cX0_trip 58 = .ok (.dup, 1) := by decide +kernel
theorem dX0_trip_59 : decode cX0_trip 59 = .ok (.getfield 45, 3) := by decide +kernel
theorem dX0_trip_62 : decode cX0_trip 62 = .ok (.iconst 1, 1) := by decide +kernel
theorem dX0_trip_63 : decode cX0_trip 63 = .ok (.iadd, 1) := by decide +kernel
theorem dX0_trip_64 : decode cX0_trip 64 = .ok (.putfield 45, 3) := by decide +kernel
theorem dX0_trip_67 : decode cX0_trip 67 = .ok (.aload_n 0, 1) := by decide +kernel
theorem dX0_trip_68 : decode cX0_trip 68 = .ok (.getfield 45, 3) := by decide +kernel
theorem dX0_trip_71 : decode cX0_trip 71 = .ok (.iconst 1, 1) := by decide +kernel
theorem dX0_trip_72 : decode cX0_trip 72 = .ok (.isub, 1) := by decide +kernel
theorem dX0_trip_73 : decode cX0_trip 73 = .ok (.ireturn, 1) := by decide +kernel
theorem dX0_footpath_0 : decode cX0_footpath 0 = .ok (.iload_n 1, 1) := by decide +kernel
theorem dX0_footpath_1 : decode cX0_footpath 1 = .ok (.invokestatic 41, 3) := by decide +kernel
theorem dX0_footpath_4 : decode cX0_footpath 4 = .ok (.ifCond .ne 15, 3) := by decide +kernel
theorem dX0_footpath_7 : decode cX0_footpath 7 = .ok (.iload_n 2, 1) := by decide +kernel
theorem dX0_footpath_8 : decode cX0_footpath 8 = .ok (.invokestatic 41, 3) := by decide +kernel
theorem dX0_footpath_11 : decode cX0_footpath 11 = .ok (.ifCond .ne 8, 3) := by decide +kernel
theorem dX0_footpath_14 : decode cX0_footpath 14 = .ok (.iload_n 1, 1) := by decide +kernel
theorem dX0_footpath_15 : decode cX0_footpath 15 = .ok (.iload_n 2, 1) := by decide +kernel
theorem dX0_footpath_16 : decode cX0_footpath 16 = .ok (.if_icmp .ne 5, 3) := by decide +kernel
theorem dX0_footpath_19 : decode cX0_footpath 19 = .ok (.iconst (-1), 1) := by decide +kernel
theorem dX0_footpath_20 : decode cX0_footpath 20 = .ok (.ireturn, 1) := by decide +kernel
theorem dX0_footpath_21 : decode cX0_footpath 21 = .ok (.iload_n 3, 1) := by decide +kernel
theorem dX0_footpath_22 : decode cX0_footpath 22 = .ok (.ifCond .lt 9, 3) := by decide +kernel
theorem dX0_footpath_25 : decode cX0_footpath 25 = .ok (.iload_n 3, 1) := by decide +kernel
theorem dX0_footpath_26 : decode cX0_footpath 26 = .ok (.bipush 30, 2) := by decide +kernel
theorem dX0_footpath_28 : decode cX0_footpath 28 = .ok (.if_icmp .le 6, 3) := by decide +kernel
theorem dX0_footpath_31 : decode cX0_footpath 31 = .ok (.bipush (-3), 2) := by decide +kernel
theorem dX0_footpath_33 : decode cX0_footpath 33 = .ok (.ireturn, 1) := by decide +kernel
theorem dX0_footpath_34 : decode cX0_footpath 34 = .ok (.aload_n 0, 1) := by decide +kernel
theorem dX0_footpath_35 : decode cX0_footpath 35 = .ok (.getfield 25, 3) := by decide +kernel
theorem dX0_footpath_38 : decode cX0_footpath 38 = .ok (.iload_n 1, 1) := by decide +kernel
theorem dX0_footpath_39 : decode cX0_footpath 39 = .ok (.bipush 8, 2) := by decide +kernel
theorem dX0_footpath_41 : decode cX0_footpath 41 = .ok (.imul, 1) := by decide +kernel
theorem dX0_footpath_42 : decode cX0_footpath 42 = .ok (.iload_n 2, 1) := by decide +kernel
theorem dX0_footpath_43 : decode cX0_footpath 43 = .ok (.iadd, 1) := by decide +kernel
theorem dX0_footpath_44 : decode cX0_footpath 44 = .ok (.iaload, 1) := by decide +kernel
theorem dX0_footpath_45 : decode cX0_footpath 45 = .ok (.istore 4, 2) := by decide +kernel
theorem dX0_footpath_47 : decode cX0_footpath 47 = .ok (.aload_n 0, 1) := by decide +kernel
theorem dX0_footpath_48 : decode cX0_footpath 48 = .ok (.getfield 25, 3) := by decide +kernel
theorem dX0_footpath_51 : decode cX0_footpath 51 = .ok (.iload_n 1, 1) := by decide +kernel
theorem dX0_footpath_52 : decode cX0_footpath 52 = .ok (.bipush 8, 2) := by decide +kernel
theorem dX0_footpath_54 : decode cX0_footpath 54 = .ok (.imul, 1) := by decide +kernel
theorem dX0_footpath_55 : decode cX0_footpath 55 = .ok (.iload_n 2, 1) := by decide +kernel
theorem dX0_footpath_56 : decode cX0_footpath 56 = .ok (.iadd, 1) := by decide +kernel
theorem dX0_footpath_57 : decode cX0_footpath 57 = .ok (.iload_n 3, 1) := by decide +kernel
theorem dX0_footpath_58 : decode cX0_footpath 58 = .ok (.iastore, 1) := by decide +kernel
theorem dX0_footpath_59 : decode cX0_footpath 59 = .ok (.aload_n 0, 1) := by decide +kernel
theorem dX0_footpath_60 : decode cX0_footpath 60 = .ok (.getfield 25, 3) := by decide +kernel
theorem dX0_footpath_63 : decode cX0_footpath 63 = .ok (.iload_n 2, 1) := by decide +kernel
theorem dX0_footpath_64 : decode cX0_footpath 64 = .ok (.bipush 8, 2) := by decide +kernel
theorem dX0_footpath_66 : decode cX0_footpath 66 = .ok (.imul, 1) := by decide +kernel
theorem dX0_footpath_67 : decode cX0_footpath 67 = .ok (.iload_n 1, 1) := by decide +kernel
theorem dX0_footpath_68 : decode cX0_footpath 68 = .ok (.iadd, 1) := by decide +kernel
theorem dX0_footpath_69 : decode cX0_footpath 69 = .ok (.iload_n 3, 1) := by decide +kernel
theorem dX0_footpath_70 : decode cX0_footpath 70 = .ok (.iastore, 1) := by decide +kernel
theorem dX0_footpath_71 : decode cX0_footpath 71 = .ok (.iload 4, 2) := by decide +kernel
theorem dX0_footpath_73 : decode cX0_footpath 73 = .ok (.ireturn, 1) := by decide +kernel
theorem dX0_delay_0 : decode cX0_delay 0 = .ok (.iload_n 1, 1) := by decide +kernel
theorem dX0_delay_1 : decode cX0_delay 1 = .ok (.ifCond .lt 11, 3) := by decide +kernel
theorem dX0_delay_4 : decode cX0_delay 4 = .ok (.iload_n 1, 1) := by decide +kernel
theorem dX0_delay_5 : decode cX0_delay 5 = .ok (.aload_n 0, 1) := by decide +kernel
theorem dX0_delay_6 : decode cX0_delay 6 = .ok (.getfield 45, 3) := by decide +kernel
theorem dX0_delay_9 : decode cX0_delay 9 = .ok (.if_icmp .lt 6, 3) := by decide +kernel
theorem dX0_delay_12 : decode cX0_delay 12 = .ok (.bipush (-2), 2) := by decide +kernel
theorem dX0_delay_14 : decode cX0_delay 14 = .ok (.ireturn, 1) := by decide +kernel
theorem dX0_delay_15 : decode cX0_delay 15 = .ok (.iload_n 2, 1) := by decide +kernel
theorem dX0_delay_16 : decode cX0_delay 16 = .ok (.ifCond .lt 10, 3) := by decide +kernel
theorem dX0_delay_19 : decode cX0_delay 19 = .ok (.iload_n 2, 1) := by decide +kernel
theorem dX0_delay_20 : decode cX0_delay 20 = .ok (.sipush 500, 3) := by decide +kernel
theorem dX0_delay_23 : decode cX0_delay 23 = .ok (.if_icmp .le 6, 3) := by decide +kernel
theorem dX0_delay_26 : decode cX0_delay 26 = .ok (.bipush (-3), 2) := by decide +kernel
theorem dX0_delay_28 : decode cX0_delay 28 = .ok (.ireturn, 1) := by decide +kernel
theorem dX0_delay_29 : decode cX0_delay 29 = .ok (.aload_n 0, 1) := by decide +kernel
theorem dX0_delay_30 : decode cX0_delay 30 = .ok (.getfield 22, 3) := by decide +kernel
theorem dX0_delay_33 : decode cX0_delay 33 = .ok (.iload_n 1, 1) := by decide +kernel
theorem dX0_delay_34 : decode cX0_delay 34 = .ok (.iaload, 1) := by decide +kernel
theorem dX0_delay_35 : decode cX0_delay 35 = .ok (.istore_n 3, 1) := by decide +kernel
theorem dX0_delay_36 : decode cX0_delay 36 = .ok (.aload_n 0, 1) := by decide +kernel
theorem dX0_delay_37 : decode cX0_delay 37 = .ok (.getfield 22, 3) := by decide +kernel
theorem dX0_delay_40 : decode cX0_delay 40 = .ok (.iload_n 1, 1) := by decide +kernel
theorem dX0_delay_41 : decode cX0_delay 41 = .ok (.iload_n 2, 1) := by decide +kernel
theorem dX0_delay_42 : decode cX0_delay 42 = .ok (.iastore, 1) := by decide +kernel
theorem dX0_delay_43 : decode cX0_delay 43 = .ok (.iload_n 3, 1) := by decide +kernel
theorem dX0_delay_44 : decode cX0_delay 44 = .ok (.ireturn, 1) := by decide +kernel
theorem dX0_earliest_0 : decode cX0_earliest 0 = .ok (.aload_n 0, 1) := by decide +kernel
theorem dX0_earliest_1 : decode cX0_earliest 1 = .ok (.iload_n 1, 1) := by decide +kernel
theorem dX0_earliest_2 : decode cX0_earliest 2 = .ok (.iload_n 2, 1) := by decide +kernel
theorem dX0_earliest_3 : decode cX0_earliest 3 = .ok (.iload_n 3, 1) := by decide +kernel
theorem dX0_earliest_4 : decode cX0_earliest 4 = .ok (.invokevirtual 89, 3) := by decide +kernel
theorem dX0_earliest_7 : decode cX0_earliest 7 = .ok (.istore 4, 2) := by decide +kernel
theorem dX0_earliest_9 : decode cX0_earliest 9 = .ok (.iload 4, 2) := by decide +kernel
theorem dX0_earliest_11 : decode cX0_earliest 11 = .ok (.ifCond .eq 6, 3) := by decide +kernel
theorem dX0_earliest_14 : decode cX0_earliest 14 = .ok (.iload 4, 2) := by decide +kernel
theorem dX0_earliest_16 : decode cX0_earliest 16 = .ok (.ireturn, 1) := by decide +kernel
theorem dX0_earliest_17 : decode cX0_earliest 17 = .ok (.aload_n 0, 1) := by decide +kernel
theorem dX0_earliest_18 : decode cX0_earliest 18 = .ok (.iload_n 1, 1) := by decide +kernel
theorem dX0_earliest_19 : decode cX0_earliest 19 = .ok (.iload_n 3, 1) := by decide +kernel
theorem dX0_earliest_20 : decode cX0_earliest 20 = .ok (.bipush 12, 2) := by decide +kernel
theorem dX0_earliest_22 : decode cX0_earliest 22 = .ok (.invokevirtual 92, 3) := by decide +kernel
theorem dX0_earliest_25 : decode cX0_earliest 25 = .ok (.aload_n 0, 1) := by decide +kernel
theorem dX0_earliest_26 : decode cX0_earliest 26 = .ok (.iload_n 2, 1) := by decide +kernel
theorem dX0_earliest_27 : decode cX0_earliest 27 = .ok (.invokevirtual 96, 3) := by decide +kernel
theorem dX0_earliest_30 : decode cX0_earliest 30 = .ok (.ireturn, 1) := by decide +kernel
theorem dX0_refusal_0 : decode cX0_refusal 0 = .ok (.iload_n 1, 1) := by decide +kernel
theorem dX0_refusal_1 : decode cX0_refusal 1 = .ok (.invokestatic 41, 3) := by decide +kernel
theorem dX0_refusal_4 : decode cX0_refusal 4 = .ok (.ifCond .ne 10, 3) := by decide +kernel
theorem dX0_refusal_7 : decode cX0_refusal 7 = .ok (.iload_n 2, 1) := by decide +kernel
theorem dX0_refusal_8 : decode cX0_refusal 8 = .ok (.invokestatic 41, 3) := by decide +kernel
theorem dX0_refusal_11 : decode cX0_refusal 11 = .ok (.ifCond .eq 5, 3) := by decide +kernel
theorem dX0_refusal_14 : decode cX0_refusal 14 = .ok (.iconst (-1), 1) := by decide +kernel
theorem dX0_refusal_15 : decode cX0_refusal 15 = .ok (.ireturn, 1) := by decide +kernel
theorem dX0_refusal_16 : decode cX0_refusal 16 = .ok (.iload_n 3, 1) := by decide +kernel
theorem dX0_refusal_17 : decode cX0_refusal 17 = .ok (.invokestatic 86, 3) := by decide +kernel
theorem dX0_refusal_20 : decode cX0_refusal 20 = .ok (.ifCond .eq 8, 3) := by decide +kernel
theorem dX0_refusal_23 : decode cX0_refusal 23 = .ok (.bipush (-3), 2) := by decide +kernel
theorem dX0_refusal_25 : decode cX0_refusal 25 = .ok (.goto 4, 3) := by decide +kernel
theorem dX0_refusal_28 : decode cX0_refusal 28 = .ok (.iconst 0, 1) := by decide +kernel
theorem dX0_refusal_29 : decode cX0_refusal 29 = .ok (.ireturn, 1) := by decide +kernel
theorem dX0_badTime_0 : decode cX0_badTime 0 = .ok (.iload_n 0, 1) := by decide +kernel
theorem dX0_badTime_1 : decode cX0_badTime 1 = .ok (.ifCond .lt 10, 3) := by decide +kernel
theorem dX0_badTime_4 : decode cX0_badTime 4 = .ok (.iload_n 0, 1) := by decide +kernel
end
section
set_option maxRecDepth 100000
theorem dX0_badTime_5 : decode cX0_badTime 5 = .ok (.sipush 1000, 3) := by decide +kernel
theorem dX0_badTime_8 : decode cX0_badTime 8 = .ok (.if_icmp .le 7, 3) := by decide +kernel
theorem dX0_badTime_11 : decode cX0_badTime 11 = .ok (.iconst 1, 1) := by decide +kernel
theorem dX0_badTime_12 : decode cX0_badTime 12 = .ok (.goto 4, 3) := by decide +kernel
theorem dX0_badTime_15 : decode cX0_badTime 15 = .ok (.iconst 0, 1) := by decide +kernel
theorem dX0_badTime_16 : decode cX0_badTime 16 = .ok (.ireturn, 1) := by decide +kernel
theorem dX0_plan_0 : decode cX0_plan 0 = .ok (.aload_n 0, 1) := by decide +kernel
theorem dX0_plan_1 : decode cX0_plan 1 = .ok (.iload_n 1, 1) := by decide +kernel
theorem dX0_plan_2 : decode cX0_plan 2 = .ok (.iload_n 2, 1) := by decide +kernel
theorem dX0_plan_3 : decode cX0_plan 3 = .ok (.invokevirtual 69, 3) := by decide +kernel
theorem dX0_plan_6 : decode cX0_plan 6 = .ok (.iconst 0, 1) := by decide +kernel
theorem dX0_plan_7 : decode cX0_plan 7 = .ok (.istore 4, 2) := by decide +kernel
theorem dX0_plan_9 : decode cX0_plan 9 = .ok (.iload 4, 2) := by decide +kernel
theorem dX0_plan_11 : decode cX0_plan 11 = .ok (.iload_n 3, 1) := by decide +kernel
theorem dX0_plan_12 : decode cX0_plan 12 = .ok (.if_icmp .ge 20, 3) := by decide +kernel
theorem dX0_plan_15 : decode cX0_plan 15 = .ok (.aload_n 0, 1) := by decide +kernel
theorem dX0_plan_16 : decode cX0_plan 16 = .ok (.getfield 55, 3) := by decide +kernel
theorem dX0_plan_19 : decode cX0_plan 19 = .ok (.ifCond .eq 13, 3) := by decide +kernel
theorem dX0_plan_22 : decode cX0_plan 22 = .ok (.aload_n 0, 1) := by decide +kernel
theorem dX0_plan_23 : decode cX0_plan 23 = .ok (.invokevirtual 73, 3) := by decide +kernel
theorem dX0_plan_26 : decode cX0_plan 26 = .ok (.iinc 4 1, 3) := by decide +kernel
theorem dX0_plan_29 : decode cX0_plan 29 = .ok (.goto (-20), 3) := by decide +kernel
theorem dX0_plan_32 : decode cX0_plan 32 = .ok (.return_, 1) := by decide +kernel
theorem dX0_begin_0 : decode cX0_begin 0 = .ok (.iconst 0, 1) := by decide +kernel
theorem dX0_begin_1 : decode cX0_begin 1 = .ok (.istore_n 3, 1) := by decide +kernel
theorem dX0_begin_2 : decode cX0_begin 2 = .ok (.iload_n 3, 1) := by decide +kernel
theorem dX0_begin_3 : decode cX0_begin 3 = .ok (.bipush 8, 2) := by decide +kernel
theorem dX0_begin_5 : decode cX0_begin 5 = .ok (.if_icmp .ge 25, 3) := by decide +kernel
theorem dX0_begin_8 : decode cX0_begin 8 = .ok (.aload_n 0, 1) := by decide +kernel
theorem dX0_begin_9 : decode cX0_begin 9 = .ok (.getfield 28, 3) := by decide +kernel
theorem dX0_begin_12 : decode cX0_begin 12 = .ok (.iload_n 3, 1) := by decide +kernel
theorem dX0_begin_13 : decode cX0_begin 13 = .ok (.ldc 54, 2) := by decide +kernel
theorem dX0_begin_15 : decode cX0_begin 15 = .ok (.iastore, 1) := by decide +kernel
theorem dX0_begin_16 : decode cX0_begin 16 = .ok (.aload_n 0, 1) := by decide +kernel
theorem dX0_begin_17 : decode cX0_begin 17 = .ok (.getfield 31, 3) := by decide +kernel
theorem dX0_begin_20 : decode cX0_begin 20 = .ok (.iload_n 3, 1) := by decide +kernel
theorem dX0_begin_21 : decode cX0_begin 21 = .ok (.ldc 54, 2) := by decide +kernel
theorem dX0_begin_23 : decode cX0_begin 23 = .ok (.iastore, 1) := by decide +kernel
theorem dX0_begin_24 : decode cX0_begin 24 = .ok (.iinc 3 1, 3) := by decide +kernel
theorem dX0_begin_27 : decode cX0_begin 27 = .ok (.goto (-25), 3) := by decide +kernel
theorem dX0_begin_30 : decode cX0_begin 30 = .ok (.aload_n 0, 1) := by decide +kernel
theorem dX0_begin_31 : decode cX0_begin 31 = .ok (.getfield 28, 3) := by decide +kernel
theorem dX0_begin_34 : decode cX0_begin 34 = .ok (.iload_n 1, 1) := by decide +kernel
theorem dX0_begin_35 : decode cX0_begin 35 = .ok (.iload_n 2, 1) := by decide +kernel
theorem dX0_begin_36 : decode cX0_begin 36 = .ok (.iastore, 1) := by decide +kernel
theorem dX0_begin_37 : decode cX0_begin 37 = .ok (.aload_n 0, 1) := by decide +kernel
theorem dX0_begin_38 : decode cX0_begin 38 = .ok (.invokevirtual 62, 3) := by decide +kernel
theorem dX0_begin_41 : decode cX0_begin 41 = .ok (.return_, 1) := by decide +kernel
theorem dX0_walkOn_0 : decode cX0_walkOn 0 = .ok (.aload_n 0, 1) := by decide +kernel
theorem dX0_walkOn_1 : decode cX0_walkOn 1 = .ok (.iconst 0, 1) := by decide +kernel
theorem dX0_walkOn_2 : decode cX0_walkOn 2 = .ok (.putfield 55, 3) := by decide +kernel
theorem dX0_walkOn_5 : decode cX0_walkOn 5 = .ok (.iconst 0, 1) := by decide +kernel
theorem dX0_walkOn_6 : decode cX0_walkOn 6 = .ok (.istore_n 1, 1) := by decide +kernel
theorem dX0_walkOn_7 : decode cX0_walkOn 7 = .ok (.iload_n 1, 1) := by decide +kernel
theorem dX0_walkOn_8 : decode cX0_walkOn 8 = .ok (.bipush 8, 2) := by decide +kernel
theorem dX0_walkOn_10 : decode cX0_walkOn 10 = .ok (.if_icmp .ge 100, 3) := by decide +kernel
theorem dX0_walkOn_13 : decode cX0_walkOn 13 = .ok (.aload_n 0, 1) := by decide +kernel
theorem dX0_walkOn_14 : decode cX0_walkOn 14 = .ok (.getfield 28, 3) := by decide +kernel
theorem dX0_walkOn_17 : decode cX0_walkOn 17 = .ok (.iload_n 1, 1) := by decide +kernel
theorem dX0_walkOn_18 : decode cX0_walkOn 18 = .ok (.iaload, 1) := by decide +kernel
theorem dX0_walkOn_19 : decode cX0_walkOn 19 = .ok (.istore_n 2, 1) := by decide +kernel
theorem dX0_walkOn_20 : decode cX0_walkOn 20 = .ok (.iconst 0, 1) := by decide +kernel
theorem dX0_walkOn_21 : decode cX0_walkOn 21 = .ok (.istore_n 3, 1) := by decide +kernel
theorem dX0_walkOn_22 : decode cX0_walkOn 22 = .ok (.iload_n 3, 1) := by decide +kernel
theorem dX0_walkOn_23 : decode cX0_walkOn 23 = .ok (.bipush 8, 2) := by decide +kernel
theorem dX0_walkOn_25 : decode cX0_walkOn 25 = .ok (.if_icmp .ge 50, 3) := by decide +kernel
theorem dX0_walkOn_28 : decode cX0_walkOn 28 = .ok (.aload_n 0, 1) := by decide +kernel
theorem dX0_walkOn_29 : decode cX0_walkOn 29 = .ok (.getfield 25, 3) := by decide +kernel
theorem dX0_walkOn_32 : decode cX0_walkOn 32 = .ok (.iload_n 3, 1) := by decide +kernel
theorem dX0_walkOn_33 : decode cX0_walkOn 33 = .ok (.bipush 8, 2) := by decide +kernel
theorem dX0_walkOn_35 : decode cX0_walkOn 35 = .ok (.imul, 1) := by decide +kernel
theorem dX0_walkOn_36 : decode cX0_walkOn 36 = .ok (.iload_n 1, 1) := by decide +kernel
theorem dX0_walkOn_37 : decode cX0_walkOn 37 = .ok (.iadd, 1) := by decide +kernel
theorem dX0_walkOn_38 : decode cX0_walkOn 38 = .ok (.iaload, 1) := by decide +kernel
theorem dX0_walkOn_39 : decode cX0_walkOn 39 = .ok (.istore 4, 2) := by decide +kernel
theorem dX0_walkOn_41 : decode cX0_walkOn 41 = .ok (.iload 4, 2) := by decide +kernel
theorem dX0_walkOn_43 : decode cX0_walkOn 43 = .ok (.ifCond .le 26, 3) := by decide +kernel
theorem dX0_walkOn_46 : decode cX0_walkOn 46 = .ok (.aload_n 0, 1) := by decide +kernel
theorem dX0_walkOn_47 : decode cX0_walkOn 47 = .ok (.getfield 28, 3) := by decide +kernel
theorem dX0_walkOn_50 : decode cX0_walkOn 50 = .ok (.iload_n 3, 1) := by decide +kernel
theorem dX0_walkOn_51 : decode cX0_walkOn 51 = .ok (.iaload, 1) := by decide +kernel
theorem dX0_walkOn_52 : decode cX0_walkOn 52 = .ok (.iload 4, 2) := by decide +kernel
theorem dX0_walkOn_54 : decode cX0_walkOn 54 = .ok (.iadd, 1) := by decide +kernel
theorem dX0_walkOn_55 : decode cX0_walkOn 55 = .ok (.iload_n 2, 1) := by decide +kernel
theorem dX0_walkOn_56 : decode cX0_walkOn 56 = .ok (.if_icmp .ge 13, 3) := by decide +kernel
theorem dX0_walkOn_59 : decode cX0_walkOn 59 = .ok (.aload_n 0, 1) := by decide +kernel
theorem dX0_walkOn_60 : decode cX0_walkOn 60 = .ok (.getfield 28, 3) := by decide +kernel
theorem dX0_walkOn_63 : decode cX0_walkOn 63 = .ok (.iload_n 3, 1) := by decide +kernel
theorem dX0_walkOn_64 : decode cX0_walkOn 64 = .ok (.iaload, 1) := by decide +kernel
theorem dX0_walkOn_65 : decode cX0_walkOn 65 = .ok (.iload 4, 2) := by decide +kernel
theorem dX0_walkOn_67 : decode cX0_walkOn 67 = .ok (.iadd, 1) := by decide +kernel
theorem dX0_walkOn_68 : decode cX0_walkOn 68 = .ok (.istore_n 2, 1) := by decide +kernel
theorem dX0_walkOn_69 : decode cX0_walkOn 69 = .ok (.iinc 3 1, 3) := by decide +kernel
theorem dX0_walkOn_72 : decode cX0_walkOn 72 = .ok (.goto (-50), 3) := by decide +kernel
theorem dX0_walkOn_75 : decode cX0_walkOn 75 = .ok (.iload_n 2, 1) := by decide +kernel
theorem dX0_walkOn_76 : decode cX0_walkOn 76 = .ok (.aload_n 0, 1) := by decide +kernel
theorem dX0_walkOn_77 : decode cX0_walkOn 77 = .ok (.getfield 31, 3) := by decide +kernel
theorem dX0_walkOn_80 : decode cX0_walkOn 80 = .ok (.iload_n 1, 1) := by decide +kernel
theorem dX0_walkOn_81 : decode cX0_walkOn 81 = .ok (.iaload, 1) := by decide +kernel
theorem dX0_walkOn_82 : decode cX0_walkOn 82 = .ok (.if_icmp .ge 22, 3) := by decide +kernel
theorem dX0_walkOn_85 : decode cX0_walkOn 85 = .ok (.aload_n 0, 1) := by decide +kernel
theorem dX0_walkOn_86 : decode cX0_walkOn 86 = .ok (.getfield 31, 3) := by decide +kernel
theorem dX0_walkOn_89 : decode cX0_walkOn 89 = .ok (.iload_n 1, 1) := by decide +kernel
theorem dX0_walkOn_90 : decode cX0_walkOn 90 = .ok (.iload_n 2, 1) := by decide +kernel
theorem dX0_walkOn_91 : decode cX0_walkOn 91 = .ok (.iastore, 1) := by decide +kernel
theorem dX0_walkOn_92 : decode cX0_walkOn 92 = .ok (.aload_n 0, 1) := by decide +kernel
theorem dX0_walkOn_93 : decode cX0_walkOn 93 = .ok (.dup, 1) := by decide +kernel
theorem dX0_walkOn_94 : decode cX0_walkOn 94 = .ok (.getfield 55, 3) := by decide +kernel
theorem dX0_walkOn_97 : decode cX0_walkOn 97 = .ok (.iconst 1, 1) := by decide +kernel
theorem dX0_walkOn_98 : decode cX0_walkOn 98 = .ok (.iload_n 1, 1) := by decide +kernel
theorem dX0_walkOn_99 : decode cX0_walkOn 99 = .ok (.ishl, 1) := by decide +kernel
theorem dX0_walkOn_100 : decode cX0_walkOn 100 = .ok (.ior, 1) := by decide +kernel
theorem dX0_walkOn_101 : decode cX0_walkOn 101 = .ok (.putfield 55, 3) := by decide +kernel
theorem dX0_walkOn_104 : decode cX0_walkOn 104 = .ok (.iinc 1 1, 3) := by decide +kernel
theorem dX0_walkOn_107 : decode cX0_walkOn 107 = .ok (.goto (-100), 3) := by decide +kernel
theorem dX0_walkOn_110 : decode cX0_walkOn 110 = .ok (.return_, 1) := by decide +kernel
theorem dX0_nextRound_0 : decode cX0_nextRound 0 = .ok (.iconst 0, 1) := by decide +kernel
theorem dX0_nextRound_1 : decode cX0_nextRound 1 = .ok (.istore_n 1, 1) := by decide +kernel
theorem dX0_nextRound_2 : decode cX0_nextRound 2 = .ok (.iload_n 1, 1) := by decide +kernel
theorem dX0_nextRound_3 : decode cX0_nextRound 3 = .ok (.bipush 8, 2) := by decide +kernel
theorem dX0_nextRound_5 : decode cX0_nextRound 5 = .ok (.if_icmp .ge 29, 3) := by decide +kernel
theorem dX0_nextRound_8 : decode cX0_nextRound 8 = .ok (.aload_n 0, 1) := by decide +kernel
theorem dX0_nextRound_9 : decode cX0_nextRound 9 = .ok (.getfield 34, 3) := by decide +kernel
theorem dX0_nextRound_12 : decode cX0_nextRound 12 = .ok (.iload_n 1, 1) := by decide +kernel
theorem dX0_nextRound_13 : decode cX0_nextRound 13 = .ok (.aload_n 0, 1) := by decide +kernel
theorem dX0_nextRound_14 : decode cX0_nextRound 14 = .ok (.getfield 31, 3) := by decide +kernel
theorem dX0_nextRound_17 : decode cX0_nextRound 17 = .ok (.iload_n 1, 1) := by decide +kernel
theorem dX0_nextRound_18 : decode cX0_nextRound 18 = .ok (.iaload, 1) := by decide +kernel
theorem dX0_nextRound_19 : decode cX0_nextRound 19 = .ok (.iastore, 1) := by decide +kernel
theorem dX0_nextRound_20 : decode cX0_nextRound 20 = .ok (.aload_n 0, 1) := by decide +kernel
theorem dX0_nextRound_21 : decode cX0_nextRound 21 = .ok (.getfield 28, 3) := by decide +kernel
theorem dX0_nextRound_24 : decode cX0_nextRound 24 = .ok (.iload_n 1, 1) := by decide +kernel
theorem dX0_nextRound_25 : decode cX0_nextRound 25 = .ok (.ldc 54, 2) := by decide +kernel
theorem dX0_nextRound_27 : decode cX0_nextRound 27 = .ok (.iastore, 1) := by decide +kernel
theorem dX0_nextRound_28 : decode cX0_nextRound 28 = .ok (.iinc 1 1, 3) := by decide +kernel
theorem dX0_nextRound_31 : decode cX0_nextRound 31 = .ok (.goto (-29), 3) := by decide +kernel
theorem dX0_nextRound_34 : decode cX0_nextRound 34 = .ok (.iconst 0, 1) := by decide +kernel
theorem dX0_nextRound_35 : decode cX0_nextRound 35 = .ok (.istore_n 1, 1) := by decide +kernel
theorem dX0_nextRound_36 : decode cX0_nextRound 36 = .ok (.iload_n 1, 1) := by decide +kernel
theorem dX0_nextRound_37 : decode cX0_nextRound 37 = .ok (.aload_n 0, 1) := by decide +kernel
theorem dX0_nextRound_38 : decode cX0_nextRound 38 = .ok (.getfield 37, 3) := by decide +kernel
theorem dX0_nextRound_41 : decode cX0_nextRound 41 = .ok (.if_icmp .ge 14, 3) := by decide +kernel
theorem dX0_nextRound_44 : decode cX0_nextRound 44 = .ok (.aload_n 0, 1) := by decide +kernel
theorem dX0_nextRound_45 : decode cX0_nextRound 45 = .ok (.iload_n 1, 1) := by decide +kernel
theorem dX0_nextRound_46 : decode cX0_nextRound 46 = .ok (.invokevirtual 65, 3) := by decide +kernel
theorem dX0_nextRound_49 : decode cX0_nextRound 49 = .ok (.iinc 1 1, 3) := by decide +kernel
theorem dX0_nextRound_52 : decode cX0_nextRound 52 = .ok (.goto (-16), 3) := by decide +kernel
theorem dX0_nextRound_55 : decode cX0_nextRound 55 = .ok (.aload_n 0, 1) := by decide +kernel
theorem dX0_nextRound_56 : decode cX0_nextRound 56 = .ok (.invokevirtual 62, 3) := by decide +kernel
theorem dX0_nextRound_59 : decode cX0_nextRound 59 = .ok (.return_, 1) := by decide +kernel
theorem dX0_rideLine_0 : decode cX0_rideLine 0 = .ok (.ldc 54, 2) := by decide +kernel
theorem dX0_rideLine_2 : decode cX0_rideLine 2 = .ok (.istore_n 2, 1) := by decide +kernel
theorem dX0_rideLine_3 : decode cX0_rideLine 3 = .ok (.iconst 0, 1) := by decide +kernel
theorem dX0_rideLine_4 : decode cX0_rideLine 4 = .ok (.istore_n 3, 1) := by decide +kernel
theorem dX0_rideLine_5 : decode cX0_rideLine 5 = .ok (.iload_n 3, 1) := by decide +kernel
theorem dX0_rideLine_6 : decode cX0_rideLine 6 = .ok (.aload_n 0, 1) := by decide +kernel
theorem dX0_rideLine_7 : decode cX0_rideLine 7 = .ok (.getfield 7, 3) := by decide +kernel
theorem dX0_rideLine_10 : decode cX0_rideLine 10 = .ok (.iload_n 1, 1) := by decide +kernel
theorem dX0_rideLine_11 : decode cX0_rideLine 11 = .ok (.iaload, 1) := by decide +kernel
theorem dX0_rideLine_12 : decode cX0_rideLine 12 = .ok (.if_icmp .ge 131, 3) := by decide +kernel
theorem dX0_rideLine_15 : decode cX0_rideLine 15 = .ok (.aload_n 0, 1) := by decide +kernel
theorem dX0_rideLine_16 : decode cX0_rideLine 16 = .ok (.getfield 13, 3) := by decide +kernel
theorem dX0_rideLine_19 : decode cX0_rideLine 19 = .ok (.iload_n 1, 1) := by decide +kernel
theorem dX0_rideLine_20 : decode cX0_rideLine 20 = .ok (.bipush 6, 2) := by decide +kernel
theorem dX0_rideLine_22 : decode cX0_rideLine 22 = .ok (.imul, 1) := by decide +kernel
theorem dX0_rideLine_23 : decode cX0_rideLine 23 = .ok (.iload_n 3, 1) := by decide +kernel
theorem dX0_rideLine_24 : decode cX0_rideLine 24 = .ok (.iadd, 1) := by decide +kernel
theorem dX0_rideLine_25 : decode cX0_rideLine 25 = .ok (.iaload, 1) := by decide +kernel
theorem dX0_rideLine_26 : decode cX0_rideLine 26 = .ok (.istore 4, 2) := by decide +kernel
theorem dX0_rideLine_28 : decode cX0_rideLine 28 = .ok (.iload_n 2, 1) := by decide +kernel
theorem dX0_rideLine_29 : decode cX0_rideLine 29 = .ok (.aload_n 0, 1) := by decide +kernel
theorem dX0_rideLine_30 : decode cX0_rideLine 30 = .ok (.getfield 16, 3) := by decide +kernel
theorem dX0_rideLine_33 : decode cX0_rideLine 33 = .ok (.iload_n 1, 1) := by decide +kernel
theorem dX0_rideLine_34 : decode cX0_rideLine 34 = .ok (.bipush 6, 2) := by decide +kernel
theorem dX0_rideLine_36 : decode cX0_rideLine 36 = .ok (.imul, 1) := by decide +kernel
theorem dX0_rideLine_37 : decode cX0_rideLine 37 = .ok (.iload_n 3, 1) := by decide +kernel
theorem dX0_rideLine_38 : decode cX0_rideLine 38 = .ok (.iadd, 1) := by decide +kernel
theorem dX0_rideLine_39 : decode cX0_rideLine 39 = .ok (.iaload, 1) := by decide +kernel
theorem dX0_rideLine_40 : decode cX0_rideLine 40 = .ok (.iadd, 1) := by decide +kernel
theorem dX0_rideLine_41 : decode cX0_rideLine 41 = .ok (.istore 5, 2) := by decide +kernel
theorem dX0_rideLine_43 : decode cX0_rideLine 43 = .ok (.iload_n 2, 1) := by decide +kernel
theorem dX0_rideLine_44 : decode cX0_rideLine 44 = .ok (.ldc 54, 2) := by decide +kernel
theorem dX0_rideLine_46 : decode cX0_rideLine 46 = .ok (.if_icmp .ge 24, 3) := by decide +kernel
theorem dX0_rideLine_49 : decode cX0_rideLine 49 = .ok (.iload 5, 2) := by decide +kernel
theorem dX0_rideLine_51 : decode cX0_rideLine 51 = .ok (.aload_n 0, 1) := by decide +kernel
theorem dX0_rideLine_52 : decode cX0_rideLine 52 = .ok (.getfield 28, 3) := by decide +kernel
theorem dX0_rideLine_55 : decode cX0_rideLine 55 = .ok (.iload 4, 2) := by decide +kernel
theorem dX0_rideLine_57 : decode cX0_rideLine 57 = .ok (.iaload, 1) := by decide +kernel
theorem dX0_rideLine_58 : decode cX0_rideLine 58 = .ok (.if_icmp .ge 12, 3) := by decide +kernel
theorem dX0_rideLine_61 : decode cX0_rideLine 61 = .ok (.aload_n 0, 1) := by decide +kernel
theorem dX0_rideLine_62 : decode cX0_rideLine 62 = .ok (.getfield 28, 3) := by decide +kernel
theorem dX0_rideLine_65 : decode cX0_rideLine 65 = .ok (.iload 4, 2) := by decide +kernel
theorem dX0_rideLine_67 : decode cX0_rideLine 67 = .ok (.iload 5, 2) := by decide +kernel
theorem dX0_rideLine_69 : decode cX0_rideLine 69 = .ok (.iastore, 1) := by decide +kernel
theorem dX0_rideLine_70 : decode cX0_rideLine 70 = .ok (.aload_n 0, 1) := by decide +kernel
theorem dX0_rideLine_71 : decode cX0_rideLine 71 = .ok (.getfield 55, 3) := by decide +kernel
theorem dX0_rideLine_74 : decode cX0_rideLine 74 = .ok (.iload 4, 2) := by decide +kernel
theorem dX0_rideLine_76 : decode cX0_rideLine 76 = .ok (.ishr, 1) := by decide +kernel
theorem dX0_rideLine_77 : decode cX0_rideLine 77 = .ok (.iconst 1, 1) := by decide +kernel
theorem dX0_rideLine_78 : decode cX0_rideLine 78 = .ok (.iand, 1) := by decide +kernel
theorem dX0_rideLine_79 : decode cX0_rideLine 79 = .ok (.iconst 1, 1) := by decide +kernel
theorem dX0_rideLine_80 : decode cX0_rideLine 80 = .ok (.if_icmp .ne 7, 3) := by decide +kernel
theorem dX0_rideLine_83 : decode cX0_rideLine 83 = .ok (.iconst 1, 1) := by decide +kernel
theorem dX0_rideLine_84 : decode cX0_rideLine 84 = .ok (.goto 4, 3) := by decide +kernel
theorem dX0_rideLine_87 : decode cX0_rideLine 87 = .ok (.iconst 0, 1) := by decide +kernel
theorem dX0_rideLine_88 : decode cX0_rideLine 88 = .ok (.istore 6, 2) := by decide +kernel
theorem dX0_rideLine_90 : decode cX0_rideLine 90 = .ok (.iload 6, 2) := by decide +kernel
theorem dX0_rideLine_92 : decode cX0_rideLine 92 = .ok (.ifCond .eq 45, 3) := by decide +kernel
theorem dX0_rideLine_95 : decode cX0_rideLine 95 = .ok (.iload_n 2, 1) := by decide +kernel
theorem dX0_rideLine_96 : decode cX0_rideLine 96 = .ok (.ldc 54, 2) := by decide +kernel
theorem dX0_rideLine_98 : decode cX0_rideLine 98 = .ok (.if_icmp .eq 15, 3) := by decide +kernel
theorem dX0_rideLine_101 : decode cX0_rideLine 101 = .ok (.aload_n 0, 1) := by decide +kernel
theorem dX0_rideLine_102 : decode cX0_rideLine 102 = .ok (.getfield 34, 3) := by decide +kernel
theorem dX0_rideLine_105 : decode cX0_rideLine 105 = .ok (.iload 4, 2) := by decide +kernel
theorem dX0_rideLine_107 : decode cX0_rideLine 107 = .ok (.iaload, 1) := by decide +kernel
theorem dX0_rideLine_108 : decode cX0_rideLine 108 = .ok (.iload 5, 2) := by decide +kernel
theorem dX0_rideLine_110 : decode cX0_rideLine 110 = .ok (.if_icmp .ge 27, 3) := by decide +kernel
theorem dX0_rideLine_113 : decode cX0_rideLine 113 = .ok (.aload_n 0, 1) := by decide +kernel
theorem dX0_rideLine_114 : decode cX0_rideLine 114 = .ok (.iload_n 1, 1) := by decide +kernel
theorem dX0_rideLine_115 : decode cX0_rideLine 115 = .ok (.iload_n 3, 1) := by decide +kernel
theorem dX0_rideLine_116 : decode cX0_rideLine 116 = .ok (.aload_n 0, 1) := by decide +kernel
theorem dX0_rideLine_117 : decode cX0_rideLine 117 = .ok (.getfield 34, 3) := by decide +kernel
theorem dX0_rideLine_120 : decode cX0_rideLine 120 = .ok (.iload 4, 2) := by decide +kernel
theorem dX0_rideLine_122 : decode cX0_rideLine 122 = .ok (.iaload, 1) := by decide +kernel
theorem dX0_rideLine_123 : decode cX0_rideLine 123 = .ok (.invokevirtual 58, 3) := by decide +kernel
theorem dX0_rideLine_126 : decode cX0_rideLine 126 = .ok (.istore 7, 2) := by decide +kernel
theorem dX0_rideLine_128 : decode cX0_rideLine 128 = .ok (.iload 7, 2) := by decide +kernel
theorem dX0_rideLine_130 : decode cX0_rideLine 130 = .ok (.iload_n 2, 1) := by decide +kernel
theorem dX0_rideLine_131 : decode cX0_rideLine 131 = .ok (.if_icmp .ge 6, 3) := by decide +kernel
theorem dX0_rideLine_134 : decode cX0_rideLine 134 = .ok (.iload 7, 2) := by decide +kernel
theorem dX0_rideLine_136 : decode cX0_rideLine 136 = .ok (.istore_n 2, 1) := by decide +kernel
theorem dX0_rideLine_137 : decode cX0_rideLine 137 = .ok (.iinc 3 1, 3) := by decide +kernel
theorem dX0_rideLine_140 : decode cX0_rideLine 140 = .ok (.goto (-135), 3) := by decide +kernel
theorem dX0_rideLine_143 : decode cX0_rideLine 143 = .ok (.return_, 1) := by decide +kernel
theorem dX0_catchTrip_0 : decode cX0_catchTrip 0 = .ok (.ldc 54, 2) := by decide +kernel
theorem dX0_catchTrip_2 : decode cX0_catchTrip 2 = .ok (.istore 4, 2) := by decide +kernel
theorem dX0_catchTrip_4 : decode cX0_catchTrip 4 = .ok (.iconst 0, 1) := by decide +kernel
theorem dX0_catchTrip_5 : decode cX0_catchTrip 5 = .ok (.istore 5, 2) := by decide +kernel
theorem dX0_catchTrip_7 : decode cX0_catchTrip 7 = .ok (.iload 5, 2) := by decide +kernel
theorem dX0_catchTrip_9 : decode cX0_catchTrip 9 = .ok (.aload_n 0, 1) := by decide +kernel
theorem dX0_catchTrip_10 : decode cX0_catchTrip 10 = .ok (.getfield 45, 3) := by decide +kernel
theorem dX0_catchTrip_13 : decode cX0_catchTrip 13 = .ok (.if_icmp .ge 64, 3) := by decide +kernel
theorem dX0_catchTrip_16 : decode cX0_catchTrip 16 = .ok (.aload_n 0, 1) := by decide +kernel
theorem dX0_catchTrip_17 : decode cX0_catchTrip 17 = .ok (.getfield 19, 3) := by decide +kernel
theorem dX0_catchTrip_20 : decode cX0_catchTrip 20 = .ok (.iload 5, 2) := by decide +kernel
theorem dX0_catchTrip_22 : decode cX0_catchTrip 22 = .ok (.iaload, 1) := by decide +kernel
theorem dX0_catchTrip_23 : decode cX0_catchTrip 23 = .ok (.iload_n 1, 1) := by decide +kernel
theorem dX0_catchTrip_24 : decode cX0_catchTrip 24 = .ok (.if_icmp .ne 47, 3) := by decide +kernel
theorem dX0_catchTrip_27 : decode cX0_catchTrip 27 = .ok (.aload_n 0, 1) := by decide +kernel
theorem dX0_catchTrip_28 : decode cX0_catchTrip 28 = .ok (.getfield 22, 3) := by decide +kernel
theorem dX0_catchTrip_31 : decode cX0_catchTrip 31 = .ok (.iload 5, 2) := by decide +kernel
theorem dX0_catchTrip_33 : decode cX0_catchTrip 33 = .ok (.iaload, 1) := by decide +kernel
theorem dX0_catchTrip_34 : decode cX0_catchTrip 34 = .ok (.aload_n 0, 1) := by decide +kernel
theorem dX0_catchTrip_35 : decode cX0_catchTrip 35 = .ok (.getfield 16, 3) := by decide +kernel
theorem dX0_catchTrip_38 : decode cX0_catchTrip 38 = .ok (.iload_n 1, 1) := by decide +kernel
theorem dX0_catchTrip_39 : decode cX0_catchTrip 39 = .ok (.bipush 6, 2) := by decide +kernel
theorem dX0_catchTrip_41 : decode cX0_catchTrip 41 = .ok (.imul, 1) := by decide +kernel
theorem dX0_catchTrip_42 : decode cX0_catchTrip 42 = .ok (.iload_n 2, 1) := by decide +kernel
theorem dX0_catchTrip_43 : decode cX0_catchTrip 43 = .ok (.iadd, 1) := by decide +kernel
theorem dX0_catchTrip_44 : decode cX0_catchTrip 44 = .ok (.iaload, 1) := by decide +kernel
theorem dX0_catchTrip_45 : decode cX0_catchTrip 45 = .ok (.iadd, 1) := by decide +kernel
theorem dX0_catchTrip_46 : decode cX0_catchTrip 46 = .ok (.iload_n 3, 1) := by decide +kernel
theorem dX0_catchTrip_47 : decode cX0_catchTrip 47 = .ok (.if_icmp .lt 24, 3) := by decide +kernel
theorem dX0_catchTrip_50 : decode cX0_catchTrip 50 = .ok (.aload_n 0, 1) := by decide +kernel
theorem dX0_catchTrip_51 : decode cX0_catchTrip 51 = .ok (.getfield 22, 3) := by decide +kernel
theorem dX0_catchTrip_54 : decode cX0_catchTrip 54 = .ok (.iload 5, 2) := by decide +kernel
theorem dX0_catchTrip_56 : decode cX0_catchTrip 56 = .ok (.iaload, 1) := by decide +kernel
theorem dX0_catchTrip_57 : decode cX0_catchTrip 57 = .ok (.iload 4, 2) := by decide +kernel
theorem dX0_catchTrip_59 : decode cX0_catchTrip 59 = .ok (.if_icmp .ge 12, 3) := by decide +kernel
theorem dX0_catchTrip_62 : decode cX0_catchTrip 62 = .ok (.aload_n 0, 1) := by decide +kernel
theorem dX0_catchTrip_63 : decode cX0_catchTrip 63 = .ok (.getfield 22, 3) := by decide +kernel
theorem dX0_catchTrip_66 : decode cX0_catchTrip 66 = .ok (.iload 5, 2) := by decide +kernel
theorem dX0_catchTrip_68 : decode cX0_catchTrip 68 = .ok (.iaload, 1) := by decide +kernel
theorem dX0_catchTrip_69 : decode cX0_catchTrip 69 = .ok (.istore 4, 2) := by decide +kernel
theorem dX0_catchTrip_71 : decode cX0_catchTrip 71 = .ok (.iinc 5 1, 3) := by decide +kernel
theorem dX0_catchTrip_74 : decode cX0_catchTrip 74 = .ok (.goto (-67), 3) := by decide +kernel
theorem dX0_catchTrip_77 : decode cX0_catchTrip 77 = .ok (.iload 4, 2) := by decide +kernel
theorem dX0_catchTrip_79 : decode cX0_catchTrip 79 = .ok (.ireturn, 1) := by decide +kernel
theorem dX0_arrivalAt_0 : decode cX0_arrivalAt 0 = .ok (.aload_n 0, 1) := by decide +kernel
theorem dX0_arrivalAt_1 : decode cX0_arrivalAt 1 = .ok (.getfield 31, 3) := by decide +kernel
theorem dX0_arrivalAt_4 : decode cX0_arrivalAt 4 = .ok (.iload_n 1, 1) := by decide +kernel
theorem dX0_arrivalAt_5 : decode cX0_arrivalAt 5 = .ok (.iaload, 1) := by decide +kernel
theorem dX0_arrivalAt_6 : decode cX0_arrivalAt 6 = .ok (.ldc 54, 2) := by decide +kernel
theorem dX0_arrivalAt_8 : decode cX0_arrivalAt 8 = .ok (.if_icmp .lt 8, 3) := by decide +kernel
theorem dX0_arrivalAt_11 : decode cX0_arrivalAt 11 = .ok (.bipush (-5), 2) := by decide +kernel
theorem dX0_arrivalAt_13 : decode cX0_arrivalAt 13 = .ok (.goto 9, 3) := by decide +kernel
theorem dX0_arrivalAt_16 : decode cX0_arrivalAt 16 = .ok (.aload_n 0, 1) := by decide +kernel
theorem dX0_arrivalAt_17 : decode cX0_arrivalAt 17 = .ok (.getfield 31, 3) := by decide +kernel
theorem dX0_arrivalAt_20 : decode cX0_arrivalAt 20 = .ok (.iload_n 1, 1) := by decide +kernel
theorem dX0_arrivalAt_21 : decode cX0_arrivalAt 21 = .ok (.iaload, 1) := by decide +kernel
theorem dX0_arrivalAt_22 : decode cX0_arrivalAt 22 = .ok (.ireturn, 1) := by decide +kernel
theorem dX0_earliestWith_0 : decode cX0_earliestWith 0 = .ok (.aload_n 0, 1) := by decide +kernel
theorem dX0_earliestWith_1 : decode cX0_earliestWith 1 = .ok (.iload_n 1, 1) := by decide +kernel
theorem dX0_earliestWith_2 : decode cX0_earliestWith 2 = .ok (.iload_n 2, 1) := by decide +kernel
theorem dX0_earliestWith_3 : decode cX0_earliestWith 3 = .ok (.iload_n 3, 1) := by decide +kernel
theorem dX0_earliestWith_4 : decode cX0_earliestWith 4 = .ok (.invokevirtual 89, 3) := by decide +kernel
theorem dX0_earliestWith_7 : decode cX0_earliestWith 7 = .ok (.istore 5, 2) := by decide +kernel
theorem dX0_earliestWith_9 : decode cX0_earliestWith 9 = .ok (.iload 5, 2) := by decide +kernel
theorem dX0_earliestWith_11 : decode cX0_earliestWith 11 = .ok (.ifCond .eq 6, 3) := by decide +kernel
theorem dX0_earliestWith_14 : decode cX0_earliestWith 14 = .ok (.iload 5, 2) := by decide +kernel
theorem dX0_earliestWith_16 : decode cX0_earliestWith 16 = .ok (.ireturn, 1) := by decide +kernel
theorem dX0_earliestWith_17 : decode cX0_earliestWith 17 = .ok (.iload 4, 2) := by decide +kernel
theorem dX0_earliestWith_19 : decode cX0_earliestWith 19 = .ok (.ifCond .ge 7, 3) := by decide +kernel
theorem dX0_earliestWith_22 : decode cX0_earliestWith 22 = .ok (.iconst 0, 1) := by decide +kernel
theorem dX0_earliestWith_23 : decode cX0_earliestWith 23 = .ok (.goto 5, 3) := by decide +kernel
theorem dX0_earliestWith_26 : decode cX0_earliestWith 26 = .ok (.iload 4, 2) := by decide +kernel
theorem dX0_earliestWith_28 : decode cX0_earliestWith 28 = .ok (.istore 6, 2) := by decide +kernel
theorem dX0_earliestWith_30 : decode cX0_earliestWith 30 = .ok (.aload_n 0, 1) := by decide +kernel
theorem dX0_earliestWith_31 : decode cX0_earliestWith 31 = .ok (.iload_n 1, 1) := by decide +kernel
theorem dX0_earliestWith_32 : decode cX0_earliestWith 32 = .ok (.iload_n 3, 1) := by decide +kernel
theorem dX0_earliestWith_33 : decode cX0_earliestWith 33 = .ok (.iload 6, 2) := by decide +kernel
theorem dX0_earliestWith_35 : decode cX0_earliestWith 35 = .ok (.bipush 12, 2) := by decide +kernel
theorem dX0_earliestWith_37 : decode cX0_earliestWith 37 = .ok (.if_icmp .le 8, 3) := by decide +kernel
theorem dX0_earliestWith_40 : decode cX0_earliestWith 40 = .ok (.bipush 12, 2) := by decide +kernel
theorem dX0_earliestWith_42 : decode cX0_earliestWith 42 = .ok (.goto 5, 3) := by decide +kernel
theorem dX0_earliestWith_45 : decode cX0_earliestWith 45 = .ok (.iload 6, 2) := by decide +kernel
theorem dX0_earliestWith_47 : decode cX0_earliestWith 47 = .ok (.invokevirtual 92, 3) := by decide +kernel
theorem dX0_earliestWith_50 : decode cX0_earliestWith 50 = .ok (.aload_n 0, 1) := by decide +kernel
theorem dX0_earliestWith_51 : decode cX0_earliestWith 51 = .ok (.iload_n 2, 1) := by decide +kernel
theorem dX0_earliestWith_52 : decode cX0_earliestWith 52 = .ok (.invokevirtual 96, 3) := by decide +kernel
theorem dX0_earliestWith_55 : decode cX0_earliestWith 55 = .ok (.ireturn, 1) := by decide +kernel
theorem dX0_rides_0 : decode cX0_rides 0 = .ok (.aload_n 0, 1) := by decide +kernel
theorem dX0_rides_1 : decode cX0_rides 1 = .ok (.iload_n 1, 1) := by decide +kernel
theorem dX0_rides_2 : decode cX0_rides 2 = .ok (.iload_n 2, 1) := by decide +kernel
theorem dX0_rides_3 : decode cX0_rides 3 = .ok (.iload_n 3, 1) := by decide +kernel
theorem dX0_rides_4 : decode cX0_rides 4 = .ok (.invokevirtual 89, 3) := by decide +kernel
theorem dX0_rides_7 : decode cX0_rides 7 = .ok (.istore 4, 2) := by decide +kernel
theorem dX0_rides_9 : decode cX0_rides 9 = .ok (.iload 4, 2) := by decide +kernel
theorem dX0_rides_11 : decode cX0_rides 11 = .ok (.ifCond .eq 6, 3) := by decide +kernel
theorem dX0_rides_14 : decode cX0_rides 14 = .ok (.iload 4, 2) := by decide +kernel
theorem dX0_rides_16 : decode cX0_rides 16 = .ok (.ireturn, 1) := by decide +kernel
theorem dX0_rides_17 : decode cX0_rides 17 = .ok (.aload_n 0, 1) := by decide +kernel
theorem dX0_rides_18 : decode cX0_rides 18 = .ok (.iload_n 1, 1) := by decide +kernel
theorem dX0_rides_19 : decode cX0_rides 19 = .ok (.iload_n 3, 1) := by decide +kernel
theorem dX0_rides_20 : decode cX0_rides 20 = .ok (.invokevirtual 69, 3) := by decide +kernel
theorem dX0_rides_23 : decode cX0_rides 23 = .ok (.aload_n 0, 1) := by decide +kernel
theorem dX0_rides_24 : decode cX0_rides 24 = .ok (.getfield 31, 3) := by decide +kernel
theorem dX0_rides_27 : decode cX0_rides 27 = .ok (.iload_n 2, 1) := by decide +kernel
theorem dX0_rides_28 : decode cX0_rides 28 = .ok (.iaload, 1) := by decide +kernel
theorem dX0_rides_29 : decode cX0_rides 29 = .ok (.ldc 54, 2) := by decide +kernel
theorem dX0_rides_31 : decode cX0_rides 31 = .ok (.if_icmp .ge 7, 3) := by decide +kernel
theorem dX0_rides_34 : decode cX0_rides 34 = .ok (.iconst 0, 1) := by decide +kernel
theorem dX0_rides_35 : decode cX0_rides 35 = .ok (.goto 5, 3) := by decide +kernel
theorem dX0_rides_38 : decode cX0_rides 38 = .ok (.bipush (-5), 2) := by decide +kernel
theorem dX0_rides_40 : decode cX0_rides 40 = .ok (.istore 5, 2) := by decide +kernel
theorem dX0_rides_42 : decode cX0_rides 42 = .ok (.iconst 1, 1) := by decide +kernel
theorem dX0_rides_43 : decode cX0_rides 43 = .ok (.istore 6, 2) := by decide +kernel
theorem dX0_rides_45 : decode cX0_rides 45 = .ok (.iload 6, 2) := by decide +kernel
theorem dX0_rides_47 : decode cX0_rides 47 = .ok (.bipush 12, 2) := by decide +kernel
theorem dX0_rides_49 : decode cX0_rides 49 = .ok (.if_icmp .gt 43, 3) := by decide +kernel
theorem dX0_rides_52 : decode cX0_rides 52 = .ok (.aload_n 0, 1) := by decide +kernel
theorem dX0_rides_53 : decode cX0_rides 53 = .ok (.getfield 55, 3) := by decide +kernel
theorem dX0_rides_56 : decode cX0_rides 56 = .ok (.ifCond .eq 36, 3) := by decide +kernel
theorem dX0_rides_59 : decode cX0_rides 59 = .ok (.aload_n 0, 1) := by decide +kernel
theorem dX0_rides_60 : decode cX0_rides 60 = .ok (.getfield 31, 3) := by decide +kernel
theorem dX0_rides_63 : decode cX0_rides 63 = .ok (.iload_n 2, 1) := by decide +kernel
theorem dX0_rides_64 : decode cX0_rides 64 = .ok (.iaload, 1) := by decide +kernel
theorem dX0_rides_65 : decode cX0_rides 65 = .ok (.istore 7, 2) := by decide +kernel
theorem dX0_rides_67 : decode cX0_rides 67 = .ok (.aload_n 0, 1) := by decide +kernel
theorem dX0_rides_68 : decode cX0_rides 68 = .ok (.invokevirtual 73, 3) := by decide +kernel
theorem dX0_rides_71 : decode cX0_rides 71 = .ok (.aload_n 0, 1) := by decide +kernel
theorem dX0_rides_72 : decode cX0_rides 72 = .ok (.getfield 31, 3) := by decide +kernel
theorem dX0_rides_75 : decode cX0_rides 75 = .ok (.iload_n 2, 1) := by decide +kernel
theorem dX0_rides_76 : decode cX0_rides 76 = .ok (.iaload, 1) := by decide +kernel
theorem dX0_rides_77 : decode cX0_rides 77 = .ok (.iload 7, 2) := by decide +kernel
theorem dX0_rides_79 : decode cX0_rides 79 = .ok (.if_icmp .ge 7, 3) := by decide +kernel
theorem dX0_rides_82 : decode cX0_rides 82 = .ok (.iload 6, 2) := by decide +kernel
theorem dX0_rides_84 : decode cX0_rides 84 = .ok (.istore 5, 2) := by decide +kernel
theorem dX0_rides_86 : decode cX0_rides 86 = .ok (.iinc 6 1, 3) := by decide +kernel
theorem dX0_rides_89 : decode cX0_rides 89 = .ok (.goto (-44), 3) := by decide +kernel
end
section
set_option maxRecDepth 100000
theorem dX0_rides_92 : decode cX0_rides 92 = .ok (.iload 5, 2) := by decide +kernel
theorem dX0_rides_94 : decode cX0_rides 94 = .ok (.ireturn, 1) := by decide +kernel
theorem dX0_latest_0 : decode cX0_latest 0 = .ok (.aload_n 0, 1) := by decide +kernel
theorem dX0_latest_1 : decode cX0_latest 1 = .ok (.iload_n 1, 1) := by decide +kernel
theorem dX0_latest_2 : decode cX0_latest 2 = .ok (.iload_n 2, 1) := by decide +kernel
theorem dX0_latest_3 : decode cX0_latest 3 = .ok (.iload_n 3, 1) := by decide +kernel
theorem dX0_latest_4 : decode cX0_latest 4 = .ok (.invokevirtual 89, 3) := by decide +kernel
theorem dX0_latest_7 : decode cX0_latest 7 = .ok (.istore 4, 2) := by decide +kernel
theorem dX0_latest_9 : decode cX0_latest 9 = .ok (.iload 4, 2) := by decide +kernel
theorem dX0_latest_11 : decode cX0_latest 11 = .ok (.ifCond .eq 6, 3) := by decide +kernel
theorem dX0_latest_14 : decode cX0_latest 14 = .ok (.iload 4, 2) := by decide +kernel
theorem dX0_latest_16 : decode cX0_latest 16 = .ok (.ireturn, 1) := by decide +kernel
theorem dX0_latest_17 : decode cX0_latest 17 = .ok (.aload_n 0, 1) := by decide +kernel
theorem dX0_latest_18 : decode cX0_latest 18 = .ok (.iload_n 2, 1) := by decide +kernel
theorem dX0_latest_19 : decode cX0_latest 19 = .ok (.iload_n 3, 1) := by decide +kernel
theorem dX0_latest_20 : decode cX0_latest 20 = .ok (.invokevirtual 100, 3) := by decide +kernel
theorem dX0_latest_23 : decode cX0_latest 23 = .ok (.aload_n 0, 1) := by decide +kernel
theorem dX0_latest_24 : decode cX0_latest 24 = .ok (.getfield 31, 3) := by decide +kernel
theorem dX0_latest_27 : decode cX0_latest 27 = .ok (.iload_n 1, 1) := by decide +kernel
theorem dX0_latest_28 : decode cX0_latest 28 = .ok (.iaload, 1) := by decide +kernel
theorem dX0_latest_29 : decode cX0_latest 29 = .ok (.ifCond .ge 6, 3) := by decide +kernel
theorem dX0_latest_32 : decode cX0_latest 32 = .ok (.bipush (-5), 2) := by decide +kernel
theorem dX0_latest_34 : decode cX0_latest 34 = .ok (.ireturn, 1) := by decide +kernel
theorem dX0_latest_35 : decode cX0_latest 35 = .ok (.aload_n 0, 1) := by decide +kernel
theorem dX0_latest_36 : decode cX0_latest 36 = .ok (.getfield 31, 3) := by decide +kernel
theorem dX0_latest_39 : decode cX0_latest 39 = .ok (.iload_n 1, 1) := by decide +kernel
theorem dX0_latest_40 : decode cX0_latest 40 = .ok (.iaload, 1) := by decide +kernel
theorem dX0_latest_41 : decode cX0_latest 41 = .ok (.sipush 1000, 3) := by decide +kernel
theorem dX0_latest_44 : decode cX0_latest 44 = .ok (.if_icmp .le 9, 3) := by decide +kernel
theorem dX0_latest_47 : decode cX0_latest 47 = .ok (.sipush 1000, 3) := by decide +kernel
theorem dX0_latest_50 : decode cX0_latest 50 = .ok (.goto 9, 3) := by decide +kernel
theorem dX0_latest_53 : decode cX0_latest 53 = .ok (.aload_n 0, 1) := by decide +kernel
theorem dX0_latest_54 : decode cX0_latest 54 = .ok (.getfield 31, 3) := by decide +kernel
theorem dX0_latest_57 : decode cX0_latest 57 = .ok (.iload_n 1, 1) := by decide +kernel
theorem dX0_latest_58 : decode cX0_latest 58 = .ok (.iaload, 1) := by decide +kernel
theorem dX0_latest_59 : decode cX0_latest 59 = .ok (.ireturn, 1) := by decide +kernel
theorem dX0_planBack_0 : decode cX0_planBack 0 = .ok (.iconst 0, 1) := by decide +kernel
theorem dX0_planBack_1 : decode cX0_planBack 1 = .ok (.istore_n 3, 1) := by decide +kernel
theorem dX0_planBack_2 : decode cX0_planBack 2 = .ok (.iload_n 3, 1) := by decide +kernel
theorem dX0_planBack_3 : decode cX0_planBack 3 = .ok (.bipush 8, 2) := by decide +kernel
theorem dX0_planBack_5 : decode cX0_planBack 5 = .ok (.if_icmp .ge 25, 3) := by decide +kernel
theorem dX0_planBack_8 : decode cX0_planBack 8 = .ok (.aload_n 0, 1) := by decide +kernel
theorem dX0_planBack_9 : decode cX0_planBack 9 = .ok (.getfield 28, 3) := by decide +kernel
theorem dX0_planBack_12 : decode cX0_planBack 12 = .ok (.iload_n 3, 1) := by decide +kernel
theorem dX0_planBack_13 : decode cX0_planBack 13 = .ok (.ldc 76, 2) := by decide +kernel
theorem dX0_planBack_15 : decode cX0_planBack 15 = .ok (.iastore, 1) := by decide +kernel
theorem dX0_planBack_16 : decode cX0_planBack 16 = .ok (.aload_n 0, 1) := by decide +kernel
theorem dX0_planBack_17 : decode cX0_planBack 17 = .ok (.getfield 31, 3) := by decide +kernel
theorem dX0_planBack_20 : decode cX0_planBack 20 = .ok (.iload_n 3, 1) := by decide +kernel
theorem dX0_planBack_21 : decode cX0_planBack 21 = .ok (.ldc 76, 2) := by decide +kernel
theorem dX0_planBack_23 : decode cX0_planBack 23 = .ok (.iastore, 1) := by decide +kernel
theorem dX0_planBack_24 : decode cX0_planBack 24 = .ok (.iinc 3 1, 3) := by decide +kernel
theorem dX0_planBack_27 : decode cX0_planBack 27 = .ok (.goto (-25), 3) := by decide +kernel
theorem dX0_planBack_30 : decode cX0_planBack 30 = .ok (.aload_n 0, 1) := by decide +kernel
theorem dX0_planBack_31 : decode cX0_planBack 31 = .ok (.getfield 28, 3) := by decide +kernel
theorem dX0_planBack_34 : decode cX0_planBack 34 = .ok (.iload_n 1, 1) := by decide +kernel
theorem dX0_planBack_35 : decode cX0_planBack 35 = .ok (.iload_n 2, 1) := by decide +kernel
theorem dX0_planBack_36 : decode cX0_planBack 36 = .ok (.iastore, 1) := by decide +kernel
theorem dX0_planBack_37 : decode cX0_planBack 37 = .ok (.aload_n 0, 1) := by decide +kernel
theorem dX0_planBack_38 : decode cX0_planBack 38 = .ok (.invokevirtual 80, 3) := by decide +kernel
theorem dX0_planBack_41 : decode cX0_planBack 41 = .ok (.iconst 0, 1) := by decide +kernel
theorem dX0_planBack_42 : decode cX0_planBack 42 = .ok (.istore_n 3, 1) := by decide +kernel
theorem dX0_planBack_43 : decode cX0_planBack 43 = .ok (.iload_n 3, 1) := by decide +kernel
theorem dX0_planBack_44 : decode cX0_planBack 44 = .ok (.bipush 12, 2) := by decide +kernel
theorem dX0_planBack_46 : decode cX0_planBack 46 = .ok (.if_icmp .ge 83, 3) := by decide +kernel
theorem dX0_planBack_49 : decode cX0_planBack 49 = .ok (.aload_n 0, 1) := by decide +kernel
theorem dX0_planBack_50 : decode cX0_planBack 50 = .ok (.getfield 55, 3) := by decide +kernel
theorem dX0_planBack_53 : decode cX0_planBack 53 = .ok (.ifCond .eq 76, 3) := by decide +kernel
theorem dX0_planBack_56 : decode cX0_planBack 56 = .ok (.iconst 0, 1) := by decide +kernel
theorem dX0_planBack_57 : decode cX0_planBack 57 = .ok (.istore 4, 2) := by decide +kernel
theorem dX0_planBack_59 : decode cX0_planBack 59 = .ok (.iload 4, 2) := by decide +kernel
theorem dX0_planBack_61 : decode cX0_planBack 61 = .ok (.bipush 8, 2) := by decide +kernel
theorem dX0_planBack_63 : decode cX0_planBack 63 = .ok (.if_icmp .ge 32, 3) := by decide +kernel
theorem dX0_planBack_66 : decode cX0_planBack 66 = .ok (.aload_n 0, 1) := by decide +kernel
theorem dX0_planBack_67 : decode cX0_planBack 67 = .ok (.getfield 34, 3) := by decide +kernel
theorem dX0_planBack_70 : decode cX0_planBack 70 = .ok (.iload 4, 2) := by decide +kernel
theorem dX0_planBack_72 : decode cX0_planBack 72 = .ok (.aload_n 0, 1) := by decide +kernel
theorem dX0_planBack_73 : decode cX0_planBack 73 = .ok (.getfield 31, 3) := by decide +kernel
theorem dX0_planBack_76 : decode cX0_planBack 76 = .ok (.iload 4, 2) := by decide +kernel
theorem dX0_planBack_78 : decode cX0_planBack 78 = .ok (.iaload, 1) := by decide +kernel
theorem dX0_planBack_79 : decode cX0_planBack 79 = .ok (.iastore, 1) := by decide +kernel
theorem dX0_planBack_80 : decode cX0_planBack 80 = .ok (.aload_n 0, 1) := by decide +kernel
theorem dX0_planBack_81 : decode cX0_planBack 81 = .ok (.getfield 28, 3) := by decide +kernel
theorem dX0_planBack_84 : decode cX0_planBack 84 = .ok (.iload 4, 2) := by decide +kernel
theorem dX0_planBack_86 : decode cX0_planBack 86 = .ok (.ldc 76, 2) := by decide +kernel
theorem dX0_planBack_88 : decode cX0_planBack 88 = .ok (.iastore, 1) := by decide +kernel
theorem dX0_planBack_89 : decode cX0_planBack 89 = .ok (.iinc 4 1, 3) := by decide +kernel
theorem dX0_planBack_92 : decode cX0_planBack 92 = .ok (.goto (-33), 3) := by decide +kernel
theorem dX0_planBack_95 : decode cX0_planBack 95 = .ok (.iconst 0, 1) := by decide +kernel
theorem dX0_planBack_96 : decode cX0_planBack 96 = .ok (.istore 4, 2) := by decide +kernel
theorem dX0_planBack_98 : decode cX0_planBack 98 = .ok (.iload 4, 2) := by decide +kernel
theorem dX0_planBack_100 : decode cX0_planBack 100 = .ok (.aload_n 0, 1) := by decide +kernel
theorem dX0_planBack_101 : decode cX0_planBack 101 = .ok (.getfield 37, 3) := by decide +kernel
theorem dX0_planBack_104 : decode cX0_planBack 104 = .ok (.if_icmp .ge 15, 3) := by decide +kernel
theorem dX0_planBack_107 : decode cX0_planBack 107 = .ok (.aload_n 0, 1) := by decide +kernel
theorem dX0_planBack_108 : decode cX0_planBack 108 = .ok (.iload 4, 2) := by decide +kernel
theorem dX0_planBack_110 : decode cX0_planBack 110 = .ok (.invokevirtual 83, 3) := by decide +kernel
theorem dX0_planBack_113 : decode cX0_planBack 113 = .ok (.iinc 4 1, 3) := by decide +kernel
theorem dX0_planBack_116 : decode cX0_planBack 116 = .ok (.goto (-18), 3) := by decide +kernel
theorem dX0_planBack_119 : decode cX0_planBack 119 = .ok (.aload_n 0, 1) := by decide +kernel
theorem dX0_planBack_120 : decode cX0_planBack 120 = .ok (.invokevirtual 80, 3) := by decide +kernel
theorem dX0_planBack_123 : decode cX0_planBack 123 = .ok (.iinc 3 1, 3) := by decide +kernel
theorem dX0_planBack_126 : decode cX0_planBack 126 = .ok (.goto (-83), 3) := by decide +kernel
theorem dX0_planBack_129 : decode cX0_planBack 129 = .ok (.return_, 1) := by decide +kernel
theorem dX0_walkBack_0 : decode cX0_walkBack 0 = .ok (.aload_n 0, 1) := by decide +kernel
theorem dX0_walkBack_1 : decode cX0_walkBack 1 = .ok (.iconst 0, 1) := by decide +kernel
theorem dX0_walkBack_2 : decode cX0_walkBack 2 = .ok (.putfield 55, 3) := by decide +kernel
theorem dX0_walkBack_5 : decode cX0_walkBack 5 = .ok (.iconst 0, 1) := by decide +kernel
theorem dX0_walkBack_6 : decode cX0_walkBack 6 = .ok (.istore_n 1, 1) := by decide +kernel
theorem dX0_walkBack_7 : decode cX0_walkBack 7 = .ok (.iload_n 1, 1) := by decide +kernel
theorem dX0_walkBack_8 : decode cX0_walkBack 8 = .ok (.bipush 8, 2) := by decide +kernel
theorem dX0_walkBack_10 : decode cX0_walkBack 10 = .ok (.if_icmp .ge 100, 3) := by decide +kernel
theorem dX0_walkBack_13 : decode cX0_walkBack 13 = .ok (.aload_n 0, 1) := by decide +kernel
theorem dX0_walkBack_14 : decode cX0_walkBack 14 = .ok (.getfield 28, 3) := by decide +kernel
theorem dX0_walkBack_17 : decode cX0_walkBack 17 = .ok (.iload_n 1, 1) := by decide +kernel
theorem dX0_walkBack_18 : decode cX0_walkBack 18 = .ok (.iaload, 1) := by decide +kernel
theorem dX0_walkBack_19 : decode cX0_walkBack 19 = .ok (.istore_n 2, 1) := by decide +kernel
theorem dX0_walkBack_20 : decode cX0_walkBack 20 = .ok (.iconst 0, 1) := by decide +kernel
theorem dX0_walkBack_21 : decode cX0_walkBack 21 = .ok (.istore_n 3, 1) := by decide +kernel
theorem dX0_walkBack_22 : decode cX0_walkBack 22 = .ok (.iload_n 3, 1) := by decide +kernel
theorem dX0_walkBack_23 : decode cX0_walkBack 23 = .ok (.bipush 8, 2) := by decide +kernel
theorem dX0_walkBack_25 : decode cX0_walkBack 25 = .ok (.if_icmp .ge 50, 3) := by decide +kernel
theorem dX0_walkBack_28 : decode cX0_walkBack 28 = .ok (.aload_n 0, 1) := by decide +kernel
theorem dX0_walkBack_29 : decode cX0_walkBack 29 = .ok (.getfield 25, 3) := by decide +kernel
theorem dX0_walkBack_32 : decode cX0_walkBack 32 = .ok (.iload_n 1, 1) := by decide +kernel
theorem dX0_walkBack_33 : decode cX0_walkBack 33 = .ok (.bipush 8, 2) := by decide +kernel
theorem dX0_walkBack_35 : decode cX0_walkBack 35 = .ok (.imul, 1) := by decide +kernel
theorem dX0_walkBack_36 : decode cX0_walkBack 36 = .ok (.iload_n 3, 1) := by decide +kernel
theorem dX0_walkBack_37 : decode cX0_walkBack 37 = .ok (.iadd, 1) := by decide +kernel
theorem dX0_walkBack_38 : decode cX0_walkBack 38 = .ok (.iaload, 1) := by decide +kernel
theorem dX0_walkBack_39 : decode cX0_walkBack 39 = .ok (.istore 4, 2) := by decide +kernel
theorem dX0_walkBack_41 : decode cX0_walkBack 41 = .ok (.iload 4, 2) := by decide +kernel
theorem dX0_walkBack_43 : decode cX0_walkBack 43 = .ok (.ifCond .le 26, 3) := by decide +kernel
theorem dX0_walkBack_46 : decode cX0_walkBack 46 = .ok (.aload_n 0, 1) := by decide +kernel
theorem dX0_walkBack_47 : decode cX0_walkBack 47 = .ok (.getfield 28, 3) := by decide +kernel
theorem dX0_walkBack_50 : decode cX0_walkBack 50 = .ok (.iload_n 3, 1) := by decide +kernel
theorem dX0_walkBack_51 : decode cX0_walkBack 51 = .ok (.iaload, 1) := by decide +kernel
theorem dX0_walkBack_52 : decode cX0_walkBack 52 = .ok (.iload 4, 2) := by decide +kernel
theorem dX0_walkBack_54 : decode cX0_walkBack 54 = .ok (.isub, 1) := by decide +kernel
theorem dX0_walkBack_55 : decode cX0_walkBack 55 = .ok (.iload_n 2, 1) := by decide +kernel
theorem dX0_walkBack_56 : decode cX0_walkBack 56 = .ok (.if_icmp .le 13, 3) := by decide +kernel
theorem dX0_walkBack_59 : decode cX0_walkBack 59 = .ok (.aload_n 0, 1) := by decide +kernel
theorem dX0_walkBack_60 : decode cX0_walkBack 60 = .ok (.getfield 28, 3) := by decide +kernel
theorem dX0_walkBack_63 : decode cX0_walkBack 63 = .ok (.iload_n 3, 1) := by decide +kernel
theorem dX0_walkBack_64 : decode cX0_walkBack 64 = .ok (.iaload, 1) := by decide +kernel
theorem dX0_walkBack_65 : decode cX0_walkBack 65 = .ok (.iload 4, 2) := by decide +kernel
theorem dX0_walkBack_67 : decode cX0_walkBack 67 = .ok (.isub, 1) := by decide +kernel
theorem dX0_walkBack_68 : decode cX0_walkBack 68 = .ok (.istore_n 2, 1) := by decide +kernel
theorem dX0_walkBack_69 : decode cX0_walkBack 69 = .ok (.iinc 3 1, 3) := by decide +kernel
theorem dX0_walkBack_72 : decode cX0_walkBack 72 = .ok (.goto (-50), 3) := by decide +kernel
theorem dX0_walkBack_75 : decode cX0_walkBack 75 = .ok (.iload_n 2, 1) := by decide +kernel
theorem dX0_walkBack_76 : decode cX0_walkBack 76 = .ok (.aload_n 0, 1) := by decide +kernel
theorem dX0_walkBack_77 : decode cX0_walkBack 77 = .ok (.getfield 31, 3) := by decide +kernel
theorem dX0_walkBack_80 : decode cX0_walkBack 80 = .ok (.iload_n 1, 1) := by decide +kernel
theorem dX0_walkBack_81 : decode cX0_walkBack 81 = .ok (.iaload, 1) := by decide +kernel
theorem dX0_walkBack_82 : decode cX0_walkBack 82 = .ok (.if_icmp .le 22, 3) := by decide +kernel
theorem dX0_walkBack_85 : decode cX0_walkBack 85 = .ok (.aload_n 0, 1) := by decide +kernel
theorem dX0_walkBack_86 : decode cX0_walkBack 86 = .ok (.getfield 31, 3) := by decide +kernel
theorem dX0_walkBack_89 : decode cX0_walkBack 89 = .ok (.iload_n 1, 1) := by decide +kernel
theorem dX0_walkBack_90 : decode cX0_walkBack 90 = .ok (.iload_n 2, 1) := by decide +kernel
theorem dX0_walkBack_91 : decode cX0_walkBack 91 = .ok (.iastore, 1) := by decide +kernel
theorem dX0_walkBack_92 : decode cX0_walkBack 92 = .ok (.aload_n 0, 1) := by decide +kernel
theorem dX0_walkBack_93 : decode cX0_walkBack 93 = .ok (.dup, 1) := by decide +kernel
theorem dX0_walkBack_94 : decode cX0_walkBack 94 = .ok (.getfield 55, 3) := by decide +kernel
theorem dX0_walkBack_97 : decode cX0_walkBack 97 = .ok (.iconst 1, 1) := by decide +kernel
theorem dX0_walkBack_98 : decode cX0_walkBack 98 = .ok (.iload_n 1, 1) := by decide +kernel
theorem dX0_walkBack_99 : decode cX0_walkBack 99 = .ok (.ishl, 1) := by decide +kernel
theorem dX0_walkBack_100 : decode cX0_walkBack 100 = .ok (.ior, 1) := by decide +kernel
theorem dX0_walkBack_101 : decode cX0_walkBack 101 = .ok (.putfield 55, 3) := by decide +kernel
theorem dX0_walkBack_104 : decode cX0_walkBack 104 = .ok (.iinc 1 1, 3) := by decide +kernel
theorem dX0_walkBack_107 : decode cX0_walkBack 107 = .ok (.goto (-100), 3) := by decide +kernel
theorem dX0_walkBack_110 : decode cX0_walkBack 110 = .ok (.return_, 1) := by decide +kernel
theorem dX0_rideLineBack_0 : decode cX0_rideLineBack 0 = .ok (.ldc 76, 2) := by decide +kernel
theorem dX0_rideLineBack_2 : decode cX0_rideLineBack 2 = .ok (.istore_n 2, 1) := by decide +kernel
theorem dX0_rideLineBack_3 : decode cX0_rideLineBack 3 = .ok (.aload_n 0, 1) := by decide +kernel
theorem dX0_rideLineBack_4 : decode cX0_rideLineBack 4 = .ok (.getfield 7, 3) := by decide +kernel
theorem dX0_rideLineBack_7 : decode cX0_rideLineBack 7 = .ok (.iload_n 1, 1) := by decide +kernel
theorem dX0_rideLineBack_8 : decode cX0_rideLineBack 8 = .ok (.iaload, 1) := by decide +kernel
theorem dX0_rideLineBack_9 : decode cX0_rideLineBack 9 = .ok (.iconst 1, 1) := by decide +kernel
theorem dX0_rideLineBack_10 : decode cX0_rideLineBack 10 = .ok (.isub, 1) := by decide +kernel
theorem dX0_rideLineBack_11 : decode cX0_rideLineBack 11 = .ok (.istore_n 3, 1) := by decide +kernel
theorem dX0_rideLineBack_12 : decode cX0_rideLineBack 12 = .ok (.iload_n 3, 1) := by decide +kernel
theorem dX0_rideLineBack_13 : decode cX0_rideLineBack 13 = .ok (.ifCond .lt 131, 3) := by decide +kernel
theorem dX0_rideLineBack_16 : decode cX0_rideLineBack 16 = .ok (.aload_n 0, 1) := by decide +kernel
theorem dX0_rideLineBack_17 : decode cX0_rideLineBack 17 = .ok (.getfield 13, 3) := by decide +kernel
theorem dX0_rideLineBack_20 : decode cX0_rideLineBack 20 = .ok (.iload_n 1, 1) := by decide +kernel
theorem dX0_rideLineBack_21 : decode cX0_rideLineBack 21 = .ok (.bipush 6, 2) := by decide +kernel
theorem dX0_rideLineBack_23 : decode cX0_rideLineBack 23 = .ok (.imul, 1) := by decide +kernel
theorem dX0_rideLineBack_24 : decode cX0_rideLineBack 24 = .ok (.iload_n 3, 1) := by decide +kernel
theorem dX0_rideLineBack_25 : decode cX0_rideLineBack 25 = .ok (.iadd, 1) := by decide +kernel
theorem dX0_rideLineBack_26 : decode cX0_rideLineBack 26 = .ok (.iaload, 1) := by decide +kernel
theorem dX0_rideLineBack_27 : decode cX0_rideLineBack 27 = .ok (.istore 4, 2) := by decide +kernel
theorem dX0_rideLineBack_29 : decode cX0_rideLineBack 29 = .ok (.iload_n 2, 1) := by decide +kernel
theorem dX0_rideLineBack_30 : decode cX0_rideLineBack 30 = .ok (.aload_n 0, 1) := by decide +kernel
theorem dX0_rideLineBack_31 : decode cX0_rideLineBack 31 = .ok (.getfield 16, 3) := by decide +kernel
theorem dX0_rideLineBack_34 : decode cX0_rideLineBack 34 = .ok (.iload_n 1, 1) := by decide +kernel
theorem dX0_rideLineBack_35 : decode cX0_rideLineBack 35 = .ok (.bipush 6, 2) := by decide +kernel
theorem dX0_rideLineBack_37 : decode cX0_rideLineBack 37 = .ok (.imul, 1) := by decide +kernel
theorem dX0_rideLineBack_38 : decode cX0_rideLineBack 38 = .ok (.iload_n 3, 1) := by decide +kernel
theorem dX0_rideLineBack_39 : decode cX0_rideLineBack 39 = .ok (.iadd, 1) := by decide +kernel
theorem dX0_rideLineBack_40 : decode cX0_rideLineBack 40 = .ok (.iaload, 1) := by decide +kernel
theorem dX0_rideLineBack_41 : decode cX0_rideLineBack 41 = .ok (.iadd, 1) := by decide +kernel
theorem dX0_rideLineBack_42 : decode cX0_rideLineBack 42 = .ok (.istore 5, 2) := by decide +kernel
theorem dX0_rideLineBack_44 : decode cX0_rideLineBack 44 = .ok (.iload_n 2, 1) := by decide +kernel
theorem dX0_rideLineBack_45 : decode cX0_rideLineBack 45 = .ok (.ldc 76, 2) := by decide +kernel
theorem dX0_rideLineBack_47 : decode cX0_rideLineBack 47 = .ok (.if_icmp .le 24, 3) := by decide +kernel
theorem dX0_rideLineBack_50 : decode cX0_rideLineBack 50 = .ok (.iload 5, 2) := by decide +kernel
theorem dX0_rideLineBack_52 : decode cX0_rideLineBack 52 = .ok (.aload_n 0, 1) := by decide +kernel
theorem dX0_rideLineBack_53 : decode cX0_rideLineBack 53 = .ok (.getfield 28, 3) := by decide +kernel
theorem dX0_rideLineBack_56 : decode cX0_rideLineBack 56 = .ok (.iload 4, 2) := by decide +kernel
theorem dX0_rideLineBack_58 : decode cX0_rideLineBack 58 = .ok (.iaload, 1) := by decide +kernel
theorem dX0_rideLineBack_59 : decode cX0_rideLineBack 59 = .ok (.if_icmp .le 12, 3) := by decide +kernel
theorem dX0_rideLineBack_62 : decode cX0_rideLineBack 62 = .ok (.aload_n 0, 1) := by decide +kernel
theorem dX0_rideLineBack_63 : decode cX0_rideLineBack 63 = .ok (.getfield 28, 3) := by decide +kernel
theorem dX0_rideLineBack_66 : decode cX0_rideLineBack 66 = .ok (.iload 4, 2) := by decide +kernel
theorem dX0_rideLineBack_68 : decode cX0_rideLineBack 68 = .ok (.iload 5, 2) := by decide +kernel
theorem dX0_rideLineBack_70 : decode cX0_rideLineBack 70 = .ok (.iastore, 1) := by decide +kernel
theorem dX0_rideLineBack_71 : decode cX0_rideLineBack 71 = .ok (.aload_n 0, 1) := by decide +kernel
theorem dX0_rideLineBack_72 : decode cX0_rideLineBack 72 = .ok (.getfield 55, 3) := by decide +kernel
theorem dX0_rideLineBack_75 : decode cX0_rideLineBack 75 = .ok (.iload 4, 2) := by decide +kernel
theorem dX0_rideLineBack_77 : decode cX0_rideLineBack 77 = .ok (.ishr, 1) := by decide +kernel
theorem dX0_rideLineBack_78 : decode cX0_rideLineBack 78 = .ok (.iconst 1, 1) := by decide +kernel
theorem dX0_rideLineBack_79 : decode cX0_rideLineBack 79 = .ok (.iand, 1) := by decide +kernel
theorem dX0_rideLineBack_80 : decode cX0_rideLineBack 80 = .ok (.iconst 1, 1) := by decide +kernel
theorem dX0_rideLineBack_81 : decode cX0_rideLineBack 81 = .ok (.if_icmp .ne 7, 3) := by decide +kernel
theorem dX0_rideLineBack_84 : decode cX0_rideLineBack 84 = .ok (.iconst 1, 1) := by decide +kernel
theorem dX0_rideLineBack_85 : decode cX0_rideLineBack 85 = .ok (.goto 4, 3) := by decide +kernel
theorem dX0_rideLineBack_88 : decode cX0_rideLineBack 88 = .ok (.iconst 0, 1) := by decide +kernel
theorem dX0_rideLineBack_89 : decode cX0_rideLineBack 89 = .ok (.istore 6, 2) := by decide +kernel
theorem dX0_rideLineBack_91 : decode cX0_rideLineBack 91 = .ok (.iload 6, 2) := by decide +kernel
theorem dX0_rideLineBack_93 : decode cX0_rideLineBack 93 = .ok (.ifCond .eq 45, 3) := by decide +kernel
theorem dX0_rideLineBack_96 : decode cX0_rideLineBack 96 = .ok (.iload_n 2, 1) := by decide +kernel
theorem dX0_rideLineBack_97 : decode cX0_rideLineBack 97 = .ok (.ldc 76, 2) := by decide +kernel
theorem dX0_rideLineBack_99 : decode cX0_rideLineBack 99 = .ok (.if_icmp .eq 15, 3) := by decide +kernel
theorem dX0_rideLineBack_102 : decode cX0_rideLineBack 102 = .ok (.aload_n 0, 1) := by decide +kernel
theorem dX0_rideLineBack_103 : decode cX0_rideLineBack 103 = .ok (.getfield 34, 3) := by decide +kernel
theorem dX0_rideLineBack_106 : decode cX0_rideLineBack 106 = .ok (.iload 4, 2) := by decide +kernel
theorem dX0_rideLineBack_108 : decode cX0_rideLineBack 108 = .ok (.iaload, 1) := by decide +kernel
theorem dX0_rideLineBack_109 : decode cX0_rideLineBack 109 = .ok (.iload 5, 2) := by decide +kernel
theorem dX0_rideLineBack_111 : decode cX0_rideLineBack 111 = .ok (.if_icmp .le 27, 3) := by decide +kernel
theorem dX0_rideLineBack_114 : decode cX0_rideLineBack 114 = .ok (.aload_n 0, 1) := by decide +kernel
theorem dX0_rideLineBack_115 : decode cX0_rideLineBack 115 = .ok (.iload_n 1, 1) := by decide +kernel
theorem dX0_rideLineBack_116 : decode cX0_rideLineBack 116 = .ok (.iload_n 3, 1) := by decide +kernel
theorem dX0_rideLineBack_117 : decode cX0_rideLineBack 117 = .ok (.aload_n 0, 1) := by decide +kernel
theorem dX0_rideLineBack_118 : decode cX0_rideLineBack 118 = .ok (.getfield 34, 3) := by decide +kernel
theorem dX0_rideLineBack_121 : decode cX0_rideLineBack 121 = .ok (.iload 4, 2) := by decide +kernel
theorem dX0_rideLineBack_123 : decode cX0_rideLineBack 123 = .ok (.iaload, 1) := by decide +kernel
theorem dX0_rideLineBack_124 : decode cX0_rideLineBack 124 = .ok (.invokevirtual 77, 3) := by decide +kernel
theorem dX0_rideLineBack_127 : decode cX0_rideLineBack 127 = .ok (.istore 7, 2) := by decide +kernel
theorem dX0_rideLineBack_129 : decode cX0_rideLineBack 129 = .ok (.iload 7, 2) := by decide +kernel
theorem dX0_rideLineBack_131 : decode cX0_rideLineBack 131 = .ok (.iload_n 2, 1) := by decide +kernel
theorem dX0_rideLineBack_132 : decode cX0_rideLineBack 132 = .ok (.if_icmp .le 6, 3) := by decide +kernel
theorem dX0_rideLineBack_135 : decode cX0_rideLineBack 135 = .ok (.iload 7, 2) := by decide +kernel
theorem dX0_rideLineBack_137 : decode cX0_rideLineBack 137 = .ok (.istore_n 2, 1) := by decide +kernel
theorem dX0_rideLineBack_138 : decode cX0_rideLineBack 138 = .ok (.iinc 3 (-1), 3) := by decide +kernel
theorem dX0_rideLineBack_141 : decode cX0_rideLineBack 141 = .ok (.goto (-129), 3) := by decide +kernel
theorem dX0_rideLineBack_144 : decode cX0_rideLineBack 144 = .ok (.return_, 1) := by decide +kernel
theorem dX0_meetTrip_0 : decode cX0_meetTrip 0 = .ok (.ldc 76, 2) := by decide +kernel
theorem dX0_meetTrip_2 : decode cX0_meetTrip 2 = .ok (.istore 4, 2) := by decide +kernel
theorem dX0_meetTrip_4 : decode cX0_meetTrip 4 = .ok (.iconst 0, 1) := by decide +kernel
theorem dX0_meetTrip_5 : decode cX0_meetTrip 5 = .ok (.istore 5, 2) := by decide +kernel
theorem dX0_meetTrip_7 : decode cX0_meetTrip 7 = .ok (.iload 5, 2) := by decide +kernel
theorem dX0_meetTrip_9 : decode cX0_meetTrip 9 = .ok (.aload_n 0, 1) := by decide +kernel
theorem dX0_meetTrip_10 : decode cX0_meetTrip 10 = .ok (.getfield 45, 3) := by decide +kernel
theorem dX0_meetTrip_13 : decode cX0_meetTrip 13 = .ok (.if_icmp .ge 64, 3) := by decide +kernel
theorem dX0_meetTrip_16 : decode cX0_meetTrip 16 = .ok (.aload_n 0, 1) := by decide +kernel
theorem dX0_meetTrip_17 : decode cX0_meetTrip 17 = .ok (.getfield 19, 3) := by decide +kernel
theorem dX0_meetTrip_20 : decode cX0_meetTrip 20 = .ok (.iload 5, 2) := by decide +kernel
theorem dX0_meetTrip_22 : decode cX0_meetTrip 22 = .ok (.iaload, 1) := by decide +kernel
theorem dX0_meetTrip_23 : decode cX0_meetTrip 23 = .ok (.iload_n 1, 1) := by decide +kernel
theorem dX0_meetTrip_24 : decode cX0_meetTrip 24 = .ok (.if_icmp .ne 47, 3) := by decide +kernel
theorem dX0_meetTrip_27 : decode cX0_meetTrip 27 = .ok (.aload_n 0, 1) := by decide +kernel
theorem dX0_meetTrip_28 : decode cX0_meetTrip 28 = .ok (.getfield 22, 3) := by decide +kernel
theorem dX0_meetTrip_31 : decode cX0_meetTrip 31 = .ok (.iload 5, 2) := by decide +kernel
theorem dX0_meetTrip_33 : decode cX0_meetTrip 33 = .ok (.iaload, 1) := by decide +kernel
theorem dX0_meetTrip_34 : decode cX0_meetTrip 34 = .ok (.aload_n 0, 1) := by decide +kernel
theorem dX0_meetTrip_35 : decode cX0_meetTrip 35 = .ok (.getfield 16, 3) := by decide +kernel
theorem dX0_meetTrip_38 : decode cX0_meetTrip 38 = .ok (.iload_n 1, 1) := by decide +kernel
theorem dX0_meetTrip_39 : decode cX0_meetTrip 39 = .ok (.bipush 6, 2) := by decide +kernel
theorem dX0_meetTrip_41 : decode cX0_meetTrip 41 = .ok (.imul, 1) := by decide +kernel
theorem dX0_meetTrip_42 : decode cX0_meetTrip 42 = .ok (.iload_n 2, 1) := by decide +kernel
theorem dX0_meetTrip_43 : decode cX0_meetTrip 43 = .ok (.iadd, 1) := by decide +kernel
theorem dX0_meetTrip_44 : decode cX0_meetTrip 44 = .ok (.iaload, 1) := by decide +kernel
theorem dX0_meetTrip_45 : decode cX0_meetTrip 45 = .ok (.iadd, 1) := by decide +kernel
theorem dX0_meetTrip_46 : decode cX0_meetTrip 46 = .ok (.iload_n 3, 1) := by decide +kernel
theorem dX0_meetTrip_47 : decode cX0_meetTrip 47 = .ok (.if_icmp .gt 24, 3) := by decide +kernel
theorem dX0_meetTrip_50 : decode cX0_meetTrip 50 = .ok (.aload_n 0, 1) := by decide +kernel
theorem dX0_meetTrip_51 : decode cX0_meetTrip 51 = .ok (.getfield 22, 3) := by decide +kernel
theorem dX0_meetTrip_54 : decode cX0_meetTrip 54 = .ok (.iload 5, 2) := by decide +kernel
theorem dX0_meetTrip_56 : decode cX0_meetTrip 56 = .ok (.iaload, 1) := by decide +kernel
theorem dX0_meetTrip_57 : decode cX0_meetTrip 57 = .ok (.iload 4, 2) := by decide +kernel
theorem dX0_meetTrip_59 : decode cX0_meetTrip 59 = .ok (.if_icmp .le 12, 3) := by decide +kernel
theorem dX0_meetTrip_62 : decode cX0_meetTrip 62 = .ok (.aload_n 0, 1) := by decide +kernel
theorem dX0_meetTrip_63 : decode cX0_meetTrip 63 = .ok (.getfield 22, 3) := by decide +kernel
theorem dX0_meetTrip_66 : decode cX0_meetTrip 66 = .ok (.iload 5, 2) := by decide +kernel
theorem dX0_meetTrip_68 : decode cX0_meetTrip 68 = .ok (.iaload, 1) := by decide +kernel
theorem dX0_meetTrip_69 : decode cX0_meetTrip 69 = .ok (.istore 4, 2) := by decide +kernel
theorem dX0_meetTrip_71 : decode cX0_meetTrip 71 = .ok (.iinc 5 1, 3) := by decide +kernel
theorem dX0_meetTrip_74 : decode cX0_meetTrip 74 = .ok (.goto (-67), 3) := by decide +kernel
theorem dX0_meetTrip_77 : decode cX0_meetTrip 77 = .ok (.iload 4, 2) := by decide +kernel
theorem dX0_meetTrip_79 : decode cX0_meetTrip 79 = .ok (.ireturn, 1) := by decide +kernel
theorem dX0_within_0 : decode cX0_within 0 = .ok (.aload_n 0, 1) := by decide +kernel
theorem dX0_within_1 : decode cX0_within 1 = .ok (.iload_n 1, 1) := by decide +kernel
theorem dX0_within_2 : decode cX0_within 2 = .ok (.iload_n 1, 1) := by decide +kernel
theorem dX0_within_3 : decode cX0_within 3 = .ok (.iload_n 2, 1) := by decide +kernel
theorem dX0_within_4 : decode cX0_within 4 = .ok (.invokevirtual 89, 3) := by decide +kernel
theorem dX0_within_7 : decode cX0_within 7 = .ok (.istore 4, 2) := by decide +kernel
theorem dX0_within_9 : decode cX0_within 9 = .ok (.iload 4, 2) := by decide +kernel
theorem dX0_within_11 : decode cX0_within 11 = .ok (.ifCond .eq 6, 3) := by decide +kernel
theorem dX0_within_14 : decode cX0_within 14 = .ok (.iload 4, 2) := by decide +kernel
theorem dX0_within_16 : decode cX0_within 16 = .ok (.ireturn, 1) := by decide +kernel
theorem dX0_within_17 : decode cX0_within 17 = .ok (.iload_n 3, 1) := by decide +kernel
theorem dX0_within_18 : decode cX0_within 18 = .ok (.invokestatic 86, 3) := by decide +kernel
theorem dX0_within_21 : decode cX0_within 21 = .ok (.ifCond .eq 6, 3) := by decide +kernel
theorem dX0_within_24 : decode cX0_within 24 = .ok (.bipush (-3), 2) := by decide +kernel
theorem dX0_within_26 : decode cX0_within 26 = .ok (.ireturn, 1) := by decide +kernel
theorem dX0_within_27 : decode cX0_within 27 = .ok (.aload_n 0, 1) := by decide +kernel
theorem dX0_within_28 : decode cX0_within 28 = .ok (.iload_n 1, 1) := by decide +kernel
theorem dX0_within_29 : decode cX0_within 29 = .ok (.iload_n 2, 1) := by decide +kernel
theorem dX0_within_30 : decode cX0_within 30 = .ok (.bipush 12, 2) := by decide +kernel
theorem dX0_within_32 : decode cX0_within 32 = .ok (.invokevirtual 92, 3) := by decide +kernel
theorem dX0_within_35 : decode cX0_within 35 = .ok (.iconst 0, 1) := by decide +kernel
theorem dX0_within_36 : decode cX0_within 36 = .ok (.istore 5, 2) := by decide +kernel
theorem dX0_within_38 : decode cX0_within 38 = .ok (.iconst 0, 1) := by decide +kernel
theorem dX0_within_39 : decode cX0_within 39 = .ok (.istore 6, 2) := by decide +kernel
theorem dX0_within_41 : decode cX0_within 41 = .ok (.iload 6, 2) := by decide +kernel
theorem dX0_within_43 : decode cX0_within 43 = .ok (.bipush 8, 2) := by decide +kernel
theorem dX0_within_45 : decode cX0_within 45 = .ok (.if_icmp .ge 23, 3) := by decide +kernel
theorem dX0_within_48 : decode cX0_within 48 = .ok (.aload_n 0, 1) := by decide +kernel
theorem dX0_within_49 : decode cX0_within 49 = .ok (.getfield 31, 3) := by decide +kernel
theorem dX0_within_52 : decode cX0_within 52 = .ok (.iload 6, 2) := by decide +kernel
theorem dX0_within_54 : decode cX0_within 54 = .ok (.iaload, 1) := by decide +kernel
theorem dX0_within_55 : decode cX0_within 55 = .ok (.iload_n 3, 1) := by decide +kernel
theorem dX0_within_56 : decode cX0_within 56 = .ok (.if_icmp .gt 6, 3) := by decide +kernel
theorem dX0_within_59 : decode cX0_within 59 = .ok (.iinc 5 1, 3) := by decide +kernel
theorem dX0_within_62 : decode cX0_within 62 = .ok (.iinc 6 1, 3) := by decide +kernel
theorem dX0_within_65 : decode cX0_within 65 = .ok (.goto (-24), 3) := by decide +kernel
theorem dX0_within_68 : decode cX0_within 68 = .ok (.iload 5, 2) := by decide +kernel
theorem dX0_within_70 : decode cX0_within 70 = .ok (.ireturn, 1) := by decide +kernel
end
section
set_option maxRecDepth 100000
theorem dX1_init_0 : decode cX1_init 0 = .ok (.aload_n 0, 1) := by decide +kernel
theorem dX1_init_1 : decode cX1_init 1 = .ok (.invokespecial 1, 3) := by decide +kernel
theorem dX1_init_4 : decode cX1_init 4 = .ok (.aload_n 0, 1) := by decide +kernel
theorem dX1_init_5 : decode cX1_init 5 = .ok (.iconst 5, 1) := by decide +kernel
theorem dX1_init_6 : decode cX1_init 6 = .ok (.newarray .int, 2) := by decide +kernel
theorem dX1_init_8 : decode cX1_init 8 = .ok (.putfield 7, 3) := by decide +kernel
theorem dX1_init_11 : decode cX1_init 11 = .ok (.aload_n 0, 1) := by decide +kernel
theorem dX1_init_12 : decode cX1_init 12 = .ok (.bipush 30, 2) := by decide +kernel
theorem dX1_init_14 : decode cX1_init 14 = .ok (.newarray .int, 2) := by decide +kernel
theorem dX1_init_16 : decode cX1_init 16 = .ok (.putfield 13, 3) := by decide +kernel
theorem dX1_init_19 : decode cX1_init 19 = .ok (.aload_n 0, 1) := by decide +kernel
theorem dX1_init_20 : decode cX1_init 20 = .ok (.bipush 30, 2) := by decide +kernel
theorem dX1_init_22 : decode cX1_init 22 = .ok (.newarray .int, 2) := by decide +kernel
theorem dX1_init_24 : decode cX1_init 24 = .ok (.putfield 16, 3) := by decide +kernel
theorem dX1_init_27 : decode cX1_init 27 = .ok (.aload_n 0, 1) := by decide +kernel
theorem dX1_init_28 : decode cX1_init 28 = .ok (.bipush 12, 2) := by decide +kernel
theorem dX1_init_30 : decode cX1_init 30 = .ok (.newarray .int, 2) := by decide +kernel
theorem dX1_init_32 : decode cX1_init 32 = .ok (.putfield 19, 3) := by decide +kernel
theorem dX1_init_35 : decode cX1_init 35 = .ok (.aload_n 0, 1) := by decide +kernel
theorem dX1_init_36 : decode cX1_init 36 = .ok (.bipush 12, 2) := by decide +kernel
theorem dX1_init_38 : decode cX1_init 38 = .ok (.newarray .int, 2) := by decide +kernel
theorem dX1_init_40 : decode cX1_init 40 = .ok (.putfield 22, 3) := by decide +kernel
theorem dX1_init_43 : decode cX1_init 43 = .ok (.aload_n 0, 1) := by decide +kernel
theorem dX1_init_44 : decode cX1_init 44 = .ok (.bipush 64, 2) := by decide +kernel
theorem dX1_init_46 : decode cX1_init 46 = .ok (.newarray .int, 2) := by decide +kernel
theorem dX1_init_48 : decode cX1_init 48 = .ok (.putfield 25, 3) := by decide +kernel
theorem dX1_init_51 : decode cX1_init 51 = .ok (.aload_n 0, 1) := by decide +kernel
theorem dX1_init_52 : decode cX1_init 52 = .ok (.bipush 104, 2) := by decide +kernel
theorem dX1_init_54 : decode cX1_init 54 = .ok (.newarray .int, 2) := by decide +kernel
theorem dX1_init_56 : decode cX1_init 56 = .ok (.putfield 28, 3) := by decide +kernel
theorem dX1_init_59 : decode cX1_init 59 = .ok (.aload_n 0, 1) := by decide +kernel
theorem dX1_init_60 : decode cX1_init 60 = .ok (.bipush 104, 2) := by decide +kernel
theorem dX1_init_62 : decode cX1_init 62 = .ok (.newarray .int, 2) := by decide +kernel
theorem dX1_init_64 : decode cX1_init 64 = .ok (.putfield 31, 3) := by decide +kernel
theorem dX1_init_67 : decode cX1_init 67 = .ok (.return_, 1) := by decide +kernel
theorem dX1_line_0 : decode cX1_line 0 = .ok (.aload_n 0, 1) := by decide +kernel
theorem dX1_line_1 : decode cX1_line 1 = .ok (.iload_n 1, 1) := by decide +kernel
theorem dX1_line_2 : decode cX1_line 2 = .ok (.invokevirtual 38, 3) := by decide +kernel
theorem dX1_line_5 : decode cX1_line 5 = .ok (.ifCond .ne 5, 3) := by decide +kernel
theorem dX1_line_8 : decode cX1_line 8 = .ok (.iconst (-1), 1) := by decide +kernel
theorem dX1_line_9 : decode cX1_line 9 = .ok (.ireturn, 1) := by decide +kernel
theorem dX1_line_10 : decode cX1_line 10 = .ok (.aload_n 0, 1) := by decide +kernel
theorem dX1_line_11 : decode cX1_line 11 = .ok (.getfield 34, 3) := by decide +kernel
theorem dX1_line_14 : decode cX1_line 14 = .ok (.iconst 5, 1) := by decide +kernel
theorem dX1_line_15 : decode cX1_line 15 = .ok (.if_icmp .ne 6, 3) := by decide +kernel
theorem dX1_line_18 : decode cX1_line 18 = .ok (.bipush (-4), 2) := by decide +kernel
theorem dX1_line_20 : decode cX1_line 20 = .ok (.ireturn, 1) := by decide +kernel
theorem dX1_line_21 : decode cX1_line 21 = .ok (.aload_n 0, 1) := by decide +kernel
theorem dX1_line_22 : decode cX1_line 22 = .ok (.getfield 13, 3) := by decide +kernel
theorem dX1_line_25 : decode cX1_line 25 = .ok (.aload_n 0, 1) := by decide +kernel
theorem dX1_line_26 : decode cX1_line 26 = .ok (.getfield 34, 3) := by decide +kernel
theorem dX1_line_29 : decode cX1_line 29 = .ok (.bipush 6, 2) := by decide +kernel
theorem dX1_line_31 : decode cX1_line 31 = .ok (.imul, 1) := by decide +kernel
theorem dX1_line_32 : decode cX1_line 32 = .ok (.iload_n 1, 1) := by decide +kernel
theorem dX1_line_33 : decode cX1_line 33 = .ok (.iastore, 1) := by decide +kernel
theorem dX1_line_34 : decode cX1_line 34 = .ok (.aload_n 0, 1) := by decide +kernel
theorem dX1_line_35 : decode cX1_line 35 = .ok (.getfield 16, 3) := by decide +kernel
theorem dX1_line_38 : decode cX1_line 38 = .ok (.aload_n 0, 1) := by decide +kernel
theorem dX1_line_39 : decode cX1_line 39 = .ok (.getfield 34, 3) := by decide +kernel
theorem dX1_line_42 : decode cX1_line 42 = .ok (.bipush 6, 2) := by decide +kernel
theorem dX1_line_44 : decode cX1_line 44 = .ok (.imul, 1) := by decide +kernel
theorem dX1_line_45 : decode cX1_line 45 = .ok (.iconst 0, 1) := by decide +kernel
theorem dX1_line_46 : decode cX1_line 46 = .ok (.iastore, 1) := by decide +kernel
theorem dX1_line_47 : decode cX1_line 47 = .ok (.aload_n 0, 1) := by decide +kernel
theorem dX1_line_48 : decode cX1_line 48 = .ok (.getfield 7, 3) := by decide +kernel
theorem dX1_line_51 : decode cX1_line 51 = .ok (.aload_n 0, 1) := by decide +kernel
theorem dX1_line_52 : decode cX1_line 52 = .ok (.getfield 34, 3) := by decide +kernel
theorem dX1_line_55 : decode cX1_line 55 = .ok (.iconst 1, 1) := by decide +kernel
theorem dX1_line_56 : decode cX1_line 56 = .ok (.iastore, 1) := by decide +kernel
theorem dX1_line_57 : decode cX1_line 57 = .ok (.aload_n 0, 1) := by decide +kernel
theorem dX1_line_58 : decode cX1_line 58 = .ok (.dup, 1) := by decide +kernel
theorem dX1_line_59 : decode cX1_line 59 = .ok (.getfield 34, 3) := by decide +kernel
theorem dX1_line_62 : decode cX1_line 62 = .ok (.iconst 1, 1) := by decide +kernel
theorem dX1_line_63 : decode cX1_line 63 = .ok (.iadd, 1) := by decide +kernel
theorem dX1_line_64 : decode cX1_line 64 = .ok (.putfield 34, 3) := by decide +kernel
theorem dX1_line_67 : decode cX1_line 67 = .ok (.aload_n 0, 1) := by decide +kernel
theorem dX1_line_68 : decode cX1_line 68 = .ok (.getfield 34, 3) := by decide +kernel
theorem dX1_line_71 : decode cX1_line 71 = .ok (.iconst 1, 1) := by decide +kernel
theorem dX1_line_72 : decode cX1_line 72 = .ok (.isub, 1) := by decide +kernel
theorem dX1_line_73 : decode cX1_line 73 = .ok (.ireturn, 1) := by decide +kernel
theorem dX1_isStop_0 : decode cX1_isStop 0 = .ok (.iload_n 1, 1) := by decide +kernel
theorem dX1_isStop_1 : decode cX1_isStop 1 = .ok (.ifCond .lt 13, 3) := by decide +kernel
theorem dX1_isStop_4 : decode cX1_isStop 4 = .ok (.iload_n 1, 1) := by decide +kernel
theorem dX1_isStop_5 : decode cX1_isStop 5 = .ok (.bipush 8, 2) := by decide +kernel
theorem dX1_isStop_7 : decode cX1_isStop 7 = .ok (.if_icmp .ge 7, 3) := by decide +kernel
theorem dX1_isStop_10 : decode cX1_isStop 10 = .ok (.iconst 1, 1) := by decide +kernel
theorem dX1_isStop_11 : decode cX1_isStop 11 = .ok (.goto 4, 3) := by decide +kernel
theorem dX1_isStop_14 : decode cX1_isStop 14 = .ok (.iconst 0, 1) := by decide +kernel
theorem dX1_isStop_15 : decode cX1_isStop 15 = .ok (.ireturn, 1) := by decide +kernel
theorem dX1_extend_0 : decode cX1_extend 0 = .ok (.aload_n 0, 1) := by decide +kernel
theorem dX1_extend_1 : decode cX1_extend 1 = .ok (.iload_n 1, 1) := by decide +kernel
theorem dX1_extend_2 : decode cX1_extend 2 = .ok (.invokevirtual 45, 3) := by decide +kernel
theorem dX1_extend_5 : decode cX1_extend 5 = .ok (.ifCond .ne 6, 3) := by decide +kernel
theorem dX1_extend_8 : decode cX1_extend 8 = .ok (.bipush (-2), 2) := by decide +kernel
theorem dX1_extend_10 : decode cX1_extend 10 = .ok (.ireturn, 1) := by decide +kernel
theorem dX1_extend_11 : decode cX1_extend 11 = .ok (.aload_n 0, 1) := by decide +kernel
theorem dX1_extend_12 : decode cX1_extend 12 = .ok (.iload_n 2, 1) := by decide +kernel
theorem dX1_extend_13 : decode cX1_extend 13 = .ok (.invokevirtual 38, 3) := by decide +kernel
theorem dX1_extend_16 : decode cX1_extend 16 = .ok (.ifCond .eq 12, 3) := by decide +kernel
theorem dX1_extend_19 : decode cX1_extend 19 = .ok (.aload_n 0, 1) := by decide +kernel
theorem dX1_extend_20 : decode cX1_extend 20 = .ok (.iload_n 1, 1) := by decide +kernel
theorem dX1_extend_21 : decode cX1_extend 21 = .ok (.iload_n 2, 1) := by decide +kernel
theorem dX1_extend_22 : decode cX1_extend 22 = .ok (.invokevirtual 48, 3) := by decide +kernel
theorem dX1_extend_25 : decode cX1_extend 25 = .ok (.ifCond .eq 5, 3) := by decide +kernel
theorem dX1_extend_28 : decode cX1_extend 28 = .ok (.iconst (-1), 1) := by decide +kernel
theorem dX1_extend_29 : decode cX1_extend 29 = .ok (.ireturn, 1) := by decide +kernel
theorem dX1_extend_30 : decode cX1_extend 30 = .ok (.iload_n 3, 1) := by decide +kernel
theorem dX1_extend_31 : decode cX1_extend 31 = .ok (.iconst 1, 1) := by decide +kernel
theorem dX1_extend_32 : decode cX1_extend 32 = .ok (.if_icmp .lt 9, 3) := by decide +kernel
theorem dX1_extend_35 : decode cX1_extend 35 = .ok (.iload_n 3, 1) := by decide +kernel
theorem dX1_extend_36 : decode cX1_extend 36 = .ok (.bipush 30, 2) := by decide +kernel
theorem dX1_extend_38 : decode cX1_extend 38 = .ok (.if_icmp .le 6, 3) := by decide +kernel
theorem dX1_extend_41 : decode cX1_extend 41 = .ok (.bipush (-3), 2) := by decide +kernel
theorem dX1_extend_43 : decode cX1_extend 43 = .ok (.ireturn, 1) := by decide +kernel
theorem dX1_extend_44 : decode cX1_extend 44 = .ok (.aload_n 0, 1) := by decide +kernel
theorem dX1_extend_45 : decode cX1_extend 45 = .ok (.getfield 7, 3) := by decide +kernel
theorem dX1_extend_48 : decode cX1_extend 48 = .ok (.iload_n 1, 1) := by decide +kernel
theorem dX1_extend_49 : decode cX1_extend 49 = .ok (.iaload, 1) := by decide +kernel
theorem dX1_extend_50 : decode cX1_extend 50 = .ok (.bipush 6, 2) := by decide +kernel
theorem dX1_extend_52 : decode cX1_extend 52 = .ok (.if_icmp .eq 11, 3) := by decide +kernel
theorem dX1_extend_55 : decode cX1_extend 55 = .ok (.aload_n 0, 1) := by decide +kernel
theorem dX1_extend_56 : decode cX1_extend 56 = .ok (.iload_n 1, 1) := by decide +kernel
theorem dX1_extend_57 : decode cX1_extend 57 = .ok (.invokevirtual 52, 3) := by decide +kernel
theorem dX1_extend_60 : decode cX1_extend 60 = .ok (.ifCond .eq 6, 3) := by decide +kernel
theorem dX1_extend_63 : decode cX1_extend 63 = .ok (.bipush (-4), 2) := by decide +kernel
theorem dX1_extend_65 : decode cX1_extend 65 = .ok (.ireturn, 1) := by decide +kernel
theorem dX1_extend_66 : decode cX1_extend 66 = .ok (.iload_n 1, 1) := by decide +kernel
theorem dX1_extend_67 : decode cX1_extend 67 = .ok (.bipush 6, 2) := by decide +kernel
theorem dX1_extend_69 : decode cX1_extend 69 = .ok (.imul, 1) := by decide +kernel
theorem dX1_extend_70 : decode cX1_extend 70 = .ok (.aload_n 0, 1) := by decide +kernel
theorem dX1_extend_71 : decode cX1_extend 71 = .ok (.getfield 7, 3) := by decide +kernel
theorem dX1_extend_74 : decode cX1_extend 74 = .ok (.iload_n 1, 1) := by decide +kernel
theorem dX1_extend_75 : decode cX1_extend 75 = .ok (.iaload, 1) := by decide +kernel
theorem dX1_extend_76 : decode cX1_extend 76 = .ok (.iadd, 1) := by decide +kernel
theorem dX1_extend_77 : decode cX1_extend 77 = .ok (.istore 4, 2) := by decide +kernel
theorem dX1_extend_79 : decode cX1_extend 79 = .ok (.aload_n 0, 1) := by decide +kernel
theorem dX1_extend_80 : decode cX1_extend 80 = .ok (.getfield 13, 3) := by decide +kernel
theorem dX1_extend_83 : decode cX1_extend 83 = .ok (.iload 4, 2) := by decide +kernel
theorem dX1_extend_85 : decode cX1_extend 85 = .ok (.iload_n 2, 1) := by decide +kernel
theorem dX1_extend_86 : decode cX1_extend 86 = .ok (.iastore, 1) := by decide +kernel
theorem dX1_extend_87 : decode cX1_extend 87 = .ok (.aload_n 0, 1) := by decide +kernel
theorem dX1_extend_88 : decode cX1_extend 88 = .ok (.getfield 16, 3) := by decide +kernel
theorem dX1_extend_91 : decode cX1_extend 91 = .ok (.iload 4, 2) := by decide +kernel
theorem dX1_extend_93 : decode cX1_extend 93 = .ok (.aload_n 0, 1) := by decide +kernel
theorem dX1_extend_94 : decode cX1_extend 94 = .ok (.getfield 16, 3) := by decide +kernel
theorem dX1_extend_97 : decode cX1_extend 97 = .ok (.iload 4, 2) := by decide +kernel
theorem dX1_extend_99 : decode cX1_extend 99 = .ok (.iconst 1, 1) := by decide +kernel
theorem dX1_extend_100 : decode cX1_extend 100 = .ok (.isub, 1) := by decide +kernel
theorem dX1_extend_101 : decode cX1_extend 101 = .ok (.iaload, 1) := by decide +kernel
theorem dX1_extend_102 : decode cX1_extend 102 = .ok (.iload_n 3, 1) := by decide +kernel
theorem dX1_extend_103 : decode cX1_extend 103 = .ok (.iadd, 1) := by decide +kernel
theorem dX1_extend_104 : decode cX1_extend 104 = .ok (.iastore, 1) := by decide +kernel
theorem dX1_extend_105 : decode cX1_extend 105 = .ok (.aload_n 0, 1) := by decide +kernel
theorem dX1_extend_106 : decode cX1_extend 106 = .ok (.getfield 7, 3) := by decide +kernel
theorem dX1_extend_109 : decode cX1_extend 109 = .ok (.iload_n 1, 1) := by decide +kernel
theorem dX1_extend_110 : decode cX1_extend 110 = .ok (.dup2, 1) := by decide +kernel
theorem dX1_extend_111 : decode cX1_extend 111 = .ok (.iaload, 1) := by decide +kernel
theorem dX1_extend_112 : decode cX1_extend 112 = .ok (.iconst 1, 1) := by decide +kernel
theorem dX1_extend_113 : decode cX1_extend 113 = .ok (.iadd, 1) := by decide +kernel
theorem dX1_extend_114 : decode cX1_extend 114 = .ok (.iastore, 1) := by decide +kernel
theorem dX1_extend_115 : decode cX1_extend 115 = .ok (.aload_n 0, 1) := by decide +kernel
theorem dX1_extend_116 : decode cX1_extend 116 = .ok (.getfield 7, 3) := by decide +kernel
theorem dX1_extend_119 : decode cX1_extend 119 = .ok (.iload_n 1, 1) := by decide +kernel
theorem dX1_extend_120 : decode cX1_extend 120 = .ok (.iaload, 1) := by decide +kernel
theorem dX1_extend_121 : decode cX1_extend 121 = .ok (.ireturn, 1) := by decide +kernel
theorem dX1_isLine_0 : decode cX1_isLine 0 = .ok (.iload_n 1, 1) := by decide +kernel
theorem dX1_isLine_1 : decode cX1_isLine 1 = .ok (.ifCond .lt 15, 3) := by decide +kernel
theorem dX1_isLine_4 : decode cX1_isLine 4 = .ok (.iload_n 1, 1) := by decide +kernel
theorem dX1_isLine_5 : decode cX1_isLine 5 = .ok (.aload_n 0, 1) := by decide +kernel
theorem dX1_isLine_6 : decode cX1_isLine 6 = .ok (.getfield 34, 3) := by decide +kernel
theorem dX1_isLine_9 : decode cX1_isLine 9 = .ok (.if_icmp .ge 7, 3) := by decide +kernel
theorem dX1_isLine_12 : decode cX1_isLine 12 = .ok (.iconst 1, 1) := by decide +kernel
theorem dX1_isLine_13 : decode cX1_isLine 13 = .ok (.goto 4, 3) := by decide +kernel
theorem dX1_isLine_16 : decode cX1_isLine 16 = .ok (.iconst 0, 1) := by decide +kernel
theorem dX1_isLine_17 : decode cX1_isLine 17 = .ok (.ireturn, 1) := by decide +kernel
theorem dX1_onLine_0 : decode cX1_onLine 0 = .ok (.iconst 0, 1) := by decide +kernel
theorem dX1_onLine_1 : decode cX1_onLine 1 = .ok (.istore_n 3, 1) := by decide +kernel
theorem dX1_onLine_2 : decode cX1_onLine 2 = .ok (.iload_n 3, 1) := by decide +kernel
theorem dX1_onLine_3 : decode cX1_onLine 3 = .ok (.aload_n 0, 1) := by decide +kernel
theorem dX1_onLine_4 : decode cX1_onLine 4 = .ok (.getfield 7, 3) := by decide +kernel
theorem dX1_onLine_7 : decode cX1_onLine 7 = .ok (.iload_n 1, 1) := by decide +kernel
theorem dX1_onLine_8 : decode cX1_onLine 8 = .ok (.iaload, 1) := by decide +kernel
theorem dX1_onLine_9 : decode cX1_onLine 9 = .ok (.if_icmp .ge 26, 3) := by decide +kernel
theorem dX1_onLine_12 : decode cX1_onLine 12 = .ok (.aload_n 0, 1) := by decide +kernel
theorem dX1_onLine_13 : decode cX1_onLine 13 = .ok (.getfield 13, 3) := by decide +kernel
theorem dX1_onLine_16 : decode cX1_onLine 16 = .ok (.iload_n 1, 1) := by decide +kernel
theorem dX1_onLine_17 : decode cX1_onLine 17 = .ok (.bipush 6, 2) := by decide +kernel
theorem dX1_onLine_19 : decode cX1_onLine 19 = .ok (.imul, 1) := by decide +kernel
theorem dX1_onLine_20 : decode cX1_onLine 20 = .ok (.iload_n 3, 1) := by decide +kernel
theorem dX1_onLine_21 : decode cX1_onLine 21 = .ok (.iadd, 1) := by decide +kernel
theorem dX1_onLine_22 : decode cX1_onLine 22 = .ok (.iaload, 1) := by decide +kernel
theorem dX1_onLine_23 : decode cX1_onLine 23 = .ok (.iload_n 2, 1) := by decide +kernel
theorem dX1_onLine_24 : decode cX1_onLine 24 = .ok (.if_icmp .ne 5, 3) := by decide +kernel
theorem dX1_onLine_27 : decode cX1_onLine 27 = .ok (.iconst 1, 1) := by decide +kernel
theorem dX1_onLine_28 : decode cX1_onLine 28 = .ok (.ireturn, 1) := by decide +kernel
theorem dX1_onLine_29 : decode cX1_onLine 29 = .ok (.iinc 3 1, 3) := by decide +kernel
theorem dX1_onLine_32 : decode cX1_onLine 32 = .ok (.goto (-30), 3) := by decide +kernel
theorem dX1_onLine_35 : decode cX1_onLine 35 = .ok (.iconst 0, 1) := by decide +kernel
theorem dX1_onLine_36 : decode cX1_onLine 36 = .ok (.ireturn, 1) := by decide +kernel
theorem dX1_hasTrips_0 : decode cX1_hasTrips 0 = .ok (.iconst 0, 1) := by decide +kernel
theorem dX1_hasTrips_1 : decode cX1_hasTrips 1 = .ok (.istore_n 2, 1) := by decide +kernel
theorem dX1_hasTrips_2 : decode cX1_hasTrips 2 = .ok (.iload_n 2, 1) := by decide +kernel
theorem dX1_hasTrips_3 : decode cX1_hasTrips 3 = .ok (.aload_n 0, 1) := by decide +kernel
theorem dX1_hasTrips_4 : decode cX1_hasTrips 4 = .ok (.getfield 42, 3) := by decide +kernel
theorem dX1_hasTrips_7 : decode cX1_hasTrips 7 = .ok (.if_icmp .ge 21, 3) := by decide +kernel
theorem dX1_hasTrips_10 : decode cX1_hasTrips 10 = .ok (.aload_n 0, 1) := by decide +kernel
theorem dX1_hasTrips_11 : decode cX1_hasTrips 11 = .ok (.getfield 19, 3) := by decide +kernel
theorem dX1_hasTrips_14 : decode cX1_hasTrips 14 = .ok (.iload_n 2, 1) := by decide +kernel
theorem dX1_hasTrips_15 : decode cX1_hasTrips 15 = .ok (.iaload, 1) := by decide +kernel
theorem dX1_hasTrips_16 : decode cX1_hasTrips 16 = .ok (.iload_n 1, 1) := by decide +kernel
theorem dX1_hasTrips_17 : decode cX1_hasTrips 17 = .ok (.if_icmp .ne 5, 3) := by decide +kernel
theorem dX1_hasTrips_20 : decode cX1_hasTrips 20 = .ok (.iconst 1, 1) := by decide +kernel
theorem dX1_hasTrips_21 : decode cX1_hasTrips 21 = .ok (.ireturn, 1) := by decide +kernel
theorem dX1_hasTrips_22 : decode cX1_hasTrips 22 = .ok (.iinc 2 1, 3) := by decide +kernel
theorem dX1_hasTrips_25 : decode cX1_hasTrips 25 = .ok (.goto (-23), 3) := by decide +kernel
theorem dX1_hasTrips_28 : decode cX1_hasTrips 28 = .ok (.iconst 0, 1) := by decide +kernel
theorem dX1_hasTrips_29 : decode cX1_hasTrips 29 = .ok (.ireturn, 1) := by decide +kernel
theorem dX1_trip_0 : decode cX1_trip 0 = .ok (.aload_n 0, 1) := by decide +kernel
theorem dX1_trip_1 : decode cX1_trip 1 = .ok (.iload_n 1, 1) := by decide +kernel
theorem dX1_trip_2 : decode cX1_trip 2 = .ok (.invokevirtual 45, 3) := by decide +kernel
theorem dX1_trip_5 : decode cX1_trip 5 = .ok (.ifCond .ne 6, 3) := by decide +kernel
theorem dX1_trip_8 : decode cX1_trip 8 = .ok (.bipush (-2), 2) := by decide +kernel
theorem dX1_trip_10 : decode cX1_trip 10 = .ok (.ireturn, 1) := by decide +kernel
theorem dX1_trip_11 : decode cX1_trip 11 = .ok (.iload_n 2, 1) := by decide +kernel
theorem dX1_trip_12 : decode cX1_trip 12 = .ok (.ifCond .lt 10, 3) := by decide +kernel
theorem dX1_trip_15 : decode cX1_trip 15 = .ok (.iload_n 2, 1) := by decide +kernel
theorem dX1_trip_16 : decode cX1_trip 16 = .ok (.sipush 500, 3) := by decide +kernel
theorem dX1_trip_19 : decode cX1_trip 19 = .ok (.if_icmp .le 6, 3) := by decide +kernel
theorem dX1_trip_22 : decode cX1_trip 22 = .ok (.bipush (-3), 2) := by decide +kernel
theorem dX1_trip_24 : decode cX1_trip 24 = .ok (.ireturn, 1) := by decide +kernel
theorem dX1_trip_25 : decode cX1_trip 25 = .ok (.aload_n 0, 1) := by decide +kernel
theorem dX1_trip_26 : decode cX1_trip 26 = .ok (.getfield 42, 3) := by decide +kernel
theorem dX1_trip_29 : decode cX1_trip 29 = .ok (.bipush 12, 2) := by decide +kernel
theorem dX1_trip_31 : decode cX1_trip 31 = .ok (.if_icmp .ne 6, 3) := by decide +kernel
theorem dX1_trip_34 : decode cX1_trip 34 = .ok (.bipush (-4), 2) := by decide +kernel
theorem dX1_trip_36 : decode cX1_trip 36 = .ok (.ireturn, 1) := by decide +kernel
theorem dX1_trip_37 : decode cX1_trip 37 = .ok (.aload_n 0, 1) := by decide +kernel
theorem dX1_trip_38 : decode cX1_trip 38 = .ok (.getfield 19, 3) := by decide +kernel
theorem dX1_trip_41 : decode cX1_trip 41 = .ok (.aload_n 0, 1) := by decide +kernel
theorem dX1_trip_42 : decode cX1_trip 42 = .ok (.getfield 42, 3) := by decide +kernel
theorem dX1_trip_45 : decode cX1_trip 45 = .ok (.iload_n 1, 1) := by decide +kernel
theorem dX1_trip_46 : decode cX1_trip 46 = .ok (.iastore, 1) := by decide +kernel
theorem dX1_trip_47 : decode cX1_trip 47 = .ok (.aload_n 0, 1) := by decide +kernel
theorem dX1_trip_48 : decode cX1_trip 48 = .ok (.getfield 22, 3) := by decide +kernel
theorem dX1_trip_51 : decode cX1_trip 51 = .ok (.aload_n 0, 1) := by decide +kernel
theorem dX1_trip_52 : decode cX1_trip 52 = .ok (.getfield 42, 3) := by decide +kernel
theorem dX1_trip_55 : decode cX1_trip 55 = .ok (.iload_n 2, 1) := by decide +kernel
theorem dX1_trip_56 : decode cX1_trip 56 = .ok (.iastore, 1) := by decide +kernel
theorem dX1_trip_57 : decode cX1_trip 57 = .ok (.aload_n 0, 1) := by decide +kernel
theorem dX1_trip_58 : decode cX1_trip 58 = .ok (.dup, 1) := by decide +kernel
theorem dX1_trip_59 : decode cX1_trip 59 = .ok (.getfield 42, 3) := by decide +kernel
theorem dX1_trip_62 : decode cX1_trip 62 = .ok (.iconst 1, 1) := by decide +kernel
theorem dX1_trip_63 : decode cX1_trip 63 = .ok (.iadd, 1) := by decide +kernel
theorem dX1_trip_64 : decode cX1_trip 64 = .ok (.putfield 42, 3) := by decide +kernel
theorem dX1_trip_67 : decode cX1_trip 67 = .ok (.aload_n 0, 1) := by decide +kernel
theorem dX1_trip_68 : decode cX1_trip 68 = .ok (.getfield 42, 3) := by decide +kernel
theorem dX1_trip_71 : decode cX1_trip 71 = .ok (.iconst 1, 1) := by decide +kernel
theorem dX1_trip_72 : decode cX1_trip 72 = .ok (.isub, 1) := by decide +kernel
theorem dX1_trip_73 : decode cX1_trip 73 = .ok (.ireturn, 1) := by decide +kernel
theorem dX1_footpath_0 : decode cX1_footpath 0 = .ok (.aload_n 0, 1) := by decide +kernel
theorem dX1_footpath_1 : decode cX1_footpath 1 = .ok (.iload_n 1, 1) := by decide +kernel
theorem dX1_footpath_2 : decode cX1_footpath 2 = .ok (.invokevirtual 38, 3) := by decide +kernel
theorem dX1_footpath_5 : decode cX1_footpath 5 = .ok (.ifCond .eq 16, 3) := by decide +kernel
theorem dX1_footpath_8 : decode cX1_footpath 8 = .ok (.aload_n 0, 1) := by decide +kernel
theorem dX1_footpath_9 : decode cX1_footpath 9 = .ok (.iload_n 2, 1) := by decide +kernel
theorem dX1_footpath_10 : decode cX1_footpath 10 = .ok (.invokevirtual 38, 3) := by decide +kernel
theorem dX1_footpath_13 : decode cX1_footpath 13 = .ok (.ifCond .eq 8, 3) := by decide +kernel
theorem dX1_footpath_16 : decode cX1_footpath 16 = .ok (.iload_n 1, 1) := by decide +kernel
theorem dX1_footpath_17 : decode cX1_footpath 17 = .ok (.iload_n 2, 1) := by decide +kernel
theorem dX1_footpath_18 : decode cX1_footpath 18 = .ok (.if_icmp .ne 5, 3) := by decide +kernel
theorem dX1_footpath_21 : decode cX1_footpath 21 = .ok (.iconst (-1), 1) := by decide +kernel
theorem dX1_footpath_22 : decode cX1_footpath 22 = .ok (.ireturn, 1) := by decide +kernel
theorem dX1_footpath_23 : decode cX1_footpath 23 = .ok (.iload_n 3, 1) := by decide +kernel
theorem dX1_footpath_24 : decode cX1_footpath 24 = .ok (.ifCond .lt 9, 3) := by decide +kernel
theorem dX1_footpath_27 : decode cX1_footpath 27 = .ok (.iload_n 3, 1) := by decide +kernel
theorem dX1_footpath_28 : decode cX1_footpath 28 = .ok (.bipush 30, 2) := by decide +kernel
theorem dX1_footpath_30 : decode cX1_footpath 30 = .ok (.if_icmp .le 6, 3) := by decide +kernel
theorem dX1_footpath_33 : decode cX1_footpath 33 = .ok (.bipush (-3), 2) := by decide +kernel
theorem dX1_footpath_35 : decode cX1_footpath 35 = .ok (.ireturn, 1) := by decide +kernel
theorem dX1_footpath_36 : decode cX1_footpath 36 = .ok (.aload_n 0, 1) := by decide +kernel
theorem dX1_footpath_37 : decode cX1_footpath 37 = .ok (.getfield 25, 3) := by decide +kernel
theorem dX1_footpath_40 : decode cX1_footpath 40 = .ok (.iload_n 1, 1) := by decide +kernel
theorem dX1_footpath_41 : decode cX1_footpath 41 = .ok (.bipush 8, 2) := by decide +kernel
theorem dX1_footpath_43 : decode cX1_footpath 43 = .ok (.imul, 1) := by decide +kernel
theorem dX1_footpath_44 : decode cX1_footpath 44 = .ok (.iload_n 2, 1) := by decide +kernel
theorem dX1_footpath_45 : decode cX1_footpath 45 = .ok (.iadd, 1) := by decide +kernel
theorem dX1_footpath_46 : decode cX1_footpath 46 = .ok (.iaload, 1) := by decide +kernel
theorem dX1_footpath_47 : decode cX1_footpath 47 = .ok (.istore 4, 2) := by decide +kernel
theorem dX1_footpath_49 : decode cX1_footpath 49 = .ok (.aload_n 0, 1) := by decide +kernel
theorem dX1_footpath_50 : decode cX1_footpath 50 = .ok (.getfield 25, 3) := by decide +kernel
theorem dX1_footpath_53 : decode cX1_footpath 53 = .ok (.iload_n 1, 1) := by decide +kernel
theorem dX1_footpath_54 : decode cX1_footpath 54 = .ok (.bipush 8, 2) := by decide +kernel
theorem dX1_footpath_56 : decode cX1_footpath 56 = .ok (.imul, 1) := by decide +kernel
theorem dX1_footpath_57 : decode cX1_footpath 57 = .ok (.iload_n 2, 1) := by decide +kernel
theorem dX1_footpath_58 : decode cX1_footpath 58 = .ok (.iadd, 1) := by decide +kernel
theorem dX1_footpath_59 : decode cX1_footpath 59 = .ok (.iload_n 3, 1) := by decide +kernel
theorem dX1_footpath_60 : decode cX1_footpath 60 = .ok (.iastore, 1) := by decide +kernel
theorem dX1_footpath_61 : decode cX1_footpath 61 = .ok (.aload_n 0, 1) := by decide +kernel
theorem dX1_footpath_62 : decode cX1_footpath 62 = .ok (.getfield 25, 3) := by decide +kernel
theorem dX1_footpath_65 : decode cX1_footpath 65 = .ok (.iload_n 2, 1) := by decide +kernel
theorem dX1_footpath_66 : decode cX1_footpath 66 = .ok (.bipush 8, 2) := by decide +kernel
theorem dX1_footpath_68 : decode cX1_footpath 68 = .ok (.imul, 1) := by decide +kernel
theorem dX1_footpath_69 : decode cX1_footpath 69 = .ok (.iload_n 1, 1) := by decide +kernel
theorem dX1_footpath_70 : decode cX1_footpath 70 = .ok (.iadd, 1) := by decide +kernel
theorem dX1_footpath_71 : decode cX1_footpath 71 = .ok (.iload_n 3, 1) := by decide +kernel
theorem dX1_footpath_72 : decode cX1_footpath 72 = .ok (.iastore, 1) := by decide +kernel
theorem dX1_footpath_73 : decode cX1_footpath 73 = .ok (.iload 4, 2) := by decide +kernel
theorem dX1_footpath_75 : decode cX1_footpath 75 = .ok (.ireturn, 1) := by decide +kernel
theorem dX1_delay_0 : decode cX1_delay 0 = .ok (.iload_n 1, 1) := by decide +kernel
theorem dX1_delay_1 : decode cX1_delay 1 = .ok (.ifCond .lt 11, 3) := by decide +kernel
theorem dX1_delay_4 : decode cX1_delay 4 = .ok (.iload_n 1, 1) := by decide +kernel
theorem dX1_delay_5 : decode cX1_delay 5 = .ok (.aload_n 0, 1) := by decide +kernel
theorem dX1_delay_6 : decode cX1_delay 6 = .ok (.getfield 42, 3) := by decide +kernel
theorem dX1_delay_9 : decode cX1_delay 9 = .ok (.if_icmp .lt 6, 3) := by decide +kernel
theorem dX1_delay_12 : decode cX1_delay 12 = .ok (.bipush (-2), 2) := by decide +kernel
theorem dX1_delay_14 : decode cX1_delay 14 = .ok (.ireturn, 1) := by decide +kernel
theorem dX1_delay_15 : decode cX1_delay 15 = .ok (.iload_n 2, 1) := by decide +kernel
theorem dX1_delay_16 : decode cX1_delay 16 = .ok (.ifCond .lt 10, 3) := by decide +kernel
theorem dX1_delay_19 : decode cX1_delay 19 = .ok (.iload_n 2, 1) := by decide +kernel
theorem dX1_delay_20 : decode cX1_delay 20 = .ok (.sipush 500, 3) := by decide +kernel
theorem dX1_delay_23 : decode cX1_delay 23 = .ok (.if_icmp .le 6, 3) := by decide +kernel
theorem dX1_delay_26 : decode cX1_delay 26 = .ok (.bipush (-3), 2) := by decide +kernel
theorem dX1_delay_28 : decode cX1_delay 28 = .ok (.ireturn, 1) := by decide +kernel
theorem dX1_delay_29 : decode cX1_delay 29 = .ok (.aload_n 0, 1) := by decide +kernel
theorem dX1_delay_30 : decode cX1_delay 30 = .ok (.getfield 22, 3) := by decide +kernel
theorem dX1_delay_33 : decode cX1_delay 33 = .ok (.iload_n 1, 1) := by decide +kernel
theorem dX1_delay_34 : decode cX1_delay 34 = .ok (.iaload, 1) := by decide +kernel
theorem dX1_delay_35 : decode cX1_delay 35 = .ok (.istore_n 3, 1) := by decide +kernel
theorem dX1_delay_36 : decode cX1_delay 36 = .ok (.aload_n 0, 1) := by decide +kernel
theorem dX1_delay_37 : decode cX1_delay 37 = .ok (.getfield 22, 3) := by decide +kernel
theorem dX1_delay_40 : decode cX1_delay 40 = .ok (.iload_n 1, 1) := by decide +kernel
theorem dX1_delay_41 : decode cX1_delay 41 = .ok (.iload_n 2, 1) := by decide +kernel
theorem dX1_delay_42 : decode cX1_delay 42 = .ok (.iastore, 1) := by decide +kernel
theorem dX1_delay_43 : decode cX1_delay 43 = .ok (.iload_n 3, 1) := by decide +kernel
theorem dX1_delay_44 : decode cX1_delay 44 = .ok (.ireturn, 1) := by decide +kernel
theorem dX1_earliest_0 : decode cX1_earliest 0 = .ok (.aload_n 0, 1) := by decide +kernel
theorem dX1_earliest_1 : decode cX1_earliest 1 = .ok (.iload_n 1, 1) := by decide +kernel
theorem dX1_earliest_2 : decode cX1_earliest 2 = .ok (.iload_n 2, 1) := by decide +kernel
theorem dX1_earliest_3 : decode cX1_earliest 3 = .ok (.iload_n 3, 1) := by decide +kernel
theorem dX1_earliest_4 : decode cX1_earliest 4 = .ok (.bipush 12, 2) := by decide +kernel
theorem dX1_earliest_6 : decode cX1_earliest 6 = .ok (.invokevirtual 67, 3) := by decide +kernel
theorem dX1_earliest_9 : decode cX1_earliest 9 = .ok (.ireturn, 1) := by decide +kernel
theorem dX1_earliestWith_0 : decode cX1_earliestWith 0 = .ok (.aload_n 0, 1) := by decide +kernel
theorem dX1_earliestWith_1 : decode cX1_earliestWith 1 = .ok (.iload_n 1, 1) := by decide +kernel
theorem dX1_earliestWith_2 : decode cX1_earliestWith 2 = .ok (.iload_n 2, 1) := by decide +kernel
theorem dX1_earliestWith_3 : decode cX1_earliestWith 3 = .ok (.iload_n 3, 1) := by decide +kernel
theorem dX1_earliestWith_4 : decode cX1_earliestWith 4 = .ok (.invokevirtual 71, 3) := by decide +kernel
theorem dX1_earliestWith_7 : decode cX1_earliestWith 7 = .ok (.istore 5, 2) := by decide +kernel
theorem dX1_earliestWith_9 : decode cX1_earliestWith 9 = .ok (.iload 5, 2) := by decide +kernel
theorem dX1_earliestWith_11 : decode cX1_earliestWith 11 = .ok (.ifCond .ge 6, 3) := by decide +kernel
theorem dX1_earliestWith_14 : decode cX1_earliestWith 14 = .ok (.iload 5, 2) := by decide +kernel
theorem dX1_earliestWith_16 : decode cX1_earliestWith 16 = .ok (.ireturn, 1) := by decide +kernel
theorem dX1_earliestWith_17 : decode cX1_earliestWith 17 = .ok (.iload 4, 2) := by decide +kernel
theorem dX1_earliestWith_19 : decode cX1_earliestWith 19 = .ok (.ifCond .ge 7, 3) := by decide +kernel
theorem dX1_earliestWith_22 : decode cX1_earliestWith 22 = .ok (.iconst 0, 1) := by decide +kernel
theorem dX1_earliestWith_23 : decode cX1_earliestWith 23 = .ok (.goto 17, 3) := by decide +kernel
theorem dX1_earliestWith_26 : decode cX1_earliestWith 26 = .ok (.iload 4, 2) := by decide +kernel
theorem dX1_earliestWith_28 : decode cX1_earliestWith 28 = .ok (.bipush 12, 2) := by decide +kernel
theorem dX1_earliestWith_30 : decode cX1_earliestWith 30 = .ok (.if_icmp .le 8, 3) := by decide +kernel
theorem dX1_earliestWith_33 : decode cX1_earliestWith 33 = .ok (.bipush 12, 2) := by decide +kernel
theorem dX1_earliestWith_35 : decode cX1_earliestWith 35 = .ok (.goto 5, 3) := by decide +kernel
theorem dX1_earliestWith_38 : decode cX1_earliestWith 38 = .ok (.iload 4, 2) := by decide +kernel
theorem dX1_earliestWith_40 : decode cX1_earliestWith 40 = .ok (.istore 6, 2) := by decide +kernel
theorem dX1_earliestWith_42 : decode cX1_earliestWith 42 = .ok (.aload_n 0, 1) := by decide +kernel
theorem dX1_earliestWith_43 : decode cX1_earliestWith 43 = .ok (.iload_n 1, 1) := by decide +kernel
theorem dX1_earliestWith_44 : decode cX1_earliestWith 44 = .ok (.iload_n 3, 1) := by decide +kernel
theorem dX1_earliestWith_45 : decode cX1_earliestWith 45 = .ok (.iload 6, 2) := by decide +kernel
theorem dX1_earliestWith_47 : decode cX1_earliestWith 47 = .ok (.invokevirtual 75, 3) := by decide +kernel
theorem dX1_earliestWith_50 : decode cX1_earliestWith 50 = .ok (.aload_n 0, 1) := by decide +kernel
theorem dX1_earliestWith_51 : decode cX1_earliestWith 51 = .ok (.iload_n 2, 1) := by decide +kernel
end
section
set_option maxRecDepth 100000
theorem dX1_earliestWith_52 : decode cX1_earliestWith 52 = .ok (.iload 6, 2) := by decide +kernel
theorem dX1_earliestWith_54 : decode cX1_earliestWith 54 = .ok (.invokevirtual 78, 3) := by decide +kernel
theorem dX1_earliestWith_57 : decode cX1_earliestWith 57 = .ok (.istore 7, 2) := by decide +kernel
theorem dX1_earliestWith_59 : decode cX1_earliestWith 59 = .ok (.iload 7, 2) := by decide +kernel
theorem dX1_earliestWith_61 : decode cX1_earliestWith 61 = .ok (.ldc 55, 2) := by decide +kernel
theorem dX1_earliestWith_63 : decode cX1_earliestWith 63 = .ok (.if_icmp .ne 8, 3) := by decide +kernel
theorem dX1_earliestWith_66 : decode cX1_earliestWith 66 = .ok (.bipush (-5), 2) := by decide +kernel
theorem dX1_earliestWith_68 : decode cX1_earliestWith 68 = .ok (.goto 5, 3) := by decide +kernel
theorem dX1_earliestWith_71 : decode cX1_earliestWith 71 = .ok (.iload 7, 2) := by decide +kernel
theorem dX1_earliestWith_73 : decode cX1_earliestWith 73 = .ok (.ireturn, 1) := by decide +kernel
theorem dX1_refusal_0 : decode cX1_refusal 0 = .ok (.aload_n 0, 1) := by decide +kernel
theorem dX1_refusal_1 : decode cX1_refusal 1 = .ok (.iload_n 1, 1) := by decide +kernel
theorem dX1_refusal_2 : decode cX1_refusal 2 = .ok (.invokevirtual 38, 3) := by decide +kernel
theorem dX1_refusal_5 : decode cX1_refusal 5 = .ok (.ifCond .eq 11, 3) := by decide +kernel
theorem dX1_refusal_8 : decode cX1_refusal 8 = .ok (.aload_n 0, 1) := by decide +kernel
theorem dX1_refusal_9 : decode cX1_refusal 9 = .ok (.iload_n 2, 1) := by decide +kernel
theorem dX1_refusal_10 : decode cX1_refusal 10 = .ok (.invokevirtual 38, 3) := by decide +kernel
theorem dX1_refusal_13 : decode cX1_refusal 13 = .ok (.ifCond .ne 5, 3) := by decide +kernel
theorem dX1_refusal_16 : decode cX1_refusal 16 = .ok (.iconst (-1), 1) := by decide +kernel
theorem dX1_refusal_17 : decode cX1_refusal 17 = .ok (.ireturn, 1) := by decide +kernel
theorem dX1_refusal_18 : decode cX1_refusal 18 = .ok (.aload_n 0, 1) := by decide +kernel
theorem dX1_refusal_19 : decode cX1_refusal 19 = .ok (.iload_n 3, 1) := by decide +kernel
theorem dX1_refusal_20 : decode cX1_refusal 20 = .ok (.invokevirtual 64, 3) := by decide +kernel
theorem dX1_refusal_23 : decode cX1_refusal 23 = .ok (.ifCond .eq 7, 3) := by decide +kernel
theorem dX1_refusal_26 : decode cX1_refusal 26 = .ok (.iconst 0, 1) := by decide +kernel
theorem dX1_refusal_27 : decode cX1_refusal 27 = .ok (.goto 5, 3) := by decide +kernel
theorem dX1_refusal_30 : decode cX1_refusal 30 = .ok (.bipush (-3), 2) := by decide +kernel
theorem dX1_refusal_32 : decode cX1_refusal 32 = .ok (.ireturn, 1) := by decide +kernel
theorem dX1_isTime_0 : decode cX1_isTime 0 = .ok (.iload_n 1, 1) := by decide +kernel
theorem dX1_isTime_1 : decode cX1_isTime 1 = .ok (.ifCond .lt 14, 3) := by decide +kernel
theorem dX1_isTime_4 : decode cX1_isTime 4 = .ok (.iload_n 1, 1) := by decide +kernel
theorem dX1_isTime_5 : decode cX1_isTime 5 = .ok (.sipush 1000, 3) := by decide +kernel
theorem dX1_isTime_8 : decode cX1_isTime 8 = .ok (.if_icmp .gt 7, 3) := by decide +kernel
theorem dX1_isTime_11 : decode cX1_isTime 11 = .ok (.iconst 1, 1) := by decide +kernel
theorem dX1_isTime_12 : decode cX1_isTime 12 = .ok (.goto 4, 3) := by decide +kernel
theorem dX1_isTime_15 : decode cX1_isTime 15 = .ok (.iconst 0, 1) := by decide +kernel
theorem dX1_isTime_16 : decode cX1_isTime 16 = .ok (.ireturn, 1) := by decide +kernel
theorem dX1_search_0 : decode cX1_search 0 = .ok (.iconst 0, 1) := by decide +kernel
theorem dX1_search_1 : decode cX1_search 1 = .ok (.istore 4, 2) := by decide +kernel
theorem dX1_search_3 : decode cX1_search 3 = .ok (.iload 4, 2) := by decide +kernel
theorem dX1_search_5 : decode cX1_search 5 = .ok (.bipush 8, 2) := by decide +kernel
theorem dX1_search_7 : decode cX1_search 7 = .ok (.if_icmp .ge 28, 3) := by decide +kernel
theorem dX1_search_10 : decode cX1_search 10 = .ok (.aload_n 0, 1) := by decide +kernel
theorem dX1_search_11 : decode cX1_search 11 = .ok (.getfield 28, 3) := by decide +kernel
theorem dX1_search_14 : decode cX1_search 14 = .ok (.iload 4, 2) := by decide +kernel
theorem dX1_search_16 : decode cX1_search 16 = .ok (.iload 4, 2) := by decide +kernel
theorem dX1_search_18 : decode cX1_search 18 = .ok (.iload_n 1, 1) := by decide +kernel
theorem dX1_search_19 : decode cX1_search 19 = .ok (.if_icmp .ne 7, 3) := by decide +kernel
theorem dX1_search_22 : decode cX1_search 22 = .ok (.iload_n 2, 1) := by decide +kernel
theorem dX1_search_23 : decode cX1_search 23 = .ok (.goto 5, 3) := by decide +kernel
theorem dX1_search_26 : decode cX1_search 26 = .ok (.ldc 55, 2) := by decide +kernel
theorem dX1_search_28 : decode cX1_search 28 = .ok (.iastore, 1) := by decide +kernel
theorem dX1_search_29 : decode cX1_search 29 = .ok (.iinc 4 1, 3) := by decide +kernel
theorem dX1_search_32 : decode cX1_search 32 = .ok (.goto (-29), 3) := by decide +kernel
theorem dX1_search_35 : decode cX1_search 35 = .ok (.aload_n 0, 1) := by decide +kernel
theorem dX1_search_36 : decode cX1_search 36 = .ok (.iconst 0, 1) := by decide +kernel
theorem dX1_search_37 : decode cX1_search 37 = .ok (.invokevirtual 56, 3) := by decide +kernel
theorem dX1_search_40 : decode cX1_search 40 = .ok (.iconst 1, 1) := by decide +kernel
theorem dX1_search_41 : decode cX1_search 41 = .ok (.istore 4, 2) := by decide +kernel
theorem dX1_search_43 : decode cX1_search 43 = .ok (.iload 4, 2) := by decide +kernel
theorem dX1_search_45 : decode cX1_search 45 = .ok (.iload_n 3, 1) := by decide +kernel
theorem dX1_search_46 : decode cX1_search 46 = .ok (.if_icmp .gt 106, 3) := by decide +kernel
theorem dX1_search_49 : decode cX1_search 49 = .ok (.iconst 0, 1) := by decide +kernel
theorem dX1_search_50 : decode cX1_search 50 = .ok (.istore 5, 2) := by decide +kernel
theorem dX1_search_52 : decode cX1_search 52 = .ok (.iload 5, 2) := by decide +kernel
theorem dX1_search_54 : decode cX1_search 54 = .ok (.bipush 8, 2) := by decide +kernel
theorem dX1_search_56 : decode cX1_search 56 = .ok (.if_icmp .ge 24, 3) := by decide +kernel
theorem dX1_search_59 : decode cX1_search 59 = .ok (.aload_n 0, 1) := by decide +kernel
theorem dX1_search_60 : decode cX1_search 60 = .ok (.getfield 28, 3) := by decide +kernel
theorem dX1_search_63 : decode cX1_search 63 = .ok (.iload 4, 2) := by decide +kernel
theorem dX1_search_65 : decode cX1_search 65 = .ok (.bipush 8, 2) := by decide +kernel
theorem dX1_search_67 : decode cX1_search 67 = .ok (.imul, 1) := by decide +kernel
theorem dX1_search_68 : decode cX1_search 68 = .ok (.iload 5, 2) := by decide +kernel
theorem dX1_search_70 : decode cX1_search 70 = .ok (.iadd, 1) := by decide +kernel
theorem dX1_search_71 : decode cX1_search 71 = .ok (.ldc 55, 2) := by decide +kernel
theorem dX1_search_73 : decode cX1_search 73 = .ok (.iastore, 1) := by decide +kernel
theorem dX1_search_74 : decode cX1_search 74 = .ok (.iinc 5 1, 3) := by decide +kernel
theorem dX1_search_77 : decode cX1_search 77 = .ok (.goto (-25), 3) := by decide +kernel
theorem dX1_search_80 : decode cX1_search 80 = .ok (.iconst 0, 1) := by decide +kernel
theorem dX1_search_81 : decode cX1_search 81 = .ok (.istore 5, 2) := by decide +kernel
theorem dX1_search_83 : decode cX1_search 83 = .ok (.iload 5, 2) := by decide +kernel
theorem dX1_search_85 : decode cX1_search 85 = .ok (.aload_n 0, 1) := by decide +kernel
theorem dX1_search_86 : decode cX1_search 86 = .ok (.getfield 42, 3) := by decide +kernel
theorem dX1_search_89 : decode cX1_search 89 = .ok (.bipush 6, 2) := by decide +kernel
theorem dX1_search_91 : decode cX1_search 91 = .ok (.imul, 1) := by decide +kernel
theorem dX1_search_92 : decode cX1_search 92 = .ok (.if_icmp .ge 48, 3) := by decide +kernel
theorem dX1_search_95 : decode cX1_search 95 = .ok (.iload 5, 2) := by decide +kernel
theorem dX1_search_97 : decode cX1_search 97 = .ok (.bipush 6, 2) := by decide +kernel
theorem dX1_search_99 : decode cX1_search 99 = .ok (.irem, 1) := by decide +kernel
theorem dX1_search_100 : decode cX1_search 100 = .ok (.aload_n 0, 1) := by decide +kernel
theorem dX1_search_101 : decode cX1_search 101 = .ok (.getfield 7, 3) := by decide +kernel
theorem dX1_search_104 : decode cX1_search 104 = .ok (.aload_n 0, 1) := by decide +kernel
theorem dX1_search_105 : decode cX1_search 105 = .ok (.getfield 19, 3) := by decide +kernel
theorem dX1_search_108 : decode cX1_search 108 = .ok (.iload 5, 2) := by decide +kernel
theorem dX1_search_110 : decode cX1_search 110 = .ok (.bipush 6, 2) := by decide +kernel
theorem dX1_search_112 : decode cX1_search 112 = .ok (.idiv, 1) := by decide +kernel
theorem dX1_search_113 : decode cX1_search 113 = .ok (.iaload, 1) := by decide +kernel
theorem dX1_search_114 : decode cX1_search 114 = .ok (.iaload, 1) := by decide +kernel
theorem dX1_search_115 : decode cX1_search 115 = .ok (.if_icmp .ge 19, 3) := by decide +kernel
theorem dX1_search_118 : decode cX1_search 118 = .ok (.aload_n 0, 1) := by decide +kernel
theorem dX1_search_119 : decode cX1_search 119 = .ok (.iload 4, 2) := by decide +kernel
theorem dX1_search_121 : decode cX1_search 121 = .ok (.iload 5, 2) := by decide +kernel
theorem dX1_search_123 : decode cX1_search 123 = .ok (.bipush 6, 2) := by decide +kernel
theorem dX1_search_125 : decode cX1_search 125 = .ok (.idiv, 1) := by decide +kernel
theorem dX1_search_126 : decode cX1_search 126 = .ok (.iload 5, 2) := by decide +kernel
theorem dX1_search_128 : decode cX1_search 128 = .ok (.bipush 6, 2) := by decide +kernel
theorem dX1_search_130 : decode cX1_search 130 = .ok (.irem, 1) := by decide +kernel
theorem dX1_search_131 : decode cX1_search 131 = .ok (.invokevirtual 60, 3) := by decide +kernel
theorem dX1_search_134 : decode cX1_search 134 = .ok (.iinc 5 1, 3) := by decide +kernel
theorem dX1_search_137 : decode cX1_search 137 = .ok (.goto (-54), 3) := by decide +kernel
theorem dX1_search_140 : decode cX1_search 140 = .ok (.aload_n 0, 1) := by decide +kernel
theorem dX1_search_141 : decode cX1_search 141 = .ok (.iload 4, 2) := by decide +kernel
theorem dX1_search_143 : decode cX1_search 143 = .ok (.invokevirtual 56, 3) := by decide +kernel
theorem dX1_search_146 : decode cX1_search 146 = .ok (.iinc 4 1, 3) := by decide +kernel
theorem dX1_search_149 : decode cX1_search 149 = .ok (.goto (-106), 3) := by decide +kernel
theorem dX1_search_152 : decode cX1_search 152 = .ok (.return_, 1) := by decide +kernel
theorem dX1_walk_0 : decode cX1_walk 0 = .ok (.iconst 0, 1) := by decide +kernel
theorem dX1_walk_1 : decode cX1_walk 1 = .ok (.istore_n 2, 1) := by decide +kernel
theorem dX1_walk_2 : decode cX1_walk 2 = .ok (.iload_n 2, 1) := by decide +kernel
theorem dX1_walk_3 : decode cX1_walk 3 = .ok (.bipush 8, 2) := by decide +kernel
theorem dX1_walk_5 : decode cX1_walk 5 = .ok (.if_icmp .ge 116, 3) := by decide +kernel
theorem dX1_walk_8 : decode cX1_walk 8 = .ok (.aload_n 0, 1) := by decide +kernel
theorem dX1_walk_9 : decode cX1_walk 9 = .ok (.getfield 31, 3) := by decide +kernel
theorem dX1_walk_12 : decode cX1_walk 12 = .ok (.iload_n 1, 1) := by decide +kernel
theorem dX1_walk_13 : decode cX1_walk 13 = .ok (.bipush 8, 2) := by decide +kernel
theorem dX1_walk_15 : decode cX1_walk 15 = .ok (.imul, 1) := by decide +kernel
theorem dX1_walk_16 : decode cX1_walk 16 = .ok (.iload_n 2, 1) := by decide +kernel
theorem dX1_walk_17 : decode cX1_walk 17 = .ok (.iadd, 1) := by decide +kernel
theorem dX1_walk_18 : decode cX1_walk 18 = .ok (.aload_n 0, 1) := by decide +kernel
theorem dX1_walk_19 : decode cX1_walk 19 = .ok (.getfield 28, 3) := by decide +kernel
theorem dX1_walk_22 : decode cX1_walk 22 = .ok (.iload_n 1, 1) := by decide +kernel
theorem dX1_walk_23 : decode cX1_walk 23 = .ok (.bipush 8, 2) := by decide +kernel
theorem dX1_walk_25 : decode cX1_walk 25 = .ok (.imul, 1) := by decide +kernel
theorem dX1_walk_26 : decode cX1_walk 26 = .ok (.iload_n 2, 1) := by decide +kernel
theorem dX1_walk_27 : decode cX1_walk 27 = .ok (.iadd, 1) := by decide +kernel
theorem dX1_walk_28 : decode cX1_walk 28 = .ok (.iaload, 1) := by decide +kernel
theorem dX1_walk_29 : decode cX1_walk 29 = .ok (.iastore, 1) := by decide +kernel
theorem dX1_walk_30 : decode cX1_walk 30 = .ok (.iconst 0, 1) := by decide +kernel
theorem dX1_walk_31 : decode cX1_walk 31 = .ok (.istore_n 3, 1) := by decide +kernel
theorem dX1_walk_32 : decode cX1_walk 32 = .ok (.iload_n 3, 1) := by decide +kernel
theorem dX1_walk_33 : decode cX1_walk 33 = .ok (.bipush 8, 2) := by decide +kernel
theorem dX1_walk_35 : decode cX1_walk 35 = .ok (.if_icmp .ge 80, 3) := by decide +kernel
theorem dX1_walk_38 : decode cX1_walk 38 = .ok (.aload_n 0, 1) := by decide +kernel
theorem dX1_walk_39 : decode cX1_walk 39 = .ok (.getfield 25, 3) := by decide +kernel
theorem dX1_walk_42 : decode cX1_walk 42 = .ok (.iload_n 3, 1) := by decide +kernel
theorem dX1_walk_43 : decode cX1_walk 43 = .ok (.bipush 8, 2) := by decide +kernel
theorem dX1_walk_45 : decode cX1_walk 45 = .ok (.imul, 1) := by decide +kernel
theorem dX1_walk_46 : decode cX1_walk 46 = .ok (.iload_n 2, 1) := by decide +kernel
theorem dX1_walk_47 : decode cX1_walk 47 = .ok (.iadd, 1) := by decide +kernel
theorem dX1_walk_48 : decode cX1_walk 48 = .ok (.iaload, 1) := by decide +kernel
theorem dX1_walk_49 : decode cX1_walk 49 = .ok (.istore 4, 2) := by decide +kernel
theorem dX1_walk_51 : decode cX1_walk 51 = .ok (.iload 4, 2) := by decide +kernel
theorem dX1_walk_53 : decode cX1_walk 53 = .ok (.ifCond .le 56, 3) := by decide +kernel
theorem dX1_walk_56 : decode cX1_walk 56 = .ok (.aload_n 0, 1) := by decide +kernel
theorem dX1_walk_57 : decode cX1_walk 57 = .ok (.getfield 28, 3) := by decide +kernel
theorem dX1_walk_60 : decode cX1_walk 60 = .ok (.iload_n 1, 1) := by decide +kernel
theorem dX1_walk_61 : decode cX1_walk 61 = .ok (.bipush 8, 2) := by decide +kernel
theorem dX1_walk_63 : decode cX1_walk 63 = .ok (.imul, 1) := by decide +kernel
theorem dX1_walk_64 : decode cX1_walk 64 = .ok (.iload_n 3, 1) := by decide +kernel
theorem dX1_walk_65 : decode cX1_walk 65 = .ok (.iadd, 1) := by decide +kernel
theorem dX1_walk_66 : decode cX1_walk 66 = .ok (.iaload, 1) := by decide +kernel
theorem dX1_walk_67 : decode cX1_walk 67 = .ok (.iload 4, 2) := by decide +kernel
theorem dX1_walk_69 : decode cX1_walk 69 = .ok (.iadd, 1) := by decide +kernel
theorem dX1_walk_70 : decode cX1_walk 70 = .ok (.aload_n 0, 1) := by decide +kernel
theorem dX1_walk_71 : decode cX1_walk 71 = .ok (.getfield 31, 3) := by decide +kernel
theorem dX1_walk_74 : decode cX1_walk 74 = .ok (.iload_n 1, 1) := by decide +kernel
theorem dX1_walk_75 : decode cX1_walk 75 = .ok (.bipush 8, 2) := by decide +kernel
theorem dX1_walk_77 : decode cX1_walk 77 = .ok (.imul, 1) := by decide +kernel
theorem dX1_walk_78 : decode cX1_walk 78 = .ok (.iload_n 2, 1) := by decide +kernel
theorem dX1_walk_79 : decode cX1_walk 79 = .ok (.iadd, 1) := by decide +kernel
theorem dX1_walk_80 : decode cX1_walk 80 = .ok (.iaload, 1) := by decide +kernel
theorem dX1_walk_81 : decode cX1_walk 81 = .ok (.if_icmp .ge 28, 3) := by decide +kernel
theorem dX1_walk_84 : decode cX1_walk 84 = .ok (.aload_n 0, 1) := by decide +kernel
theorem dX1_walk_85 : decode cX1_walk 85 = .ok (.getfield 31, 3) := by decide +kernel
theorem dX1_walk_88 : decode cX1_walk 88 = .ok (.iload_n 1, 1) := by decide +kernel
theorem dX1_walk_89 : decode cX1_walk 89 = .ok (.bipush 8, 2) := by decide +kernel
theorem dX1_walk_91 : decode cX1_walk 91 = .ok (.imul, 1) := by decide +kernel
theorem dX1_walk_92 : decode cX1_walk 92 = .ok (.iload_n 2, 1) := by decide +kernel
theorem dX1_walk_93 : decode cX1_walk 93 = .ok (.iadd, 1) := by decide +kernel
theorem dX1_walk_94 : decode cX1_walk 94 = .ok (.aload_n 0, 1) := by decide +kernel
theorem dX1_walk_95 : decode cX1_walk 95 = .ok (.getfield 28, 3) := by decide +kernel
theorem dX1_walk_98 : decode cX1_walk 98 = .ok (.iload_n 1, 1) := by decide +kernel
theorem dX1_walk_99 : decode cX1_walk 99 = .ok (.bipush 8, 2) := by decide +kernel
theorem dX1_walk_101 : decode cX1_walk 101 = .ok (.imul, 1) := by decide +kernel
theorem dX1_walk_102 : decode cX1_walk 102 = .ok (.iload_n 3, 1) := by decide +kernel
theorem dX1_walk_103 : decode cX1_walk 103 = .ok (.iadd, 1) := by decide +kernel
theorem dX1_walk_104 : decode cX1_walk 104 = .ok (.iaload, 1) := by decide +kernel
theorem dX1_walk_105 : decode cX1_walk 105 = .ok (.iload 4, 2) := by decide +kernel
theorem dX1_walk_107 : decode cX1_walk 107 = .ok (.iadd, 1) := by decide +kernel
theorem dX1_walk_108 : decode cX1_walk 108 = .ok (.iastore, 1) := by decide +kernel
theorem dX1_walk_109 : decode cX1_walk 109 = .ok (.iinc 3 1, 3) := by decide +kernel
theorem dX1_walk_112 : decode cX1_walk 112 = .ok (.goto (-80), 3) := by decide +kernel
theorem dX1_walk_115 : decode cX1_walk 115 = .ok (.iinc 2 1, 3) := by decide +kernel
theorem dX1_walk_118 : decode cX1_walk 118 = .ok (.goto (-116), 3) := by decide +kernel
theorem dX1_walk_121 : decode cX1_walk 121 = .ok (.return_, 1) := by decide +kernel
theorem dX1_ride_0 : decode cX1_ride 0 = .ok (.aload_n 0, 1) := by decide +kernel
theorem dX1_ride_1 : decode cX1_ride 1 = .ok (.getfield 19, 3) := by decide +kernel
theorem dX1_ride_4 : decode cX1_ride 4 = .ok (.iload_n 2, 1) := by decide +kernel
theorem dX1_ride_5 : decode cX1_ride 5 = .ok (.iaload, 1) := by decide +kernel
theorem dX1_ride_6 : decode cX1_ride 6 = .ok (.bipush 6, 2) := by decide +kernel
theorem dX1_ride_8 : decode cX1_ride 8 = .ok (.imul, 1) := by decide +kernel
theorem dX1_ride_9 : decode cX1_ride 9 = .ok (.istore 4, 2) := by decide +kernel
theorem dX1_ride_11 : decode cX1_ride 11 = .ok (.aload_n 0, 1) := by decide +kernel
theorem dX1_ride_12 : decode cX1_ride 12 = .ok (.getfield 31, 3) := by decide +kernel
theorem dX1_ride_15 : decode cX1_ride 15 = .ok (.iload_n 1, 1) := by decide +kernel
theorem dX1_ride_16 : decode cX1_ride 16 = .ok (.iconst 1, 1) := by decide +kernel
theorem dX1_ride_17 : decode cX1_ride 17 = .ok (.isub, 1) := by decide +kernel
theorem dX1_ride_18 : decode cX1_ride 18 = .ok (.bipush 8, 2) := by decide +kernel
theorem dX1_ride_20 : decode cX1_ride 20 = .ok (.imul, 1) := by decide +kernel
theorem dX1_ride_21 : decode cX1_ride 21 = .ok (.aload_n 0, 1) := by decide +kernel
theorem dX1_ride_22 : decode cX1_ride 22 = .ok (.getfield 13, 3) := by decide +kernel
theorem dX1_ride_25 : decode cX1_ride 25 = .ok (.iload 4, 2) := by decide +kernel
theorem dX1_ride_27 : decode cX1_ride 27 = .ok (.iload_n 3, 1) := by decide +kernel
theorem dX1_ride_28 : decode cX1_ride 28 = .ok (.iadd, 1) := by decide +kernel
theorem dX1_ride_29 : decode cX1_ride 29 = .ok (.iaload, 1) := by decide +kernel
theorem dX1_ride_30 : decode cX1_ride 30 = .ok (.iadd, 1) := by decide +kernel
theorem dX1_ride_31 : decode cX1_ride 31 = .ok (.iaload, 1) := by decide +kernel
theorem dX1_ride_32 : decode cX1_ride 32 = .ok (.aload_n 0, 1) := by decide +kernel
theorem dX1_ride_33 : decode cX1_ride 33 = .ok (.getfield 22, 3) := by decide +kernel
theorem dX1_ride_36 : decode cX1_ride 36 = .ok (.iload_n 2, 1) := by decide +kernel
theorem dX1_ride_37 : decode cX1_ride 37 = .ok (.iaload, 1) := by decide +kernel
theorem dX1_ride_38 : decode cX1_ride 38 = .ok (.aload_n 0, 1) := by decide +kernel
theorem dX1_ride_39 : decode cX1_ride 39 = .ok (.getfield 16, 3) := by decide +kernel
theorem dX1_ride_42 : decode cX1_ride 42 = .ok (.iload 4, 2) := by decide +kernel
theorem dX1_ride_44 : decode cX1_ride 44 = .ok (.iload_n 3, 1) := by decide +kernel
theorem dX1_ride_45 : decode cX1_ride 45 = .ok (.iadd, 1) := by decide +kernel
theorem dX1_ride_46 : decode cX1_ride 46 = .ok (.iaload, 1) := by decide +kernel
theorem dX1_ride_47 : decode cX1_ride 47 = .ok (.iadd, 1) := by decide +kernel
theorem dX1_ride_48 : decode cX1_ride 48 = .ok (.if_icmp .gt 7, 3) := by decide +kernel
theorem dX1_ride_51 : decode cX1_ride 51 = .ok (.iconst 1, 1) := by decide +kernel
theorem dX1_ride_52 : decode cX1_ride 52 = .ok (.goto 4, 3) := by decide +kernel
theorem dX1_ride_55 : decode cX1_ride 55 = .ok (.iconst 0, 1) := by decide +kernel
theorem dX1_ride_56 : decode cX1_ride 56 = .ok (.istore 5, 2) := by decide +kernel
theorem dX1_ride_58 : decode cX1_ride 58 = .ok (.iload_n 3, 1) := by decide +kernel
theorem dX1_ride_59 : decode cX1_ride 59 = .ok (.iconst 1, 1) := by decide +kernel
theorem dX1_ride_60 : decode cX1_ride 60 = .ok (.iadd, 1) := by decide +kernel
theorem dX1_ride_61 : decode cX1_ride 61 = .ok (.istore 6, 2) := by decide +kernel
theorem dX1_ride_63 : decode cX1_ride 63 = .ok (.iload 5, 2) := by decide +kernel
theorem dX1_ride_65 : decode cX1_ride 65 = .ok (.ifCond .eq 82, 3) := by decide +kernel
theorem dX1_ride_68 : decode cX1_ride 68 = .ok (.iload 6, 2) := by decide +kernel
theorem dX1_ride_70 : decode cX1_ride 70 = .ok (.aload_n 0, 1) := by decide +kernel
theorem dX1_ride_71 : decode cX1_ride 71 = .ok (.getfield 7, 3) := by decide +kernel
theorem dX1_ride_74 : decode cX1_ride 74 = .ok (.aload_n 0, 1) := by decide +kernel
theorem dX1_ride_75 : decode cX1_ride 75 = .ok (.getfield 19, 3) := by decide +kernel
theorem dX1_ride_78 : decode cX1_ride 78 = .ok (.iload_n 2, 1) := by decide +kernel
theorem dX1_ride_79 : decode cX1_ride 79 = .ok (.iaload, 1) := by decide +kernel
theorem dX1_ride_80 : decode cX1_ride 80 = .ok (.iaload, 1) := by decide +kernel
theorem dX1_ride_81 : decode cX1_ride 81 = .ok (.if_icmp .ge 66, 3) := by decide +kernel
theorem dX1_ride_84 : decode cX1_ride 84 = .ok (.iload_n 1, 1) := by decide +kernel
theorem dX1_ride_85 : decode cX1_ride 85 = .ok (.bipush 8, 2) := by decide +kernel
theorem dX1_ride_87 : decode cX1_ride 87 = .ok (.imul, 1) := by decide +kernel
theorem dX1_ride_88 : decode cX1_ride 88 = .ok (.aload_n 0, 1) := by decide +kernel
theorem dX1_ride_89 : decode cX1_ride 89 = .ok (.getfield 13, 3) := by decide +kernel
theorem dX1_ride_92 : decode cX1_ride 92 = .ok (.iload 4, 2) := by decide +kernel
theorem dX1_ride_94 : decode cX1_ride 94 = .ok (.iload 6, 2) := by decide +kernel
theorem dX1_ride_96 : decode cX1_ride 96 = .ok (.iadd, 1) := by decide +kernel
theorem dX1_ride_97 : decode cX1_ride 97 = .ok (.iaload, 1) := by decide +kernel
theorem dX1_ride_98 : decode cX1_ride 98 = .ok (.iadd, 1) := by decide +kernel
theorem dX1_ride_99 : decode cX1_ride 99 = .ok (.istore 7, 2) := by decide +kernel
theorem dX1_ride_101 : decode cX1_ride 101 = .ok (.aload_n 0, 1) := by decide +kernel
theorem dX1_ride_102 : decode cX1_ride 102 = .ok (.getfield 22, 3) := by decide +kernel
theorem dX1_ride_105 : decode cX1_ride 105 = .ok (.iload_n 2, 1) := by decide +kernel
theorem dX1_ride_106 : decode cX1_ride 106 = .ok (.iaload, 1) := by decide +kernel
theorem dX1_ride_107 : decode cX1_ride 107 = .ok (.aload_n 0, 1) := by decide +kernel
theorem dX1_ride_108 : decode cX1_ride 108 = .ok (.getfield 16, 3) := by decide +kernel
theorem dX1_ride_111 : decode cX1_ride 111 = .ok (.iload 4, 2) := by decide +kernel
theorem dX1_ride_113 : decode cX1_ride 113 = .ok (.iload 6, 2) := by decide +kernel
theorem dX1_ride_115 : decode cX1_ride 115 = .ok (.iadd, 1) := by decide +kernel
theorem dX1_ride_116 : decode cX1_ride 116 = .ok (.iaload, 1) := by decide +kernel
theorem dX1_ride_117 : decode cX1_ride 117 = .ok (.iadd, 1) := by decide +kernel
theorem dX1_ride_118 : decode cX1_ride 118 = .ok (.istore 8, 2) := by decide +kernel
theorem dX1_ride_120 : decode cX1_ride 120 = .ok (.iload 8, 2) := by decide +kernel
theorem dX1_ride_122 : decode cX1_ride 122 = .ok (.aload_n 0, 1) := by decide +kernel
theorem dX1_ride_123 : decode cX1_ride 123 = .ok (.getfield 28, 3) := by decide +kernel
theorem dX1_ride_126 : decode cX1_ride 126 = .ok (.iload 7, 2) := by decide +kernel
theorem dX1_ride_128 : decode cX1_ride 128 = .ok (.iaload, 1) := by decide +kernel
theorem dX1_ride_129 : decode cX1_ride 129 = .ok (.if_icmp .ge 12, 3) := by decide +kernel
theorem dX1_ride_132 : decode cX1_ride 132 = .ok (.aload_n 0, 1) := by decide +kernel
theorem dX1_ride_133 : decode cX1_ride 133 = .ok (.getfield 28, 3) := by decide +kernel
theorem dX1_ride_136 : decode cX1_ride 136 = .ok (.iload 7, 2) := by decide +kernel
theorem dX1_ride_138 : decode cX1_ride 138 = .ok (.iload 8, 2) := by decide +kernel
theorem dX1_ride_140 : decode cX1_ride 140 = .ok (.iastore, 1) := by decide +kernel
theorem dX1_ride_141 : decode cX1_ride 141 = .ok (.iinc 6 1, 3) := by decide +kernel
theorem dX1_ride_144 : decode cX1_ride 144 = .ok (.goto (-81), 3) := by decide +kernel
theorem dX1_ride_147 : decode cX1_ride 147 = .ok (.return_, 1) := by decide +kernel
theorem dX1_best_0 : decode cX1_best 0 = .ok (.ldc 55, 2) := by decide +kernel
theorem dX1_best_2 : decode cX1_best 2 = .ok (.istore_n 3, 1) := by decide +kernel
theorem dX1_best_3 : decode cX1_best 3 = .ok (.iconst 0, 1) := by decide +kernel
theorem dX1_best_4 : decode cX1_best 4 = .ok (.istore 4, 2) := by decide +kernel
theorem dX1_best_6 : decode cX1_best 6 = .ok (.iload 4, 2) := by decide +kernel
theorem dX1_best_8 : decode cX1_best 8 = .ok (.iload_n 2, 1) := by decide +kernel
theorem dX1_best_9 : decode cX1_best 9 = .ok (.if_icmp .gt 38, 3) := by decide +kernel
theorem dX1_best_12 : decode cX1_best 12 = .ok (.aload_n 0, 1) := by decide +kernel
theorem dX1_best_13 : decode cX1_best 13 = .ok (.getfield 31, 3) := by decide +kernel
theorem dX1_best_16 : decode cX1_best 16 = .ok (.iload 4, 2) := by decide +kernel
theorem dX1_best_18 : decode cX1_best 18 = .ok (.bipush 8, 2) := by decide +kernel
theorem dX1_best_20 : decode cX1_best 20 = .ok (.imul, 1) := by decide +kernel
theorem dX1_best_21 : decode cX1_best 21 = .ok (.iload_n 1, 1) := by decide +kernel
theorem dX1_best_22 : decode cX1_best 22 = .ok (.iadd, 1) := by decide +kernel
theorem dX1_best_23 : decode cX1_best 23 = .ok (.iaload, 1) := by decide +kernel
theorem dX1_best_24 : decode cX1_best 24 = .ok (.iload_n 3, 1) := by decide +kernel
theorem dX1_best_25 : decode cX1_best 25 = .ok (.if_icmp .ge 16, 3) := by decide +kernel
theorem dX1_best_28 : decode cX1_best 28 = .ok (.aload_n 0, 1) := by decide +kernel
theorem dX1_best_29 : decode cX1_best 29 = .ok (.getfield 31, 3) := by decide +kernel
theorem dX1_best_32 : decode cX1_best 32 = .ok (.iload 4, 2) := by decide +kernel
theorem dX1_best_34 : decode cX1_best 34 = .ok (.bipush 8, 2) := by decide +kernel
theorem dX1_best_36 : decode cX1_best 36 = .ok (.imul, 1) := by decide +kernel
theorem dX1_best_37 : decode cX1_best 37 = .ok (.iload_n 1, 1) := by decide +kernel
theorem dX1_best_38 : decode cX1_best 38 = .ok (.iadd, 1) := by decide +kernel
theorem dX1_best_39 : decode cX1_best 39 = .ok (.iaload, 1) := by decide +kernel
theorem dX1_best_40 : decode cX1_best 40 = .ok (.istore_n 3, 1) := by decide +kernel
theorem dX1_best_41 : decode cX1_best 41 = .ok (.iinc 4 1, 3) := by decide +kernel
theorem dX1_best_44 : decode cX1_best 44 = .ok (.goto (-38), 3) := by decide +kernel
theorem dX1_best_47 : decode cX1_best 47 = .ok (.iload_n 3, 1) := by decide +kernel
theorem dX1_best_48 : decode cX1_best 48 = .ok (.ireturn, 1) := by decide +kernel
theorem dX1_rides_0 : decode cX1_rides 0 = .ok (.aload_n 0, 1) := by decide +kernel
theorem dX1_rides_1 : decode cX1_rides 1 = .ok (.iload_n 1, 1) := by decide +kernel
theorem dX1_rides_2 : decode cX1_rides 2 = .ok (.iload_n 2, 1) := by decide +kernel
theorem dX1_rides_3 : decode cX1_rides 3 = .ok (.iload_n 3, 1) := by decide +kernel
theorem dX1_rides_4 : decode cX1_rides 4 = .ok (.invokevirtual 82, 3) := by decide +kernel
theorem dX1_rides_7 : decode cX1_rides 7 = .ok (.istore 4, 2) := by decide +kernel
theorem dX1_rides_9 : decode cX1_rides 9 = .ok (.iload 4, 2) := by decide +kernel
theorem dX1_rides_11 : decode cX1_rides 11 = .ok (.ifCond .ge 6, 3) := by decide +kernel
theorem dX1_rides_14 : decode cX1_rides 14 = .ok (.iload 4, 2) := by decide +kernel
theorem dX1_rides_16 : decode cX1_rides 16 = .ok (.ireturn, 1) := by decide +kernel
theorem dX1_rides_17 : decode cX1_rides 17 = .ok (.iconst 0, 1) := by decide +kernel
theorem dX1_rides_18 : decode cX1_rides 18 = .ok (.istore 5, 2) := by decide +kernel
theorem dX1_rides_20 : decode cX1_rides 20 = .ok (.iload 5, 2) := by decide +kernel
theorem dX1_rides_22 : decode cX1_rides 22 = .ok (.bipush 12, 2) := by decide +kernel
theorem dX1_rides_24 : decode cX1_rides 24 = .ok (.if_icmp .ge 21, 3) := by decide +kernel
theorem dX1_rides_27 : decode cX1_rides 27 = .ok (.aload_n 0, 1) := by decide +kernel
theorem dX1_rides_28 : decode cX1_rides 28 = .ok (.iload_n 2, 1) := by decide +kernel
theorem dX1_rides_29 : decode cX1_rides 29 = .ok (.iload 5, 2) := by decide +kernel
theorem dX1_rides_31 : decode cX1_rides 31 = .ok (.invokevirtual 78, 3) := by decide +kernel
theorem dX1_rides_34 : decode cX1_rides 34 = .ok (.iload 4, 2) := by decide +kernel
theorem dX1_rides_36 : decode cX1_rides 36 = .ok (.if_icmp .eq 9, 3) := by decide +kernel
theorem dX1_rides_39 : decode cX1_rides 39 = .ok (.iinc 5 1, 3) := by decide +kernel
theorem dX1_rides_42 : decode cX1_rides 42 = .ok (.goto (-22), 3) := by decide +kernel
theorem dX1_rides_45 : decode cX1_rides 45 = .ok (.iload 5, 2) := by decide +kernel
theorem dX1_rides_47 : decode cX1_rides 47 = .ok (.ireturn, 1) := by decide +kernel
theorem dX1_latest_0 : decode cX1_latest 0 = .ok (.aload_n 0, 1) := by decide +kernel
theorem dX1_latest_1 : decode cX1_latest 1 = .ok (.iload_n 1, 1) := by decide +kernel
theorem dX1_latest_2 : decode cX1_latest 2 = .ok (.iload_n 2, 1) := by decide +kernel
theorem dX1_latest_3 : decode cX1_latest 3 = .ok (.iload_n 3, 1) := by decide +kernel
theorem dX1_latest_4 : decode cX1_latest 4 = .ok (.invokevirtual 71, 3) := by decide +kernel
theorem dX1_latest_7 : decode cX1_latest 7 = .ok (.istore 4, 2) := by decide +kernel
theorem dX1_latest_9 : decode cX1_latest 9 = .ok (.iload 4, 2) := by decide +kernel
theorem dX1_latest_11 : decode cX1_latest 11 = .ok (.ifCond .ge 6, 3) := by decide +kernel
theorem dX1_latest_14 : decode cX1_latest 14 = .ok (.iload 4, 2) := by decide +kernel
theorem dX1_latest_16 : decode cX1_latest 16 = .ok (.ireturn, 1) := by decide +kernel
theorem dX1_latest_17 : decode cX1_latest 17 = .ok (.iload_n 3, 1) := by decide +kernel
theorem dX1_latest_18 : decode cX1_latest 18 = .ok (.istore 5, 2) := by decide +kernel
theorem dX1_latest_20 : decode cX1_latest 20 = .ok (.iload 5, 2) := by decide +kernel
theorem dX1_latest_22 : decode cX1_latest 22 = .ok (.ifCond .lt 32, 3) := by decide +kernel
theorem dX1_latest_25 : decode cX1_latest 25 = .ok (.aload_n 0, 1) := by decide +kernel
theorem dX1_latest_26 : decode cX1_latest 26 = .ok (.iload_n 1, 1) := by decide +kernel
theorem dX1_latest_27 : decode cX1_latest 27 = .ok (.iload 5, 2) := by decide +kernel
theorem dX1_latest_29 : decode cX1_latest 29 = .ok (.bipush 8, 2) := by decide +kernel
theorem dX1_latest_31 : decode cX1_latest 31 = .ok (.invokevirtual 75, 3) := by decide +kernel
theorem dX1_latest_34 : decode cX1_latest 34 = .ok (.aload_n 0, 1) := by decide +kernel
theorem dX1_latest_35 : decode cX1_latest 35 = .ok (.iload_n 2, 1) := by decide +kernel
theorem dX1_latest_36 : decode cX1_latest 36 = .ok (.bipush 8, 2) := by decide +kernel
theorem dX1_latest_38 : decode cX1_latest 38 = .ok (.invokevirtual 78, 3) := by decide +kernel
theorem dX1_latest_41 : decode cX1_latest 41 = .ok (.iload_n 3, 1) := by decide +kernel
theorem dX1_latest_42 : decode cX1_latest 42 = .ok (.if_icmp .gt 6, 3) := by decide +kernel
theorem dX1_latest_45 : decode cX1_latest 45 = .ok (.iload 5, 2) := by decide +kernel
theorem dX1_latest_47 : decode cX1_latest 47 = .ok (.ireturn, 1) := by decide +kernel
theorem dX1_latest_48 : decode cX1_latest 48 = .ok (.iinc 5 (-1), 3) := by decide +kernel
theorem dX1_latest_51 : decode cX1_latest 51 = .ok (.goto (-31), 3) := by decide +kernel
theorem dX1_latest_54 : decode cX1_latest 54 = .ok (.bipush (-5), 2) := by decide +kernel
end
section
set_option maxRecDepth 100000
theorem dX1_latest_56 : decode cX1_latest 56 = .ok (.ireturn, 1) := by decide +kernel
theorem dX1_within_0 : decode cX1_within 0 = .ok (.aload_n 0, 1) := by decide +kernel
theorem dX1_within_1 : decode cX1_within 1 = .ok (.iload_n 1, 1) := by decide +kernel
theorem dX1_within_2 : decode cX1_within 2 = .ok (.iload_n 1, 1) := by decide +kernel
theorem dX1_within_3 : decode cX1_within 3 = .ok (.iload_n 2, 1) := by decide +kernel
theorem dX1_within_4 : decode cX1_within 4 = .ok (.invokevirtual 71, 3) := by decide +kernel
theorem dX1_within_7 : decode cX1_within 7 = .ok (.istore 4, 2) := by decide +kernel
theorem dX1_within_9 : decode cX1_within 9 = .ok (.iload 4, 2) := by decide +kernel
theorem dX1_within_11 : decode cX1_within 11 = .ok (.ifCond .ge 6, 3) := by decide +kernel
theorem dX1_within_14 : decode cX1_within 14 = .ok (.iload 4, 2) := by decide +kernel
theorem dX1_within_16 : decode cX1_within 16 = .ok (.ireturn, 1) := by decide +kernel
theorem dX1_within_17 : decode cX1_within 17 = .ok (.aload_n 0, 1) := by decide +kernel
theorem dX1_within_18 : decode cX1_within 18 = .ok (.iload_n 3, 1) := by decide +kernel
theorem dX1_within_19 : decode cX1_within 19 = .ok (.invokevirtual 64, 3) := by decide +kernel
theorem dX1_within_22 : decode cX1_within 22 = .ok (.ifCond .ne 6, 3) := by decide +kernel
theorem dX1_within_25 : decode cX1_within 25 = .ok (.bipush (-3), 2) := by decide +kernel
theorem dX1_within_27 : decode cX1_within 27 = .ok (.ireturn, 1) := by decide +kernel
theorem dX1_within_28 : decode cX1_within 28 = .ok (.aload_n 0, 1) := by decide +kernel
theorem dX1_within_29 : decode cX1_within 29 = .ok (.iload_n 1, 1) := by decide +kernel
theorem dX1_within_30 : decode cX1_within 30 = .ok (.iload_n 2, 1) := by decide +kernel
theorem dX1_within_31 : decode cX1_within 31 = .ok (.bipush 12, 2) := by decide +kernel
theorem dX1_within_33 : decode cX1_within 33 = .ok (.invokevirtual 75, 3) := by decide +kernel
theorem dX1_within_36 : decode cX1_within 36 = .ok (.iconst 0, 1) := by decide +kernel
theorem dX1_within_37 : decode cX1_within 37 = .ok (.istore 5, 2) := by decide +kernel
theorem dX1_within_39 : decode cX1_within 39 = .ok (.iconst 0, 1) := by decide +kernel
theorem dX1_within_40 : decode cX1_within 40 = .ok (.istore 6, 2) := by decide +kernel
theorem dX1_within_42 : decode cX1_within 42 = .ok (.iload 6, 2) := by decide +kernel
theorem dX1_within_44 : decode cX1_within 44 = .ok (.bipush 8, 2) := by decide +kernel
theorem dX1_within_46 : decode cX1_within 46 = .ok (.if_icmp .ge 24, 3) := by decide +kernel
theorem dX1_within_49 : decode cX1_within 49 = .ok (.aload_n 0, 1) := by decide +kernel
theorem dX1_within_50 : decode cX1_within 50 = .ok (.iload 6, 2) := by decide +kernel
theorem dX1_within_52 : decode cX1_within 52 = .ok (.bipush 12, 2) := by decide +kernel
theorem dX1_within_54 : decode cX1_within 54 = .ok (.invokevirtual 78, 3) := by decide +kernel
theorem dX1_within_57 : decode cX1_within 57 = .ok (.iload_n 3, 1) := by decide +kernel
theorem dX1_within_58 : decode cX1_within 58 = .ok (.if_icmp .gt 6, 3) := by decide +kernel
theorem dX1_within_61 : decode cX1_within 61 = .ok (.iinc 5 1, 3) := by decide +kernel
theorem dX1_within_64 : decode cX1_within 64 = .ok (.iinc 6 1, 3) := by decide +kernel
theorem dX1_within_67 : decode cX1_within 67 = .ok (.goto (-25), 3) := by decide +kernel
theorem dX1_within_70 : decode cX1_within 70 = .ok (.iload 5, 2) := by decide +kernel
theorem dX1_within_72 : decode cX1_within 72 = .ok (.ireturn, 1) := by decide +kernel
end
section
set_option maxRecDepth 100000
theorem dL_law_0 : decode cL_law 0 = .ok (.new 7, 3) := by decide +kernel
theorem dL_law_3 : decode cL_law 3 = .ok (.dup, 1) := by decide +kernel
theorem dL_law_4 : decode cL_law 4 = .ok (.invokespecial 9, 3) := by decide +kernel
theorem dL_law_7 : decode cL_law 7 = .ok (.astore_n 1, 1) := by decide +kernel
theorem dL_law_8 : decode cL_law 8 = .ok (.new 10, 3) := by decide +kernel
theorem dL_law_11 : decode cL_law 11 = .ok (.dup, 1) := by decide +kernel
theorem dL_law_12 : decode cL_law 12 = .ok (.invokespecial 12, 3) := by decide +kernel
theorem dL_law_15 : decode cL_law 15 = .ok (.astore_n 2, 1) := by decide +kernel
theorem dL_law_16 : decode cL_law 16 = .ok (.iconst 0, 1) := by decide +kernel
theorem dL_law_17 : decode cL_law 17 = .ok (.istore_n 3, 1) := by decide +kernel
theorem dL_law_18 : decode cL_law 18 = .ok (.iload_n 3, 1) := by decide +kernel
theorem dL_law_19 : decode cL_law 19 = .ok (.aload_n 0, 1) := by decide +kernel
theorem dL_law_20 : decode cL_law 20 = .ok (.arraylength, 1) := by decide +kernel
theorem dL_law_21 : decode cL_law 21 = .ok (.iconst 5, 1) := by decide +kernel
theorem dL_law_22 : decode cL_law 22 = .ok (.isub, 1) := by decide +kernel
theorem dL_law_23 : decode cL_law 23 = .ok (.if_icmp .gt 471, 3) := by decide +kernel
theorem dL_law_26 : decode cL_law 26 = .ok (.aload_n 0, 1) := by decide +kernel
theorem dL_law_27 : decode cL_law 27 = .ok (.iload_n 3, 1) := by decide +kernel
theorem dL_law_28 : decode cL_law 28 = .ok (.iaload, 1) := by decide +kernel
theorem dL_law_29 : decode cL_law 29 = .ok (.bipush 15, 2) := by decide +kernel
theorem dL_law_31 : decode cL_law 31 = .ok (.iand, 1) := by decide +kernel
theorem dL_law_32 : decode cL_law 32 = .ok (.tableswitch 456 0 9 #[56, 79, 122, 155, 198, 231, 274, 327, 370, 413], 56) := by decide +kernel
theorem dL_law_88 : decode cL_law 88 = .ok (.aload_n 1, 1) := by decide +kernel
theorem dL_law_89 : decode cL_law 89 = .ok (.aload_n 0, 1) := by decide +kernel
theorem dL_law_90 : decode cL_law 90 = .ok (.iload_n 3, 1) := by decide +kernel
theorem dL_law_91 : decode cL_law 91 = .ok (.iconst 1, 1) := by decide +kernel
theorem dL_law_92 : decode cL_law 92 = .ok (.iadd, 1) := by decide +kernel
theorem dL_law_93 : decode cL_law 93 = .ok (.iaload, 1) := by decide +kernel
theorem dL_law_94 : decode cL_law 94 = .ok (.invokevirtual 13, 3) := by decide +kernel
theorem dL_law_97 : decode cL_law 97 = .ok (.aload_n 2, 1) := by decide +kernel
theorem dL_law_98 : decode cL_law 98 = .ok (.aload_n 0, 1) := by decide +kernel
theorem dL_law_99 : decode cL_law 99 = .ok (.iload_n 3, 1) := by decide +kernel
theorem dL_law_100 : decode cL_law 100 = .ok (.iconst 1, 1) := by decide +kernel
theorem dL_law_101 : decode cL_law 101 = .ok (.iadd, 1) := by decide +kernel
theorem dL_law_102 : decode cL_law 102 = .ok (.iaload, 1) := by decide +kernel
theorem dL_law_103 : decode cL_law 103 = .ok (.invokevirtual 17, 3) := by decide +kernel
theorem dL_law_106 : decode cL_law 106 = .ok (.if_icmp .eq 382, 3) := by decide +kernel
theorem dL_law_109 : decode cL_law 109 = .ok (.iconst 0, 1) := by decide +kernel
theorem dL_law_110 : decode cL_law 110 = .ok (.ireturn, 1) := by decide +kernel
theorem dL_law_111 : decode cL_law 111 = .ok (.aload_n 1, 1) := by decide +kernel
theorem dL_law_112 : decode cL_law 112 = .ok (.aload_n 0, 1) := by decide +kernel
theorem dL_law_113 : decode cL_law 113 = .ok (.iload_n 3, 1) := by decide +kernel
theorem dL_law_114 : decode cL_law 114 = .ok (.iconst 1, 1) := by decide +kernel
theorem dL_law_115 : decode cL_law 115 = .ok (.iadd, 1) := by decide +kernel
theorem dL_law_116 : decode cL_law 116 = .ok (.iaload, 1) := by decide +kernel
theorem dL_law_117 : decode cL_law 117 = .ok (.aload_n 0, 1) := by decide +kernel
theorem dL_law_118 : decode cL_law 118 = .ok (.iload_n 3, 1) := by decide +kernel
theorem dL_law_119 : decode cL_law 119 = .ok (.iconst 2, 1) := by decide +kernel
theorem dL_law_120 : decode cL_law 120 = .ok (.iadd, 1) := by decide +kernel
theorem dL_law_121 : decode cL_law 121 = .ok (.iaload, 1) := by decide +kernel
theorem dL_law_122 : decode cL_law 122 = .ok (.aload_n 0, 1) := by decide +kernel
theorem dL_law_123 : decode cL_law 123 = .ok (.iload_n 3, 1) := by decide +kernel
theorem dL_law_124 : decode cL_law 124 = .ok (.iconst 3, 1) := by decide +kernel
theorem dL_law_125 : decode cL_law 125 = .ok (.iadd, 1) := by decide +kernel
theorem dL_law_126 : decode cL_law 126 = .ok (.iaload, 1) := by decide +kernel
theorem dL_law_127 : decode cL_law 127 = .ok (.invokevirtual 18, 3) := by decide +kernel
theorem dL_law_130 : decode cL_law 130 = .ok (.aload_n 2, 1) := by decide +kernel
theorem dL_law_131 : decode cL_law 131 = .ok (.aload_n 0, 1) := by decide +kernel
theorem dL_law_132 : decode cL_law 132 = .ok (.iload_n 3, 1) := by decide +kernel
theorem dL_law_133 : decode cL_law 133 = .ok (.iconst 1, 1) := by decide +kernel
theorem dL_law_134 : decode cL_law 134 = .ok (.iadd, 1) := by decide +kernel
theorem dL_law_135 : decode cL_law 135 = .ok (.iaload, 1) := by decide +kernel
theorem dL_law_136 : decode cL_law 136 = .ok (.aload_n 0, 1) := by decide +kernel
theorem dL_law_137 : decode cL_law 137 = .ok (.iload_n 3, 1) := by decide +kernel
theorem dL_law_138 : decode cL_law 138 = .ok (.iconst 2, 1) := by decide +kernel
theorem dL_law_139 : decode cL_law 139 = .ok (.iadd, 1) := by decide +kernel
theorem dL_law_140 : decode cL_law 140 = .ok (.iaload, 1) := by decide +kernel
theorem dL_law_141 : decode cL_law 141 = .ok (.aload_n 0, 1) := by decide +kernel
theorem dL_law_142 : decode cL_law 142 = .ok (.iload_n 3, 1) := by decide +kernel
theorem dL_law_143 : decode cL_law 143 = .ok (.iconst 3, 1) := by decide +kernel
theorem dL_law_144 : decode cL_law 144 = .ok (.iadd, 1) := by decide +kernel
theorem dL_law_145 : decode cL_law 145 = .ok (.iaload, 1) := by decide +kernel
theorem dL_law_146 : decode cL_law 146 = .ok (.invokevirtual 22, 3) := by decide +kernel
theorem dL_law_149 : decode cL_law 149 = .ok (.if_icmp .eq 339, 3) := by decide +kernel
theorem dL_law_152 : decode cL_law 152 = .ok (.iconst 0, 1) := by decide +kernel
theorem dL_law_153 : decode cL_law 153 = .ok (.ireturn, 1) := by decide +kernel
theorem dL_law_154 : decode cL_law 154 = .ok (.aload_n 1, 1) := by decide +kernel
theorem dL_law_155 : decode cL_law 155 = .ok (.aload_n 0, 1) := by decide +kernel
theorem dL_law_156 : decode cL_law 156 = .ok (.iload_n 3, 1) := by decide +kernel
theorem dL_law_157 : decode cL_law 157 = .ok (.iconst 1, 1) := by decide +kernel
theorem dL_law_158 : decode cL_law 158 = .ok (.iadd, 1) := by decide +kernel
theorem dL_law_159 : decode cL_law 159 = .ok (.iaload, 1) := by decide +kernel
theorem dL_law_160 : decode cL_law 160 = .ok (.aload_n 0, 1) := by decide +kernel
theorem dL_law_161 : decode cL_law 161 = .ok (.iload_n 3, 1) := by decide +kernel
theorem dL_law_162 : decode cL_law 162 = .ok (.iconst 2, 1) := by decide +kernel
theorem dL_law_163 : decode cL_law 163 = .ok (.iadd, 1) := by decide +kernel
theorem dL_law_164 : decode cL_law 164 = .ok (.iaload, 1) := by decide +kernel
theorem dL_law_165 : decode cL_law 165 = .ok (.invokevirtual 23, 3) := by decide +kernel
theorem dL_law_168 : decode cL_law 168 = .ok (.aload_n 2, 1) := by decide +kernel
theorem dL_law_169 : decode cL_law 169 = .ok (.aload_n 0, 1) := by decide +kernel
theorem dL_law_170 : decode cL_law 170 = .ok (.iload_n 3, 1) := by decide +kernel
theorem dL_law_171 : decode cL_law 171 = .ok (.iconst 1, 1) := by decide +kernel
theorem dL_law_172 : decode cL_law 172 = .ok (.iadd, 1) := by decide +kernel
theorem dL_law_173 : decode cL_law 173 = .ok (.iaload, 1) := by decide +kernel
theorem dL_law_174 : decode cL_law 174 = .ok (.aload_n 0, 1) := by decide +kernel
theorem dL_law_175 : decode cL_law 175 = .ok (.iload_n 3, 1) := by decide +kernel
theorem dL_law_176 : decode cL_law 176 = .ok (.iconst 2, 1) := by decide +kernel
theorem dL_law_177 : decode cL_law 177 = .ok (.iadd, 1) := by decide +kernel
theorem dL_law_178 : decode cL_law 178 = .ok (.iaload, 1) := by decide +kernel
theorem dL_law_179 : decode cL_law 179 = .ok (.invokevirtual 27, 3) := by decide +kernel
theorem dL_law_182 : decode cL_law 182 = .ok (.if_icmp .eq 306, 3) := by decide +kernel
theorem dL_law_185 : decode cL_law 185 = .ok (.iconst 0, 1) := by decide +kernel
theorem dL_law_186 : decode cL_law 186 = .ok (.ireturn, 1) := by decide +kernel
theorem dL_law_187 : decode cL_law 187 = .ok (.aload_n 1, 1) := by decide +kernel
theorem dL_law_188 : decode cL_law 188 = .ok (.aload_n 0, 1) := by decide +kernel
theorem dL_law_189 : decode cL_law 189 = .ok (.iload_n 3, 1) := by decide +kernel
theorem dL_law_190 : decode cL_law 190 = .ok (.iconst 1, 1) := by decide +kernel
theorem dL_law_191 : decode cL_law 191 = .ok (.iadd, 1) := by decide +kernel
theorem dL_law_192 : decode cL_law 192 = .ok (.iaload, 1) := by decide +kernel
theorem dL_law_193 : decode cL_law 193 = .ok (.aload_n 0, 1) := by decide +kernel
theorem dL_law_194 : decode cL_law 194 = .ok (.iload_n 3, 1) := by decide +kernel
theorem dL_law_195 : decode cL_law 195 = .ok (.iconst 2, 1) := by decide +kernel
theorem dL_law_196 : decode cL_law 196 = .ok (.iadd, 1) := by decide +kernel
theorem dL_law_197 : decode cL_law 197 = .ok (.iaload, 1) := by decide +kernel
theorem dL_law_198 : decode cL_law 198 = .ok (.aload_n 0, 1) := by decide +kernel
theorem dL_law_199 : decode cL_law 199 = .ok (.iload_n 3, 1) := by decide +kernel
theorem dL_law_200 : decode cL_law 200 = .ok (.iconst 3, 1) := by decide +kernel
theorem dL_law_201 : decode cL_law 201 = .ok (.iadd, 1) := by decide +kernel
theorem dL_law_202 : decode cL_law 202 = .ok (.iaload, 1) := by decide +kernel
theorem dL_law_203 : decode cL_law 203 = .ok (.invokevirtual 28, 3) := by decide +kernel
theorem dL_law_206 : decode cL_law 206 = .ok (.aload_n 2, 1) := by decide +kernel
theorem dL_law_207 : decode cL_law 207 = .ok (.aload_n 0, 1) := by decide +kernel
theorem dL_law_208 : decode cL_law 208 = .ok (.iload_n 3, 1) := by decide +kernel
theorem dL_law_209 : decode cL_law 209 = .ok (.iconst 1, 1) := by decide +kernel
theorem dL_law_210 : decode cL_law 210 = .ok (.iadd, 1) := by decide +kernel
theorem dL_law_211 : decode cL_law 211 = .ok (.iaload, 1) := by decide +kernel
theorem dL_law_212 : decode cL_law 212 = .ok (.aload_n 0, 1) := by decide +kernel
theorem dL_law_213 : decode cL_law 213 = .ok (.iload_n 3, 1) := by decide +kernel
theorem dL_law_214 : decode cL_law 214 = .ok (.iconst 2, 1) := by decide +kernel
theorem dL_law_215 : decode cL_law 215 = .ok (.iadd, 1) := by decide +kernel
theorem dL_law_216 : decode cL_law 216 = .ok (.iaload, 1) := by decide +kernel
theorem dL_law_217 : decode cL_law 217 = .ok (.aload_n 0, 1) := by decide +kernel
theorem dL_law_218 : decode cL_law 218 = .ok (.iload_n 3, 1) := by decide +kernel
theorem dL_law_219 : decode cL_law 219 = .ok (.iconst 3, 1) := by decide +kernel
theorem dL_law_220 : decode cL_law 220 = .ok (.iadd, 1) := by decide +kernel
theorem dL_law_221 : decode cL_law 221 = .ok (.iaload, 1) := by decide +kernel
theorem dL_law_222 : decode cL_law 222 = .ok (.invokevirtual 31, 3) := by decide +kernel
theorem dL_law_225 : decode cL_law 225 = .ok (.if_icmp .eq 263, 3) := by decide +kernel
theorem dL_law_228 : decode cL_law 228 = .ok (.iconst 0, 1) := by decide +kernel
theorem dL_law_229 : decode cL_law 229 = .ok (.ireturn, 1) := by decide +kernel
theorem dL_law_230 : decode cL_law 230 = .ok (.aload_n 1, 1) := by decide +kernel
theorem dL_law_231 : decode cL_law 231 = .ok (.aload_n 0, 1) := by decide +kernel
theorem dL_law_232 : decode cL_law 232 = .ok (.iload_n 3, 1) := by decide +kernel
theorem dL_law_233 : decode cL_law 233 = .ok (.iconst 1, 1) := by decide +kernel
theorem dL_law_234 : decode cL_law 234 = .ok (.iadd, 1) := by decide +kernel
theorem dL_law_235 : decode cL_law 235 = .ok (.iaload, 1) := by decide +kernel
theorem dL_law_236 : decode cL_law 236 = .ok (.aload_n 0, 1) := by decide +kernel
theorem dL_law_237 : decode cL_law 237 = .ok (.iload_n 3, 1) := by decide +kernel
theorem dL_law_238 : decode cL_law 238 = .ok (.iconst 2, 1) := by decide +kernel
theorem dL_law_239 : decode cL_law 239 = .ok (.iadd, 1) := by decide +kernel
theorem dL_law_240 : decode cL_law 240 = .ok (.iaload, 1) := by decide +kernel
theorem dL_law_241 : decode cL_law 241 = .ok (.invokevirtual 32, 3) := by decide +kernel
theorem dL_law_244 : decode cL_law 244 = .ok (.aload_n 2, 1) := by decide +kernel
theorem dL_law_245 : decode cL_law 245 = .ok (.aload_n 0, 1) := by decide +kernel
theorem dL_law_246 : decode cL_law 246 = .ok (.iload_n 3, 1) := by decide +kernel
theorem dL_law_247 : decode cL_law 247 = .ok (.iconst 1, 1) := by decide +kernel
theorem dL_law_248 : decode cL_law 248 = .ok (.iadd, 1) := by decide +kernel
theorem dL_law_249 : decode cL_law 249 = .ok (.iaload, 1) := by decide +kernel
theorem dL_law_250 : decode cL_law 250 = .ok (.aload_n 0, 1) := by decide +kernel
theorem dL_law_251 : decode cL_law 251 = .ok (.iload_n 3, 1) := by decide +kernel
theorem dL_law_252 : decode cL_law 252 = .ok (.iconst 2, 1) := by decide +kernel
theorem dL_law_253 : decode cL_law 253 = .ok (.iadd, 1) := by decide +kernel
theorem dL_law_254 : decode cL_law 254 = .ok (.iaload, 1) := by decide +kernel
theorem dL_law_255 : decode cL_law 255 = .ok (.invokevirtual 35, 3) := by decide +kernel
theorem dL_law_258 : decode cL_law 258 = .ok (.if_icmp .eq 230, 3) := by decide +kernel
theorem dL_law_261 : decode cL_law 261 = .ok (.iconst 0, 1) := by decide +kernel
theorem dL_law_262 : decode cL_law 262 = .ok (.ireturn, 1) := by decide +kernel
theorem dL_law_263 : decode cL_law 263 = .ok (.aload_n 1, 1) := by decide +kernel
theorem dL_law_264 : decode cL_law 264 = .ok (.aload_n 0, 1) := by decide +kernel
theorem dL_law_265 : decode cL_law 265 = .ok (.iload_n 3, 1) := by decide +kernel
theorem dL_law_266 : decode cL_law 266 = .ok (.iconst 1, 1) := by decide +kernel
theorem dL_law_267 : decode cL_law 267 = .ok (.iadd, 1) := by decide +kernel
theorem dL_law_268 : decode cL_law 268 = .ok (.iaload, 1) := by decide +kernel
theorem dL_law_269 : decode cL_law 269 = .ok (.aload_n 0, 1) := by decide +kernel
theorem dL_law_270 : decode cL_law 270 = .ok (.iload_n 3, 1) := by decide +kernel
theorem dL_law_271 : decode cL_law 271 = .ok (.iconst 2, 1) := by decide +kernel
theorem dL_law_272 : decode cL_law 272 = .ok (.iadd, 1) := by decide +kernel
theorem dL_law_273 : decode cL_law 273 = .ok (.iaload, 1) := by decide +kernel
theorem dL_law_274 : decode cL_law 274 = .ok (.aload_n 0, 1) := by decide +kernel
theorem dL_law_275 : decode cL_law 275 = .ok (.iload_n 3, 1) := by decide +kernel
theorem dL_law_276 : decode cL_law 276 = .ok (.iconst 3, 1) := by decide +kernel
theorem dL_law_277 : decode cL_law 277 = .ok (.iadd, 1) := by decide +kernel
theorem dL_law_278 : decode cL_law 278 = .ok (.iaload, 1) := by decide +kernel
theorem dL_law_279 : decode cL_law 279 = .ok (.invokevirtual 36, 3) := by decide +kernel
theorem dL_law_282 : decode cL_law 282 = .ok (.aload_n 2, 1) := by decide +kernel
theorem dL_law_283 : decode cL_law 283 = .ok (.aload_n 0, 1) := by decide +kernel
theorem dL_law_284 : decode cL_law 284 = .ok (.iload_n 3, 1) := by decide +kernel
theorem dL_law_285 : decode cL_law 285 = .ok (.iconst 1, 1) := by decide +kernel
theorem dL_law_286 : decode cL_law 286 = .ok (.iadd, 1) := by decide +kernel
theorem dL_law_287 : decode cL_law 287 = .ok (.iaload, 1) := by decide +kernel
end
section
set_option maxRecDepth 100000
theorem dL_law_288 : decode cL_law 288 = .ok (.aload_n 0, 1) := by decide +kernel
theorem dL_law_289 : decode cL_law 289 = .ok (.iload_n 3, 1) := by decide +kernel
theorem dL_law_290 : decode cL_law 290 = .ok (.iconst 2, 1) := by decide +kernel
theorem dL_law_291 : decode cL_law 291 = .ok (.iadd, 1) := by decide +kernel
theorem dL_law_292 : decode cL_law 292 = .ok (.iaload, 1) := by decide +kernel
theorem dL_law_293 : decode cL_law 293 = .ok (.aload_n 0, 1) := by decide +kernel
theorem dL_law_294 : decode cL_law 294 = .ok (.iload_n 3, 1) := by decide +kernel
theorem dL_law_295 : decode cL_law 295 = .ok (.iconst 3, 1) := by decide +kernel
theorem dL_law_296 : decode cL_law 296 = .ok (.iadd, 1) := by decide +kernel
theorem dL_law_297 : decode cL_law 297 = .ok (.iaload, 1) := by decide +kernel
theorem dL_law_298 : decode cL_law 298 = .ok (.invokevirtual 39, 3) := by decide +kernel
theorem dL_law_301 : decode cL_law 301 = .ok (.if_icmp .eq 187, 3) := by decide +kernel
theorem dL_law_304 : decode cL_law 304 = .ok (.iconst 0, 1) := by decide +kernel
theorem dL_law_305 : decode cL_law 305 = .ok (.ireturn, 1) := by decide +kernel
theorem dL_law_306 : decode cL_law 306 = .ok (.aload_n 1, 1) := by decide +kernel
theorem dL_law_307 : decode cL_law 307 = .ok (.aload_n 0, 1) := by decide +kernel
theorem dL_law_308 : decode cL_law 308 = .ok (.iload_n 3, 1) := by decide +kernel
theorem dL_law_309 : decode cL_law 309 = .ok (.iconst 1, 1) := by decide +kernel
theorem dL_law_310 : decode cL_law 310 = .ok (.iadd, 1) := by decide +kernel
theorem dL_law_311 : decode cL_law 311 = .ok (.iaload, 1) := by decide +kernel
theorem dL_law_312 : decode cL_law 312 = .ok (.aload_n 0, 1) := by decide +kernel
theorem dL_law_313 : decode cL_law 313 = .ok (.iload_n 3, 1) := by decide +kernel
theorem dL_law_314 : decode cL_law 314 = .ok (.iconst 2, 1) := by decide +kernel
theorem dL_law_315 : decode cL_law 315 = .ok (.iadd, 1) := by decide +kernel
theorem dL_law_316 : decode cL_law 316 = .ok (.iaload, 1) := by decide +kernel
theorem dL_law_317 : decode cL_law 317 = .ok (.aload_n 0, 1) := by decide +kernel
theorem dL_law_318 : decode cL_law 318 = .ok (.iload_n 3, 1) := by decide +kernel
theorem dL_law_319 : decode cL_law 319 = .ok (.iconst 3, 1) := by decide +kernel
theorem dL_law_320 : decode cL_law 320 = .ok (.iadd, 1) := by decide +kernel
theorem dL_law_321 : decode cL_law 321 = .ok (.iaload, 1) := by decide +kernel
theorem dL_law_322 : decode cL_law 322 = .ok (.aload_n 0, 1) := by decide +kernel
theorem dL_law_323 : decode cL_law 323 = .ok (.iload_n 3, 1) := by decide +kernel
theorem dL_law_324 : decode cL_law 324 = .ok (.iconst 4, 1) := by decide +kernel
theorem dL_law_325 : decode cL_law 325 = .ok (.iadd, 1) := by decide +kernel
theorem dL_law_326 : decode cL_law 326 = .ok (.iaload, 1) := by decide +kernel
theorem dL_law_327 : decode cL_law 327 = .ok (.invokevirtual 40, 3) := by decide +kernel
theorem dL_law_330 : decode cL_law 330 = .ok (.aload_n 2, 1) := by decide +kernel
theorem dL_law_331 : decode cL_law 331 = .ok (.aload_n 0, 1) := by decide +kernel
theorem dL_law_332 : decode cL_law 332 = .ok (.iload_n 3, 1) := by decide +kernel
theorem dL_law_333 : decode cL_law 333 = .ok (.iconst 1, 1) := by decide +kernel
theorem dL_law_334 : decode cL_law 334 = .ok (.iadd, 1) := by decide +kernel
theorem dL_law_335 : decode cL_law 335 = .ok (.iaload, 1) := by decide +kernel
theorem dL_law_336 : decode cL_law 336 = .ok (.aload_n 0, 1) := by decide +kernel
theorem dL_law_337 : decode cL_law 337 = .ok (.iload_n 3, 1) := by decide +kernel
theorem dL_law_338 : decode cL_law 338 = .ok (.iconst 2, 1) := by decide +kernel
theorem dL_law_339 : decode cL_law 339 = .ok (.iadd, 1) := by decide +kernel
theorem dL_law_340 : decode cL_law 340 = .ok (.iaload, 1) := by decide +kernel
theorem dL_law_341 : decode cL_law 341 = .ok (.aload_n 0, 1) := by decide +kernel
theorem dL_law_342 : decode cL_law 342 = .ok (.iload_n 3, 1) := by decide +kernel
theorem dL_law_343 : decode cL_law 343 = .ok (.iconst 3, 1) := by decide +kernel
theorem dL_law_344 : decode cL_law 344 = .ok (.iadd, 1) := by decide +kernel
theorem dL_law_345 : decode cL_law 345 = .ok (.iaload, 1) := by decide +kernel
theorem dL_law_346 : decode cL_law 346 = .ok (.aload_n 0, 1) := by decide +kernel
theorem dL_law_347 : decode cL_law 347 = .ok (.iload_n 3, 1) := by decide +kernel
theorem dL_law_348 : decode cL_law 348 = .ok (.iconst 4, 1) := by decide +kernel
theorem dL_law_349 : decode cL_law 349 = .ok (.iadd, 1) := by decide +kernel
theorem dL_law_350 : decode cL_law 350 = .ok (.iaload, 1) := by decide +kernel
theorem dL_law_351 : decode cL_law 351 = .ok (.invokevirtual 44, 3) := by decide +kernel
theorem dL_law_354 : decode cL_law 354 = .ok (.if_icmp .eq 134, 3) := by decide +kernel
theorem dL_law_357 : decode cL_law 357 = .ok (.iconst 0, 1) := by decide +kernel
theorem dL_law_358 : decode cL_law 358 = .ok (.ireturn, 1) := by decide +kernel
theorem dL_law_359 : decode cL_law 359 = .ok (.aload_n 1, 1) := by decide +kernel
theorem dL_law_360 : decode cL_law 360 = .ok (.aload_n 0, 1) := by decide +kernel
theorem dL_law_361 : decode cL_law 361 = .ok (.iload_n 3, 1) := by decide +kernel
theorem dL_law_362 : decode cL_law 362 = .ok (.iconst 1, 1) := by decide +kernel
theorem dL_law_363 : decode cL_law 363 = .ok (.iadd, 1) := by decide +kernel
theorem dL_law_364 : decode cL_law 364 = .ok (.iaload, 1) := by decide +kernel
theorem dL_law_365 : decode cL_law 365 = .ok (.aload_n 0, 1) := by decide +kernel
theorem dL_law_366 : decode cL_law 366 = .ok (.iload_n 3, 1) := by decide +kernel
theorem dL_law_367 : decode cL_law 367 = .ok (.iconst 2, 1) := by decide +kernel
theorem dL_law_368 : decode cL_law 368 = .ok (.iadd, 1) := by decide +kernel
theorem dL_law_369 : decode cL_law 369 = .ok (.iaload, 1) := by decide +kernel
theorem dL_law_370 : decode cL_law 370 = .ok (.aload_n 0, 1) := by decide +kernel
theorem dL_law_371 : decode cL_law 371 = .ok (.iload_n 3, 1) := by decide +kernel
theorem dL_law_372 : decode cL_law 372 = .ok (.iconst 3, 1) := by decide +kernel
theorem dL_law_373 : decode cL_law 373 = .ok (.iadd, 1) := by decide +kernel
theorem dL_law_374 : decode cL_law 374 = .ok (.iaload, 1) := by decide +kernel
theorem dL_law_375 : decode cL_law 375 = .ok (.invokevirtual 45, 3) := by decide +kernel
theorem dL_law_378 : decode cL_law 378 = .ok (.aload_n 2, 1) := by decide +kernel
theorem dL_law_379 : decode cL_law 379 = .ok (.aload_n 0, 1) := by decide +kernel
theorem dL_law_380 : decode cL_law 380 = .ok (.iload_n 3, 1) := by decide +kernel
theorem dL_law_381 : decode cL_law 381 = .ok (.iconst 1, 1) := by decide +kernel
theorem dL_law_382 : decode cL_law 382 = .ok (.iadd, 1) := by decide +kernel
theorem dL_law_383 : decode cL_law 383 = .ok (.iaload, 1) := by decide +kernel
theorem dL_law_384 : decode cL_law 384 = .ok (.aload_n 0, 1) := by decide +kernel
theorem dL_law_385 : decode cL_law 385 = .ok (.iload_n 3, 1) := by decide +kernel
theorem dL_law_386 : decode cL_law 386 = .ok (.iconst 2, 1) := by decide +kernel
theorem dL_law_387 : decode cL_law 387 = .ok (.iadd, 1) := by decide +kernel
theorem dL_law_388 : decode cL_law 388 = .ok (.iaload, 1) := by decide +kernel
theorem dL_law_389 : decode cL_law 389 = .ok (.aload_n 0, 1) := by decide +kernel
theorem dL_law_390 : decode cL_law 390 = .ok (.iload_n 3, 1) := by decide +kernel
theorem dL_law_391 : decode cL_law 391 = .ok (.iconst 3, 1) := by decide +kernel
theorem dL_law_392 : decode cL_law 392 = .ok (.iadd, 1) := by decide +kernel
theorem dL_law_393 : decode cL_law 393 = .ok (.iaload, 1) := by decide +kernel
theorem dL_law_394 : decode cL_law 394 = .ok (.invokevirtual 48, 3) := by decide +kernel
theorem dL_law_397 : decode cL_law 397 = .ok (.if_icmp .eq 91, 3) := by decide +kernel
theorem dL_law_400 : decode cL_law 400 = .ok (.iconst 0, 1) := by decide +kernel
theorem dL_law_401 : decode cL_law 401 = .ok (.ireturn, 1) := by decide +kernel
theorem dL_law_402 : decode cL_law 402 = .ok (.aload_n 1, 1) := by decide +kernel
theorem dL_law_403 : decode cL_law 403 = .ok (.aload_n 0, 1) := by decide +kernel
theorem dL_law_404 : decode cL_law 404 = .ok (.iload_n 3, 1) := by decide +kernel
theorem dL_law_405 : decode cL_law 405 = .ok (.iconst 1, 1) := by decide +kernel
theorem dL_law_406 : decode cL_law 406 = .ok (.iadd, 1) := by decide +kernel
theorem dL_law_407 : decode cL_law 407 = .ok (.iaload, 1) := by decide +kernel
theorem dL_law_408 : decode cL_law 408 = .ok (.aload_n 0, 1) := by decide +kernel
theorem dL_law_409 : decode cL_law 409 = .ok (.iload_n 3, 1) := by decide +kernel
theorem dL_law_410 : decode cL_law 410 = .ok (.iconst 2, 1) := by decide +kernel
theorem dL_law_411 : decode cL_law 411 = .ok (.iadd, 1) := by decide +kernel
theorem dL_law_412 : decode cL_law 412 = .ok (.iaload, 1) := by decide +kernel
theorem dL_law_413 : decode cL_law 413 = .ok (.aload_n 0, 1) := by decide +kernel
theorem dL_law_414 : decode cL_law 414 = .ok (.iload_n 3, 1) := by decide +kernel
theorem dL_law_415 : decode cL_law 415 = .ok (.iconst 3, 1) := by decide +kernel
theorem dL_law_416 : decode cL_law 416 = .ok (.iadd, 1) := by decide +kernel
theorem dL_law_417 : decode cL_law 417 = .ok (.iaload, 1) := by decide +kernel
theorem dL_law_418 : decode cL_law 418 = .ok (.invokevirtual 49, 3) := by decide +kernel
theorem dL_law_421 : decode cL_law 421 = .ok (.aload_n 2, 1) := by decide +kernel
theorem dL_law_422 : decode cL_law 422 = .ok (.aload_n 0, 1) := by decide +kernel
theorem dL_law_423 : decode cL_law 423 = .ok (.iload_n 3, 1) := by decide +kernel
theorem dL_law_424 : decode cL_law 424 = .ok (.iconst 1, 1) := by decide +kernel
theorem dL_law_425 : decode cL_law 425 = .ok (.iadd, 1) := by decide +kernel
theorem dL_law_426 : decode cL_law 426 = .ok (.iaload, 1) := by decide +kernel
theorem dL_law_427 : decode cL_law 427 = .ok (.aload_n 0, 1) := by decide +kernel
theorem dL_law_428 : decode cL_law 428 = .ok (.iload_n 3, 1) := by decide +kernel
theorem dL_law_429 : decode cL_law 429 = .ok (.iconst 2, 1) := by decide +kernel
theorem dL_law_430 : decode cL_law 430 = .ok (.iadd, 1) := by decide +kernel
theorem dL_law_431 : decode cL_law 431 = .ok (.iaload, 1) := by decide +kernel
theorem dL_law_432 : decode cL_law 432 = .ok (.aload_n 0, 1) := by decide +kernel
theorem dL_law_433 : decode cL_law 433 = .ok (.iload_n 3, 1) := by decide +kernel
theorem dL_law_434 : decode cL_law 434 = .ok (.iconst 3, 1) := by decide +kernel
theorem dL_law_435 : decode cL_law 435 = .ok (.iadd, 1) := by decide +kernel
theorem dL_law_436 : decode cL_law 436 = .ok (.iaload, 1) := by decide +kernel
theorem dL_law_437 : decode cL_law 437 = .ok (.invokevirtual 52, 3) := by decide +kernel
theorem dL_law_440 : decode cL_law 440 = .ok (.if_icmp .eq 48, 3) := by decide +kernel
theorem dL_law_443 : decode cL_law 443 = .ok (.iconst 0, 1) := by decide +kernel
theorem dL_law_444 : decode cL_law 444 = .ok (.ireturn, 1) := by decide +kernel
theorem dL_law_445 : decode cL_law 445 = .ok (.aload_n 1, 1) := by decide +kernel
theorem dL_law_446 : decode cL_law 446 = .ok (.aload_n 0, 1) := by decide +kernel
theorem dL_law_447 : decode cL_law 447 = .ok (.iload_n 3, 1) := by decide +kernel
theorem dL_law_448 : decode cL_law 448 = .ok (.iconst 1, 1) := by decide +kernel
theorem dL_law_449 : decode cL_law 449 = .ok (.iadd, 1) := by decide +kernel
theorem dL_law_450 : decode cL_law 450 = .ok (.iaload, 1) := by decide +kernel
theorem dL_law_451 : decode cL_law 451 = .ok (.aload_n 0, 1) := by decide +kernel
theorem dL_law_452 : decode cL_law 452 = .ok (.iload_n 3, 1) := by decide +kernel
theorem dL_law_453 : decode cL_law 453 = .ok (.iconst 2, 1) := by decide +kernel
theorem dL_law_454 : decode cL_law 454 = .ok (.iadd, 1) := by decide +kernel
theorem dL_law_455 : decode cL_law 455 = .ok (.iaload, 1) := by decide +kernel
theorem dL_law_456 : decode cL_law 456 = .ok (.aload_n 0, 1) := by decide +kernel
theorem dL_law_457 : decode cL_law 457 = .ok (.iload_n 3, 1) := by decide +kernel
theorem dL_law_458 : decode cL_law 458 = .ok (.iconst 3, 1) := by decide +kernel
theorem dL_law_459 : decode cL_law 459 = .ok (.iadd, 1) := by decide +kernel
theorem dL_law_460 : decode cL_law 460 = .ok (.iaload, 1) := by decide +kernel
theorem dL_law_461 : decode cL_law 461 = .ok (.invokevirtual 53, 3) := by decide +kernel
theorem dL_law_464 : decode cL_law 464 = .ok (.aload_n 2, 1) := by decide +kernel
theorem dL_law_465 : decode cL_law 465 = .ok (.aload_n 0, 1) := by decide +kernel
theorem dL_law_466 : decode cL_law 466 = .ok (.iload_n 3, 1) := by decide +kernel
theorem dL_law_467 : decode cL_law 467 = .ok (.iconst 1, 1) := by decide +kernel
theorem dL_law_468 : decode cL_law 468 = .ok (.iadd, 1) := by decide +kernel
theorem dL_law_469 : decode cL_law 469 = .ok (.iaload, 1) := by decide +kernel
theorem dL_law_470 : decode cL_law 470 = .ok (.aload_n 0, 1) := by decide +kernel
theorem dL_law_471 : decode cL_law 471 = .ok (.iload_n 3, 1) := by decide +kernel
theorem dL_law_472 : decode cL_law 472 = .ok (.iconst 2, 1) := by decide +kernel
theorem dL_law_473 : decode cL_law 473 = .ok (.iadd, 1) := by decide +kernel
theorem dL_law_474 : decode cL_law 474 = .ok (.iaload, 1) := by decide +kernel
theorem dL_law_475 : decode cL_law 475 = .ok (.aload_n 0, 1) := by decide +kernel
theorem dL_law_476 : decode cL_law 476 = .ok (.iload_n 3, 1) := by decide +kernel
theorem dL_law_477 : decode cL_law 477 = .ok (.iconst 3, 1) := by decide +kernel
theorem dL_law_478 : decode cL_law 478 = .ok (.iadd, 1) := by decide +kernel
theorem dL_law_479 : decode cL_law 479 = .ok (.iaload, 1) := by decide +kernel
theorem dL_law_480 : decode cL_law 480 = .ok (.invokevirtual 56, 3) := by decide +kernel
theorem dL_law_483 : decode cL_law 483 = .ok (.if_icmp .eq 5, 3) := by decide +kernel
theorem dL_law_486 : decode cL_law 486 = .ok (.iconst 0, 1) := by decide +kernel
theorem dL_law_487 : decode cL_law 487 = .ok (.ireturn, 1) := by decide +kernel
theorem dL_law_488 : decode cL_law 488 = .ok (.iinc 3 5, 3) := by decide +kernel
theorem dL_law_491 : decode cL_law 491 = .ok (.goto (-473), 3) := by decide +kernel
theorem dL_law_494 : decode cL_law 494 = .ok (.iconst 1, 1) := by decide +kernel
theorem dL_law_495 : decode cL_law 495 = .ok (.ireturn, 1) := by decide +kernel
end
section
/-! base rows: whole numbers in words of 32 bits, arrays of them, contracts and rows over a world held in one word -/
set_option maxRecDepth 100000
def iI (x : Int) : Int32 := Int32.ofInt x
abbrev r32 (x : Int) : Prop := -2147483648 ≤ x ∧ x ≤ 2147483647
theorem iI_toInt {x : Int} (h : r32 x) : (iI x).toInt = x := by
  have h1 := h.1
  have h2 := h.2
  exact Int32.toInt_ofInt_of_le (by omega) (by omega)
theorem iI_le {a b : Int} (ha : r32 a) (hb : r32 b) : iI a ≤ iI b ↔ a ≤ b := by
  rw [Int32.le_iff_toInt_le, iI_toInt ha, iI_toInt hb]
theorem iI_lt {a b : Int} (ha : r32 a) (hb : r32 b) : iI a < iI b ↔ a < b := by
  rw [Int32.lt_iff_toInt_lt, iI_toInt ha, iI_toInt hb]
theorem iI_eq {a b : Int} (ha : r32 a) (hb : r32 b) : iI a = iI b ↔ a = b :=
  ⟨fun h => by rw [← iI_toInt ha, h, iI_toInt hb], fun h => by rw [h]⟩
theorem iI_add (a b : Int) : iI a + iI b = iI (a + b) := (Int32.ofInt_add a b).symm
theorem iI_sub (a b : Int) : iI a - iI b = iI (a - b) := (Int32.ofInt_sub a b).symm
theorem iI_mul (a b : Int) : iI a * iI b = iI (a * b) := (Int32.ofInt_mul a b).symm
theorem iI_0 : (0 : Int32) = iI 0 := by decide
theorem r32_0 : r32 0 := by decide
theorem iI_of (x : Int32) : x = iI x.toInt := (Int32.ofInt_toInt x).symm
theorem r32_toInt (x : Int32) : r32 x.toInt := by
  have h1 := Int32.le_toInt x
  have h2 := Int32.toInt_lt x
  exact ⟨by omega, by omega⟩
theorem iI_nI (k : Nat) : iI (k : Int) = nI k := Int32.ofInt_eq_ofNat
theorem iI_clamp {k : Nat} (h : k < 2147483648) : (iI (k : Int)).toNatClampNeg = k := by
  rw [iI_nI]
  exact nI_clamp (by omega)
theorem iI_in {k n : Nat} (h : k < n) (hn : n ≤ 1000) : vp_in (iI (k : Int)) n := by
  rw [iI_nI]
  exact vp_in_nI h (by omega)
def iF (f : Nat → Int) : Nat → Int32 := fun j => iI (f j)
def upI (f : Nat → Int) (k : Nat) (v : Int) : Nat → Int := fun j => if j = k then v else f j
def upN (f : Nat → Nat) (k : Nat) (v : Nat) : Nat → Nat := fun j => if j = k then v else f j
theorem iF_up (f : Nat → Int) (k : Nat) (v : Int) : upd (iF f) k (iI v) = iF (upI f k v) := by
  funext j
  simp only [upd, iF, upI]
  split <;> rfl
theorem upI_s {f : Nat → Int} {k : Nat} {v : Int} : upI f k v k = v := by simp [upI]
theorem upI_n {f : Nat → Int} {k j : Nat} {v : Int} (h : j ≠ k) : upI f k v j = f j := by simp [upI, h]
theorem upI_e (f : Nat → Int) (k : Nat) (v : Int) (j : Nat) : upI f k v j = if j = k then v else f j := rfl
theorem upI_up (f : Nat → Int) (k : Nat) (v w : Int) : upI (upI f k v) k w = upI f k w := by
  funext j
  simp only [upI]
  split <;> rfl
theorem upN_s {f : Nat → Nat} {k : Nat} {v : Nat} : upN f k v k = v := by simp [upN]
theorem upN_n {f : Nat → Nat} {k j : Nat} {v : Nat} (h : j ≠ k) : upN f k v j = f j := by simp [upN, h]
theorem upIN (f : Nat → Nat) (k v : Nat) : upI (fun j => (f j : Int)) k (v : Int) = fun j => ((upN f k v j : Nat) : Int) := by
  funext j
  simp only [upI, upN]
  split <;> rfl
theorem upI_b {f : Nat → Int} {k : Nat} {v lo hi : Int} (h : ∀ j, lo ≤ f j ∧ f j ≤ hi) (hv : lo ≤ v ∧ v ≤ hi) : ∀ j, lo ≤ upI f k v j ∧ upI f k v j ≤ hi := by
  intro j
  simp only [upI]
  split
  · exact hv
  · exact h j
/-! the timetable: lines, their sizes, stops and offsets; trips, their lines and starts; footpaths -/
abbrev TT : Type := Nat × (Nat → Nat) × (Nat → Nat) × (Nat → Int) × Nat × (Nat → Nat) × (Nat → Int) × (Nat → Int)
def tL (t : TT) : Nat := t.1
def tSz (t : TT) : Nat → Nat := t.2.1
def tSt (t : TT) : Nat → Nat := t.2.2.1
def tOg (t : TT) : Nat → Int := t.2.2.2.1
def tT (t : TT) : Nat := t.2.2.2.2.1
def tLo (t : TT) : Nat → Nat := t.2.2.2.2.2.1
def tSo (t : TT) : Nat → Int := t.2.2.2.2.2.2.1
def tWk (t : TT) : Nat → Int := t.2.2.2.2.2.2.2
abbrev vwCl : List vw_C := [(RX0, TX0, 12), (RX1, TX1, 10)]
abbrev XF (q : Nat → Nat) (t : TT) (b : Nat) : List Value := [.int (iI (tL t)), .ref (q 1), .ref (q 2), .ref (q 3), .int (iI (tT t)), .ref (q 4), .ref (q 5), .ref (q 6), .ref (q 7), .ref (q 8), .ref (q 9), .int (iI b)]
abbrev XW (d0 : ClassId) (q : Nat → Nat) (t : TT) (ri re be : Nat → Int) (b : Nat) : va_W := [(q 0, .inr (0, XF q t b)), (q 1, .inl (d0, 5, .inl (iF (fun j => (tSz t j : Int))))), (q 2, .inl (d0, 30, .inl (iF (fun j => (tSt t j : Int))))), (q 3, .inl (d0, 30, .inl (iF (tOg t)))), (q 4, .inl (d0, 12, .inl (iF (fun j => (tLo t j : Int))))), (q 5, .inl (d0, 12, .inl (iF (tSo t)))), (q 6, .inl (d0, 64, .inl (iF (tWk t)))), (q 7, .inl (d0, 8, .inl (iF ri))), (q 8, .inl (d0, 8, .inl (iF re))), (q 9, .inl (d0, 8, .inl (iF be)))]
abbrev MF (q : Nat → Nat) (t : TT) : List Value := [.int (iI (tL t)), .ref (q 1), .ref (q 2), .ref (q 3), .int (iI (tT t)), .ref (q 4), .ref (q 5), .ref (q 6), .ref (q 7), .ref (q 8)]
abbrev MW (d0 : ClassId) (q : Nat → Nat) (t : TT) (oo th : Nat → Int) : va_W := [(q 0, .inr (1, MF q t)), (q 1, .inl (d0, 5, .inl (iF (fun j => (tSz t j : Int))))), (q 2, .inl (d0, 30, .inl (iF (fun j => (tSt t j : Int))))), (q 3, .inl (d0, 30, .inl (iF (tOg t)))), (q 4, .inl (d0, 12, .inl (iF (fun j => (tLo t j : Int))))), (q 5, .inl (d0, 12, .inl (iF (tSo t)))), (q 6, .inl (d0, 64, .inl (iF (tWk t)))), (q 7, .inl (d0, 104, .inl (iF oo))), (q 8, .inl (d0, 104, .inl (iF th)))]
/-- where a walk stands: machine, code, words, the tables' knowledge -/
def rp_E (p : Program) (s : State) (m : MethodId) (meth : Method) (c : Code) (args : Array Value) (own : String) (cc : ByteArray) (nL : Nat) (D : va_G) (d0 : ClassId) : Prop := CallFix p m c cc nL s args lw_all own ∧ va_K D vwCl [(d0, .int)] s ∧ meth.locks = false
/-- the world: cells held, apart, nothing else changed -/
def rp_H (D : va_G) (A : Nat → Prop) (H0 H : Heap) (locs : List Loc) (ws : va_W) : Prop := va_P D vwCl ws H ∧ va_D A ws ∧ va_S A H0 H locs
/-- contract: an int v comes back, post v u, the world is wf u -/
def rp_MI (l : Launch) (D : va_G) (d0 : ClassId) (y : MethodName) (cb : ByteArray) (nL : Nat) (ret : Option FieldType) (rm : Room) (as : List Value) (ws : va_W) {S : Type} (post : Int → S → Prop) (wf : S → va_W) : Prop :=
  ∀ sz : Nat, Met l y (ws_ y cb nL ret) rm (va_Pc as (fun U => U.heap.size = sz ∧ va_P D vwCl ws U.heap ∧ va_K D vwCl [(d0, .int)] U ∧ va_D (fun _ => True) ws)) (va_Qi (fun r (u : Int × S) => r = iI u.1 ∧ post u.1 u.2) (fun u t => va_P D vwCl (wf u.2) t.heap ∧ va_K D vwCl [(d0, .int)] t ∧ va_D (va_A ws sz) (wf u.2)) (va_A ws sz)) 0 0 (va_A ws sz)
/-- contract: nothing comes back -/
def rp_MV (l : Launch) (D : va_G) (d0 : ClassId) (y : MethodName) (cb : ByteArray) (nL : Nat) (rm : Room) (as : List Value) (ws : va_W) {S : Type} (post : S → Prop) (wf : S → va_W) : Prop :=
  ∀ sz : Nat, Met l y (ws_ y cb nL none) rm (va_Pc as (fun U => U.heap.size = sz ∧ va_P D vwCl ws U.heap ∧ va_K D vwCl [(d0, .int)] U ∧ va_D (fun _ => True) ws)) (va_Qv post (fun u t => va_P D vwCl (wf u) t.heap ∧ va_K D vwCl [(d0, .int)] t ∧ va_D (va_A ws sz) (wf u)) (va_A ws sz)) 0 0 (va_A ws sz)
set_option maxHeartbeats 4000000 in
theorem rp_MI.of {l : Launch} {D : va_G} {d0 : ClassId} {y : MethodName} {cb : ByteArray} {nL : Nat} {ty : FieldType} {rm : Room} {as : List Value} {ws : va_W} {S : Type} {post : Int → S → Prop} {wf : S → va_W} (hy : plainName y.cls = true) {own : String} (ho : y.cls = own) (hn : ∀ v u, post v u → narrow ty (.int (iI v)) = .int (iI v)) (hlen : (lg_sl as).length ≤ nL)
    (body : ∀ (p : Program) (e : Env) (s : State) (m : MethodId) (below : List Frame) (meth : Method) (c : Code) (args : Array Value) (A : Nat → Prop) (ls : Array Slot) (Q : State → Prop), rp_E p s m meth c args own cb nL D d0 → (∀ q, s.heap.size ≤ q → A q) → rp_H D A s.heap s.heap [] ws → lv_has ls nL (lv_args 0 as) →
      (∀ (H : Heap) (locs : List Loc) (v : Int) (u : S) (pc : Nat) (ls : Array Slot), post v u → rp_H D A s.heap H locs (wf u) → decode cb pc = .ok (.ireturn, 1) → W p l e rm s m args below meth c H locs 0 0 Q (F0 m pc ls [.int (iI v)])) →
      W p l e rm s m args below meth c s.heap [] 0 0 Q (F0 m 0 ls [])) : rp_MI l D d0 y cb nL (some ty) rm as ws post wf := by
  intro sz
  refine Met.ofW (cc := cb) (maxL := nL) (ret := some ty) hy rfl ?_
  intro p e s m args below meth c s₁ B hml hv
  obtain ⟨rfl, hsz, hP, hK, hD0⟩ := hv
  have hts := atoms_spec (ws := ws_ y cb nL (some ty)) B.pre
  have hts : ∀ w ∈ lw_all, w.before _ s = true := fun w h => hts w (List.mem_cons_of_mem _ h)
  have hown : s.vm.findClass own = some m.cls := ho ▸ findClass_of_methodNamed B.named
  subst hsz
  have hD := hD0.self (sz := s.heap.size)
  generalize hAe : va_A ws s.heap.size = A at hD ⊢
  have hA : ∀ q : Nat, s.heap.size ≤ q → A q := fun q h => by rw [← hAe]; exact Or.inr h
  have hl := lv_entry as (n := nL) hlen
  rw [lg_entry_eq]
  exact body p e s m below meth c _ A _ _ ⟨⟨B.exec, B.bytes, hml, hown, hts⟩, hK, B.notSynchronized⟩ hA ⟨hP, hD, va_S.rf⟩ hl (fun H locs v u pc ls hp w hd => W.zret (ty := ty) B.exec B.bytes B.returns (hn v u hp) (fun t ht hW => ⟨⟨iI v, (v, u), rfl, ⟨rfl, hp⟩, by rw [ht]; exact w.1, va_K.moved hW.alike hK, w.2.1⟩, w.2.2.F ht⟩) w.2.2.2.2 hd B.notSynchronized)
set_option maxHeartbeats 4000000 in
theorem rp_MV.of {l : Launch} {D : va_G} {d0 : ClassId} {y : MethodName} {cb : ByteArray} {nL : Nat} {rm : Room} {as : List Value} {ws : va_W} {S : Type} {post : S → Prop} {wf : S → va_W} (hy : plainName y.cls = true) {own : String} (ho : y.cls = own) (hlen : (lg_sl as).length ≤ nL)
    (body : ∀ (p : Program) (e : Env) (s : State) (m : MethodId) (below : List Frame) (meth : Method) (c : Code) (args : Array Value) (A : Nat → Prop) (ls : Array Slot) (Q : State → Prop), rp_E p s m meth c args own cb nL D d0 → (∀ q, s.heap.size ≤ q → A q) → rp_H D A s.heap s.heap [] ws → lv_has ls nL (lv_args 0 as) →
      (∀ (H : Heap) (locs : List Loc) (u : S) (pc : Nat) (ls : Array Slot), post u → rp_H D A s.heap H locs (wf u) → decode cb pc = .ok (.return_, 1) → W p l e rm s m args below meth c H locs 0 0 Q (F0 m pc ls [])) →
      W p l e rm s m args below meth c s.heap [] 0 0 Q (F0 m 0 ls [])) : rp_MV l D d0 y cb nL rm as ws post wf := by
  intro sz
  refine Met.ofW (cc := cb) (maxL := nL) (ret := none) hy rfl ?_
  intro p e s m args below meth c s₁ B hml hv
  obtain ⟨rfl, hsz, hP, hK, hD0⟩ := hv
  have hts := atoms_spec (ws := ws_ y cb nL none) B.pre
  have hts : ∀ w ∈ lw_all, w.before _ s = true := fun w h => hts w (List.mem_cons_of_mem _ h)
  have hown : s.vm.findClass own = some m.cls := ho ▸ findClass_of_methodNamed B.named
  subst hsz
  have hD := hD0.self (sz := s.heap.size)
  generalize hAe : va_A ws s.heap.size = A at hD ⊢
  have hA : ∀ q : Nat, s.heap.size ≤ q → A q := fun q h => by rw [← hAe]; exact Or.inr h
  have hl := lv_entry as (n := nL) hlen
  rw [lg_entry_eq]
  exact body p e s m below meth c _ A _ _ ⟨⟨B.exec, B.bytes, hml, hown, hts⟩, hK, B.notSynchronized⟩ hA ⟨hP, hD, va_S.rf⟩ hl (fun H locs u pc ls hp w hd => W.vret B.exec B.bytes B.returns (fun t ht hW => ⟨⟨u, rfl, hp, by rw [ht]; exact w.1, va_K.moved hW.alike hK, w.2.1⟩, w.2.2.F ht⟩) w.2.2.2.2 hd B.notSynchronized)
section RP
variable {p : Program} {l : Launch} {e : Env} {R : Room} {s : State} {m : MethodId} {args : Array Value} {below : List Frame} {meth : Method} {c : Code} {H H0 : Heap} {locs : List Loc} {cells slots : Nat} {Q : State → Prop} {own : String} {cc : ByteArray} {nL pc : Nat} {ls : Array Slot} {rest : List Value} {D : va_G} {d0 : ClassId} {A : Nat → Prop} {ws : va_W}
theorem rp_ic (E : rp_E p s m meth c args own cc nL D d0) {n v : Int} (hdg : decode cc pc = .ok (.iconst n, 1)) (hv : n = v) (k : W p l e R s m args below meth c H locs cells slots Q (F0 m (pc + 1) ls (.int (iI v) :: rest))) : W p l e R s m args below meth c H locs cells slots Q (F0 m pc ls rest) := lv_iconst E.1.1 E.1.2.1 hdg (by rw [hv]; rfl) k
theorem rp_bi (E : rp_E p s m meth c args own cc nL D d0) {n v : Int} (hdg : decode cc pc = .ok (.bipush n, 2)) (hv : (Int8.ofInt n).toInt32 = iI v) (k : W p l e R s m args below meth c H locs cells slots Q (F0 m (pc + 2) ls (.int (iI v) :: rest))) : W p l e R s m args below meth c H locs cells slots Q (F0 m pc ls rest) := lv_bipush E.1.1 E.1.2.1 hdg hv k
theorem rp_si (E : rp_E p s m meth c args own cc nL D d0) {n v : Int} (hdg : decode cc pc = .ok (.sipush n, 3)) (hv : (Int16.ofInt n).toInt32 = iI v) (k : W p l e R s m args below meth c H locs cells slots Q (F0 m (pc + 3) ls (.int (iI v) :: rest))) : W p l e R s m args below meth c H locs cells slots Q (F0 m pc ls rest) := lv_sipush E.1.1 E.1.2.1 hdg hv k
theorem rp_ldc (E : rp_E p s m meth c args own cc nL D d0) {index : Nat} {w : Int32} {v : Int} (hc : Cond.constant own index w ∈ lw_all) (hv : w = iI v) (hdg : decode cc pc = .ok (.ldc index, 2)) (k : W p l e R s m args below meth c H locs cells slots Q (F0 m (pc + 2) ls (.int (iI v) :: rest))) : W p l e R s m args below meth c H locs cells slots Q (F0 m pc ls rest) := by
  subst hv
  exact lv_ldc E.1.1 E.1.2.1 E.1.2.2.2.1 (E.1.2.2.2.2 _ hc) hdg k
theorem rp_il (E : rp_E p s m meth c args own cc nL D d0) {i : Nat} {x : Int32} (hdg : decode cc pc = .ok (.iload i, 2)) (hl : ls[i]? = some (.val (.int x))) (k : W p l e R s m args below meth c H locs cells slots Q (F0 m (pc + 2) ls (.int x :: rest))) : W p l e R s m args below meth c H locs cells slots Q (F0 m pc ls rest) := lv_iload E.1.1 E.1.2.1 hdg hl k
theorem rp_iln (E : rp_E p s m meth c args own cc nL D d0) {kf : Fin 4} {i : Nat} {x : Int32} (hdg : decode cc pc = .ok (.iload_n kf, 1)) (hi : (kf : Nat) = i) (hl : ls[i]? = some (.val (.int x))) (k : W p l e R s m args below meth c H locs cells slots Q (F0 m (pc + 1) ls (.int x :: rest))) : W p l e R s m args below meth c H locs cells slots Q (F0 m pc ls rest) := lv_iload_n E.1.1 E.1.2.1 hdg hi hl k
theorem rp_aln (E : rp_E p s m meth c args own cc nL D d0) {kf : Fin 4} {i : Nat} {x : Nat} (hdg : decode cc pc = .ok (.aload_n kf, 1)) (hi : (kf : Nat) = i) (hl : ls[i]? = some (.val (.ref x))) (k : W p l e R s m args below meth c H locs cells slots Q (F0 m (pc + 1) ls (.ref x :: rest))) : W p l e R s m args below meth c H locs cells slots Q (F0 m pc ls rest) := lv_aload_n E.1.1 E.1.2.1 hdg hi hl k
theorem rp_dup (E : rp_E p s m meth c args own cc nL D d0) {va : Value} (hdg : decode cc pc = .ok (.dup, 1)) (hva : va.category = 1) (k : W p l e R s m args below meth c H locs cells slots Q (F0 m (pc + 1) ls (va :: va :: rest))) : W p l e R s m args below meth c H locs cells slots Q (F0 m pc ls (va :: rest)) := lv_dup E.1.1 E.1.2.1 hdg hva k
theorem rp_is (E : rp_E p s m meth c args own cc nL D d0) {i n : Nat} {x : Int32} {lv lv' : List (Nat × Value)} (ks : List Nat) (hdg : decode cc pc = .ok (.istore i, 2)) (h : lv_has ls n lv) (hn : i < n) (hl : lv_pick ((i, Value.int x) :: lv.filter (fun q => !(q.1 == i) && !(q.1 + 1 == i && q.2.category == 2))) ks = lv') (kk : ∀ ls' : Array Slot, lv_has ls' n lv' → W p l e R s m args below meth c H locs cells slots Q (F0 m (pc + 2) ls' rest)) : W p l e R s m args below meth c H locs cells slots Q (F0 m pc ls (.int x :: rest)) := lv_istore E.1.1 E.1.2.1 hdg h hn rfl (fun ls' h' => kk ls' (lv_sub h' ks hl))
theorem rp_isn (E : rp_E p s m meth c args own cc nL D d0) {kf : Fin 4} {i n : Nat} {x : Int32} {lv lv' : List (Nat × Value)} (ks : List Nat) (hdg : decode cc pc = .ok (.istore_n kf, 1)) (hi : (kf : Nat) = i) (h : lv_has ls n lv) (hn : i < n) (hl : lv_pick ((i, Value.int x) :: lv.filter (fun q => !(q.1 == i) && !(q.1 + 1 == i && q.2.category == 2))) ks = lv') (kk : ∀ ls' : Array Slot, lv_has ls' n lv' → W p l e R s m args below meth c H locs cells slots Q (F0 m (pc + 1) ls' rest)) : W p l e R s m args below meth c H locs cells slots Q (F0 m pc ls (.int x :: rest)) := lv_istore_n E.1.1 E.1.2.1 hdg hi h hn rfl (fun ls' h' => kk ls' (lv_sub h' ks hl))
theorem rp_iinc (E : rp_E p s m meth c args own cc nL D d0) {i n k : Nat} {d x v : Int} {lv lv' : List (Nat × Value)} (ks : List Nat) (hdg : decode cc pc = .ok (.iinc i d, 3)) (h : lv_has ls n lv) (hk : lv[k]? = some (i, .int (iI x))) (hv : x + d = v) (hn : i < n) (hl : lv_pick ((i, Value.int (iI v)) :: lv.filter (fun q => !(q.1 == i) && !(q.1 + 1 == i && q.2.category == 2))) ks = lv') (kk : ∀ ls' : Array Slot, lv_has ls' n lv' → W p l e R s m args below meth c H locs cells slots Q (F0 m (pc + 3) ls' rest)) : W p l e R s m args below meth c H locs cells slots Q (F0 m pc ls rest) := lv_iinc E.1.1 E.1.2.1 hdg h hk (by rw [← hv]; exact iI_add x d) hn rfl (fun ls' h' => kk ls' (lv_sub h' ks hl))
theorem rp_val {x y : Int} (h : x = y) (k : W p l e R s m args below meth c H locs cells slots Q (F0 m pc ls (.int (iI y) :: rest))) : W p l e R s m args below meth c H locs cells slots Q (F0 m pc ls (.int (iI x) :: rest)) := by
  subst h
  exact k
theorem rp_add (E : rp_E p s m meth c args own cc nL D d0) {x y : Int} (hdg : decode cc pc = .ok (.iadd, 1)) (k : W p l e R s m args below meth c H locs cells slots Q (F0 m (pc + 1) ls (.int (iI (x + y)) :: rest))) : W p l e R s m args below meth c H locs cells slots Q (F0 m pc ls (.int (iI y) :: .int (iI x) :: rest)) := lv_iadd E.1.1 E.1.2.1 hdg (by rw [iI_add]; exact k)
theorem rp_addN (E : rp_E p s m meth c args own cc nL D d0) {x y : Nat} (hdg : decode cc pc = .ok (.iadd, 1)) (k : W p l e R s m args below meth c H locs cells slots Q (F0 m (pc + 1) ls (.int (iI ((x + y : Nat) : Int)) :: rest))) : W p l e R s m args below meth c H locs cells slots Q (F0 m pc ls (.int (iI (y : Int)) :: .int (iI (x : Int)) :: rest)) := lv_iadd E.1.1 E.1.2.1 hdg (by rw [iI_add]; exact k)
theorem rp_sub (E : rp_E p s m meth c args own cc nL D d0) {x y : Int} (hdg : decode cc pc = .ok (.isub, 1)) (k : W p l e R s m args below meth c H locs cells slots Q (F0 m (pc + 1) ls (.int (iI (x - y)) :: rest))) : W p l e R s m args below meth c H locs cells slots Q (F0 m pc ls (.int (iI y) :: .int (iI x) :: rest)) := lv_isub E.1.1 E.1.2.1 hdg (by rw [iI_sub]; exact k)
theorem rp_mulN (E : rp_E p s m meth c args own cc nL D d0) {x y : Nat} (hdg : decode cc pc = .ok (.imul, 1)) (k : W p l e R s m args below meth c H locs cells slots Q (F0 m (pc + 1) ls (.int (iI ((x * y : Nat) : Int)) :: rest))) : W p l e R s m args below meth c H locs cells slots Q (F0 m pc ls (.int (iI (y : Int)) :: .int (iI (x : Int)) :: rest)) := lv_imul E.1.1 E.1.2.1 hdg (by rw [iI_mul]; exact k)
theorem rp_divN (E : rp_E p s m meth c args own cc nL D d0) {x y : Nat} (hx : x < 1000) (hy0 : 0 < y) (hy : y < 1000) (hdg : decode cc pc = .ok (.idiv, 1)) (k : W p l e R s m args below meth c H locs cells slots Q (F0 m (pc + 1) ls (.int (iI ((x / y : Nat) : Int)) :: rest))) : W p l e R s m args below meth c H locs cells slots Q (F0 m pc ls (.int (iI (y : Int)) :: .int (iI (x : Int)) :: rest)) := by
  refine lv_idiv E.1.1 E.1.2.1 hdg ?_ ?_
  · rw [iI_nI]
    exact nI_ne0 hy0 (by omega)
  · rw [iI_nI, iI_nI, pk_div (by omega) hy0 (by omega), ← iI_nI]
    exact k
theorem rp_remN (E : rp_E p s m meth c args own cc nL D d0) {x y : Nat} (hx : x < 1000) (hy0 : 0 < y) (hy : y < 1000) (hdg : decode cc pc = .ok (.irem, 1)) (k : W p l e R s m args below meth c H locs cells slots Q (F0 m (pc + 1) ls (.int (iI ((x % y : Nat) : Int)) :: rest))) : W p l e R s m args below meth c H locs cells slots Q (F0 m pc ls (.int (iI (y : Int)) :: .int (iI (x : Int)) :: rest)) := by
  refine lv_irem E.1.1 E.1.2.1 hdg ?_ ?_
  · rw [iI_nI]
    exact nI_ne0 hy0 (by omega)
  · rw [iI_nI, iI_nI, pk_rem (by omega) hy0 (by omega), ← iI_nI]
    exact k
theorem rp_goto (E : rp_E p s m meth c args own cc nL D d0) {o : Int} {tgt : Nat} (hdg : decode cc pc = .ok (.goto o, 3)) (ht : (pc : Int) + o = (tgt : Int)) (k : W p l e R s m args below meth c H locs cells slots Q (F0 m tgt ls rest)) : W p l e R s m args below meth c H locs cells slots Q (F0 m pc ls rest) := lv_goto E.1.1 E.1.2.1 hdg ht k
theorem rp_ceq (E : rp_E p s m meth c args own cc nL D d0) {x y : Int} {o : Int} {tgt : Nat} (hdg : decode cc pc = .ok (.if_icmp .eq o, 3)) (ht : (pc : Int) + o = (tgt : Int)) (hx : r32 x) (hy : r32 y) (kt : x = y → W p l e R s m args below meth c H locs cells slots Q (F0 m tgt ls rest)) (kf : x ≠ y → W p l e R s m args below meth c H locs cells slots Q (F0 m (pc + 3) ls rest)) : W p l e R s m args below meth c H locs cells slots Q (F0 m pc ls (.int (iI y) :: .int (iI x) :: rest)) := lv_icmp_eq E.1.1 E.1.2.1 hdg ht (fun h => kt ((iI_eq hx hy).mp h)) (fun h => kf (fun q => h ((iI_eq hx hy).mpr q)))
theorem rp_cne (E : rp_E p s m meth c args own cc nL D d0) {x y : Int} {o : Int} {tgt : Nat} (hdg : decode cc pc = .ok (.if_icmp .ne o, 3)) (ht : (pc : Int) + o = (tgt : Int)) (hx : r32 x) (hy : r32 y) (kt : x ≠ y → W p l e R s m args below meth c H locs cells slots Q (F0 m tgt ls rest)) (kf : x = y → W p l e R s m args below meth c H locs cells slots Q (F0 m (pc + 3) ls rest)) : W p l e R s m args below meth c H locs cells slots Q (F0 m pc ls (.int (iI y) :: .int (iI x) :: rest)) := lv_icmp_ne E.1.1 E.1.2.1 hdg ht (fun h => kt (fun q => h ((iI_eq hx hy).mpr q))) (fun h => kf ((iI_eq hx hy).mp h))
theorem rp_clt (E : rp_E p s m meth c args own cc nL D d0) {x y : Int} {o : Int} {tgt : Nat} (hdg : decode cc pc = .ok (.if_icmp .lt o, 3)) (ht : (pc : Int) + o = (tgt : Int)) (hx : r32 x) (hy : r32 y) (kt : x < y → W p l e R s m args below meth c H locs cells slots Q (F0 m tgt ls rest)) (kf : y ≤ x → W p l e R s m args below meth c H locs cells slots Q (F0 m (pc + 3) ls rest)) : W p l e R s m args below meth c H locs cells slots Q (F0 m pc ls (.int (iI y) :: .int (iI x) :: rest)) := lv_icmp_lt E.1.1 E.1.2.1 hdg ht (fun h => kt ((iI_lt hx hy).mp h)) (fun h => kf (Int.not_lt.mp (fun q => h ((iI_lt hx hy).mpr q))))
theorem rp_cge (E : rp_E p s m meth c args own cc nL D d0) {x y : Int} {o : Int} {tgt : Nat} (hdg : decode cc pc = .ok (.if_icmp .ge o, 3)) (ht : (pc : Int) + o = (tgt : Int)) (hx : r32 x) (hy : r32 y) (kt : y ≤ x → W p l e R s m args below meth c H locs cells slots Q (F0 m tgt ls rest)) (kf : x < y → W p l e R s m args below meth c H locs cells slots Q (F0 m (pc + 3) ls rest)) : W p l e R s m args below meth c H locs cells slots Q (F0 m pc ls (.int (iI y) :: .int (iI x) :: rest)) := lv_icmp_ge E.1.1 E.1.2.1 hdg ht (fun h => kt ((iI_le hy hx).mp h)) (fun h => kf (Int.not_le.mp (fun q => h ((iI_le hy hx).mpr q))))
theorem rp_cgt (E : rp_E p s m meth c args own cc nL D d0) {x y : Int} {o : Int} {tgt : Nat} (hdg : decode cc pc = .ok (.if_icmp .gt o, 3)) (ht : (pc : Int) + o = (tgt : Int)) (hx : r32 x) (hy : r32 y) (kt : y < x → W p l e R s m args below meth c H locs cells slots Q (F0 m tgt ls rest)) (kf : x ≤ y → W p l e R s m args below meth c H locs cells slots Q (F0 m (pc + 3) ls rest)) : W p l e R s m args below meth c H locs cells slots Q (F0 m pc ls (.int (iI y) :: .int (iI x) :: rest)) := lv_icmp_gt E.1.1 E.1.2.1 hdg ht (fun h => kt ((iI_lt hy hx).mp h)) (fun h => kf (Int.not_lt.mp (fun q => h ((iI_lt hy hx).mpr q))))
theorem rp_cle (E : rp_E p s m meth c args own cc nL D d0) {x y : Int} {o : Int} {tgt : Nat} (hdg : decode cc pc = .ok (.if_icmp .le o, 3)) (ht : (pc : Int) + o = (tgt : Int)) (hx : r32 x) (hy : r32 y) (kt : x ≤ y → W p l e R s m args below meth c H locs cells slots Q (F0 m tgt ls rest)) (kf : y < x → W p l e R s m args below meth c H locs cells slots Q (F0 m (pc + 3) ls rest)) : W p l e R s m args below meth c H locs cells slots Q (F0 m pc ls (.int (iI y) :: .int (iI x) :: rest)) := lv_icmp_le E.1.1 E.1.2.1 hdg ht (fun h => kt ((iI_le hx hy).mp h)) (fun h => kf (Int.not_le.mp (fun q => h ((iI_le hx hy).mpr q))))
theorem rp_feq (E : rp_E p s m meth c args own cc nL D d0) {x : Int} {o : Int} {tgt : Nat} (hdg : decode cc pc = .ok (.ifCond .eq o, 3)) (ht : (pc : Int) + o = (tgt : Int)) (hx : r32 x) (kt : x = 0 → W p l e R s m args below meth c H locs cells slots Q (F0 m tgt ls rest)) (kf : x ≠ 0 → W p l e R s m args below meth c H locs cells slots Q (F0 m (pc + 3) ls rest)) : W p l e R s m args below meth c H locs cells slots Q (F0 m pc ls (.int (iI x) :: rest)) := lv_if_eq E.1.1 E.1.2.1 hdg ht (fun h => kt ((iI_eq hx r32_0).mp h)) (fun h => kf (fun q => h ((iI_eq hx r32_0).mpr q)))
theorem rp_fne (E : rp_E p s m meth c args own cc nL D d0) {x : Int} {o : Int} {tgt : Nat} (hdg : decode cc pc = .ok (.ifCond .ne o, 3)) (ht : (pc : Int) + o = (tgt : Int)) (hx : r32 x) (kt : x ≠ 0 → W p l e R s m args below meth c H locs cells slots Q (F0 m tgt ls rest)) (kf : x = 0 → W p l e R s m args below meth c H locs cells slots Q (F0 m (pc + 3) ls rest)) : W p l e R s m args below meth c H locs cells slots Q (F0 m pc ls (.int (iI x) :: rest)) := lv_if_ne E.1.1 E.1.2.1 hdg ht (fun h => kt (fun q => h ((iI_eq hx r32_0).mpr q))) (fun h => kf ((iI_eq hx r32_0).mp h))
theorem rp_flt (E : rp_E p s m meth c args own cc nL D d0) {x : Int} {o : Int} {tgt : Nat} (hdg : decode cc pc = .ok (.ifCond .lt o, 3)) (ht : (pc : Int) + o = (tgt : Int)) (hx : r32 x) (kt : x < 0 → W p l e R s m args below meth c H locs cells slots Q (F0 m tgt ls rest)) (kf : 0 ≤ x → W p l e R s m args below meth c H locs cells slots Q (F0 m (pc + 3) ls rest)) : W p l e R s m args below meth c H locs cells slots Q (F0 m pc ls (.int (iI x) :: rest)) := lv_if_lt E.1.1 E.1.2.1 hdg ht (fun h => kt ((iI_lt hx r32_0).mp h)) (fun h => kf (Int.not_lt.mp (fun q => h ((iI_lt hx r32_0).mpr q))))
theorem rp_fge (E : rp_E p s m meth c args own cc nL D d0) {x : Int} {o : Int} {tgt : Nat} (hdg : decode cc pc = .ok (.ifCond .ge o, 3)) (ht : (pc : Int) + o = (tgt : Int)) (hx : r32 x) (kt : 0 ≤ x → W p l e R s m args below meth c H locs cells slots Q (F0 m tgt ls rest)) (kf : x < 0 → W p l e R s m args below meth c H locs cells slots Q (F0 m (pc + 3) ls rest)) : W p l e R s m args below meth c H locs cells slots Q (F0 m pc ls (.int (iI x) :: rest)) := lv_if_ge E.1.1 E.1.2.1 hdg ht (fun h => kt ((iI_le r32_0 hx).mp h)) (fun h => kf (Int.not_le.mp (fun q => h ((iI_le r32_0 hx).mpr q))))
theorem rp_fle (E : rp_E p s m meth c args own cc nL D d0) {x : Int} {o : Int} {tgt : Nat} (hdg : decode cc pc = .ok (.ifCond .le o, 3)) (ht : (pc : Int) + o = (tgt : Int)) (hx : r32 x) (kt : x ≤ 0 → W p l e R s m args below meth c H locs cells slots Q (F0 m tgt ls rest)) (kf : 0 < x → W p l e R s m args below meth c H locs cells slots Q (F0 m (pc + 3) ls rest)) : W p l e R s m args below meth c H locs cells slots Q (F0 m pc ls (.int (iI x) :: rest)) := lv_if_le E.1.1 E.1.2.1 hdg ht (fun h => kt ((iI_le hx r32_0).mp h)) (fun h => kf (Int.not_le.mp (fun q => h ((iI_le hx r32_0).mpr q))))
theorem rp_ald (E : rp_E p s m meth c args own cc nL D d0) (w : rp_H D A H0 H locs ws) (q0 : Nat) {a n : Nat} {f : Nat → Int} (ha : ws[q0]? = some (a, .inl (d0, n, .inl (iF f)))) {x : Int} (k : Nat) (hx : x = (k : Int)) (hk : k < n) (hn : n ≤ 1000) (hdg : decode cc pc = .ok (.iaload, 1)) (kk : W p l e R s m args below meth c H locs cells slots Q (F0 m (pc + 1) ls (.int (iI (f k)) :: rest))) : W p l e R s m args below meth c H locs cells slots Q (F0 m pc ls (.int (iI x) :: .ref a :: rest)) := by
  subst hx
  refine va_iald E.1.1 E.1.2.1 E.2.1 w.1 q0 0 ha rfl (iI_in hk hn) hdg ?_
  rw [iI_clamp (by omega)]
  exact kk
theorem rp_ast (E : rp_E p s m meth c args own cc nL D d0) (w : rp_H D A H0 H locs ws) (q0 : Nat) {a n : Nat} {f : Nat → Int} (ha : ws[q0]? = some (a, .inl (d0, n, .inl (iF f)))) {x v : Int} (k : Nat) (hx : x = (k : Int)) (hk : k < n) (hn : n ≤ 1000) (hdg : decode cc pc = .ok (.iastore, 1)) (kk : ∀ (H1 : Heap) (locs1 : List Loc), rp_H D A H0 H1 locs1 (ws.set q0 (a, .inl (d0, n, .inl (iF (upI f k v))))) → W p l e R s m args below meth c H1 locs1 cells slots Q (F0 m (pc + 1) ls rest)) : W p l e R s m args below meth c H locs cells slots Q (F0 m pc ls (.int (iI v) :: .int (iI x) :: .ref a :: rest)) := by
  subst hx
  refine va_iast E.1.1 E.1.2.1 E.2.1 w.1 w.2.1 w.2.2 q0 0 ha rfl (iI_in hk hn) hdg (fun H1 locs1 h1 h2 h3 => ?_)
  rw [iI_clamp (by omega), iF_up] at h1 h2
  exact kk H1 locs1 ⟨h1, h2, h3⟩
theorem rp_fc (w : rp_H D A H0 H locs ws) (hA : ∀ q, H0.size ≤ q → A q) : ∀ q, va_A ws H.size q → A q := by
  intro q h
  rcases h with ⟨k, e, h⟩ | h
  · exact w.2.1.2 k (q, e) h
  · exact hA q (Nat.le_trans w.2.2.1 h)
set_option maxHeartbeats 4000000 in
theorem rp_calli (E : rp_E p s m meth c args own cc nL D d0) (w : rp_H D A s.heap H locs ws) (hA : ∀ q, s.heap.size ≤ q → A q) {y : MethodName} {cb : ByteArray} {nLy : Nat} {ret : Option FieldType} {rm : Room} {S : Type} {post : Int → S → Prop} {wf : S → va_W} {a : Nat} {As : List Value} (hM : rp_MI l D d0 y cb nLy ret rm (.ref a :: As) ws post wf) {C : String} {index n : Nat} (cw : CallW R s args own C index y cb nLy ret (ws_ y cb nLy ret) rm 0 0 n) (hr : ∃ cellB : Cell, H[a]? = some cellB ∧ cellB.vm.isStatics = false ∧ s.vm.findClass C = some cellB.cls) (hn : As.length = n) (hls : ls.size = nL) {st0 : List Value} (hst : st0 = As.reverse ++ .ref a :: rest) (hro : (rest.map fun v => v.category).sum ≤ 8) (hdg : decode cc pc = .ok (.invokevirtual index, 3)) (hf : cells ≤ R.cells ∧ slots ≤ R.slots)
    (kk : ∀ (v : Int) (u : S) (H1 : Heap) (locs1 : List Loc), post v u → rp_H D A s.heap H1 locs1 (wf u) → W p l e R s m args below meth c H1 locs1 cells slots Q (F0 m (pc + 3) ls (.int (iI v) :: rest))) : W p l e R s m args below meth c H locs cells slots Q (F0 m pc ls st0) := by
  have hFc := rp_fc w hA
  refine va_calli (va_runV (As := As) (rest := rest) E.1 (hM H.size) cw ⟨fun a U g mk q => by obtain ⟨q0, q1, qP, qK, qD⟩ := q; exact ⟨q0, q1, qP, va_K.moved (u := U) (U := U.calling g mk a) (Vm.Alike.refl U.vm) qK, qD⟩, hr, fun U hU hW => ⟨rfl, by rw [hU], by rw [hU]; exact w.1, va_K.moved hW.alike E.2.1, w.2.1.weaken (fun _ _ _ _ => trivial)⟩⟩ rfl hn hls hst (lv_room hro) hdg hf) w.2.2 (fun q _ h => hFc q h) hFc (fun r u t H1 locs1 ht hvm hp hB hz1 hk1 hS => ?_)
  obtain ⟨rfl, hp⟩ := hp
  obtain ⟨hP1, hK1, hD1⟩ := hB
  rw [ht] at hP1
  exact kk u.1 u.2 H1 locs1 hp ⟨hP1, hD1.weaken (fun k q _ h => hFc q.1 h), hS⟩
set_option maxHeartbeats 4000000 in
theorem rp_callv (E : rp_E p s m meth c args own cc nL D d0) (w : rp_H D A s.heap H locs ws) (hA : ∀ q, s.heap.size ≤ q → A q) {y : MethodName} {cb : ByteArray} {nLy : Nat} {rm : Room} {S : Type} {post : S → Prop} {wf : S → va_W} {a : Nat} {As : List Value} (hM : rp_MV l D d0 y cb nLy rm (.ref a :: As) ws post wf) {C : String} {index n : Nat} (cw : CallW R s args own C index y cb nLy none (ws_ y cb nLy none) rm 0 0 n) (hr : ∃ cellB : Cell, H[a]? = some cellB ∧ cellB.vm.isStatics = false ∧ s.vm.findClass C = some cellB.cls) (hn : As.length = n) (hls : ls.size = nL) {st0 : List Value} (hst : st0 = As.reverse ++ .ref a :: rest) (hro : (rest.map fun v => v.category).sum ≤ 8) (hdg : decode cc pc = .ok (.invokevirtual index, 3)) (hf : cells ≤ R.cells ∧ slots ≤ R.slots)
    (kk : ∀ (u : S) (H1 : Heap) (locs1 : List Loc), post u → rp_H D A s.heap H1 locs1 (wf u) → W p l e R s m args below meth c H1 locs1 cells slots Q (F0 m (pc + 3) ls rest)) : W p l e R s m args below meth c H locs cells slots Q (F0 m pc ls st0) := by
  have hFc := rp_fc w hA
  refine va_callv (va_runV (As := As) (rest := rest) E.1 (hM H.size) cw ⟨fun a U g mk q => by obtain ⟨q0, q1, qP, qK, qD⟩ := q; exact ⟨q0, q1, qP, va_K.moved (u := U) (U := U.calling g mk a) (Vm.Alike.refl U.vm) qK, qD⟩, hr, fun U hU hW => ⟨rfl, by rw [hU], by rw [hU]; exact w.1, va_K.moved hW.alike E.2.1, w.2.1.weaken (fun _ _ _ _ => trivial)⟩⟩ rfl hn hls hst (lv_room hro) hdg hf) w.2.2 (fun q _ h => hFc q h) hFc (fun u t H1 locs1 ht hvm hp hB hz1 hk1 hS => ?_)
  obtain ⟨hP1, hK1, hD1⟩ := hB
  rw [ht] at hP1
  exact kk u H1 locs1 hp ⟨hP1, hD1.weaken (fun k q _ h => hFc q.1 h), hS⟩
set_option maxHeartbeats 4000000 in
theorem rp_calls (E : rp_E p s m meth c args own cc nL D d0) (w : rp_H D A s.heap H locs ws) (hA : ∀ q, s.heap.size ≤ q → A q) {y : MethodName} {cb : ByteArray} {nLy : Nat} {ret : Option FieldType} {rm : Room} {S : Type} {post : Int → S → Prop} {wf : S → va_W} {As : List Value} (hM : rp_MI l D d0 y cb nLy ret rm As ws post wf) {index n : Nat} (cw : CallB R s args own index y cb nLy ret (ws_ y cb nLy ret) rm 0 0 n ∧ (Cond.static y).before args s = true) (hn : As.length = n) (hls : ls.size = nL) {st0 : List Value} (hst : st0 = As.reverse ++ rest) (hro : (rest.map fun v => v.category).sum ≤ 8) (hdg : decode cc pc = .ok (.invokestatic index, 3)) (hf : cells ≤ R.cells ∧ slots ≤ R.slots)
    (kk : ∀ (v : Int) (u : S) (H1 : Heap) (locs1 : List Loc), post v u → rp_H D A s.heap H1 locs1 (wf u) → W p l e R s m args below meth c H1 locs1 cells slots Q (F0 m (pc + 3) ls (.int (iI v) :: rest))) : W p l e R s m args below meth c H locs cells slots Q (F0 m pc ls st0) := by
  have hFc := rp_fc w hA
  refine va_calli (va_runS (As := As) (rest := rest) E.1 (hM H.size) cw ⟨fun a U g mk q => by obtain ⟨q0, q1, qP, qK, qD⟩ := q; exact ⟨q0, q1, qP, va_K.moved (u := U) (U := U.calling g mk a) (Vm.Alike.refl U.vm) qK, qD⟩, fun U hU hW => ⟨rfl, by rw [hU], by rw [hU]; exact w.1, va_K.moved hW.alike E.2.1, w.2.1.weaken (fun _ _ _ _ => trivial)⟩⟩ rfl hn hls hst (lv_room hro) hdg hf) w.2.2 (fun q _ h => hFc q h) hFc (fun r u t H1 locs1 ht hvm hp hB hz1 hk1 hS => ?_)
  obtain ⟨rfl, hp⟩ := hp
  obtain ⟨hP1, hK1, hD1⟩ := hB
  rw [ht] at hP1
  exact kk u.1 u.2 H1 locs1 hp ⟨hP1, hD1.weaken (fun k q _ h => hFc q.1 h), hS⟩
end RP
theorem rp_smod : ∀ s, s < 8 → ((nI s &&& 31).toBitVec.smod 32).toNat = s := by decide +kernel
theorem rp_orb : ∀ s, s < 8 → ∀ b, b < 2 ^ s → nI b ||| nI (2 ^ s) = nI (b + 2 ^ s) := by decide +kernel
theorem nar01 {v : Int} (h : v = 0 ∨ v = 1) : narrow .boolean (.int (iI v)) = .int (iI v) := by
  rcases h with rfl | rfl <;> rfl
abbrev rp_r (f n : Nat) : Room := { frames := f, cells := 0, slots := 0, locals := n }
section RB
variable {p : Program} {l : Launch} {e : Env} {R : Room} {s : State} {m : MethodId} {args : Array Value} {below : List Frame} {meth : Method} {c : Code} {H H0 : Heap} {locs : List Loc} {cells slots : Nat} {Q : State → Prop} {own : String} {cc : ByteArray} {nL pc : Nat} {ls : Array Slot} {rest : List Value} {D : va_G} {d0 : ClassId}
theorem rp_shrN (E : rp_E p s m meth c args own cc nL D d0) {b k : Nat} (hb : b < 256) (hk : k < 8) (hdg : decode cc pc = .ok (.ishr, 1)) (kk : W p l e R s m args below meth c H locs cells slots Q (F0 m (pc + 1) ls (.int (iI ((b / 2 ^ k : Nat) : Int)) :: rest))) : W p l e R s m args below meth c H locs cells slots Q (F0 m pc ls (.int (iI (k : Int)) :: .int (iI (b : Int)) :: rest)) := lv_ishr E.1.1 E.1.2.1 hdg (by rw [iI_nI, iI_nI, pk_shrN (by omega) _ k (rp_smod k hk), ← iI_nI]; exact kk)
theorem rp_and1 (E : rp_E p s m meth c args own cc nL D d0) {x : Nat} (hx : x < 256) (hdg : decode cc pc = .ok (.iand, 1)) (kk : W p l e R s m args below meth c H locs cells slots Q (F0 m (pc + 1) ls (.int (iI ((x % 2 : Nat) : Int)) :: rest))) : W p l e R s m args below meth c H locs cells slots Q (F0 m pc ls (.int (iI ((1 : Nat) : Int)) :: .int (iI (x : Int)) :: rest)) := lv_iand E.1.1 E.1.2.1 hdg (by rw [iI_nI, iI_nI, pk_andN (by omega) 1 (by decide), ← iI_nI]; exact kk)
theorem rp_shl1 (E : rp_E p s m meth c args own cc nL D d0) {k : Nat} (hk : k < 8) (hdg : decode cc pc = .ok (.ishl, 1)) (kk : W p l e R s m args below meth c H locs cells slots Q (F0 m (pc + 1) ls (.int (iI ((2 ^ k : Nat) : Int)) :: rest))) : W p l e R s m args below meth c H locs cells slots Q (F0 m pc ls (.int (iI (k : Int)) :: .int (iI ((1 : Nat) : Int)) :: rest)) := by
  have h2 : 2 ^ k ≤ 2 ^ 8 := Nat.pow_le_pow_right (by decide) (by omega)
  refine lv_ishl E.1.1 E.1.2.1 hdg ?_
  rw [iI_nI, iI_nI, pk_shlN _ k (rp_smod k hk) (by omega), Nat.one_mul, ← iI_nI]
  exact kk
theorem rp_or (E : rp_E p s m meth c args own cc nL D d0) {b k : Nat} (hb : b < 2 ^ k) (hk : k < 8) (hdg : decode cc pc = .ok (.ior, 1)) (kk : W p l e R s m args below meth c H locs cells slots Q (F0 m (pc + 1) ls (.int (iI ((b + 2 ^ k : Nat) : Int)) :: rest))) : W p l e R s m args below meth c H locs cells slots Q (F0 m pc ls (.int (iI ((2 ^ k : Nat) : Int)) :: .int (iI (b : Int)) :: rest)) := lv_ior E.1.1 E.1.2.1 hdg (by rw [iI_nI, iI_nI, rp_orb k hk b hb, ← iI_nI]; exact kk)
end RB
section RX
variable {p : Program} {l : Launch} {e : Env} {R : Room} {s : State} {m : MethodId} {args : Array Value} {below : List Frame} {meth : Method} {c : Code} {H H0 : Heap} {locs : List Loc} {cells slots : Nat} {Q : State → Prop} {cc : ByteArray} {nL pc : Nat} {ls : Array Slot} {rest : List Value} {D : va_G} {d0 : ClassId} {A : Nat → Prop} {q : Nat → Nat} {t : TT} {ri re be oo th : Nat → Int} {b : Nat}
theorem rx_get (E : rp_E p s m meth c args RX0 cc nL D d0) (w : rp_H D A H0 H locs (XW d0 q t ri re be b)) (k : Nat) (hk : k < 12) (h1 : (TX0 k).1 = RX0) {index : Nat} (hq : Cond.fieldLink RX0 index RX0 (TX0 k).2.1 (TX0 k).2.2.1 ∈ lw_all) {v : Value} (hv : (XF q t b)[k]? = some v) (hdg : decode cc pc = .ok (.getfield index, 3)) (kk : W p l e R s m args below meth c H locs cells slots Q (F0 m (pc + 3) ls (v :: rest))) : W p l e R s m args below meth c H locs cells slots Q (F0 m pc ls (.ref (q 0) :: rest)) :=
  va_get (D := D) (ci := 0) (C := RX0) (T := TX0) (N := 12) E.1.1 E.1.2.1 E.1.2.2.2.2 in_X0 E.1.2.2.2.1 E.2.1 w.1 0 rfl rfl k hk (E.1.2.2.2.2 _ hq) (fun x hx => by rw [h1] at hx; exact hx) hv hdg kk
theorem rx_ag (E : rp_E p s m meth c args RX0 cc nL D d0) (w : rp_H D A H0 H locs (XW d0 q t ri re be b)) (hl : ls[0]? = some (.val (.ref (q 0)))) (k : Nat) (hk : k < 12) (h1 : (TX0 k).1 = RX0) {index : Nat} (hq : Cond.fieldLink RX0 index RX0 (TX0 k).2.1 (TX0 k).2.2.1 ∈ lw_all) {v : Value} (hv : (XF q t b)[k]? = some v) (hd0 : decode cc pc = .ok (.aload_n 0, 1)) (hdg : decode cc (pc + 1) = .ok (.getfield index, 3)) (kk : W p l e R s m args below meth c H locs cells slots Q (F0 m (pc + 4) ls (v :: rest))) : W p l e R s m args below meth c H locs cells slots Q (F0 m pc ls rest) :=
  rp_aln E hd0 rfl hl (rx_get E w k hk h1 hq hv hdg kk)
theorem rx_put (E : rp_E p s m meth c args RX0 cc nL D d0) (w : rp_H D A H0 H locs (XW d0 q t ri re be b)) (k : Nat) (hk : k < 12) (h1 : (TX0 k).1 = RX0) {index : Nat} (hq : Cond.fieldLink RX0 index RX0 (TX0 k).2.1 (TX0 k).2.2.1 ∈ lw_all) (hfin : (TX0 k).2.2.2 = false) (hd : parseFieldDescriptor (TX0 k).2.2.1 = some .int) {v : Int} (hdg : decode cc pc = .ok (.putfield index, 3)) (kk : ∀ (H1 : Heap) (locs1 : List Loc), rp_H D A H0 H1 locs1 ((XW d0 q t ri re be b).set 0 (q 0, .inr (0, (XF q t b).set k (.int (iI v))))) → W p l e R s m args below meth c H1 locs1 cells slots Q (F0 m (pc + 3) ls rest)) : W p l e R s m args below meth c H locs cells slots Q (F0 m pc ls (.int (iI v) :: .ref (q 0) :: rest)) :=
  va_put (D := D) (ci := 0) (v := .int (iI v)) (ty := .int) (C := RX0) (T := TX0) (N := 12) E.1.1 E.1.2.1 E.1.2.2.2.2 in_X0 tyX0 tyX0_ok nmX0 E.1.2.2.2.1 E.2.1 w.1 w.2.1 w.2.2 0 rfl rfl k hk (E.1.2.2.2.2 _ hq) (fun x hx => by rw [h1] at hx; exact hx) hfin hd rfl rfl hk hdg (fun H1 locs1 a1 a2 a3 => kk H1 locs1 ⟨a1, a2, a3⟩)
theorem rx_rcv (E : rp_E p s m meth c args RX0 cc nL D d0) (w : rp_H D A H0 H locs (XW d0 q t ri re be b)) : ∃ cellB : Cell, H[q 0]? = some cellB ∧ cellB.vm.isStatics = false ∧ s.vm.findClass RX0 = some cellB.cls := va_recv E.2.1 w.1 (ci := 0) (q0 := 0) rfl rfl
theorem rm_get (E : rp_E p s m meth c args RX1 cc nL D d0) (w : rp_H D A H0 H locs (MW d0 q t oo th)) (k : Nat) (hk : k < 10) (h1 : (TX1 k).1 = RX1) {index : Nat} (hq : Cond.fieldLink RX1 index RX1 (TX1 k).2.1 (TX1 k).2.2.1 ∈ lw_all) {v : Value} (hv : (MF q t)[k]? = some v) (hdg : decode cc pc = .ok (.getfield index, 3)) (kk : W p l e R s m args below meth c H locs cells slots Q (F0 m (pc + 3) ls (v :: rest))) : W p l e R s m args below meth c H locs cells slots Q (F0 m pc ls (.ref (q 0) :: rest)) :=
  va_get (D := D) (ci := 1) (C := RX1) (T := TX1) (N := 10) E.1.1 E.1.2.1 E.1.2.2.2.2 in_X1 E.1.2.2.2.1 E.2.1 w.1 0 rfl rfl k hk (E.1.2.2.2.2 _ hq) (fun x hx => by rw [h1] at hx; exact hx) hv hdg kk
theorem rm_ag (E : rp_E p s m meth c args RX1 cc nL D d0) (w : rp_H D A H0 H locs (MW d0 q t oo th)) (hl : ls[0]? = some (.val (.ref (q 0)))) (k : Nat) (hk : k < 10) (h1 : (TX1 k).1 = RX1) {index : Nat} (hq : Cond.fieldLink RX1 index RX1 (TX1 k).2.1 (TX1 k).2.2.1 ∈ lw_all) {v : Value} (hv : (MF q t)[k]? = some v) (hd0 : decode cc pc = .ok (.aload_n 0, 1)) (hdg : decode cc (pc + 1) = .ok (.getfield index, 3)) (kk : W p l e R s m args below meth c H locs cells slots Q (F0 m (pc + 4) ls (v :: rest))) : W p l e R s m args below meth c H locs cells slots Q (F0 m pc ls rest) :=
  rp_aln E hd0 rfl hl (rm_get E w k hk h1 hq hv hdg kk)
theorem rm_put (E : rp_E p s m meth c args RX1 cc nL D d0) (w : rp_H D A H0 H locs (MW d0 q t oo th)) (k : Nat) (hk : k < 10) (h1 : (TX1 k).1 = RX1) {index : Nat} (hq : Cond.fieldLink RX1 index RX1 (TX1 k).2.1 (TX1 k).2.2.1 ∈ lw_all) (hfin : (TX1 k).2.2.2 = false) (hd : parseFieldDescriptor (TX1 k).2.2.1 = some .int) {v : Int} (hdg : decode cc pc = .ok (.putfield index, 3)) (kk : ∀ (H1 : Heap) (locs1 : List Loc), rp_H D A H0 H1 locs1 ((MW d0 q t oo th).set 0 (q 0, .inr (1, (MF q t).set k (.int (iI v))))) → W p l e R s m args below meth c H1 locs1 cells slots Q (F0 m (pc + 3) ls rest)) : W p l e R s m args below meth c H locs cells slots Q (F0 m pc ls (.int (iI v) :: .ref (q 0) :: rest)) :=
  va_put (D := D) (ci := 1) (v := .int (iI v)) (ty := .int) (C := RX1) (T := TX1) (N := 10) E.1.1 E.1.2.1 E.1.2.2.2.2 in_X1 tyX1 tyX1_ok nmX1 E.1.2.2.2.1 E.2.1 w.1 w.2.1 w.2.2 0 rfl rfl k hk (E.1.2.2.2.2 _ hq) (fun x hx => by rw [h1] at hx; exact hx) hfin hd rfl rfl hk hdg (fun H1 locs1 a1 a2 a3 => kk H1 locs1 ⟨a1, a2, a3⟩)
theorem rm_rcv (E : rp_E p s m meth c args RX1 cc nL D d0) (w : rp_H D A H0 H locs (MW d0 q t oo th)) : ∃ cellB : Cell, H[q 0]? = some cellB ∧ cellB.vm.isStatics = false ∧ s.vm.findClass RX1 = some cellB.cls := va_recv E.2.1 w.1 (ci := 1) (q0 := 0) rfl rfl
end RX
end
section
/-! what the methods compute, over whole numbers; and the bounds of it -/
set_option maxRecDepth 100000
/-- what holds of every timetable that the calls can make -/
def tOk (t : TT) : Prop := (tL t ≤ 5 ∧ tT t ≤ 12) ∧ (∀ j, tSz t j ≤ 6) ∧ (∀ j, tSt t j < 8) ∧ (∀ j, 0 ≤ tOg t j ∧ tOg t j ≤ 150) ∧ (∀ j, tLo t j < 5) ∧ (∀ j, 0 ≤ tSo t j ∧ tSo t j ≤ 500) ∧ (∀ j, 0 ≤ tWk t j ∧ tWk t j ≤ 30) ∧ (∀ k, k < tT t → tLo t k < tL t) ∧ (∀ l, l < tL t → 1 ≤ tSz t l) ∧ (∀ j, tOg t j ≤ 30 * ((j % 6 : Nat) : Int)) ∧ (∀ l i, i + 1 < tSz t l → tOg t (l * 6 + i) ≤ tOg t (l * 6 + i + 1))
theorem tk_LT {t : TT} (h : tOk t) : tL t ≤ 5 ∧ tT t ≤ 12 := h.1
theorem tk_Sz {t : TT} (h : tOk t) (j : Nat) : tSz t j ≤ 6 := h.2.1 j
theorem tk_St {t : TT} (h : tOk t) (j : Nat) : tSt t j < 8 := h.2.2.1 j
theorem tk_Og {t : TT} (h : tOk t) (j : Nat) : 0 ≤ tOg t j ∧ tOg t j ≤ 150 := h.2.2.2.1 j
theorem tk_Lo {t : TT} (h : tOk t) (j : Nat) : tLo t j < 5 := h.2.2.2.2.1 j
theorem tk_So {t : TT} (h : tOk t) (j : Nat) : 0 ≤ tSo t j ∧ tSo t j ≤ 500 := h.2.2.2.2.2.1 j
theorem tk_Wk {t : TT} (h : tOk t) (j : Nat) : 0 ≤ tWk t j ∧ tWk t j ≤ 30 := h.2.2.2.2.2.2.1 j
theorem tk_LoL {t : TT} (h : tOk t) {k : Nat} (hk : k < tT t) : tLo t k < tL t := h.2.2.2.2.2.2.2.1 k hk
theorem tk_Sz1 {t : TT} (h : tOk t) {l : Nat} (hl : l < tL t) : 1 ≤ tSz t l := h.2.2.2.2.2.2.2.2.1 l hl
theorem tk_Og6 {t : TT} (h : tOk t) (j : Nat) : tOg t j ≤ 30 * ((j % 6 : Nat) : Int) := h.2.2.2.2.2.2.2.2.2.1 j
theorem tk_mono {t : TT} (h : tOk t) {l i : Nat} (hi : i + 1 < tSz t l) : tOg t (l * 6 + i) ≤ tOg t (l * 6 + i + 1) := h.2.2.2.2.2.2.2.2.2.2 l i hi
/-- the first n places lie between -1000000 and 1000000 -/
def bR (f : Nat → Int) (n : Nat) : Prop := ∀ j, j < n → -1000000 ≤ f j ∧ f j ≤ 1000000
theorem bR_up {f : Nat → Int} {n k : Nat} {v : Int} (h : bR f n) (hv : -1000000 ≤ v ∧ v ≤ 1000000) : bR (upI f k v) n := by
  intro j hj
  rw [upI_e]
  split
  · exact hv
  · exact h j hj
theorem bR_le {f : Nat → Int} {n k : Nat} (h : bR f n) (hk : k ≤ n) : bR f k := fun j hj => h j (by omega)
/-! forward -/
def ctA (t : TT) (l i : Nat) (τ : Int) : Nat → Int
  | 0 => 1000000
  | k + 1 => if tLo t k = l ∧ τ ≤ tSo t k + tOg t (l * 6 + i) ∧ tSo t k < ctA t l i τ k then tSo t k else ctA t l i τ k
theorem ctA_b {t : TT} (h : tOk t) (l i : Nat) (τ : Int) : ∀ k, 0 ≤ ctA t l i τ k ∧ ctA t l i τ k ≤ 1000000
  | 0 => by simp [ctA]
  | k + 1 => by
    have h1 := ctA_b h l i τ k
    have h2 := tk_So h k
    rw [ctA]
    split <;> omega
def rlS (t : TT) (l b : Nat) (be : Nat → Int) : Nat → Int
  | 0 => 1000000
  | i + 1 => if b / 2 ^ tSt t (l * 6 + i) % 2 = 1 ∧ (rlS t l b be i = 1000000 ∨ be (tSt t (l * 6 + i)) < rlS t l b be i + tOg t (l * 6 + i)) ∧ ctA t l i (be (tSt t (l * 6 + i))) (tT t) < rlS t l b be i then ctA t l i (be (tSt t (l * 6 + i))) (tT t) else rlS t l b be i
theorem rlS_b {t : TT} (h : tOk t) (l b : Nat) (be : Nat → Int) : ∀ i, 0 ≤ rlS t l b be i ∧ rlS t l b be i ≤ 1000000
  | 0 => by simp [rlS]
  | i + 1 => by
    have h1 := rlS_b h l b be i
    have h2 := ctA_b h l i (be (tSt t (l * 6 + i))) (tT t)
    rw [rlS]
    split <;> omega
def rlR (t : TT) (l b : Nat) (be ri : Nat → Int) : Nat → Nat → Int
  | 0 => ri
  | i + 1 => if rlS t l b be i < 1000000 ∧ rlS t l b be i + tOg t (l * 6 + i) < rlR t l b be ri i (tSt t (l * 6 + i)) then upI (rlR t l b be ri i) (tSt t (l * 6 + i)) (rlS t l b be i + tOg t (l * 6 + i)) else rlR t l b be ri i
theorem rlR_b {t : TT} (h : tOk t) (l b : Nat) (be ri : Nat → Int) (hr : bR ri 8) : ∀ i, bR (rlR t l b be ri i) 8
  | 0 => hr
  | i + 1 => by
    have h1 := rlR_b h l b be ri hr i
    have h2 := rlS_b h l b be i
    have h3 := tk_Og h (l * 6 + i)
    have h4 := h1 _ (tk_St h (l * 6 + i))
    rw [rlR]
    split
    · exact bR_up h1 (by omega)
    · exact h1
def wB (t : TT) (ri : Nat → Int) (s : Nat) : Nat → Int
  | 0 => ri s
  | u + 1 => if 0 < tWk t (u * 8 + s) ∧ ri u + tWk t (u * 8 + s) < wB t ri s u then ri u + tWk t (u * 8 + s) else wB t ri s u
theorem wB_b {t : TT} (h : tOk t) {ri : Nat → Int} (hr : bR ri 8) {s : Nat} (hs : s < 8) : ∀ u, u ≤ 8 → -1000000 ≤ wB t ri s u ∧ wB t ri s u ≤ 1000000
  | 0, _ => hr s hs
  | u + 1, hu => by
    have h1 := wB_b h hr hs u (by omega)
    have h2 := tk_Wk h (u * 8 + s)
    have h3 := hr u (by omega)
    rw [wB]
    split <;> omega
def woR (t : TT) (ri re : Nat → Int) : Nat → Nat → Int
  | 0 => re
  | s + 1 => if wB t ri s 8 < woR t ri re s s then upI (woR t ri re s) s (wB t ri s 8) else woR t ri re s
theorem woR_b {t : TT} (h : tOk t) {ri re : Nat → Int} (hr : bR ri 8) (he : bR re 8) : ∀ s, s ≤ 8 → bR (woR t ri re s) 8
  | 0, _ => he
  | s + 1, hs => by
    have h1 := woR_b h hr he s (by omega)
    rw [woR]
    split
    · exact bR_up h1 (wB_b h hr (by omega) 8 (by omega))
    · exact h1
def woM (t : TT) (ri re : Nat → Int) : Nat → Nat
  | 0 => 0
  | s + 1 => if wB t ri s 8 < woR t ri re s s then woM t ri re s + 2 ^ s else woM t ri re s
theorem woM_b (t : TT) (ri re : Nat → Int) : ∀ s, woM t ri re s < 2 ^ s
  | 0 => by simp [woM]
  | s + 1 => by
    have h1 := woM_b t ri re s
    have h2 : 2 ^ (s + 1) = 2 ^ s + 2 ^ s := by rw [Nat.pow_succ]; omega
    rw [woM]
    split <;> omega
def fl (c : Int) (f : Nat → Int) : Nat → Nat → Int
  | 0 => f
  | s + 1 => upI (fl c f s) s c
theorem fl_e (c : Int) (f : Nat → Int) (j : Nat) : ∀ n, fl c f n j = if j < n then c else f j
  | 0 => by simp [fl]
  | n + 1 => by
    rw [fl, upI_e, fl_e c f j n]
    by_cases h : j = n
    · rw [if_pos h, if_pos (by omega)]
    · rw [if_neg h]
      by_cases h2 : j < n
      · rw [if_pos h2, if_pos (by omega)]
      · rw [if_neg h2, if_neg (by omega)]
theorem fl_b (c : Int) (f : Nat → Int) (n : Nat) (hc : -1000000 ≤ c ∧ c ≤ 1000000) : bR (fl c f n) n := by
  intro j hj
  rw [fl_e, if_pos hj]
  exact hc
def cp (g f : Nat → Int) : Nat → Nat → Int
  | 0 => f
  | s + 1 => upI (cp g f s) s (g s)
theorem cp_e (g f : Nat → Int) (j : Nat) : ∀ n, cp g f n j = if j < n then g j else f j
  | 0 => by simp [cp]
  | n + 1 => by
    rw [cp, upI_e, cp_e g f j n]
    by_cases h : j = n
    · rw [if_pos h, if_pos (by omega), h]
    · rw [if_neg h]
      by_cases h2 : j < n
      · rw [if_pos h2, if_pos (by omega)]
      · rw [if_neg h2, if_neg (by omega)]
theorem cp_b {g f : Nat → Int} {n : Nat} (hg : bR g n) : bR (cp g f n) n := by
  intro j hj
  rw [cp_e, if_pos hj]
  exact hg j hj
/-- the planner's own arrays: ridden, reached, before; the marks -/
abbrev XS : Type := (Nat → Int) × (Nat → Int) × (Nat → Int) × Nat
abbrev XWs (d0 : ClassId) (q : Nat → Nat) (t : TT) (σ : XS) : va_W := XW d0 q t σ.1 σ.2.1 σ.2.2.1 σ.2.2.2
def wo (t : TT) (ri re be : Nat → Int) : XS := (ri, woR t ri re 8, be, woM t ri re 8)
def bg (t : TT) (a : Nat) (τ : Int) (σ : XS) : XS := wo t (upI (fl 1000000 σ.1 8) a τ) (fl 1000000 σ.2.1 8) σ.2.2.1
def nrL (t : TT) (b : Nat) (be ri : Nat → Int) : Nat → Nat → Int
  | 0 => ri
  | l + 1 => rlR t l b be (nrL t b be ri l) (tSz t l)
theorem nrL_b {t : TT} (h : tOk t) (b : Nat) (be ri : Nat → Int) (hr : bR ri 8) : ∀ l, bR (nrL t b be ri l) 8
  | 0 => hr
  | l + 1 => rlR_b h l b be _ (nrL_b h b be ri hr l) (tSz t l)
def nr (t : TT) (σ : XS) : XS := wo t (nrL t σ.2.2.2 (cp σ.2.1 σ.2.2.1 8) (fl 1000000 σ.1 8) (tL t)) σ.2.1 (cp σ.2.1 σ.2.2.1 8)
def itr (t : TT) (σ : XS) : Nat → XS
  | 0 => σ
  | k + 1 => nr t (itr t σ k)
/-- what a round leaves: reached within bounds, the marks below 256 -/
def xOk (σ : XS) : Prop := bR σ.2.1 8 ∧ σ.2.2.2 < 256
theorem wo_ok {t : TT} (h : tOk t) {ri re be : Nat → Int} (hr : bR ri 8) (he : bR re 8) : xOk (wo t ri re be) := ⟨woR_b h hr he 8 (by omega), woM_b t ri re 8⟩
theorem bg_r {a : Nat} {τ : Int} (hτ : 0 ≤ τ ∧ τ ≤ 1000) (f : Nat → Int) : bR (upI (fl 1000000 f 8) a τ) 8 := bR_up (fl_b 1000000 f 8 (by omega)) (by omega)
theorem bg_ok {t : TT} (h : tOk t) {a : Nat} {τ : Int} (hτ : 0 ≤ τ ∧ τ ≤ 1000) (σ : XS) : xOk (bg t a τ σ) := wo_ok h (bg_r hτ _) (fl_b 1000000 _ 8 (by omega))
theorem nr_ok {t : TT} (h : tOk t) {σ : XS} (hσ : xOk σ) : xOk (nr t σ) := wo_ok h (nrL_b h _ _ _ (fl_b 1000000 _ 8 (by omega)) _) hσ.1
theorem itr_ok {t : TT} (h : tOk t) {σ : XS} (hσ : xOk σ) : ∀ k, xOk (itr t σ k)
  | 0 => hσ
  | k + 1 => nr_ok h (itr_ok h hσ k)
/-! backward -/
def mtA (t : TT) (l i : Nat) (τ : Int) : Nat → Int
  | 0 => -1000000
  | k + 1 => if tLo t k = l ∧ tSo t k + tOg t (l * 6 + i) ≤ τ ∧ mtA t l i τ k < tSo t k then tSo t k else mtA t l i τ k
theorem mtA_b {t : TT} (h : tOk t) (l i : Nat) (τ : Int) : ∀ k, -1000000 ≤ mtA t l i τ k ∧ mtA t l i τ k ≤ 500
  | 0 => by simp [mtA]
  | k + 1 => by
    have h1 := mtA_b h l i τ k
    have h2 := tk_So h k
    rw [mtA]
    split <;> omega
def rbS (t : TT) (l b : Nat) (be : Nat → Int) : Nat → Int
  | 0 => -1000000
  | n + 1 => if b / 2 ^ tSt t (l * 6 + (tSz t l - 1 - n)) % 2 = 1 ∧ (rbS t l b be n = -1000000 ∨ rbS t l b be n + tOg t (l * 6 + (tSz t l - 1 - n)) < be (tSt t (l * 6 + (tSz t l - 1 - n)))) ∧ rbS t l b be n < mtA t l (tSz t l - 1 - n) (be (tSt t (l * 6 + (tSz t l - 1 - n)))) (tT t) then mtA t l (tSz t l - 1 - n) (be (tSt t (l * 6 + (tSz t l - 1 - n)))) (tT t) else rbS t l b be n
theorem rbS_b {t : TT} (h : tOk t) (l b : Nat) (be : Nat → Int) : ∀ n, -1000000 ≤ rbS t l b be n ∧ rbS t l b be n ≤ 500
  | 0 => by simp [rbS]
  | n + 1 => by
    have h1 := rbS_b h l b be n
    have h2 := mtA_b h l (tSz t l - 1 - n) (be (tSt t (l * 6 + (tSz t l - 1 - n)))) (tT t)
    rw [rbS]
    split <;> omega
def rbR (t : TT) (l b : Nat) (be ri : Nat → Int) : Nat → Nat → Int
  | 0 => ri
  | n + 1 => if -1000000 < rbS t l b be n ∧ rbR t l b be ri n (tSt t (l * 6 + (tSz t l - 1 - n))) < rbS t l b be n + tOg t (l * 6 + (tSz t l - 1 - n)) then upI (rbR t l b be ri n) (tSt t (l * 6 + (tSz t l - 1 - n))) (rbS t l b be n + tOg t (l * 6 + (tSz t l - 1 - n))) else rbR t l b be ri n
theorem rbR_b {t : TT} (h : tOk t) (l b : Nat) (be ri : Nat → Int) (hr : bR ri 8) : ∀ n, bR (rbR t l b be ri n) 8
  | 0 => hr
  | n + 1 => by
    have h1 := rbR_b h l b be ri hr n
    have h2 := rbS_b h l b be n
    have h3 := tk_Og h (l * 6 + (tSz t l - 1 - n))
    have h4 := h1 _ (tk_St h (l * 6 + (tSz t l - 1 - n)))
    rw [rbR]
    split
    · exact bR_up h1 (by omega)
    · exact h1
def vB (t : TT) (ri : Nat → Int) (s : Nat) : Nat → Int
  | 0 => ri s
  | u + 1 => if 0 < tWk t (s * 8 + u) ∧ vB t ri s u < ri u - tWk t (s * 8 + u) then ri u - tWk t (s * 8 + u) else vB t ri s u
theorem vB_b {t : TT} (h : tOk t) {ri : Nat → Int} (hr : bR ri 8) {s : Nat} (hs : s < 8) : ∀ u, u ≤ 8 → -1000000 ≤ vB t ri s u ∧ vB t ri s u ≤ 1000000
  | 0, _ => hr s hs
  | u + 1, hu => by
    have h1 := vB_b h hr hs u (by omega)
    have h2 := tk_Wk h (s * 8 + u)
    have h3 := hr u (by omega)
    rw [vB]
    split <;> omega
def voR (t : TT) (ri re : Nat → Int) : Nat → Nat → Int
  | 0 => re
  | s + 1 => if voR t ri re s s < vB t ri s 8 then upI (voR t ri re s) s (vB t ri s 8) else voR t ri re s
theorem voR_b {t : TT} (h : tOk t) {ri re : Nat → Int} (hr : bR ri 8) (he : bR re 8) : ∀ s, s ≤ 8 → bR (voR t ri re s) 8
  | 0, _ => he
  | s + 1, hs => by
    have h1 := voR_b h hr he s (by omega)
    rw [voR]
    split
    · exact bR_up h1 (vB_b h hr (by omega) 8 (by omega))
    · exact h1
def voM (t : TT) (ri re : Nat → Int) : Nat → Nat
  | 0 => 0
  | s + 1 => if voR t ri re s s < vB t ri s 8 then voM t ri re s + 2 ^ s else voM t ri re s
theorem voM_b (t : TT) (ri re : Nat → Int) : ∀ s, voM t ri re s < 2 ^ s
  | 0 => by simp [voM]
  | s + 1 => by
    have h1 := voM_b t ri re s
    have h2 : 2 ^ (s + 1) = 2 ^ s + 2 ^ s := by rw [Nat.pow_succ]; omega
    rw [voM]
    split <;> omega
def vo (t : TT) (ri re be : Nat → Int) : XS := (ri, voR t ri re 8, be, voM t ri re 8)
def bgB (t : TT) (a : Nat) (τ : Int) (σ : XS) : XS := vo t (upI (fl (-1000000) σ.1 8) a τ) (fl (-1000000) σ.2.1 8) σ.2.2.1
def nrLB (t : TT) (b : Nat) (be ri : Nat → Int) : Nat → Nat → Int
  | 0 => ri
  | l + 1 => rbR t l b be (nrLB t b be ri l) (tSz t l)
theorem nrLB_b {t : TT} (h : tOk t) (b : Nat) (be ri : Nat → Int) (hr : bR ri 8) : ∀ l, bR (nrLB t b be ri l) 8
  | 0 => hr
  | l + 1 => rbR_b h l b be _ (nrLB_b h b be ri hr l) (tSz t l)
def nrB (t : TT) (σ : XS) : XS := vo t (nrLB t σ.2.2.2 (cp σ.2.1 σ.2.2.1 8) (fl (-1000000) σ.1 8) (tL t)) σ.2.1 (cp σ.2.1 σ.2.2.1 8)
def itrB (t : TT) (σ : XS) : Nat → XS
  | 0 => σ
  | k + 1 => nrB t (itrB t σ k)
theorem vo_ok {t : TT} (h : tOk t) {ri re be : Nat → Int} (hr : bR ri 8) (he : bR re 8) : xOk (vo t ri re be) := ⟨voR_b h hr he 8 (by omega), voM_b t ri re 8⟩
theorem bgB_r {a : Nat} {τ : Int} (hτ : 0 ≤ τ ∧ τ ≤ 1000) (f : Nat → Int) : bR (upI (fl (-1000000) f 8) a τ) 8 := bR_up (fl_b (-1000000) f 8 (by omega)) (by omega)
theorem bgB_ok {t : TT} (h : tOk t) {a : Nat} {τ : Int} (hτ : 0 ≤ τ ∧ τ ≤ 1000) (σ : XS) : xOk (bgB t a τ σ) := vo_ok h (bgB_r hτ _) (fl_b (-1000000) _ 8 (by omega))
theorem nrB_ok {t : TT} (h : tOk t) {σ : XS} (hσ : xOk σ) : xOk (nrB t σ) := vo_ok h (nrLB_b h _ _ _ (fl_b (-1000000) _ 8 (by omega)) _) hσ.1
theorem itrB_ok {t : TT} (h : tOk t) {σ : XS} (hσ : xOk σ) : ∀ k, xOk (itrB t σ k)
  | 0 => hσ
  | k + 1 => nrB_ok h (itrB_ok h hσ k)
/-! the reference -/
def mwT (t : TT) (oo : Nat → Int) (r : Nat) (th : Nat → Int) : Nat → Nat → Int
  | 0 => th
  | s + 1 => upI (mwT t oo r th s) (r * 8 + s) (wB t (fun j => oo (r * 8 + j)) s 8)
theorem mwT_e (t : TT) (oo : Nat → Int) (r : Nat) (th : Nat → Int) (j : Nat) : ∀ n, mwT t oo r th n j = if r * 8 ≤ j ∧ j < r * 8 + n then wB t (fun i => oo (r * 8 + i)) (j - r * 8) 8 else th j
  | 0 => by
    rw [mwT, if_neg (by omega)]
  | n + 1 => by
    rw [mwT, upI_e, mwT_e t oo r th j n]
    by_cases h : j = r * 8 + n
    · rw [if_pos h, if_pos (by omega), h, Nat.add_sub_cancel_left]
    · rw [if_neg h]
      by_cases h2 : r * 8 ≤ j ∧ j < r * 8 + n
      · rw [if_pos h2, if_pos (by omega)]
      · rw [if_neg h2, if_neg (by omega)]
def mrO (t : TT) (r k i : Nat) (oo : Nat → Int) : Nat → Nat → Int
  | 0 => oo
  | n + 1 => if tSo t k + tOg t (tLo t k * 6 + (i + 1 + n)) < mrO t r k i oo n (r * 8 + tSt t (tLo t k * 6 + (i + 1 + n))) then upI (mrO t r k i oo n) (r * 8 + tSt t (tLo t k * 6 + (i + 1 + n))) (tSo t k + tOg t (tLo t k * 6 + (i + 1 + n))) else mrO t r k i oo n
theorem mrO_b {t : TT} (h : tOk t) (r k i : Nat) {oo : Nat → Int} {N : Nat} (ho : bR oo N) : ∀ n, bR (mrO t r k i oo n) N
  | 0 => ho
  | n + 1 => by
    have h1 := mrO_b h r k i ho n
    have h2 := tk_So h k
    have h3 := tk_Og h (tLo t k * 6 + (i + 1 + n))
    rw [mrO]
    split
    · exact bR_up h1 (by omega)
    · exact h1
def rd (t : TT) (r k i : Nat) (th oo : Nat → Int) : Nat → Int := if th ((r - 1) * 8 + tSt t (tLo t k * 6 + i)) ≤ tSo t k + tOg t (tLo t k * 6 + i) then mrO t r k i oo (tSz t (tLo t k) - (i + 1)) else oo
theorem rd_b {t : TT} (h : tOk t) (r k i : Nat) (th : Nat → Int) {oo : Nat → Int} {N : Nat} (ho : bR oo N) : bR (rd t r k i th oo) N := by
  rw [rd]
  split
  · exact mrO_b h r k i ho _
  · exact ho
def msR (t : TT) (r : Nat) (th oo : Nat → Int) : Nat → Nat → Int
  | 0 => oo
  | n + 1 => if n % 6 < tSz t (tLo t (n / 6)) then rd t r (n / 6) (n % 6) th (msR t r th oo n) else msR t r th oo n
theorem msR_b {t : TT} (h : tOk t) (r : Nat) (th : Nat → Int) {oo : Nat → Int} {N : Nat} (ho : bR oo N) : ∀ n, bR (msR t r th oo n) N
  | 0 => ho
  | n + 1 => by
    rw [msR]
    split
    · exact rd_b h r _ _ th (msR_b h r th ho n)
    · exact msR_b h r th ho n
/-- eight places from r * 8 on, filled -/
def f8 (r : Nat) (c : Int) (f : Nat → Int) : Nat → Nat → Int
  | 0 => f
  | s + 1 => upI (f8 r c f s) (r * 8 + s) c
theorem f8_e (r : Nat) (c : Int) (f : Nat → Int) (j : Nat) : ∀ n, f8 r c f n j = if r * 8 ≤ j ∧ j < r * 8 + n then c else f j
  | 0 => by
    rw [f8, if_neg (by omega)]
  | n + 1 => by
    rw [f8, upI_e, f8_e r c f j n]
    by_cases h : j = r * 8 + n
    · rw [if_pos h, if_pos (by omega)]
    · rw [if_neg h]
      by_cases h2 : r * 8 ≤ j ∧ j < r * 8 + n
      · rw [if_pos h2, if_pos (by omega)]
      · rw [if_neg h2, if_neg (by omega)]
def ms0 (a : Nat) (τ : Int) (f : Nat → Int) : Nat → Nat → Int
  | 0 => f
  | s + 1 => upI (ms0 a τ f s) s (if s = a then τ else 100000)
theorem ms0_e (a : Nat) (τ : Int) (f : Nat → Int) (j : Nat) : ∀ n, ms0 a τ f n j = if j < n then (if j = a then τ else 100000) else f j
  | 0 => by simp [ms0]
  | n + 1 => by
    rw [ms0, upI_e, ms0_e a τ f j n]
    by_cases h : j = n
    · rw [if_pos h, if_pos (show j < n + 1 by omega), h]
    · rw [if_neg h]
      by_cases h2 : j < n
      · rw [if_pos h2, if_pos (show j < n + 1 by omega)]
      · rw [if_neg h2, if_neg (show ¬ j < n + 1 by omega)]
abbrev MS : Type := (Nat → Int) × (Nat → Int)
abbrev MWs (d0 : ClassId) (q : Nat → Nat) (t : TT) (μ : MS) : va_W := MW d0 q t μ.1 μ.2
def ms (t : TT) (a : Nat) (τ : Int) (μ : MS) : Nat → MS
  | 0 => (ms0 a τ μ.1 8, mwT t (ms0 a τ μ.1 8) 0 μ.2 8)
  | k + 1 => (msR t (k + 1) (ms t a τ μ k).2 (f8 (k + 1) 100000 (ms t a τ μ k).1 8) (tT t * 6), mwT t (msR t (k + 1) (ms t a τ μ k).2 (f8 (k + 1) 100000 (ms t a τ μ k).1 8) (tT t * 6)) (k + 1) (ms t a τ μ k).2 8)
theorem mwT_b {t : TT} (h : tOk t) {oo th : Nat → Int} {r : Nat} (ho : bR oo ((r + 1) * 8)) (ht : bR th (r * 8)) : bR (mwT t oo r th 8) ((r + 1) * 8) := by
  intro j hj
  rw [mwT_e]
  by_cases h2 : r * 8 ≤ j ∧ j < r * 8 + 8
  · rw [if_pos h2]
    exact wB_b h (fun i hi => ho _ (by omega)) (by omega) 8 (by omega)
  · rw [if_neg h2]
    exact ht j (by omega)
theorem ms0_b {a : Nat} {τ : Int} (hτ : 0 ≤ τ ∧ τ ≤ 1000) (f : Nat → Int) : bR (ms0 a τ f 8) 8 := by
  intro j hj
  rw [ms0_e, if_pos hj]
  split <;> omega
theorem f8_b {r : Nat} {f : Nat → Int} (hf : bR f (r * 8)) : bR (f8 r 100000 f 8) ((r + 1) * 8) := by
  intro j hj
  rw [f8_e]
  by_cases h2 : r * 8 ≤ j ∧ j < r * 8 + 8
  · rw [if_pos h2]
    omega
  · rw [if_neg h2]
    exact hf j (by omega)
theorem ms_b {t : TT} (h : tOk t) {a : Nat} {τ : Int} (hτ : 0 ≤ τ ∧ τ ≤ 1000) (μ : MS) : ∀ k, bR (ms t a τ μ k).1 ((k + 1) * 8) ∧ bR (ms t a τ μ k).2 ((k + 1) * 8)
  | 0 => ⟨by rw [ms]; exact ms0_b hτ _, by rw [ms]; exact mwT_b h (r := 0) (ms0_b hτ _) (fun j hj => absurd hj (by omega))⟩
  | k + 1 => by
    have h1 := ms_b (a := a) h hτ μ k
    have h2 : bR (msR t (k + 1) (ms t a τ μ k).2 (f8 (k + 1) 100000 (ms t a τ μ k).1 8) (tT t * 6)) ((k + 1 + 1) * 8) := msR_b h _ _ (f8_b h1.1) _
    rw [ms]
    exact ⟨h2, mwT_b h h2 h1.2⟩
def bsA (th : Nat → Int) (b : Nat) : Nat → Int
  | 0 => 100000
  | k + 1 => if th (k * 8 + b) < bsA th b k then th (k * 8 + b) else bsA th b k
theorem bsA_b {th : Nat → Int} {b N : Nat} (ht : bR th (N * 8)) (hb : b < 8) : ∀ k, k ≤ N → -1000000 ≤ bsA th b k ∧ bsA th b k ≤ 100000
  | 0, _ => by simp [bsA]
  | k + 1, hk => by
    have h1 := bsA_b ht hb k (by omega)
    have h2 := ht (k * 8 + b) (by omega)
    rw [bsA]
    split <;> omega
end
section
set_option maxRecDepth 100000
/-- after a search of at most n rounds: so many, or nothing got better -/
def xAns (t : TT) (σ : XS) (a : Nat) (τ : Int) (n : Nat) (u : XS) : Prop := ∃ k, k ≤ n ∧ u = itr t (bg t a τ σ) k ∧ (k = n ∨ u.2.2.2 = 0)
def xAnsB (t : TT) (σ : XS) (a : Nat) (τ : Int) (n : Nat) (u : XS) : Prop := ∃ k, k ≤ n ∧ u = itrB t (bgB t a τ σ) k ∧ (k = n ∨ u.2.2.2 = 0)
def cl12 (n : Int) : Nat := if n < 0 then 0 else if 12 < n then 12 else n.toNat
def rdL (t : TT) (σ : XS) (b : Nat) : Nat → Int
  | 0 => if σ.2.1 b < 1000000 then 0 else -5
  | k + 1 => if (itr t σ (k + 1)).2.1 b < (itr t σ k).2.1 b then ((k + 1 : Nat) : Int) else rdL t σ b k
theorem rdL_b (t : TT) (σ : XS) (b : Nat) : ∀ k, -5 ≤ rdL t σ b k ∧ rdL t σ b k ≤ (k : Int)
  | 0 => by
    rw [rdL]
    split <;> omega
  | k + 1 => by
    have h1 := rdL_b t σ b k
    rw [rdL]
    split <;> omega
def wn (f : Nat → Int) (y : Int) : Nat → Nat
  | 0 => 0
  | k + 1 => if f k ≤ y then wn f y k + 1 else wn f y k
theorem wn_b (f : Nat → Int) (y : Int) : ∀ k, wn f y k ≤ k
  | 0 => by simp [wn]
  | k + 1 => by
    have h1 := wn_b f y k
    rw [wn]
    split <;> omega
theorem rp_dup2 {p : Program} {l : Launch} {e : Env} {R : Room} {s : State} {m : MethodId} {args : Array Value} {below : List Frame} {meth : Method} {c : Code} {H : Heap} {locs : List Loc} {cells slots : Nat} {Q : State → Prop} {own : String} {cc : ByteArray} {nL pc : Nat} {ls : Array Slot} {rest : List Value} {D : va_G} {d0 : ClassId} (E : rp_E p s m meth c args own cc nL D d0) {va vb : Value} (hdg : decode cc pc = .ok (.dup2, 1)) (hva : va.category = 1) (hvb : vb.category = 1) (k : W p l e R s m args below meth c H locs cells slots Q (F0 m (pc + 1) ls (va :: vb :: va :: vb :: rest))) : W p l e R s m args below meth c H locs cells slots Q (F0 m pc ls (va :: vb :: rest)) := lv_dup2_11 E.1.1 E.1.2.1 hdg hva hvb k
end
section
set_option maxRecDepth 100000
/-! the timetable's changes, and what the calls answer -/
def tLine (t : TT) (s : Nat) : TT := (tL t + 1, upN (tSz t) (tL t) 1, upN (tSt t) (tL t * 6) s, upI (tOg t) (tL t * 6) 0, tT t, tLo t, tSo t, tWk t)
def tExt (t : TT) (l s : Nat) (mi : Int) : TT := (tL t, upN (tSz t) l (tSz t l + 1), upN (tSt t) (l * 6 + tSz t l) s, upI (tOg t) (l * 6 + tSz t l) (tOg t (l * 6 + tSz t l - 1) + mi), tT t, tLo t, tSo t, tWk t)
def tTrip (t : TT) (l : Nat) (st : Int) : TT := (tL t, tSz t, tSt t, tOg t, tT t + 1, upN (tLo t) (tT t) l, upI (tSo t) (tT t) st, tWk t)
def tFoot (t : TT) (a b : Nat) (mi : Int) : TT := (tL t, tSz t, tSt t, tOg t, tT t, tLo t, tSo t, upI (upI (tWk t) (a * 8 + b) mi) (b * 8 + a) mi)
def tDel (t : TT) (k : Nat) (st : Int) : TT := (tL t, tSz t, tSt t, tOg t, tT t, tLo t, upI (tSo t) k st, tWk t)
def aLine (t : TT) (s v : Int) (u : TT) : Prop := (v = -1 ∧ u = t ∧ (s < 0 ∨ 8 ≤ s)) ∨ (v = -4 ∧ u = t ∧ (0 ≤ s ∧ s < 8) ∧ 5 ≤ tL t) ∨ (v = (tL t : Int) ∧ u = tLine t s.toNat ∧ (0 ≤ s ∧ s < 8) ∧ tL t < 5)
def aExt (t : TT) (l s mi v : Int) (u : TT) : Prop := (v = -2 ∧ u = t ∧ (l < 0 ∨ (tL t : Int) ≤ l)) ∨ (v = -1 ∧ u = t ∧ (0 ≤ l ∧ l < (tL t : Int)) ∧ (s < 0 ∨ 8 ≤ s)) ∨ (v = -1 ∧ u = t ∧ (0 ≤ l ∧ l < (tL t : Int)) ∧ (0 ≤ s ∧ s < 8) ∧ ∃ i, i < tSz t l.toNat ∧ tSt t (l.toNat * 6 + i) = s.toNat) ∨ (v = -3 ∧ u = t ∧ (0 ≤ l ∧ l < (tL t : Int)) ∧ (0 ≤ s ∧ s < 8) ∧ (∀ i, i < tSz t l.toNat → tSt t (l.toNat * 6 + i) ≠ s.toNat) ∧ (mi < 1 ∨ 30 < mi)) ∨ (v = -4 ∧ u = t ∧ (0 ≤ l ∧ l < (tL t : Int)) ∧ (0 ≤ s ∧ s < 8) ∧ (∀ i, i < tSz t l.toNat → tSt t (l.toNat * 6 + i) ≠ s.toNat) ∧ (1 ≤ mi ∧ mi ≤ 30) ∧ (6 ≤ tSz t l.toNat ∨ ∃ k, k < tT t ∧ tLo t k = l.toNat)) ∨ (v = (tSz t l.toNat : Int) + 1 ∧ u = tExt t l.toNat s.toNat mi ∧ (0 ≤ l ∧ l < (tL t : Int)) ∧ (0 ≤ s ∧ s < 8) ∧ (∀ i, i < tSz t l.toNat → tSt t (l.toNat * 6 + i) ≠ s.toNat) ∧ (1 ≤ mi ∧ mi ≤ 30) ∧ tSz t l.toNat < 6 ∧ ∀ k, k < tT t → tLo t k ≠ l.toNat)
def aTrip (t : TT) (l st v : Int) (u : TT) : Prop := (v = -2 ∧ u = t ∧ (l < 0 ∨ (tL t : Int) ≤ l)) ∨ (v = -3 ∧ u = t ∧ (0 ≤ l ∧ l < (tL t : Int)) ∧ (st < 0 ∨ 500 < st)) ∨ (v = -4 ∧ u = t ∧ (0 ≤ l ∧ l < (tL t : Int)) ∧ (0 ≤ st ∧ st ≤ 500) ∧ 12 ≤ tT t) ∨ (v = (tT t : Int) ∧ u = tTrip t l.toNat st ∧ (0 ≤ l ∧ l < (tL t : Int)) ∧ (0 ≤ st ∧ st ≤ 500) ∧ tT t < 12)
def aFoot (t : TT) (a b mi v : Int) (u : TT) : Prop := (v = -1 ∧ u = t ∧ (a < 0 ∨ 8 ≤ a ∨ b < 0 ∨ 8 ≤ b ∨ a = b)) ∨ (v = -3 ∧ u = t ∧ (0 ≤ a ∧ a < 8 ∧ 0 ≤ b ∧ b < 8 ∧ a ≠ b) ∧ (mi < 0 ∨ 30 < mi)) ∨ (v = tWk t (a.toNat * 8 + b.toNat) ∧ u = tFoot t a.toNat b.toNat mi ∧ (0 ≤ a ∧ a < 8 ∧ 0 ≤ b ∧ b < 8 ∧ a ≠ b) ∧ (0 ≤ mi ∧ mi ≤ 30))
def aDel (t : TT) (k st v : Int) (u : TT) : Prop := (v = -2 ∧ u = t ∧ (k < 0 ∨ (tT t : Int) ≤ k)) ∨ (v = -3 ∧ u = t ∧ (0 ≤ k ∧ k < (tT t : Int)) ∧ (st < 0 ∨ 500 < st)) ∨ (v = tSo t k.toNat ∧ u = tDel t k.toNat st ∧ (0 ≤ k ∧ k < (tT t : Int)) ∧ (0 ≤ st ∧ st ≤ 500))
end
section
set_option maxRecDepth 100000
set_option maxHeartbeats 4000000 in
set_option maxRecDepth 100000 in
/-- badStop: 1 if it is so -/
theorem metX0_badStop (lc : Launch) (D : va_G) (d0 : ClassId) (ws : va_W) (a : Int) (ha : r32 a) : rp_MI lc D d0 yX0_badStop cX0_badStop 1 (some .boolean) (rp_r 0 0) [.int (iI (a))] (ws) (fun (v : Int) (u : Unit) => (v = 1 ∧ (a < 0 ∨ 8 ≤ a)) ∨ (v = 0 ∧ 0 ≤ a ∧ a < 8)) (fun (u : Unit) => ws) := by
  refine rp_MI.of (by decide) rfl (fun v u h => nar01 (by rcases h with h | h; exact Or.inr h.1; exact Or.inl h.1)) (Nat.le_of_ble_eq_true rfl) ?_
  intro p e s m below meth c args A ls Q E hA w hl hret
  have hl : lv_has ls 1 [(0, .int (iI (a)))] := hl
  refine rp_iln E dX0_badStop_0 rfl (lv_at hl 0 rfl) ?_
  refine rp_flt (tgt := 10) E dX0_badStop_1 (by decide) ⟨by omega, by omega⟩ (fun c1 => ?_) (fun c1 => ?_)
  · refine rp_ic E (v := ((1 : Nat) : Int)) dX0_badStop_10 rfl ?_
    refine rp_goto (tgt := 15) E dX0_badStop_11 (by decide) ?_
    exact hret _ _ ((1 : Nat) : Int) () _ _ (by omega) w dX0_badStop_15
  · refine rp_iln E dX0_badStop_4 rfl (lv_at hl 0 rfl) ?_
    refine rp_bi E (v := ((8 : Nat) : Int)) dX0_badStop_5 (by decide) ?_
    refine rp_clt (tgt := 14) E dX0_badStop_7 (by decide) ⟨by omega, by omega⟩ ⟨by omega, by omega⟩ (fun c7 => ?_) (fun c7 => ?_)
    · refine rp_ic E (v := ((0 : Nat) : Int)) dX0_badStop_14 rfl ?_
      exact hret _ _ ((0 : Nat) : Int) () _ _ (by omega) w dX0_badStop_15
    · refine rp_ic E (v := ((1 : Nat) : Int)) dX0_badStop_10 rfl ?_
      refine rp_goto (tgt := 15) E dX0_badStop_11 (by decide) ?_
      exact hret _ _ ((1 : Nat) : Int) () _ _ (by omega) w dX0_badStop_15
set_option maxHeartbeats 4000000 in
set_option maxRecDepth 100000 in
/-- badTime: 1 if it is so -/
theorem metX0_badTime (lc : Launch) (D : va_G) (d0 : ClassId) (ws : va_W) (a : Int) (ha : r32 a) : rp_MI lc D d0 yX0_badTime cX0_badTime 1 (some .boolean) (rp_r 0 0) [.int (iI (a))] (ws) (fun (v : Int) (u : Unit) => (v = 1 ∧ (a < 0 ∨ 1000 < a)) ∨ (v = 0 ∧ 0 ≤ a ∧ a ≤ 1000)) (fun (u : Unit) => ws) := by
  refine rp_MI.of (by decide) rfl (fun v u h => nar01 (by rcases h with h | h; exact Or.inr h.1; exact Or.inl h.1)) (Nat.le_of_ble_eq_true rfl) ?_
  intro p e s m below meth c args A ls Q E hA w hl hret
  have hl : lv_has ls 1 [(0, .int (iI (a)))] := hl
  refine rp_iln E dX0_badTime_0 rfl (lv_at hl 0 rfl) ?_
  refine rp_flt (tgt := 11) E dX0_badTime_1 (by decide) ⟨by omega, by omega⟩ (fun c1 => ?_) (fun c1 => ?_)
  · refine rp_ic E (v := ((1 : Nat) : Int)) dX0_badTime_11 rfl ?_
    refine rp_goto (tgt := 16) E dX0_badTime_12 (by decide) ?_
    exact hret _ _ ((1 : Nat) : Int) () _ _ (by omega) w dX0_badTime_16
  · refine rp_iln E dX0_badTime_4 rfl (lv_at hl 0 rfl) ?_
    refine rp_si E (v := (1000)) dX0_badTime_5 (by decide) ?_
    refine rp_cle (tgt := 15) E dX0_badTime_8 (by decide) ⟨by omega, by omega⟩ ⟨by omega, by omega⟩ (fun c8 => ?_) (fun c8 => ?_)
    · refine rp_ic E (v := ((0 : Nat) : Int)) dX0_badTime_15 rfl ?_
      exact hret _ _ ((0 : Nat) : Int) () _ _ (by omega) w dX0_badTime_16
    · refine rp_ic E (v := ((1 : Nat) : Int)) dX0_badTime_11 rfl ?_
      refine rp_goto (tgt := 16) E dX0_badTime_12 (by decide) ?_
      exact hret _ _ ((1 : Nat) : Int) () _ _ (by omega) w dX0_badTime_16
set_option maxHeartbeats 4000000 in
set_option maxRecDepth 100000 in
/-- badLine -/
theorem metX0_badLine (lc : Launch) (D : va_G) (d0 : ClassId) (q : Nat → Nat) (t : TT) (ri re be : Nat → Int) (b : Nat) (ok : tOk t) (a : Int) (ha : r32 a) : rp_MI lc D d0 yX0_badLine cX0_badLine 2 (some .boolean) (rp_r 0 0) [.ref (q 0), .int (iI (a))] (XW d0 q t ri re be b) (fun (v : Int) (u : Unit) => (v = 1 ∧ (a < 0 ∨ (tL t : Int) ≤ a)) ∨ (v = 0 ∧ 0 ≤ a ∧ a < (tL t : Int))) (fun (u : Unit) => XW d0 q t ri re be b) := by
  refine rp_MI.of (by decide) rfl (fun v u h => nar01 (by rcases h with h | h; exact Or.inr h.1; exact Or.inl h.1)) (Nat.le_of_ble_eq_true rfl) ?_
  intro p e s m below meth c args A ls Q E hA w hl hret
  have hl : lv_has ls 2 [(0, .ref (q 0)), (1, .int (iI (a)))] := hl
  have fL := tk_LT ok
  refine rp_iln E dX0_badLine_0 rfl (lv_at hl 1 rfl) ?_
  refine rp_flt (tgt := 12) E dX0_badLine_1 (by decide) ⟨by omega, by omega⟩ (fun c1 => ?_) (fun c1 => ?_)
  · refine rp_ic E (v := ((1 : Nat) : Int)) dX0_badLine_12 rfl ?_
    refine rp_goto (tgt := 17) E dX0_badLine_13 (by decide) ?_
    exact hret _ _ ((1 : Nat) : Int) () _ _ (by omega) w dX0_badLine_17
  · refine rp_iln E dX0_badLine_4 rfl (lv_at hl 1 rfl) ?_
    refine rx_ag (v := .int (iI ((tL t : Nat) : Int))) E w (lv_at hl 0 rfl) 0 (by decide) rfl q35 rfl dX0_badLine_5 dX0_badLine_6 ?_
    refine rp_clt (tgt := 16) E dX0_badLine_9 (by decide) ⟨by omega, by omega⟩ ⟨by omega, by omega⟩ (fun c9 => ?_) (fun c9 => ?_)
    · refine rp_ic E (v := ((0 : Nat) : Int)) dX0_badLine_16 rfl ?_
      exact hret _ _ ((0 : Nat) : Int) () _ _ (by omega) w dX0_badLine_17
    · refine rp_ic E (v := ((1 : Nat) : Int)) dX0_badLine_12 rfl ?_
      refine rp_goto (tgt := 17) E dX0_badLine_13 (by decide) ?_
      exact hret _ _ ((1 : Nat) : Int) () _ _ (by omega) w dX0_badLine_17
set_option maxHeartbeats 4000000 in
set_option maxRecDepth 100000 in
/-- hasTrips -/
theorem metX0_hasTrips (lc : Launch) (D : va_G) (d0 : ClassId) (q : Nat → Nat) (t : TT) (ri re be : Nat → Int) (b : Nat) (ok : tOk t) (l : Nat) (h5 : l < 5) : rp_MI lc D d0 yX0_hasTrips cX0_hasTrips 3 (some .boolean) (rp_r 0 0) [.ref (q 0), .int (iI ((l : Nat) : Int))] (XW d0 q t ri re be b) (fun (v : Int) (u : Unit) => (v = 1 ∧ ∃ k, k < tT t ∧ tLo t k = l) ∨ (v = 0 ∧ ∀ k, k < tT t → tLo t k ≠ l)) (fun (u : Unit) => XW d0 q t ri re be b) := by
  refine rp_MI.of (by decide) rfl (fun v u h => nar01 (by rcases h with h | h; exact Or.inr h.1; exact Or.inl h.1)) (Nat.le_of_ble_eq_true rfl) ?_
  intro p e s m below meth c args A ls Q E hA w hl hret
  have hl : lv_has ls 3 [(0, .ref (q 0)), (1, .int (iI ((l : Nat) : Int)))] := hl
  have fL := tk_LT ok
  have loop : ∀ n i : Nat, i ≤ tT t → tT t < i + n → (∀ k, k < i → tLo t k ≠ l) → ∀ ls, lv_has ls 3 [(0, .ref (q 0)), (1, .int (iI ((l : Nat) : Int))), (2, .int (iI ((i : Nat) : Int)))] → W p lc e (rp_r 0 0) s m args below meth c s.heap [] 0 0 Q (F0 m 2 ls []) := by
    intro n
    induction n with
    | zero =>
      intro i h1 h2
      exact absurd h2 (by omega)
    | succ n ih =>
      intro i h1 h2 hi ls hl
      refine rp_iln E dX0_hasTrips_2 rfl (lv_at hl 2 rfl) ?_
      refine rx_ag (v := .int (iI ((tT t : Nat) : Int))) E w (lv_at hl 0 rfl) 4 (by decide) rfl q39 rfl dX0_hasTrips_3 dX0_hasTrips_4 ?_
      refine rp_cge (tgt := 28) E dX0_hasTrips_7 (by decide) ⟨by omega, by omega⟩ ⟨by omega, by omega⟩ (fun c7 => ?_) (fun c7 => ?_)
      · refine rp_ic E (v := ((0 : Nat) : Int)) dX0_hasTrips_28 rfl ?_
        exact hret _ _ ((0 : Nat) : Int) () _ _ (Or.inr ⟨by omega, fun k hk => hi k (by omega)⟩) w dX0_hasTrips_29
      · refine rx_ag E w (lv_at hl 0 rfl) 5 (by decide) rfl q40 rfl dX0_hasTrips_10 dX0_hasTrips_11 ?_
        refine rp_iln E dX0_hasTrips_14 rfl (lv_at hl 2 rfl) ?_
        refine rp_ald E w 4 rfl (i) (rfl) (by omega) (by decide) dX0_hasTrips_15 ?_
        have f15 := tk_Lo ok (i)
        refine rp_iln E dX0_hasTrips_16 rfl (lv_at hl 1 rfl) ?_
        refine rp_cne (tgt := 22) E dX0_hasTrips_17 (by decide) ⟨by omega, by omega⟩ ⟨by omega, by omega⟩ (fun c17 => ?_) (fun c17 => ?_)
        · refine rp_iinc (v := ((i + 1 : Nat) : Int)) (lv' := [(0, .ref (q 0)), (1, .int (iI ((l : Nat) : Int))), (2, .int (iI ((i + 1 : Nat) : Int)))]) E [1, 2, 0] dX0_hasTrips_22 hl (k := 2) rfl (by omega) (by decide) rfl (fun ls hl => ?_)
          refine rp_goto (tgt := 2) E dX0_hasTrips_25 (by decide) ?_
          exact ih (i + 1) (by omega) (by omega) (fun k hk => by rcases Nat.lt_succ_iff_lt_or_eq.mp hk with h | h; exact hi k h; (rw [h]; omega)) ls hl
        · refine rp_ic E (v := ((1 : Nat) : Int)) dX0_hasTrips_20 rfl ?_
          exact hret _ _ ((1 : Nat) : Int) () _ _ (Or.inl ⟨by omega, i, by omega, by omega⟩) w dX0_hasTrips_21
  refine rp_ic E (v := ((0 : Nat) : Int)) dX0_hasTrips_0 rfl ?_
  refine rp_isn (lv' := [(0, .ref (q 0)), (1, .int (iI ((l : Nat) : Int))), (2, .int (iI ((0 : Nat) : Int)))]) E [1, 2, 0] dX0_hasTrips_1 rfl hl (by decide) rfl (fun ls hl => ?_)
  exact loop (tT t + 1) 0 (by omega) (by omega) (fun k hk => absurd hk (by omega)) ls hl
set_option maxHeartbeats 4000000 in
set_option maxRecDepth 100000 in
/-- refusal -/
theorem metX0_refusal (lc : Launch) (D : va_G) (d0 : ClassId) (q : Nat → Nat) (t : TT) (ri re be : Nat → Int) (b : Nat) (a b2 t2 : Int) (ha : r32 a) (hb2 : r32 b2) (ht2 : r32 t2) : rp_MI lc D d0 yX0_refusal cX0_refusal 4 (some .int) (rp_r 1 20) [.ref (q 0), .int (iI (a)), .int (iI (b2)), .int (iI (t2))] (XW d0 q t ri re be b) (fun (v : Int) (u : Unit) => (v = -1 ∧ (a < 0 ∨ 8 ≤ a ∨ b2 < 0 ∨ 8 ≤ b2)) ∨ (v = -3 ∧ (0 ≤ a ∧ a < 8 ∧ 0 ≤ b2 ∧ b2 < 8) ∧ (t2 < 0 ∨ 1000 < t2)) ∨ (v = 0 ∧ (0 ≤ a ∧ a < 8 ∧ 0 ≤ b2 ∧ b2 < 8) ∧ 0 ≤ t2 ∧ t2 ≤ 1000)) (fun (u : Unit) => XW d0 q t ri re be b) := by
  refine rp_MI.of (by decide) rfl (fun v u h => rfl) (Nat.le_of_ble_eq_true rfl) ?_
  intro p e s m below meth c args A ls Q E hA w hl hret
  have hl : lv_has ls 4 [(0, .ref (q 0)), (1, .int (iI (a))), (2, .int (iI (b2))), (3, .int (iI (t2)))] := hl
  refine rp_iln E dX0_refusal_0 rfl (lv_at hl 1 rfl) ?_
  refine rp_calls (rest := []) E w hA (metX0_badStop lc D d0 _ a ha) (va_cwS 1 E.1.2.2.2.2 (lw_S q77 q78 q25 q79) rfl rfl rfl (by decide +kernel) ⟨Nat.le_of_ble_eq_true rfl, Nat.le_of_ble_eq_true rfl⟩) rfl hl.1 rfl (Nat.le_of_ble_eq_true rfl) dX0_refusal_1 ⟨Nat.zero_le _, Nat.zero_le _⟩ (fun v1 u1 H locs hp1 w => ?_)
  refine rp_fne (tgt := 14) E dX0_refusal_4 (by decide) ⟨by omega, by omega⟩ (fun c4 => ?_) (fun c4 => ?_)
  · refine rp_ic E (v := (-1)) dX0_refusal_14 rfl ?_
    exact hret _ _ (-1) () _ _ (by omega) w dX0_refusal_15
  · refine rp_iln E dX0_refusal_7 rfl (lv_at hl 2 rfl) ?_
    refine rp_calls (rest := []) E w hA (metX0_badStop lc D d0 _ b2 hb2) (va_cwS 1 E.1.2.2.2.2 (lw_S q77 q78 q25 q79) rfl rfl rfl (by decide +kernel) ⟨Nat.le_of_ble_eq_true rfl, Nat.le_of_ble_eq_true rfl⟩) rfl hl.1 rfl (Nat.le_of_ble_eq_true rfl) dX0_refusal_8 ⟨Nat.zero_le _, Nat.zero_le _⟩ (fun v8 u8 H locs hp8 w => ?_)
    refine rp_feq (tgt := 16) E dX0_refusal_11 (by decide) ⟨by omega, by omega⟩ (fun c11 => ?_) (fun c11 => ?_)
    · refine rp_iln E dX0_refusal_16 rfl (lv_at hl 3 rfl) ?_
      refine rp_calls (rest := []) E w hA (metX0_badTime lc D d0 _ t2 ht2) (va_cwS 1 E.1.2.2.2.2 (lw_S q112 q113 q25 q114) rfl rfl rfl (by decide +kernel) ⟨Nat.le_of_ble_eq_true rfl, Nat.le_of_ble_eq_true rfl⟩) rfl hl.1 rfl (Nat.le_of_ble_eq_true rfl) dX0_refusal_17 ⟨Nat.zero_le _, Nat.zero_le _⟩ (fun v17 u17 H locs hp17 w => ?_)
      refine rp_feq (tgt := 28) E dX0_refusal_20 (by decide) ⟨by omega, by omega⟩ (fun c20 => ?_) (fun c20 => ?_)
      · refine rp_ic E (v := ((0 : Nat) : Int)) dX0_refusal_28 rfl ?_
        exact hret _ _ ((0 : Nat) : Int) () _ _ (by omega) w dX0_refusal_29
      · refine rp_bi E (v := (-3)) dX0_refusal_23 (by decide) ?_
        refine rp_goto (tgt := 29) E dX0_refusal_25 (by decide) ?_
        exact hret _ _ (-3) () _ _ (by omega) w dX0_refusal_29
    · refine rp_ic E (v := (-1)) dX0_refusal_14 rfl ?_
      exact hret _ _ (-1) () _ _ (by omega) w dX0_refusal_15
set_option maxHeartbeats 4000000 in
set_option maxRecDepth 100000 in
/-- arrivalAt -/
theorem metX0_arrivalAt (lc : Launch) (D : va_G) (d0 : ClassId) (q : Nat → Nat) (t : TT) (ri re be : Nat → Int) (b : Nat) (hr : bR re 8) (k : Nat) (h8 : k < 8) : rp_MI lc D d0 yX0_arrivalAt cX0_arrivalAt 2 (some .int) (rp_r 0 0) [.ref (q 0), .int (iI ((k : Nat) : Int))] (XW d0 q t ri re be b) (fun (v : Int) (u : Unit) => (v = -5 ∧ 1000000 ≤ re k) ∨ (v = re k ∧ re k < 1000000)) (fun (u : Unit) => XW d0 q t ri re be b) := by
  refine rp_MI.of (by decide) rfl (fun v u h => rfl) (Nat.le_of_ble_eq_true rfl) ?_
  intro p e s m below meth c args A ls Q E hA w hl hret
  have hl : lv_has ls 2 [(0, .ref (q 0)), (1, .int (iI ((k : Nat) : Int)))] := hl
  have fr := hr k h8
  refine rx_ag E w (lv_at hl 0 rfl) 9 (by decide) rfl q44 rfl dX0_arrivalAt_0 dX0_arrivalAt_1 ?_
  refine rp_iln E dX0_arrivalAt_4 rfl (lv_at hl 1 rfl) ?_
  refine rp_ald E w 8 rfl (k) (rfl) (by omega) (by decide) dX0_arrivalAt_5 ?_
  refine rp_ldc E (v := (1000000)) q123 (by decide) dX0_arrivalAt_6 ?_
  refine rp_clt (tgt := 16) E dX0_arrivalAt_8 (by decide) ⟨by omega, by omega⟩ ⟨by omega, by omega⟩ (fun c8 => ?_) (fun c8 => ?_)
  · refine rx_ag E w (lv_at hl 0 rfl) 9 (by decide) rfl q44 rfl dX0_arrivalAt_16 dX0_arrivalAt_17 ?_
    refine rp_iln E dX0_arrivalAt_20 rfl (lv_at hl 1 rfl) ?_
    refine rp_ald E w 8 rfl (k) (rfl) (by omega) (by decide) dX0_arrivalAt_21 ?_
    exact hret _ _ (re (k)) () _ _ (by omega) w dX0_arrivalAt_22
  · refine rp_bi E (v := (-5)) dX0_arrivalAt_11 (by decide) ?_
    refine rp_goto (tgt := 22) E dX0_arrivalAt_13 (by decide) ?_
    exact hret _ _ (-5) () _ _ (by omega) w dX0_arrivalAt_22
end
section
set_option maxRecDepth 100000
set_option maxHeartbeats 4000000 in
set_option maxRecDepth 100000 in
/-- catchTrip -/
theorem metX0_catchTrip (lc : Launch) (D : va_G) (d0 : ClassId) (q : Nat → Nat) (t : TT) (ri re be : Nat → Int) (b : Nat) (ok : tOk t) (l i : Nat) (τ : Int) (h5 : l < 5) (h6 : i < 6) (hτ : -1000000 ≤ τ ∧ τ ≤ 1000000) : rp_MI lc D d0 yX0_catchTrip cX0_catchTrip 6 (some .int) (rp_r 0 0) [.ref (q 0), .int (iI ((l : Nat) : Int)), .int (iI ((i : Nat) : Int)), .int (iI (τ))] (XW d0 q t ri re be b) (fun (v : Int) (u : Unit) => v = ctA t l i τ (tT t)) (fun (u : Unit) => XW d0 q t ri re be b) := by
  refine rp_MI.of (by decide) rfl (fun v u h => rfl) (Nat.le_of_ble_eq_true rfl) ?_
  intro p e s m below meth c args A ls Q E hA w hl hret
  have hl : lv_has ls 6 [(0, .ref (q 0)), (1, .int (iI ((l : Nat) : Int))), (2, .int (iI ((i : Nat) : Int))), (3, .int (iI (τ)))] := hl
  have fL := tk_LT ok
  have loop : ∀ n k : Nat, k ≤ tT t → tT t < k + n → ∀ ls, lv_has ls 6 [(0, .ref (q 0)), (1, .int (iI ((l : Nat) : Int))), (2, .int (iI ((i : Nat) : Int))), (3, .int (iI (τ))), (4, .int (iI (ctA t l i τ k))), (5, .int (iI ((k : Nat) : Int)))] → W p lc e (rp_r 0 0) s m args below meth c s.heap [] 0 0 Q (F0 m 7 ls []) := by
    intro n
    induction n with
    | zero =>
      intro k h1 h2
      exact absurd h2 (by omega)
    | succ n ih =>
      intro k h1 h2 ls hl
      have fB := ctA_b ok l i τ k
      refine rp_il E dX0_catchTrip_7 (lv_at hl 5 rfl) ?_
      refine rx_ag (v := .int (iI ((tT t : Nat) : Int))) E w (lv_at hl 0 rfl) 4 (by decide) rfl q39 rfl dX0_catchTrip_9 dX0_catchTrip_10 ?_
      refine rp_cge (tgt := 77) E dX0_catchTrip_13 (by decide) ⟨by omega, by omega⟩ ⟨by omega, by omega⟩ (fun c13 => ?_) (fun c13 => ?_)
      · refine rp_il E dX0_catchTrip_77 (lv_at hl 4 rfl) ?_
        exact hret _ _ (ctA t l i τ k) () _ _ (by rw [show k = tT t by omega]) w dX0_catchTrip_79
      · refine rx_ag E w (lv_at hl 0 rfl) 5 (by decide) rfl q40 rfl dX0_catchTrip_16 dX0_catchTrip_17 ?_
        refine rp_il E dX0_catchTrip_20 (lv_at hl 5 rfl) ?_
        refine rp_ald E w 4 rfl (k) (rfl) (by omega) (by decide) dX0_catchTrip_22 ?_
        have f22 := tk_Lo ok (k)
        refine rp_iln E dX0_catchTrip_23 rfl (lv_at hl 1 rfl) ?_
        refine rp_cne (tgt := 71) E dX0_catchTrip_24 (by decide) ⟨by omega, by omega⟩ ⟨by omega, by omega⟩ (fun c24 => ?_) (fun c24 => ?_)
        · refine rp_iinc (v := ((k + 1 : Nat) : Int)) (lv' := [(0, .ref (q 0)), (1, .int (iI ((l : Nat) : Int))), (2, .int (iI ((i : Nat) : Int))), (3, .int (iI (τ))), (4, .int (iI (ctA t l i τ k))), (5, .int (iI ((k + 1 : Nat) : Int)))]) E [1, 2, 3, 4, 5, 0] dX0_catchTrip_71 hl (k := 5) rfl (by omega) (by decide) rfl (fun ls hl => ?_)
          refine rp_goto (tgt := 7) E dX0_catchTrip_74 (by decide) ?_
          exact ih (k + 1) (by omega) (by omega) ls (by rw [ctA, if_neg (by omega)]; exact hl)
        · refine rx_ag E w (lv_at hl 0 rfl) 6 (by decide) rfl q41 rfl dX0_catchTrip_27 dX0_catchTrip_28 ?_
          refine rp_il E dX0_catchTrip_31 (lv_at hl 5 rfl) ?_
          refine rp_ald E w 5 rfl (k) (rfl) (by omega) (by decide) dX0_catchTrip_33 ?_
          have f33 := tk_So ok (k)
          refine rx_ag E w (lv_at hl 0 rfl) 3 (by decide) rfl q38 rfl dX0_catchTrip_34 dX0_catchTrip_35 ?_
          refine rp_iln E dX0_catchTrip_38 rfl (lv_at hl 1 rfl) ?_
          refine rp_bi E (v := ((6 : Nat) : Int)) dX0_catchTrip_39 (by decide) ?_
          refine rp_mulN E dX0_catchTrip_41 ?_
          refine rp_iln E dX0_catchTrip_42 rfl (lv_at hl 2 rfl) ?_
          refine rp_addN E dX0_catchTrip_43 ?_
          refine rp_ald E w 3 rfl ((l * 6) + i) (rfl) (by omega) (by decide) dX0_catchTrip_44 ?_
          have f44 := tk_Og ok ((l * 6) + i)
          refine rp_add E dX0_catchTrip_45 ?_
          refine rp_iln E dX0_catchTrip_46 rfl (lv_at hl 3 rfl) ?_
          refine rp_clt (tgt := 71) E dX0_catchTrip_47 (by decide) ⟨by omega, by omega⟩ ⟨by omega, by omega⟩ (fun c47 => ?_) (fun c47 => ?_)
          · refine rp_iinc (v := ((k + 1 : Nat) : Int)) (lv' := [(0, .ref (q 0)), (1, .int (iI ((l : Nat) : Int))), (2, .int (iI ((i : Nat) : Int))), (3, .int (iI (τ))), (4, .int (iI (ctA t l i τ k))), (5, .int (iI ((k + 1 : Nat) : Int)))]) E [1, 2, 3, 4, 5, 0] dX0_catchTrip_71 hl (k := 5) rfl (by omega) (by decide) rfl (fun ls hl => ?_)
            refine rp_goto (tgt := 7) E dX0_catchTrip_74 (by decide) ?_
            exact ih (k + 1) (by omega) (by omega) ls (by rw [ctA, if_neg (by omega)]; exact hl)
          · refine rx_ag E w (lv_at hl 0 rfl) 6 (by decide) rfl q41 rfl dX0_catchTrip_50 dX0_catchTrip_51 ?_
            refine rp_il E dX0_catchTrip_54 (lv_at hl 5 rfl) ?_
            refine rp_ald E w 5 rfl (k) (rfl) (by omega) (by decide) dX0_catchTrip_56 ?_
            have f56 := tk_So ok (k)
            refine rp_il E dX0_catchTrip_57 (lv_at hl 4 rfl) ?_
            refine rp_cge (tgt := 71) E dX0_catchTrip_59 (by decide) ⟨by omega, by omega⟩ ⟨by omega, by omega⟩ (fun c59 => ?_) (fun c59 => ?_)
            · refine rp_iinc (v := ((k + 1 : Nat) : Int)) (lv' := [(0, .ref (q 0)), (1, .int (iI ((l : Nat) : Int))), (2, .int (iI ((i : Nat) : Int))), (3, .int (iI (τ))), (4, .int (iI (ctA t l i τ k))), (5, .int (iI ((k + 1 : Nat) : Int)))]) E [1, 2, 3, 4, 5, 0] dX0_catchTrip_71 hl (k := 5) rfl (by omega) (by decide) rfl (fun ls hl => ?_)
              refine rp_goto (tgt := 7) E dX0_catchTrip_74 (by decide) ?_
              exact ih (k + 1) (by omega) (by omega) ls (by rw [ctA, if_neg (by omega)]; exact hl)
            · refine rx_ag E w (lv_at hl 0 rfl) 6 (by decide) rfl q41 rfl dX0_catchTrip_62 dX0_catchTrip_63 ?_
              refine rp_il E dX0_catchTrip_66 (lv_at hl 5 rfl) ?_
              refine rp_ald E w 5 rfl (k) (rfl) (by omega) (by decide) dX0_catchTrip_68 ?_
              have f68 := tk_So ok (k)
              refine rp_is (lv' := [(0, .ref (q 0)), (1, .int (iI ((l : Nat) : Int))), (2, .int (iI ((i : Nat) : Int))), (3, .int (iI (τ))), (4, .int (iI (tSo t (k)))), (5, .int (iI ((k : Nat) : Int)))]) E [1, 2, 3, 4, 0, 5] dX0_catchTrip_69 hl (by decide) rfl (fun ls hl => ?_)
              refine rp_iinc (v := ((k + 1 : Nat) : Int)) (lv' := [(0, .ref (q 0)), (1, .int (iI ((l : Nat) : Int))), (2, .int (iI ((i : Nat) : Int))), (3, .int (iI (τ))), (4, .int (iI (tSo t (k)))), (5, .int (iI ((k + 1 : Nat) : Int)))]) E [1, 2, 3, 4, 5, 0] dX0_catchTrip_71 hl (k := 5) rfl (by omega) (by decide) rfl (fun ls hl => ?_)
              refine rp_goto (tgt := 7) E dX0_catchTrip_74 (by decide) ?_
              exact ih (k + 1) (by omega) (by omega) ls (by rw [ctA, if_pos (by omega)]; exact hl)
  refine rp_ldc E (v := (1000000)) q123 (by decide) dX0_catchTrip_0 ?_
  refine rp_is (lv' := [(0, .ref (q 0)), (1, .int (iI ((l : Nat) : Int))), (2, .int (iI ((i : Nat) : Int))), (3, .int (iI (τ))), (4, .int (iI (1000000)))]) E [1, 2, 3, 4, 0] dX0_catchTrip_2 hl (by decide) rfl (fun ls hl => ?_)
  refine rp_ic E (v := ((0 : Nat) : Int)) dX0_catchTrip_4 rfl ?_
  refine rp_is (lv' := [(0, .ref (q 0)), (1, .int (iI ((l : Nat) : Int))), (2, .int (iI ((i : Nat) : Int))), (3, .int (iI (τ))), (4, .int (iI (1000000))), (5, .int (iI ((0 : Nat) : Int)))]) E [1, 2, 3, 4, 5, 0] dX0_catchTrip_5 hl (by decide) rfl (fun ls hl => ?_)
  exact loop (tT t + 1) 0 (by omega) (by omega) ls (by rw [ctA]; exact hl)
set_option maxHeartbeats 4000000 in
set_option maxRecDepth 100000 in
/-- meetTrip -/
theorem metX0_meetTrip (lc : Launch) (D : va_G) (d0 : ClassId) (q : Nat → Nat) (t : TT) (ri re be : Nat → Int) (b : Nat) (ok : tOk t) (l i : Nat) (τ : Int) (h5 : l < 5) (h6 : i < 6) (hτ : -1000000 ≤ τ ∧ τ ≤ 1000000) : rp_MI lc D d0 yX0_meetTrip cX0_meetTrip 6 (some .int) (rp_r 0 0) [.ref (q 0), .int (iI ((l : Nat) : Int)), .int (iI ((i : Nat) : Int)), .int (iI (τ))] (XW d0 q t ri re be b) (fun (v : Int) (u : Unit) => v = mtA t l i τ (tT t)) (fun (u : Unit) => XW d0 q t ri re be b) := by
  refine rp_MI.of (by decide) rfl (fun v u h => rfl) (Nat.le_of_ble_eq_true rfl) ?_
  intro p e s m below meth c args A ls Q E hA w hl hret
  have hl : lv_has ls 6 [(0, .ref (q 0)), (1, .int (iI ((l : Nat) : Int))), (2, .int (iI ((i : Nat) : Int))), (3, .int (iI (τ)))] := hl
  have fL := tk_LT ok
  have loop : ∀ n k : Nat, k ≤ tT t → tT t < k + n → ∀ ls, lv_has ls 6 [(0, .ref (q 0)), (1, .int (iI ((l : Nat) : Int))), (2, .int (iI ((i : Nat) : Int))), (3, .int (iI (τ))), (4, .int (iI (mtA t l i τ k))), (5, .int (iI ((k : Nat) : Int)))] → W p lc e (rp_r 0 0) s m args below meth c s.heap [] 0 0 Q (F0 m 7 ls []) := by
    intro n
    induction n with
    | zero =>
      intro k h1 h2
      exact absurd h2 (by omega)
    | succ n ih =>
      intro k h1 h2 ls hl
      have fB := mtA_b ok l i τ k
      refine rp_il E dX0_meetTrip_7 (lv_at hl 5 rfl) ?_
      refine rx_ag (v := .int (iI ((tT t : Nat) : Int))) E w (lv_at hl 0 rfl) 4 (by decide) rfl q39 rfl dX0_meetTrip_9 dX0_meetTrip_10 ?_
      refine rp_cge (tgt := 77) E dX0_meetTrip_13 (by decide) ⟨by omega, by omega⟩ ⟨by omega, by omega⟩ (fun c13 => ?_) (fun c13 => ?_)
      · refine rp_il E dX0_meetTrip_77 (lv_at hl 4 rfl) ?_
        exact hret _ _ (mtA t l i τ k) () _ _ (by rw [show k = tT t by omega]) w dX0_meetTrip_79
      · refine rx_ag E w (lv_at hl 0 rfl) 5 (by decide) rfl q40 rfl dX0_meetTrip_16 dX0_meetTrip_17 ?_
        refine rp_il E dX0_meetTrip_20 (lv_at hl 5 rfl) ?_
        refine rp_ald E w 4 rfl (k) (rfl) (by omega) (by decide) dX0_meetTrip_22 ?_
        have f22 := tk_Lo ok (k)
        refine rp_iln E dX0_meetTrip_23 rfl (lv_at hl 1 rfl) ?_
        refine rp_cne (tgt := 71) E dX0_meetTrip_24 (by decide) ⟨by omega, by omega⟩ ⟨by omega, by omega⟩ (fun c24 => ?_) (fun c24 => ?_)
        · refine rp_iinc (v := ((k + 1 : Nat) : Int)) (lv' := [(0, .ref (q 0)), (1, .int (iI ((l : Nat) : Int))), (2, .int (iI ((i : Nat) : Int))), (3, .int (iI (τ))), (4, .int (iI (mtA t l i τ k))), (5, .int (iI ((k + 1 : Nat) : Int)))]) E [1, 2, 3, 4, 5, 0] dX0_meetTrip_71 hl (k := 5) rfl (by omega) (by decide) rfl (fun ls hl => ?_)
          refine rp_goto (tgt := 7) E dX0_meetTrip_74 (by decide) ?_
          exact ih (k + 1) (by omega) (by omega) ls (by rw [mtA, if_neg (by omega)]; exact hl)
        · refine rx_ag E w (lv_at hl 0 rfl) 6 (by decide) rfl q41 rfl dX0_meetTrip_27 dX0_meetTrip_28 ?_
          refine rp_il E dX0_meetTrip_31 (lv_at hl 5 rfl) ?_
          refine rp_ald E w 5 rfl (k) (rfl) (by omega) (by decide) dX0_meetTrip_33 ?_
          have f33 := tk_So ok (k)
          refine rx_ag E w (lv_at hl 0 rfl) 3 (by decide) rfl q38 rfl dX0_meetTrip_34 dX0_meetTrip_35 ?_
          refine rp_iln E dX0_meetTrip_38 rfl (lv_at hl 1 rfl) ?_
          refine rp_bi E (v := ((6 : Nat) : Int)) dX0_meetTrip_39 (by decide) ?_
          refine rp_mulN E dX0_meetTrip_41 ?_
          refine rp_iln E dX0_meetTrip_42 rfl (lv_at hl 2 rfl) ?_
          refine rp_addN E dX0_meetTrip_43 ?_
          refine rp_ald E w 3 rfl ((l * 6) + i) (rfl) (by omega) (by decide) dX0_meetTrip_44 ?_
          have f44 := tk_Og ok ((l * 6) + i)
          refine rp_add E dX0_meetTrip_45 ?_
          refine rp_iln E dX0_meetTrip_46 rfl (lv_at hl 3 rfl) ?_
          refine rp_cgt (tgt := 71) E dX0_meetTrip_47 (by decide) ⟨by omega, by omega⟩ ⟨by omega, by omega⟩ (fun c47 => ?_) (fun c47 => ?_)
          · refine rp_iinc (v := ((k + 1 : Nat) : Int)) (lv' := [(0, .ref (q 0)), (1, .int (iI ((l : Nat) : Int))), (2, .int (iI ((i : Nat) : Int))), (3, .int (iI (τ))), (4, .int (iI (mtA t l i τ k))), (5, .int (iI ((k + 1 : Nat) : Int)))]) E [1, 2, 3, 4, 5, 0] dX0_meetTrip_71 hl (k := 5) rfl (by omega) (by decide) rfl (fun ls hl => ?_)
            refine rp_goto (tgt := 7) E dX0_meetTrip_74 (by decide) ?_
            exact ih (k + 1) (by omega) (by omega) ls (by rw [mtA, if_neg (by omega)]; exact hl)
          · refine rx_ag E w (lv_at hl 0 rfl) 6 (by decide) rfl q41 rfl dX0_meetTrip_50 dX0_meetTrip_51 ?_
            refine rp_il E dX0_meetTrip_54 (lv_at hl 5 rfl) ?_
            refine rp_ald E w 5 rfl (k) (rfl) (by omega) (by decide) dX0_meetTrip_56 ?_
            have f56 := tk_So ok (k)
            refine rp_il E dX0_meetTrip_57 (lv_at hl 4 rfl) ?_
            refine rp_cle (tgt := 71) E dX0_meetTrip_59 (by decide) ⟨by omega, by omega⟩ ⟨by omega, by omega⟩ (fun c59 => ?_) (fun c59 => ?_)
            · refine rp_iinc (v := ((k + 1 : Nat) : Int)) (lv' := [(0, .ref (q 0)), (1, .int (iI ((l : Nat) : Int))), (2, .int (iI ((i : Nat) : Int))), (3, .int (iI (τ))), (4, .int (iI (mtA t l i τ k))), (5, .int (iI ((k + 1 : Nat) : Int)))]) E [1, 2, 3, 4, 5, 0] dX0_meetTrip_71 hl (k := 5) rfl (by omega) (by decide) rfl (fun ls hl => ?_)
              refine rp_goto (tgt := 7) E dX0_meetTrip_74 (by decide) ?_
              exact ih (k + 1) (by omega) (by omega) ls (by rw [mtA, if_neg (by omega)]; exact hl)
            · refine rx_ag E w (lv_at hl 0 rfl) 6 (by decide) rfl q41 rfl dX0_meetTrip_62 dX0_meetTrip_63 ?_
              refine rp_il E dX0_meetTrip_66 (lv_at hl 5 rfl) ?_
              refine rp_ald E w 5 rfl (k) (rfl) (by omega) (by decide) dX0_meetTrip_68 ?_
              have f68 := tk_So ok (k)
              refine rp_is (lv' := [(0, .ref (q 0)), (1, .int (iI ((l : Nat) : Int))), (2, .int (iI ((i : Nat) : Int))), (3, .int (iI (τ))), (4, .int (iI (tSo t (k)))), (5, .int (iI ((k : Nat) : Int)))]) E [1, 2, 3, 4, 0, 5] dX0_meetTrip_69 hl (by decide) rfl (fun ls hl => ?_)
              refine rp_iinc (v := ((k + 1 : Nat) : Int)) (lv' := [(0, .ref (q 0)), (1, .int (iI ((l : Nat) : Int))), (2, .int (iI ((i : Nat) : Int))), (3, .int (iI (τ))), (4, .int (iI (tSo t (k)))), (5, .int (iI ((k + 1 : Nat) : Int)))]) E [1, 2, 3, 4, 5, 0] dX0_meetTrip_71 hl (k := 5) rfl (by omega) (by decide) rfl (fun ls hl => ?_)
              refine rp_goto (tgt := 7) E dX0_meetTrip_74 (by decide) ?_
              exact ih (k + 1) (by omega) (by omega) ls (by rw [mtA, if_pos (by omega)]; exact hl)
  refine rp_ldc E (v := (-1000000)) q160 (by decide) dX0_meetTrip_0 ?_
  refine rp_is (lv' := [(0, .ref (q 0)), (1, .int (iI ((l : Nat) : Int))), (2, .int (iI ((i : Nat) : Int))), (3, .int (iI (τ))), (4, .int (iI (-1000000)))]) E [1, 2, 3, 4, 0] dX0_meetTrip_2 hl (by decide) rfl (fun ls hl => ?_)
  refine rp_ic E (v := ((0 : Nat) : Int)) dX0_meetTrip_4 rfl ?_
  refine rp_is (lv' := [(0, .ref (q 0)), (1, .int (iI ((l : Nat) : Int))), (2, .int (iI ((i : Nat) : Int))), (3, .int (iI (τ))), (4, .int (iI (-1000000))), (5, .int (iI ((0 : Nat) : Int)))]) E [1, 2, 3, 4, 5, 0] dX0_meetTrip_5 hl (by decide) rfl (fun ls hl => ?_)
  exact loop (tT t + 1) 0 (by omega) (by omega) ls (by rw [mtA]; exact hl)
end
section
set_option maxRecDepth 100000
set_option maxHeartbeats 4000000 in
set_option maxRecDepth 100000 in
/-- rideLine -/
theorem metX0_rideLine (lc : Launch) (D : va_G) (d0 : ClassId) (q : Nat → Nat) (t : TT) (ri re be : Nat → Int) (b : Nat) (ok : tOk t) (l : Nat) (h5 : l < 5) (hb : b < 256) (hbe : bR be 8) (hri : bR ri 8) : rp_MV lc D d0 yX0_rideLine cX0_rideLine 8 (rp_r 1 25) [.ref (q 0), .int (iI ((l : Nat) : Int))] (XW d0 q t ri re be b) (fun (u : Unit) => True) (fun (u : Unit) => XW d0 q t (rlR t l b be ri (tSz t l)) re be b) := by
  refine rp_MV.of (by decide) rfl (Nat.le_of_ble_eq_true rfl) ?_
  intro p e s m below meth c args A ls Q E hA w hl hret
  have hl : lv_has ls 8 [(0, .ref (q 0)), (1, .int (iI ((l : Nat) : Int)))] := hl
  have fL := tk_LT ok
  have fz := tk_Sz ok l
  have loop : ∀ n i : Nat, i ≤ tSz t l → tSz t l < i + n → ∀ H locs, rp_H D A s.heap H locs (XW d0 q t (rlR t l b be ri i) re be b) → ∀ ls, lv_has ls 8 [(0, .ref (q 0)), (1, .int (iI ((l : Nat) : Int))), (2, .int (iI (rlS t l b be i))), (3, .int (iI ((i : Nat) : Int)))] → W p lc e (rp_r 1 25) s m args below meth c H locs 0 0 Q (F0 m 5 ls []) := by
    intro n
    induction n with
    | zero =>
      intro i h1 h2
      exact absurd h2 (by omega)
    | succ n ih =>
      intro i h1 h2 H locs w ls hl
      have fS := rlS_b ok l b be i
      have fs := tk_St ok (l * 6 + i)
      have fg := tk_Og ok (l * 6 + i)
      have fr := rlR_b ok l b be ri hri i _ fs
      have fb := hbe _ fs
      have J70 : i < tSz t l → ∀ H locs, rp_H D A s.heap H locs (XW d0 q t (rlR t l b be ri (i + 1)) re be b) → ∀ ls, lv_has ls 8 [(0, .ref (q 0)), (1, .int (iI ((l : Nat) : Int))), (2, .int (iI (rlS t l b be i))), (3, .int (iI ((i : Nat) : Int))), (4, .int (iI ((tSt t (l * 6 + i) : Nat) : Int))), (5, .int (iI ((rlS t l b be i) + (tOg t (l * 6 + i)))))] → W p lc e (rp_r 1 25) s m args below meth c H locs 0 0 Q (F0 m 70 ls []) := by
        intro hi H locs w ls hl
        refine rx_ag (v := .int (iI ((b : Nat) : Int))) E w (lv_at hl 0 rfl) 11 (by decide) rfl q46 rfl dX0_rideLine_70 dX0_rideLine_71 ?_
        refine rp_il E dX0_rideLine_74 (lv_at hl 4 rfl) ?_
        refine rp_shrN E (by omega) (by omega) dX0_rideLine_76 ?_
        refine rp_ic E (v := ((1 : Nat) : Int)) dX0_rideLine_77 rfl ?_
        refine rp_and1 E (Nat.lt_of_le_of_lt (Nat.div_le_self _ _) (by omega)) dX0_rideLine_78 ?_
        have f78 : b / 2 ^ (tSt t (l * 6 + i)) % 2 < 2 := Nat.mod_lt _ (by decide)
        refine rp_ic E (v := ((1 : Nat) : Int)) dX0_rideLine_79 rfl ?_
        refine rp_cne (tgt := 87) E dX0_rideLine_80 (by decide) ⟨by omega, by omega⟩ ⟨by omega, by omega⟩ (fun c80 => ?_) (fun c80 => ?_)
        · refine rp_ic E (v := ((0 : Nat) : Int)) dX0_rideLine_87 rfl ?_
          refine rp_is (lv' := [(0, .ref (q 0)), (1, .int (iI ((l : Nat) : Int))), (2, .int (iI (rlS t l b be i))), (3, .int (iI ((i : Nat) : Int))), (4, .int (iI ((tSt t (l * 6 + i) : Nat) : Int))), (5, .int (iI ((rlS t l b be i) + (tOg t (l * 6 + i))))), (6, .int (iI ((0 : Nat) : Int)))]) E [1, 2, 3, 4, 5, 6, 0] dX0_rideLine_88 hl (by decide) rfl (fun ls hl => ?_)
          refine rp_il E dX0_rideLine_90 (lv_at hl 6 rfl) ?_
          refine rp_feq (tgt := 137) E dX0_rideLine_92 (by decide) ⟨by omega, by omega⟩ (fun c92 => ?_) (fun c92 => ?_)
          · refine rp_iinc (v := ((i + 1 : Nat) : Int)) (lv' := [(0, .ref (q 0)), (1, .int (iI ((l : Nat) : Int))), (2, .int (iI (rlS t l b be i))), (3, .int (iI ((i + 1 : Nat) : Int))), (4, .int (iI ((tSt t (l * 6 + i) : Nat) : Int))), (5, .int (iI ((rlS t l b be i) + (tOg t (l * 6 + i))))), (6, .int (iI ((0 : Nat) : Int)))]) E [1, 2, 3, 0, 4, 5, 6] dX0_rideLine_137 hl (k := 3) rfl (by omega) (by decide) rfl (fun ls hl => ?_)
            refine rp_goto (tgt := 5) E dX0_rideLine_140 (by decide) ?_
            exact ih (i + 1) (by omega) (by omega) _ _ w ls (by rw [rlS, if_neg (by omega)]; exact lv_sub hl [0, 1, 2, 3] rfl)
          · exact False.elim (by omega)
        · refine rp_ic E (v := ((1 : Nat) : Int)) dX0_rideLine_83 rfl ?_
          refine rp_goto (tgt := 88) E dX0_rideLine_84 (by decide) ?_
          refine rp_is (lv' := [(0, .ref (q 0)), (1, .int (iI ((l : Nat) : Int))), (2, .int (iI (rlS t l b be i))), (3, .int (iI ((i : Nat) : Int))), (4, .int (iI ((tSt t (l * 6 + i) : Nat) : Int))), (5, .int (iI ((rlS t l b be i) + (tOg t (l * 6 + i))))), (6, .int (iI ((1 : Nat) : Int)))]) E [1, 2, 3, 4, 5, 6, 0] dX0_rideLine_88 hl (by decide) rfl (fun ls hl => ?_)
          refine rp_il E dX0_rideLine_90 (lv_at hl 6 rfl) ?_
          refine rp_feq (tgt := 137) E dX0_rideLine_92 (by decide) ⟨by omega, by omega⟩ (fun c92 => ?_) (fun c92 => ?_)
          · exact False.elim (by omega)
          · refine rp_iln E dX0_rideLine_95 rfl (lv_at hl 2 rfl) ?_
            refine rp_ldc E (v := (1000000)) q123 (by decide) dX0_rideLine_96 ?_
            refine rp_ceq (tgt := 113) E dX0_rideLine_98 (by decide) ⟨by omega, by omega⟩ ⟨by omega, by omega⟩ (fun c98 => ?_) (fun c98 => ?_)
            · refine rp_aln E dX0_rideLine_113 rfl (lv_at hl 0 rfl) ?_
              refine rp_iln E dX0_rideLine_114 rfl (lv_at hl 1 rfl) ?_
              refine rp_iln E dX0_rideLine_115 rfl (lv_at hl 3 rfl) ?_
              refine rx_ag E w (lv_at hl 0 rfl) 10 (by decide) rfl q45 rfl dX0_rideLine_116 dX0_rideLine_117 ?_
              refine rp_il E dX0_rideLine_120 (lv_at hl 4 rfl) ?_
              refine rp_ald E w 9 rfl (tSt t (l * 6 + i)) (rfl) (by omega) (by decide) dX0_rideLine_122 ?_
              refine rp_calli (rest := []) E w hA (metX0_catchTrip lc D d0 q t _ re be b ok l i (be (tSt t (l * 6 + i))) h5 (by omega) fb) (cwV 3 E.1.2.2.2.2 (lw_V q136 q138 qs8 q25 q139) rfl rfl rfl (by decide +kernel) ⟨Nat.le_of_ble_eq_true rfl, Nat.le_of_ble_eq_true rfl⟩) (rx_rcv E w) rfl hl.1 rfl (Nat.le_of_ble_eq_true rfl) dX0_rideLine_123 ⟨Nat.zero_le _, Nat.zero_le _⟩ (fun vc uc H locs hpc w => ?_)
              subst hpc
              have fc := ctA_b ok l i (be (tSt t (l * 6 + i))) (tT t)
              refine rp_is (lv' := [(0, .ref (q 0)), (1, .int (iI ((l : Nat) : Int))), (2, .int (iI (rlS t l b be i))), (3, .int (iI ((i : Nat) : Int))), (4, .int (iI ((tSt t (l * 6 + i) : Nat) : Int))), (5, .int (iI ((rlS t l b be i) + (tOg t (l * 6 + i))))), (6, .int (iI ((1 : Nat) : Int))), (7, .int (iI (ctA t l i (be (tSt t (l * 6 + i))) (tT t))))]) E [1, 2, 3, 4, 5, 6, 7, 0] dX0_rideLine_126 hl (by decide) rfl (fun ls hl => ?_)
              refine rp_il E dX0_rideLine_128 (lv_at hl 7 rfl) ?_
              refine rp_iln E dX0_rideLine_130 rfl (lv_at hl 2 rfl) ?_
              refine rp_cge (tgt := 137) E dX0_rideLine_131 (by decide) ⟨by omega, by omega⟩ ⟨by omega, by omega⟩ (fun c131 => ?_) (fun c131 => ?_)
              · refine rp_iinc (v := ((i + 1 : Nat) : Int)) (lv' := [(0, .ref (q 0)), (1, .int (iI ((l : Nat) : Int))), (2, .int (iI (rlS t l b be i))), (3, .int (iI ((i + 1 : Nat) : Int))), (4, .int (iI ((tSt t (l * 6 + i) : Nat) : Int))), (5, .int (iI ((rlS t l b be i) + (tOg t (l * 6 + i))))), (6, .int (iI ((1 : Nat) : Int))), (7, .int (iI (ctA t l i (be (tSt t (l * 6 + i))) (tT t))))]) E [1, 2, 3, 0, 4, 5, 6, 7] dX0_rideLine_137 hl (k := 3) rfl (by omega) (by decide) rfl (fun ls hl => ?_)
                refine rp_goto (tgt := 5) E dX0_rideLine_140 (by decide) ?_
                exact ih (i + 1) (by omega) (by omega) _ _ w ls (by rw [rlS, if_neg (by omega)]; exact lv_sub hl [0, 1, 2, 3] rfl)
              · refine rp_il E dX0_rideLine_134 (lv_at hl 7 rfl) ?_
                refine rp_isn (lv' := [(0, .ref (q 0)), (1, .int (iI ((l : Nat) : Int))), (2, .int (iI (ctA t l i (be (tSt t (l * 6 + i))) (tT t)))), (3, .int (iI ((i : Nat) : Int))), (4, .int (iI ((tSt t (l * 6 + i) : Nat) : Int))), (5, .int (iI ((rlS t l b be i) + (tOg t (l * 6 + i))))), (6, .int (iI ((1 : Nat) : Int))), (7, .int (iI (ctA t l i (be (tSt t (l * 6 + i))) (tT t))))]) E [1, 2, 0, 3, 4, 5, 6, 7] dX0_rideLine_136 rfl hl (by decide) rfl (fun ls hl => ?_)
                refine rp_iinc (v := ((i + 1 : Nat) : Int)) (lv' := [(0, .ref (q 0)), (1, .int (iI ((l : Nat) : Int))), (2, .int (iI (ctA t l i (be (tSt t (l * 6 + i))) (tT t)))), (3, .int (iI ((i + 1 : Nat) : Int))), (4, .int (iI ((tSt t (l * 6 + i) : Nat) : Int))), (5, .int (iI ((rlS t l b be i) + (tOg t (l * 6 + i))))), (6, .int (iI ((1 : Nat) : Int))), (7, .int (iI (ctA t l i (be (tSt t (l * 6 + i))) (tT t))))]) E [1, 2, 3, 0, 4, 5, 6, 7] dX0_rideLine_137 hl (k := 3) rfl (by omega) (by decide) rfl (fun ls hl => ?_)
                refine rp_goto (tgt := 5) E dX0_rideLine_140 (by decide) ?_
                exact ih (i + 1) (by omega) (by omega) _ _ w ls (by rw [rlS, if_pos (by omega)]; exact lv_sub hl [0, 1, 2, 3] rfl)
            · refine rx_ag E w (lv_at hl 0 rfl) 10 (by decide) rfl q45 rfl dX0_rideLine_101 dX0_rideLine_102 ?_
              refine rp_il E dX0_rideLine_105 (lv_at hl 4 rfl) ?_
              refine rp_ald E w 9 rfl (tSt t (l * 6 + i)) (rfl) (by omega) (by decide) dX0_rideLine_107 ?_
              refine rp_il E dX0_rideLine_108 (lv_at hl 5 rfl) ?_
              refine rp_cge (tgt := 137) E dX0_rideLine_110 (by decide) ⟨by omega, by omega⟩ ⟨by omega, by omega⟩ (fun c110 => ?_) (fun c110 => ?_)
              · refine rp_iinc (v := ((i + 1 : Nat) : Int)) (lv' := [(0, .ref (q 0)), (1, .int (iI ((l : Nat) : Int))), (2, .int (iI (rlS t l b be i))), (3, .int (iI ((i + 1 : Nat) : Int))), (4, .int (iI ((tSt t (l * 6 + i) : Nat) : Int))), (5, .int (iI ((rlS t l b be i) + (tOg t (l * 6 + i))))), (6, .int (iI ((1 : Nat) : Int)))]) E [1, 2, 3, 0, 4, 5, 6] dX0_rideLine_137 hl (k := 3) rfl (by omega) (by decide) rfl (fun ls hl => ?_)
                refine rp_goto (tgt := 5) E dX0_rideLine_140 (by decide) ?_
                exact ih (i + 1) (by omega) (by omega) _ _ w ls (by rw [rlS, if_neg (by omega)]; exact lv_sub hl [0, 1, 2, 3] rfl)
              · refine rp_aln E dX0_rideLine_113 rfl (lv_at hl 0 rfl) ?_
                refine rp_iln E dX0_rideLine_114 rfl (lv_at hl 1 rfl) ?_
                refine rp_iln E dX0_rideLine_115 rfl (lv_at hl 3 rfl) ?_
                refine rx_ag E w (lv_at hl 0 rfl) 10 (by decide) rfl q45 rfl dX0_rideLine_116 dX0_rideLine_117 ?_
                refine rp_il E dX0_rideLine_120 (lv_at hl 4 rfl) ?_
                refine rp_ald E w 9 rfl (tSt t (l * 6 + i)) (rfl) (by omega) (by decide) dX0_rideLine_122 ?_
                refine rp_calli (rest := []) E w hA (metX0_catchTrip lc D d0 q t _ re be b ok l i (be (tSt t (l * 6 + i))) h5 (by omega) fb) (cwV 3 E.1.2.2.2.2 (lw_V q136 q138 qs8 q25 q139) rfl rfl rfl (by decide +kernel) ⟨Nat.le_of_ble_eq_true rfl, Nat.le_of_ble_eq_true rfl⟩) (rx_rcv E w) rfl hl.1 rfl (Nat.le_of_ble_eq_true rfl) dX0_rideLine_123 ⟨Nat.zero_le _, Nat.zero_le _⟩ (fun vc uc H locs hpc w => ?_)
                subst hpc
                have fc := ctA_b ok l i (be (tSt t (l * 6 + i))) (tT t)
                refine rp_is (lv' := [(0, .ref (q 0)), (1, .int (iI ((l : Nat) : Int))), (2, .int (iI (rlS t l b be i))), (3, .int (iI ((i : Nat) : Int))), (4, .int (iI ((tSt t (l * 6 + i) : Nat) : Int))), (5, .int (iI ((rlS t l b be i) + (tOg t (l * 6 + i))))), (6, .int (iI ((1 : Nat) : Int))), (7, .int (iI (ctA t l i (be (tSt t (l * 6 + i))) (tT t))))]) E [1, 2, 3, 4, 5, 6, 7, 0] dX0_rideLine_126 hl (by decide) rfl (fun ls hl => ?_)
                refine rp_il E dX0_rideLine_128 (lv_at hl 7 rfl) ?_
                refine rp_iln E dX0_rideLine_130 rfl (lv_at hl 2 rfl) ?_
                refine rp_cge (tgt := 137) E dX0_rideLine_131 (by decide) ⟨by omega, by omega⟩ ⟨by omega, by omega⟩ (fun c131 => ?_) (fun c131 => ?_)
                · refine rp_iinc (v := ((i + 1 : Nat) : Int)) (lv' := [(0, .ref (q 0)), (1, .int (iI ((l : Nat) : Int))), (2, .int (iI (rlS t l b be i))), (3, .int (iI ((i + 1 : Nat) : Int))), (4, .int (iI ((tSt t (l * 6 + i) : Nat) : Int))), (5, .int (iI ((rlS t l b be i) + (tOg t (l * 6 + i))))), (6, .int (iI ((1 : Nat) : Int))), (7, .int (iI (ctA t l i (be (tSt t (l * 6 + i))) (tT t))))]) E [1, 2, 3, 0, 4, 5, 6, 7] dX0_rideLine_137 hl (k := 3) rfl (by omega) (by decide) rfl (fun ls hl => ?_)
                  refine rp_goto (tgt := 5) E dX0_rideLine_140 (by decide) ?_
                  exact ih (i + 1) (by omega) (by omega) _ _ w ls (by rw [rlS, if_neg (by omega)]; exact lv_sub hl [0, 1, 2, 3] rfl)
                · refine rp_il E dX0_rideLine_134 (lv_at hl 7 rfl) ?_
                  refine rp_isn (lv' := [(0, .ref (q 0)), (1, .int (iI ((l : Nat) : Int))), (2, .int (iI (ctA t l i (be (tSt t (l * 6 + i))) (tT t)))), (3, .int (iI ((i : Nat) : Int))), (4, .int (iI ((tSt t (l * 6 + i) : Nat) : Int))), (5, .int (iI ((rlS t l b be i) + (tOg t (l * 6 + i))))), (6, .int (iI ((1 : Nat) : Int))), (7, .int (iI (ctA t l i (be (tSt t (l * 6 + i))) (tT t))))]) E [1, 2, 0, 3, 4, 5, 6, 7] dX0_rideLine_136 rfl hl (by decide) rfl (fun ls hl => ?_)
                  refine rp_iinc (v := ((i + 1 : Nat) : Int)) (lv' := [(0, .ref (q 0)), (1, .int (iI ((l : Nat) : Int))), (2, .int (iI (ctA t l i (be (tSt t (l * 6 + i))) (tT t)))), (3, .int (iI ((i + 1 : Nat) : Int))), (4, .int (iI ((tSt t (l * 6 + i) : Nat) : Int))), (5, .int (iI ((rlS t l b be i) + (tOg t (l * 6 + i))))), (6, .int (iI ((1 : Nat) : Int))), (7, .int (iI (ctA t l i (be (tSt t (l * 6 + i))) (tT t))))]) E [1, 2, 3, 0, 4, 5, 6, 7] dX0_rideLine_137 hl (k := 3) rfl (by omega) (by decide) rfl (fun ls hl => ?_)
                  refine rp_goto (tgt := 5) E dX0_rideLine_140 (by decide) ?_
                  exact ih (i + 1) (by omega) (by omega) _ _ w ls (by rw [rlS, if_pos (by omega)]; exact lv_sub hl [0, 1, 2, 3] rfl)
      refine rp_iln E dX0_rideLine_5 rfl (lv_at hl 3 rfl) ?_
      refine rx_ag E w (lv_at hl 0 rfl) 1 (by decide) rfl q36 rfl dX0_rideLine_6 dX0_rideLine_7 ?_
      refine rp_iln E dX0_rideLine_10 rfl (lv_at hl 1 rfl) ?_
      refine rp_ald E w 1 rfl (l) (rfl) (by omega) (by decide) dX0_rideLine_11 ?_
      refine rp_cge (tgt := 143) E dX0_rideLine_12 (by decide) ⟨by omega, by omega⟩ ⟨by omega, by omega⟩ (fun c12 => ?_) (fun c12 => ?_)
      · exact hret _ _ () _ _ (trivial) (by rw [← show i = tSz t l by omega]; exact w) dX0_rideLine_143
      · refine rx_ag E w (lv_at hl 0 rfl) 2 (by decide) rfl q37 rfl dX0_rideLine_15 dX0_rideLine_16 ?_
        refine rp_iln E dX0_rideLine_19 rfl (lv_at hl 1 rfl) ?_
        refine rp_bi E (v := ((6 : Nat) : Int)) dX0_rideLine_20 (by decide) ?_
        refine rp_mulN E dX0_rideLine_22 ?_
        refine rp_iln E dX0_rideLine_23 rfl (lv_at hl 3 rfl) ?_
        refine rp_addN E dX0_rideLine_24 ?_
        refine rp_ald E w 2 rfl ((l * 6) + i) (rfl) (by omega) (by decide) dX0_rideLine_25 ?_
        refine rp_is (lv' := [(0, .ref (q 0)), (1, .int (iI ((l : Nat) : Int))), (2, .int (iI (rlS t l b be i))), (3, .int (iI ((i : Nat) : Int))), (4, .int (iI ((tSt t ((l * 6) + i) : Nat) : Int)))]) E [1, 2, 3, 4, 0] dX0_rideLine_26 hl (by decide) rfl (fun ls hl => ?_)
        refine rp_iln E dX0_rideLine_28 rfl (lv_at hl 2 rfl) ?_
        refine rx_ag E w (lv_at hl 0 rfl) 3 (by decide) rfl q38 rfl dX0_rideLine_29 dX0_rideLine_30 ?_
        refine rp_iln E dX0_rideLine_33 rfl (lv_at hl 1 rfl) ?_
        refine rp_bi E (v := ((6 : Nat) : Int)) dX0_rideLine_34 (by decide) ?_
        refine rp_mulN E dX0_rideLine_36 ?_
        refine rp_iln E dX0_rideLine_37 rfl (lv_at hl 3 rfl) ?_
        refine rp_addN E dX0_rideLine_38 ?_
        refine rp_ald E w 3 rfl ((l * 6) + i) (rfl) (by omega) (by decide) dX0_rideLine_39 ?_
        refine rp_add E dX0_rideLine_40 ?_
        refine rp_is (lv' := [(0, .ref (q 0)), (1, .int (iI ((l : Nat) : Int))), (2, .int (iI (rlS t l b be i))), (3, .int (iI ((i : Nat) : Int))), (4, .int (iI ((tSt t ((l * 6) + i) : Nat) : Int))), (5, .int (iI ((rlS t l b be i) + (tOg t ((l * 6) + i)))))]) E [1, 2, 3, 4, 5, 0] dX0_rideLine_41 hl (by decide) rfl (fun ls hl => ?_)
        refine rp_iln E dX0_rideLine_43 rfl (lv_at hl 2 rfl) ?_
        refine rp_ldc E (v := (1000000)) q123 (by decide) dX0_rideLine_44 ?_
        refine rp_cge (tgt := 70) E dX0_rideLine_46 (by decide) ⟨by omega, by omega⟩ ⟨by omega, by omega⟩ (fun c46 => ?_) (fun c46 => ?_)
        · exact J70 (by omega) _ _ (by rw [rlR, if_neg (by omega)]; exact w) ls hl
        · refine rp_il E dX0_rideLine_49 (lv_at hl 5 rfl) ?_
          refine rx_ag E w (lv_at hl 0 rfl) 8 (by decide) rfl q43 rfl dX0_rideLine_51 dX0_rideLine_52 ?_
          refine rp_il E dX0_rideLine_55 (lv_at hl 4 rfl) ?_
          refine rp_ald E w 7 rfl (tSt t ((l * 6) + i)) (rfl) (by omega) (by decide) dX0_rideLine_57 ?_
          refine rp_cge (tgt := 70) E dX0_rideLine_58 (by decide) ⟨by omega, by omega⟩ ⟨by omega, by omega⟩ (fun c58 => ?_) (fun c58 => ?_)
          · exact J70 (by omega) _ _ (by rw [rlR, if_neg (by omega)]; exact w) ls hl
          · refine rx_ag E w (lv_at hl 0 rfl) 8 (by decide) rfl q43 rfl dX0_rideLine_61 dX0_rideLine_62 ?_
            refine rp_il E dX0_rideLine_65 (lv_at hl 4 rfl) ?_
            refine rp_il E dX0_rideLine_67 (lv_at hl 5 rfl) ?_
            refine rp_ast E w 7 rfl (tSt t ((l * 6) + i)) (rfl) (by omega) (by decide) dX0_rideLine_69 (fun H locs w => ?_)
            have w : rp_H D A s.heap H locs (XW d0 q t (upI (rlR t l b be ri i) (tSt t ((l * 6) + i)) (((rlS t l b be i) + (tOg t ((l * 6) + i))))) re be b) := w
            exact J70 (by omega) _ _ (by rw [rlR, if_pos (by omega)]; exact w) ls hl
  refine rp_ldc E (v := (1000000)) q123 (by decide) dX0_rideLine_0 ?_
  refine rp_isn (lv' := [(0, .ref (q 0)), (1, .int (iI ((l : Nat) : Int))), (2, .int (iI (1000000)))]) E [1, 2, 0] dX0_rideLine_2 rfl hl (by decide) rfl (fun ls hl => ?_)
  refine rp_ic E (v := ((0 : Nat) : Int)) dX0_rideLine_3 rfl ?_
  refine rp_isn (lv' := [(0, .ref (q 0)), (1, .int (iI ((l : Nat) : Int))), (2, .int (iI (1000000))), (3, .int (iI ((0 : Nat) : Int)))]) E [1, 2, 3, 0] dX0_rideLine_4 rfl hl (by decide) rfl (fun ls hl => ?_)
  exact loop (tSz t l + 1) 0 (by omega) (by omega) _ _ (by rw [rlR]; exact w) ls (by rw [rlS]; exact hl)
end
section
set_option maxRecDepth 100000
set_option maxHeartbeats 4000000 in
set_option maxRecDepth 100000 in
/-- walkOn -/
theorem metX0_walkOn (lc : Launch) (D : va_G) (d0 : ClassId) (q : Nat → Nat) (t : TT) (ri re be : Nat → Int) (b : Nat) (ok : tOk t) (hri : bR ri 8) (hre : bR re 8) : rp_MV lc D d0 yX0_walkOn cX0_walkOn 5 (rp_r 0 0) [.ref (q 0)] (XW d0 q t ri re be b) (fun (u : Unit) => True) (fun (u : Unit) => XW d0 q t ri (woR t ri re 8) be (woM t ri re 8)) := by
  refine rp_MV.of (by decide) rfl (Nat.le_of_ble_eq_true rfl) ?_
  intro p e s m below meth c args A ls Q E hA w hl hret
  have hl : lv_has ls 5 [(0, .ref (q 0))] := hl
  have outer : ∀ f k : Nat, k ≤ 8 → 8 < k + f → ∀ H locs, rp_H D A s.heap H locs (XW d0 q t ri (woR t ri re k) be (woM t ri re k)) → ∀ ls, lv_has ls 5 [(0, .ref (q 0)), (1, .int (iI ((k : Nat) : Int)))] → W p lc e (rp_r 0 0) s m args below meth c H locs 0 0 Q (F0 m 7 ls []) := by
    intro f
    induction f with
    | zero =>
      intro k h1 h2
      exact absurd h2 (by omega)
    | succ f ihouter =>
      intro k h1 h2 H locs w ls hl
      have fr := fun (h : k < 8) => hri k h
      have fe := fun (h : k < 8) => woR_b ok hri hre k h1 k h
      have J75 : k < 8 → ∀ ls, lv_has ls 5 [(0, .ref (q 0)), (1, .int (iI ((k : Nat) : Int))), (2, .int (iI (wB t ri k 8)))] → W p lc e (rp_r 0 0) s m args below meth c H locs 0 0 Q (F0 m 75 ls []) := by
        intro hk ls hl
        have fe := fe hk
        have fw := wB_b ok hri hk 8 (by omega)
        refine rp_iln E dX0_walkOn_75 rfl (lv_at hl 2 rfl) ?_
        refine rx_ag E w (lv_at hl 0 rfl) 9 (by decide) rfl q44 rfl dX0_walkOn_76 dX0_walkOn_77 ?_
        refine rp_iln E dX0_walkOn_80 rfl (lv_at hl 1 rfl) ?_
        refine rp_ald E w 8 rfl (k) (rfl) (by omega) (by decide) dX0_walkOn_81 ?_
        refine rp_cge (tgt := 104) E dX0_walkOn_82 (by decide) ⟨by omega, by omega⟩ ⟨by omega, by omega⟩ (fun c82 => ?_) (fun c82 => ?_)
        · refine rp_iinc (v := ((k + 1 : Nat) : Int)) (lv' := [(0, .ref (q 0)), (1, .int (iI ((k + 1 : Nat) : Int))), (2, .int (iI (wB t ri k 8)))]) E [1, 0, 2] dX0_walkOn_104 hl (k := 1) rfl (by omega) (by decide) rfl (fun ls hl => ?_)
          refine rp_goto (tgt := 7) E dX0_walkOn_107 (by decide) ?_
          exact ihouter (k + 1) (by omega) (by omega) _ _ (by rw [woR, woM, if_neg (by omega), if_neg (by omega)]; exact w) ls (lv_sub hl [0, 1] rfl)
        · refine rx_ag E w (lv_at hl 0 rfl) 9 (by decide) rfl q44 rfl dX0_walkOn_85 dX0_walkOn_86 ?_
          refine rp_iln E dX0_walkOn_89 rfl (lv_at hl 1 rfl) ?_
          refine rp_iln E dX0_walkOn_90 rfl (lv_at hl 2 rfl) ?_
          refine rp_ast E w 8 rfl (k) (rfl) (by omega) (by decide) dX0_walkOn_91 (fun H locs w => ?_)
          have w : rp_H D A s.heap H locs (XW d0 q t ri (upI (woR t ri re k) (k) ((wB t ri k 8))) be (woM t ri re k)) := w
          refine rp_aln E dX0_walkOn_92 rfl (lv_at hl 0 rfl) ?_
          refine rp_dup E dX0_walkOn_93 rfl ?_
          refine rx_get (v := .int (iI ((woM t ri re k : Nat) : Int))) E w 11 (by decide) rfl q46 rfl dX0_walkOn_94 ?_
          refine rp_ic E (v := ((1 : Nat) : Int)) dX0_walkOn_97 rfl ?_
          refine rp_iln E dX0_walkOn_98 rfl (lv_at hl 1 rfl) ?_
          refine rp_shl1 E (by omega) dX0_walkOn_99 ?_
          refine rp_or E (woM_b t ri re k) hk dX0_walkOn_100 ?_
          refine rx_put E w 11 (by decide) rfl q46 rfl (by decide +kernel) dX0_walkOn_101 (fun H locs w => ?_)
          have w : rp_H D A s.heap H locs (XW d0 q t ri (upI (woR t ri re k) (k) ((wB t ri k 8))) be ((woM t ri re k) + 2 ^ k)) := w
          refine rp_iinc (v := ((k + 1 : Nat) : Int)) (lv' := [(0, .ref (q 0)), (1, .int (iI ((k + 1 : Nat) : Int))), (2, .int (iI (wB t ri k 8)))]) E [1, 0, 2] dX0_walkOn_104 hl (k := 1) rfl (by omega) (by decide) rfl (fun ls hl => ?_)
          refine rp_goto (tgt := 7) E dX0_walkOn_107 (by decide) ?_
          exact ihouter (k + 1) (by omega) (by omega) _ _ (by rw [woR, woM, if_pos c82, if_pos c82]; exact w) ls (lv_sub hl [0, 1] rfl)
      have inner : k < 8 → ∀ f2 u : Nat, u ≤ 8 → 8 < u + f2 → ∀ ls, lv_has ls 5 [(0, .ref (q 0)), (1, .int (iI ((k : Nat) : Int))), (2, .int (iI (wB t ri k u))), (3, .int (iI ((u : Nat) : Int)))] → W p lc e (rp_r 0 0) s m args below meth c H locs 0 0 Q (F0 m 22 ls []) := by
        intro hk f2
        induction f2 with
        | zero =>
          intro u h3 h4
          exact absurd h4 (by omega)
        | succ f2 ih2 =>
          intro u h3 h4 ls hl
          have fw := wB_b ok hri hk u h3
          have fu := fun (h : u < 8) => hri u h
          refine rp_iln E dX0_walkOn_22 rfl (lv_at hl 3 rfl) ?_
          refine rp_bi E (v := ((8 : Nat) : Int)) dX0_walkOn_23 (by decide) ?_
          refine rp_cge (tgt := 75) E dX0_walkOn_25 (by decide) ⟨by omega, by omega⟩ ⟨by omega, by omega⟩ (fun c25 => ?_) (fun c25 => ?_)
          · have e9 : u = 8 := by omega
            subst e9
            exact J75 hk ls (lv_sub hl [0, 1, 2] rfl)
          · have fu := fu (by omega)
            refine rx_ag E w (lv_at hl 0 rfl) 7 (by decide) rfl q42 rfl dX0_walkOn_28 dX0_walkOn_29 ?_
            refine rp_iln E dX0_walkOn_32 rfl (lv_at hl 3 rfl) ?_
            refine rp_bi E (v := ((8 : Nat) : Int)) dX0_walkOn_33 (by decide) ?_
            refine rp_mulN E dX0_walkOn_35 ?_
            refine rp_iln E dX0_walkOn_36 rfl (lv_at hl 1 rfl) ?_
            refine rp_addN E dX0_walkOn_37 ?_
            refine rp_ald E w 6 rfl ((u * 8) + k) (rfl) (by omega) (by decide) dX0_walkOn_38 ?_
            have f38 := tk_Wk ok ((u * 8) + k)
            refine rp_is (lv' := [(0, .ref (q 0)), (1, .int (iI ((k : Nat) : Int))), (2, .int (iI (wB t ri k u))), (3, .int (iI ((u : Nat) : Int))), (4, .int (iI (tWk t ((u * 8) + k))))]) E [1, 2, 3, 4, 0] dX0_walkOn_39 hl (by decide) rfl (fun ls hl => ?_)
            refine rp_il E dX0_walkOn_41 (lv_at hl 4 rfl) ?_
            refine rp_fle (tgt := 69) E dX0_walkOn_43 (by decide) ⟨by omega, by omega⟩ (fun c43 => ?_) (fun c43 => ?_)
            · refine rp_iinc (v := ((u + 1 : Nat) : Int)) (lv' := [(0, .ref (q 0)), (1, .int (iI ((k : Nat) : Int))), (2, .int (iI (wB t ri k u))), (3, .int (iI ((u + 1 : Nat) : Int))), (4, .int (iI (tWk t ((u * 8) + k))))]) E [1, 2, 3, 0, 4] dX0_walkOn_69 hl (k := 3) rfl (by omega) (by decide) rfl (fun ls hl => ?_)
              refine rp_goto (tgt := 22) E dX0_walkOn_72 (by decide) ?_
              exact ih2 (u + 1) (by omega) (by omega) ls (by rw [wB, if_neg (by omega)]; exact (lv_sub hl [0, 1, 2, 3] rfl))
            · refine rx_ag E w (lv_at hl 0 rfl) 8 (by decide) rfl q43 rfl dX0_walkOn_46 dX0_walkOn_47 ?_
              refine rp_iln E dX0_walkOn_50 rfl (lv_at hl 3 rfl) ?_
              refine rp_ald E w 7 rfl (u) (rfl) (by omega) (by decide) dX0_walkOn_51 ?_
              refine rp_il E dX0_walkOn_52 (lv_at hl 4 rfl) ?_
              refine rp_add E dX0_walkOn_54 ?_
              refine rp_iln E dX0_walkOn_55 rfl (lv_at hl 2 rfl) ?_
              refine rp_cge (tgt := 69) E dX0_walkOn_56 (by decide) ⟨by omega, by omega⟩ ⟨by omega, by omega⟩ (fun c56 => ?_) (fun c56 => ?_)
              · refine rp_iinc (v := ((u + 1 : Nat) : Int)) (lv' := [(0, .ref (q 0)), (1, .int (iI ((k : Nat) : Int))), (2, .int (iI (wB t ri k u))), (3, .int (iI ((u + 1 : Nat) : Int))), (4, .int (iI (tWk t ((u * 8) + k))))]) E [1, 2, 3, 0, 4] dX0_walkOn_69 hl (k := 3) rfl (by omega) (by decide) rfl (fun ls hl => ?_)
                refine rp_goto (tgt := 22) E dX0_walkOn_72 (by decide) ?_
                exact ih2 (u + 1) (by omega) (by omega) ls (by rw [wB, if_neg (by omega)]; exact (lv_sub hl [0, 1, 2, 3] rfl))
              · refine rx_ag E w (lv_at hl 0 rfl) 8 (by decide) rfl q43 rfl dX0_walkOn_59 dX0_walkOn_60 ?_
                refine rp_iln E dX0_walkOn_63 rfl (lv_at hl 3 rfl) ?_
                refine rp_ald E w 7 rfl (u) (rfl) (by omega) (by decide) dX0_walkOn_64 ?_
                refine rp_il E dX0_walkOn_65 (lv_at hl 4 rfl) ?_
                refine rp_add E dX0_walkOn_67 ?_
                refine rp_isn (lv' := [(0, .ref (q 0)), (1, .int (iI ((k : Nat) : Int))), (2, .int (iI ((ri (u)) + (tWk t ((u * 8) + k))))), (3, .int (iI ((u : Nat) : Int))), (4, .int (iI (tWk t ((u * 8) + k))))]) E [1, 2, 0, 3, 4] dX0_walkOn_68 rfl hl (by decide) rfl (fun ls hl => ?_)
                refine rp_iinc (v := ((u + 1 : Nat) : Int)) (lv' := [(0, .ref (q 0)), (1, .int (iI ((k : Nat) : Int))), (2, .int (iI ((ri (u)) + (tWk t ((u * 8) + k))))), (3, .int (iI ((u + 1 : Nat) : Int))), (4, .int (iI (tWk t ((u * 8) + k))))]) E [1, 2, 3, 0, 4] dX0_walkOn_69 hl (k := 3) rfl (by omega) (by decide) rfl (fun ls hl => ?_)
                refine rp_goto (tgt := 22) E dX0_walkOn_72 (by decide) ?_
                exact ih2 (u + 1) (by omega) (by omega) ls (by rw [wB, if_pos (by omega)]; exact (lv_sub hl [0, 1, 2, 3] rfl))
      refine rp_iln E dX0_walkOn_7 rfl (lv_at hl 1 rfl) ?_
      refine rp_bi E (v := ((8 : Nat) : Int)) dX0_walkOn_8 (by decide) ?_
      refine rp_cge (tgt := 110) E dX0_walkOn_10 (by decide) ⟨by omega, by omega⟩ ⟨by omega, by omega⟩ (fun c10 => ?_) (fun c10 => ?_)
      · exact hret _ _ () _ _ (trivial) (by rw [← show k = 8 by omega]; exact w) dX0_walkOn_110
      · have fr := fr (by omega)
        refine rx_ag E w (lv_at hl 0 rfl) 8 (by decide) rfl q43 rfl dX0_walkOn_13 dX0_walkOn_14 ?_
        refine rp_iln E dX0_walkOn_17 rfl (lv_at hl 1 rfl) ?_
        refine rp_ald E w 7 rfl (k) (rfl) (by omega) (by decide) dX0_walkOn_18 ?_
        refine rp_isn (lv' := [(0, .ref (q 0)), (1, .int (iI ((k : Nat) : Int))), (2, .int (iI (ri (k))))]) E [1, 2, 0] dX0_walkOn_19 rfl hl (by decide) rfl (fun ls hl => ?_)
        refine rp_ic E (v := ((0 : Nat) : Int)) dX0_walkOn_20 rfl ?_
        refine rp_isn (lv' := [(0, .ref (q 0)), (1, .int (iI ((k : Nat) : Int))), (2, .int (iI (ri (k)))), (3, .int (iI ((0 : Nat) : Int)))]) E [1, 2, 3, 0] dX0_walkOn_21 rfl hl (by decide) rfl (fun ls hl => ?_)
        exact inner (by omega) 9 0 (by omega) (by omega) ls (by rw [wB]; exact hl)
  refine rp_aln E dX0_walkOn_0 rfl (lv_at hl 0 rfl) ?_
  refine rp_ic E (v := ((0 : Nat) : Int)) dX0_walkOn_1 rfl ?_
  refine rx_put E w 11 (by decide) rfl q46 rfl (by decide +kernel) dX0_walkOn_2 (fun H locs w => ?_)
  have w : rp_H D A s.heap H locs (XW d0 q t ri re be 0) := w
  refine rp_ic E (v := ((0 : Nat) : Int)) dX0_walkOn_5 rfl ?_
  refine rp_isn (lv' := [(0, .ref (q 0)), (1, .int (iI ((0 : Nat) : Int)))]) E [1, 0] dX0_walkOn_6 rfl hl (by decide) rfl (fun ls hl => ?_)
  exact outer 9 0 (by omega) (by omega) _ _ (by rw [woR, woM]; exact w) ls hl
set_option maxHeartbeats 4000000 in
set_option maxRecDepth 100000 in
/-- walkBack -/
theorem metX0_walkBack (lc : Launch) (D : va_G) (d0 : ClassId) (q : Nat → Nat) (t : TT) (ri re be : Nat → Int) (b : Nat) (ok : tOk t) (hri : bR ri 8) (hre : bR re 8) : rp_MV lc D d0 yX0_walkBack cX0_walkBack 5 (rp_r 0 0) [.ref (q 0)] (XW d0 q t ri re be b) (fun (u : Unit) => True) (fun (u : Unit) => XW d0 q t ri (voR t ri re 8) be (voM t ri re 8)) := by
  refine rp_MV.of (by decide) rfl (Nat.le_of_ble_eq_true rfl) ?_
  intro p e s m below meth c args A ls Q E hA w hl hret
  have hl : lv_has ls 5 [(0, .ref (q 0))] := hl
  have outer : ∀ f k : Nat, k ≤ 8 → 8 < k + f → ∀ H locs, rp_H D A s.heap H locs (XW d0 q t ri (voR t ri re k) be (voM t ri re k)) → ∀ ls, lv_has ls 5 [(0, .ref (q 0)), (1, .int (iI ((k : Nat) : Int)))] → W p lc e (rp_r 0 0) s m args below meth c H locs 0 0 Q (F0 m 7 ls []) := by
    intro f
    induction f with
    | zero =>
      intro k h1 h2
      exact absurd h2 (by omega)
    | succ f ihouter =>
      intro k h1 h2 H locs w ls hl
      have fr := fun (h : k < 8) => hri k h
      have fe := fun (h : k < 8) => voR_b ok hri hre k h1 k h
      have J75 : k < 8 → ∀ ls, lv_has ls 5 [(0, .ref (q 0)), (1, .int (iI ((k : Nat) : Int))), (2, .int (iI (vB t ri k 8)))] → W p lc e (rp_r 0 0) s m args below meth c H locs 0 0 Q (F0 m 75 ls []) := by
        intro hk ls hl
        have fe := fe hk
        have fw := vB_b ok hri hk 8 (by omega)
        refine rp_iln E dX0_walkBack_75 rfl (lv_at hl 2 rfl) ?_
        refine rx_ag E w (lv_at hl 0 rfl) 9 (by decide) rfl q44 rfl dX0_walkBack_76 dX0_walkBack_77 ?_
        refine rp_iln E dX0_walkBack_80 rfl (lv_at hl 1 rfl) ?_
        refine rp_ald E w 8 rfl (k) (rfl) (by omega) (by decide) dX0_walkBack_81 ?_
        refine rp_cle (tgt := 104) E dX0_walkBack_82 (by decide) ⟨by omega, by omega⟩ ⟨by omega, by omega⟩ (fun c82 => ?_) (fun c82 => ?_)
        · refine rp_iinc (v := ((k + 1 : Nat) : Int)) (lv' := [(0, .ref (q 0)), (1, .int (iI ((k + 1 : Nat) : Int))), (2, .int (iI (vB t ri k 8)))]) E [1, 0, 2] dX0_walkBack_104 hl (k := 1) rfl (by omega) (by decide) rfl (fun ls hl => ?_)
          refine rp_goto (tgt := 7) E dX0_walkBack_107 (by decide) ?_
          exact ihouter (k + 1) (by omega) (by omega) _ _ (by rw [voR, voM, if_neg (by omega), if_neg (by omega)]; exact w) ls (lv_sub hl [0, 1] rfl)
        · refine rx_ag E w (lv_at hl 0 rfl) 9 (by decide) rfl q44 rfl dX0_walkBack_85 dX0_walkBack_86 ?_
          refine rp_iln E dX0_walkBack_89 rfl (lv_at hl 1 rfl) ?_
          refine rp_iln E dX0_walkBack_90 rfl (lv_at hl 2 rfl) ?_
          refine rp_ast E w 8 rfl (k) (rfl) (by omega) (by decide) dX0_walkBack_91 (fun H locs w => ?_)
          have w : rp_H D A s.heap H locs (XW d0 q t ri (upI (voR t ri re k) (k) ((vB t ri k 8))) be (voM t ri re k)) := w
          refine rp_aln E dX0_walkBack_92 rfl (lv_at hl 0 rfl) ?_
          refine rp_dup E dX0_walkBack_93 rfl ?_
          refine rx_get (v := .int (iI ((voM t ri re k : Nat) : Int))) E w 11 (by decide) rfl q46 rfl dX0_walkBack_94 ?_
          refine rp_ic E (v := ((1 : Nat) : Int)) dX0_walkBack_97 rfl ?_
          refine rp_iln E dX0_walkBack_98 rfl (lv_at hl 1 rfl) ?_
          refine rp_shl1 E (by omega) dX0_walkBack_99 ?_
          refine rp_or E (voM_b t ri re k) hk dX0_walkBack_100 ?_
          refine rx_put E w 11 (by decide) rfl q46 rfl (by decide +kernel) dX0_walkBack_101 (fun H locs w => ?_)
          have w : rp_H D A s.heap H locs (XW d0 q t ri (upI (voR t ri re k) (k) ((vB t ri k 8))) be ((voM t ri re k) + 2 ^ k)) := w
          refine rp_iinc (v := ((k + 1 : Nat) : Int)) (lv' := [(0, .ref (q 0)), (1, .int (iI ((k + 1 : Nat) : Int))), (2, .int (iI (vB t ri k 8)))]) E [1, 0, 2] dX0_walkBack_104 hl (k := 1) rfl (by omega) (by decide) rfl (fun ls hl => ?_)
          refine rp_goto (tgt := 7) E dX0_walkBack_107 (by decide) ?_
          exact ihouter (k + 1) (by omega) (by omega) _ _ (by rw [voR, voM, if_pos c82, if_pos c82]; exact w) ls (lv_sub hl [0, 1] rfl)
      have inner : k < 8 → ∀ f2 u : Nat, u ≤ 8 → 8 < u + f2 → ∀ ls, lv_has ls 5 [(0, .ref (q 0)), (1, .int (iI ((k : Nat) : Int))), (2, .int (iI (vB t ri k u))), (3, .int (iI ((u : Nat) : Int)))] → W p lc e (rp_r 0 0) s m args below meth c H locs 0 0 Q (F0 m 22 ls []) := by
        intro hk f2
        induction f2 with
        | zero =>
          intro u h3 h4
          exact absurd h4 (by omega)
        | succ f2 ih2 =>
          intro u h3 h4 ls hl
          have fw := vB_b ok hri hk u h3
          have fu := fun (h : u < 8) => hri u h
          refine rp_iln E dX0_walkBack_22 rfl (lv_at hl 3 rfl) ?_
          refine rp_bi E (v := ((8 : Nat) : Int)) dX0_walkBack_23 (by decide) ?_
          refine rp_cge (tgt := 75) E dX0_walkBack_25 (by decide) ⟨by omega, by omega⟩ ⟨by omega, by omega⟩ (fun c25 => ?_) (fun c25 => ?_)
          · have e9 : u = 8 := by omega
            subst e9
            exact J75 hk ls (lv_sub hl [0, 1, 2] rfl)
          · have fu := fu (by omega)
            refine rx_ag E w (lv_at hl 0 rfl) 7 (by decide) rfl q42 rfl dX0_walkBack_28 dX0_walkBack_29 ?_
            refine rp_iln E dX0_walkBack_32 rfl (lv_at hl 1 rfl) ?_
            refine rp_bi E (v := ((8 : Nat) : Int)) dX0_walkBack_33 (by decide) ?_
            refine rp_mulN E dX0_walkBack_35 ?_
            refine rp_iln E dX0_walkBack_36 rfl (lv_at hl 3 rfl) ?_
            refine rp_addN E dX0_walkBack_37 ?_
            refine rp_ald E w 6 rfl ((k * 8) + u) (rfl) (by omega) (by decide) dX0_walkBack_38 ?_
            have f38 := tk_Wk ok ((k * 8) + u)
            refine rp_is (lv' := [(0, .ref (q 0)), (1, .int (iI ((k : Nat) : Int))), (2, .int (iI (vB t ri k u))), (3, .int (iI ((u : Nat) : Int))), (4, .int (iI (tWk t ((k * 8) + u))))]) E [1, 2, 3, 4, 0] dX0_walkBack_39 hl (by decide) rfl (fun ls hl => ?_)
            refine rp_il E dX0_walkBack_41 (lv_at hl 4 rfl) ?_
            refine rp_fle (tgt := 69) E dX0_walkBack_43 (by decide) ⟨by omega, by omega⟩ (fun c43 => ?_) (fun c43 => ?_)
            · refine rp_iinc (v := ((u + 1 : Nat) : Int)) (lv' := [(0, .ref (q 0)), (1, .int (iI ((k : Nat) : Int))), (2, .int (iI (vB t ri k u))), (3, .int (iI ((u + 1 : Nat) : Int))), (4, .int (iI (tWk t ((k * 8) + u))))]) E [1, 2, 3, 0, 4] dX0_walkBack_69 hl (k := 3) rfl (by omega) (by decide) rfl (fun ls hl => ?_)
              refine rp_goto (tgt := 22) E dX0_walkBack_72 (by decide) ?_
              exact ih2 (u + 1) (by omega) (by omega) ls (by rw [vB, if_neg (by omega)]; exact (lv_sub hl [0, 1, 2, 3] rfl))
            · refine rx_ag E w (lv_at hl 0 rfl) 8 (by decide) rfl q43 rfl dX0_walkBack_46 dX0_walkBack_47 ?_
              refine rp_iln E dX0_walkBack_50 rfl (lv_at hl 3 rfl) ?_
              refine rp_ald E w 7 rfl (u) (rfl) (by omega) (by decide) dX0_walkBack_51 ?_
              refine rp_il E dX0_walkBack_52 (lv_at hl 4 rfl) ?_
              refine rp_sub E dX0_walkBack_54 ?_
              refine rp_iln E dX0_walkBack_55 rfl (lv_at hl 2 rfl) ?_
              refine rp_cle (tgt := 69) E dX0_walkBack_56 (by decide) ⟨by omega, by omega⟩ ⟨by omega, by omega⟩ (fun c56 => ?_) (fun c56 => ?_)
              · refine rp_iinc (v := ((u + 1 : Nat) : Int)) (lv' := [(0, .ref (q 0)), (1, .int (iI ((k : Nat) : Int))), (2, .int (iI (vB t ri k u))), (3, .int (iI ((u + 1 : Nat) : Int))), (4, .int (iI (tWk t ((k * 8) + u))))]) E [1, 2, 3, 0, 4] dX0_walkBack_69 hl (k := 3) rfl (by omega) (by decide) rfl (fun ls hl => ?_)
                refine rp_goto (tgt := 22) E dX0_walkBack_72 (by decide) ?_
                exact ih2 (u + 1) (by omega) (by omega) ls (by rw [vB, if_neg (by omega)]; exact (lv_sub hl [0, 1, 2, 3] rfl))
              · refine rx_ag E w (lv_at hl 0 rfl) 8 (by decide) rfl q43 rfl dX0_walkBack_59 dX0_walkBack_60 ?_
                refine rp_iln E dX0_walkBack_63 rfl (lv_at hl 3 rfl) ?_
                refine rp_ald E w 7 rfl (u) (rfl) (by omega) (by decide) dX0_walkBack_64 ?_
                refine rp_il E dX0_walkBack_65 (lv_at hl 4 rfl) ?_
                refine rp_sub E dX0_walkBack_67 ?_
                refine rp_isn (lv' := [(0, .ref (q 0)), (1, .int (iI ((k : Nat) : Int))), (2, .int (iI ((ri (u)) - (tWk t ((k * 8) + u))))), (3, .int (iI ((u : Nat) : Int))), (4, .int (iI (tWk t ((k * 8) + u))))]) E [1, 2, 0, 3, 4] dX0_walkBack_68 rfl hl (by decide) rfl (fun ls hl => ?_)
                refine rp_iinc (v := ((u + 1 : Nat) : Int)) (lv' := [(0, .ref (q 0)), (1, .int (iI ((k : Nat) : Int))), (2, .int (iI ((ri (u)) - (tWk t ((k * 8) + u))))), (3, .int (iI ((u + 1 : Nat) : Int))), (4, .int (iI (tWk t ((k * 8) + u))))]) E [1, 2, 3, 0, 4] dX0_walkBack_69 hl (k := 3) rfl (by omega) (by decide) rfl (fun ls hl => ?_)
                refine rp_goto (tgt := 22) E dX0_walkBack_72 (by decide) ?_
                exact ih2 (u + 1) (by omega) (by omega) ls (by rw [vB, if_pos (by omega)]; exact (lv_sub hl [0, 1, 2, 3] rfl))
      refine rp_iln E dX0_walkBack_7 rfl (lv_at hl 1 rfl) ?_
      refine rp_bi E (v := ((8 : Nat) : Int)) dX0_walkBack_8 (by decide) ?_
      refine rp_cge (tgt := 110) E dX0_walkBack_10 (by decide) ⟨by omega, by omega⟩ ⟨by omega, by omega⟩ (fun c10 => ?_) (fun c10 => ?_)
      · exact hret _ _ () _ _ (trivial) (by rw [← show k = 8 by omega]; exact w) dX0_walkBack_110
      · have fr := fr (by omega)
        refine rx_ag E w (lv_at hl 0 rfl) 8 (by decide) rfl q43 rfl dX0_walkBack_13 dX0_walkBack_14 ?_
        refine rp_iln E dX0_walkBack_17 rfl (lv_at hl 1 rfl) ?_
        refine rp_ald E w 7 rfl (k) (rfl) (by omega) (by decide) dX0_walkBack_18 ?_
        refine rp_isn (lv' := [(0, .ref (q 0)), (1, .int (iI ((k : Nat) : Int))), (2, .int (iI (ri (k))))]) E [1, 2, 0] dX0_walkBack_19 rfl hl (by decide) rfl (fun ls hl => ?_)
        refine rp_ic E (v := ((0 : Nat) : Int)) dX0_walkBack_20 rfl ?_
        refine rp_isn (lv' := [(0, .ref (q 0)), (1, .int (iI ((k : Nat) : Int))), (2, .int (iI (ri (k)))), (3, .int (iI ((0 : Nat) : Int)))]) E [1, 2, 3, 0] dX0_walkBack_21 rfl hl (by decide) rfl (fun ls hl => ?_)
        exact inner (by omega) 9 0 (by omega) (by omega) ls (by rw [vB]; exact hl)
  refine rp_aln E dX0_walkBack_0 rfl (lv_at hl 0 rfl) ?_
  refine rp_ic E (v := ((0 : Nat) : Int)) dX0_walkBack_1 rfl ?_
  refine rx_put E w 11 (by decide) rfl q46 rfl (by decide +kernel) dX0_walkBack_2 (fun H locs w => ?_)
  have w : rp_H D A s.heap H locs (XW d0 q t ri re be 0) := w
  refine rp_ic E (v := ((0 : Nat) : Int)) dX0_walkBack_5 rfl ?_
  refine rp_isn (lv' := [(0, .ref (q 0)), (1, .int (iI ((0 : Nat) : Int)))]) E [1, 0] dX0_walkBack_6 rfl hl (by decide) rfl (fun ls hl => ?_)
  exact outer 9 0 (by omega) (by omega) _ _ (by rw [voR, voM]; exact w) ls hl
end
section
set_option maxRecDepth 100000
set_option maxHeartbeats 4000000 in
set_option maxRecDepth 100000 in
/-- begin -/
theorem metX0_begin (lc : Launch) (D : va_G) (d0 : ClassId) (q : Nat → Nat) (t : TT) (ri re be : Nat → Int) (b : Nat) (ok : tOk t) (a : Nat) (τ : Int) (h8 : a < 8) (hτ : 0 ≤ τ ∧ τ ≤ 1000) : rp_MV lc D d0 yX0_begin cX0_begin 4 (rp_r 1 24) [.ref (q 0), .int (iI ((a : Nat) : Int)), .int (iI (τ))] (XW d0 q t ri re be b) (fun (u : Unit) => True) (fun (u : Unit) => XWs d0 q t (bg t a τ (ri, re, be, b))) := by
  refine rp_MV.of (by decide) rfl (Nat.le_of_ble_eq_true rfl) ?_
  intro p e s m below meth c args A ls Q E hA w hl hret
  have hl : lv_has ls 4 [(0, .ref (q 0)), (1, .int (iI ((a : Nat) : Int))), (2, .int (iI (τ)))] := hl
  have loop : ∀ f k : Nat, k ≤ 8 → 8 < k + f → ∀ H locs, rp_H D A s.heap H locs (XW d0 q t (fl 1000000 ri k) (fl 1000000 re k) be b) → ∀ ls, lv_has ls 4 [(0, .ref (q 0)), (1, .int (iI ((a : Nat) : Int))), (2, .int (iI (τ))), (3, .int (iI ((k : Nat) : Int)))] → W p lc e (rp_r 1 24) s m args below meth c H locs 0 0 Q (F0 m 2 ls []) := by
    intro f
    induction f with
    | zero =>
      intro k h1 h2
      exact absurd h2 (by omega)
    | succ f ihloop =>
      intro k h1 h2 H locs w ls hl
      refine rp_iln E dX0_begin_2 rfl (lv_at hl 3 rfl) ?_
      refine rp_bi E (v := ((8 : Nat) : Int)) dX0_begin_3 (by decide) ?_
      refine rp_cge (tgt := 30) E dX0_begin_5 (by decide) ⟨by omega, by omega⟩ ⟨by omega, by omega⟩ (fun c5 => ?_) (fun c5 => ?_)
      · have e9 : k = 8 := by omega
        subst e9
        refine rx_ag E w (lv_at hl 0 rfl) 8 (by decide) rfl q43 rfl dX0_begin_30 dX0_begin_31 ?_
        refine rp_iln E dX0_begin_34 rfl (lv_at hl 1 rfl) ?_
        refine rp_iln E dX0_begin_35 rfl (lv_at hl 2 rfl) ?_
        refine rp_ast E w 7 rfl (a) (rfl) (by omega) (by decide) dX0_begin_36 (fun H locs w => ?_)
        have w : rp_H D A s.heap H locs (XW d0 q t (upI (fl 1000000 ri 8) (a) ((τ))) (fl 1000000 re 8) be b) := w
        refine rp_aln E dX0_begin_37 rfl (lv_at hl 0 rfl) ?_
        refine rp_callv (rest := []) E w hA (metX0_walkOn lc D d0 q t (upI (fl 1000000 ri 8) (a) ((τ))) (fl 1000000 re 8) be b ok (bg_r hτ ri) (fl_b 1000000 re 8 (by omega))) (cwV 0 E.1.2.2.2.2 (lw_V q124 q126 qs5 q25 q127) rfl rfl rfl (by decide +kernel) ⟨Nat.le_of_ble_eq_true rfl, Nat.le_of_ble_eq_true rfl⟩) (rx_rcv E w) rfl hl.1 rfl (Nat.le_of_ble_eq_true rfl) dX0_begin_38 ⟨Nat.zero_le _, Nat.zero_le _⟩ (fun u9 H locs hp9 w => ?_)
        exact hret _ _ () _ _ (trivial) w dX0_begin_41
      · refine rx_ag E w (lv_at hl 0 rfl) 8 (by decide) rfl q43 rfl dX0_begin_8 dX0_begin_9 ?_
        refine rp_iln E dX0_begin_12 rfl (lv_at hl 3 rfl) ?_
        refine rp_ldc E (v := (1000000)) q123 (by decide) dX0_begin_13 ?_
        refine rp_ast E w 7 rfl (k) (rfl) (by omega) (by decide) dX0_begin_15 (fun H locs w => ?_)
        have w : rp_H D A s.heap H locs (XW d0 q t (upI (fl 1000000 ri k) (k) ((1000000))) (fl 1000000 re k) be b) := w
        refine rx_ag E w (lv_at hl 0 rfl) 9 (by decide) rfl q44 rfl dX0_begin_16 dX0_begin_17 ?_
        refine rp_iln E dX0_begin_20 rfl (lv_at hl 3 rfl) ?_
        refine rp_ldc E (v := (1000000)) q123 (by decide) dX0_begin_21 ?_
        refine rp_ast E w 8 rfl (k) (rfl) (by omega) (by decide) dX0_begin_23 (fun H locs w => ?_)
        have w : rp_H D A s.heap H locs (XW d0 q t (upI (fl 1000000 ri k) (k) ((1000000))) (upI (fl 1000000 re k) (k) ((1000000))) be b) := w
        refine rp_iinc (v := ((k + 1 : Nat) : Int)) (lv' := [(0, .ref (q 0)), (1, .int (iI ((a : Nat) : Int))), (2, .int (iI (τ))), (3, .int (iI ((k + 1 : Nat) : Int)))]) E [1, 2, 3, 0] dX0_begin_24 hl (k := 3) rfl (by omega) (by decide) rfl (fun ls hl => ?_)
        refine rp_goto (tgt := 2) E dX0_begin_27 (by decide) ?_
        exact ihloop (k + 1) (by omega) (by omega) _ _ (by rw [fl, fl]; exact w) ls hl
  refine rp_ic E (v := ((0 : Nat) : Int)) dX0_begin_0 rfl ?_
  refine rp_isn (lv' := [(0, .ref (q 0)), (1, .int (iI ((a : Nat) : Int))), (2, .int (iI (τ))), (3, .int (iI ((0 : Nat) : Int)))]) E [1, 2, 3, 0] dX0_begin_1 rfl hl (by decide) rfl (fun ls hl => ?_)
  exact loop 9 0 (by omega) (by omega) _ _ (by rw [fl, fl]; exact w) ls hl
set_option maxHeartbeats 4000000 in
set_option maxRecDepth 100000 in
/-- nextRound -/
theorem metX0_nextRound (lc : Launch) (D : va_G) (d0 : ClassId) (q : Nat → Nat) (t : TT) (ri re be : Nat → Int) (b : Nat) (ok : tOk t) (hb : b < 256) (hre : bR re 8) : rp_MV lc D d0 yX0_nextRound cX0_nextRound 2 (rp_r 2 52) [.ref (q 0)] (XW d0 q t ri re be b) (fun (u : Unit) => True) (fun (u : Unit) => XWs d0 q t (nr t (ri, re, be, b))) := by
  refine rp_MV.of (by decide) rfl (Nat.le_of_ble_eq_true rfl) ?_
  intro p e s m below meth c args A ls Q E hA w hl hret
  have hl : lv_has ls 2 [(0, .ref (q 0))] := hl
  have fL := tk_LT ok
  have lines : ∀ f k : Nat, k ≤ tL t → tL t < k + f → ∀ H locs, rp_H D A s.heap H locs (XW d0 q t (nrL t b (cp re be 8) (fl 1000000 ri 8) k) re (cp re be 8) b) → ∀ ls, lv_has ls 2 [(0, .ref (q 0)), (1, .int (iI ((k : Nat) : Int)))] → W p lc e (rp_r 2 52) s m args below meth c H locs 0 0 Q (F0 m 36 ls []) := by
    intro f
    induction f with
    | zero =>
      intro k h1 h2
      exact absurd h2 (by omega)
    | succ f ihlines =>
      intro k h1 h2 H locs w ls hl
      refine rp_iln E dX0_nextRound_36 rfl (lv_at hl 1 rfl) ?_
      refine rx_ag (v := .int (iI ((tL t : Nat) : Int))) E w (lv_at hl 0 rfl) 0 (by decide) rfl q35 rfl dX0_nextRound_37 dX0_nextRound_38 ?_
      refine rp_cge (tgt := 55) E dX0_nextRound_41 (by decide) ⟨by omega, by omega⟩ ⟨by omega, by omega⟩ (fun c41 => ?_) (fun c41 => ?_)
      · have e9 : k = tL t := by omega
        subst e9
        refine rp_aln E dX0_nextRound_55 rfl (lv_at hl 0 rfl) ?_
        refine rp_callv (rest := []) E w hA (metX0_walkOn lc D d0 q t (nrL t b (cp re be 8) (fl 1000000 ri 8) (tL t)) re (cp re be 8) b ok (nrL_b ok b (cp re be 8) (fl 1000000 ri 8) (fl_b 1000000 ri 8 (by omega)) (tL t)) hre) (cwV 0 E.1.2.2.2.2 (lw_V q124 q126 qs5 q25 q127) rfl rfl rfl (by decide +kernel) ⟨Nat.le_of_ble_eq_true rfl, Nat.le_of_ble_eq_true rfl⟩) (rx_rcv E w) rfl hl.1 rfl (Nat.le_of_ble_eq_true rfl) dX0_nextRound_56 ⟨Nat.zero_le _, Nat.zero_le _⟩ (fun u9 H locs hp9 w => ?_)
        exact hret _ _ () _ _ (trivial) w dX0_nextRound_59
      · refine rp_aln E dX0_nextRound_44 rfl (lv_at hl 0 rfl) ?_
        refine rp_iln E dX0_nextRound_45 rfl (lv_at hl 1 rfl) ?_
        refine rp_callv (rest := []) E w hA (metX0_rideLine lc D d0 q t (nrL t b (cp re be 8) (fl 1000000 ri 8) k) re (cp re be 8) b ok k (by omega) hb (cp_b hre) (nrL_b ok b (cp re be 8) (fl 1000000 ri 8) (fl_b 1000000 ri 8 (by omega)) k)) (cwV 1 E.1.2.2.2.2 (lw_V q132 q134 qs7 q25 q135) rfl rfl rfl (by decide +kernel) ⟨Nat.le_of_ble_eq_true rfl, Nat.le_of_ble_eq_true rfl⟩) (rx_rcv E w) rfl hl.1 rfl (Nat.le_of_ble_eq_true rfl) dX0_nextRound_46 ⟨Nat.zero_le _, Nat.zero_le _⟩ (fun u9 H locs hp9 w => ?_)
        refine rp_iinc (v := ((k + 1 : Nat) : Int)) (lv' := [(0, .ref (q 0)), (1, .int (iI ((k + 1 : Nat) : Int)))]) E [1, 0] dX0_nextRound_49 hl (k := 1) rfl (by omega) (by decide) rfl (fun ls hl => ?_)
        refine rp_goto (tgt := 36) E dX0_nextRound_52 (by decide) ?_
        exact ihlines (k + 1) (by omega) (by omega) _ _ (by rw [nrL]; exact w) ls hl
  have loop : ∀ f k : Nat, k ≤ 8 → 8 < k + f → ∀ H locs, rp_H D A s.heap H locs (XW d0 q t (fl 1000000 ri k) re (cp re be k) b) → ∀ ls, lv_has ls 2 [(0, .ref (q 0)), (1, .int (iI ((k : Nat) : Int)))] → W p lc e (rp_r 2 52) s m args below meth c H locs 0 0 Q (F0 m 2 ls []) := by
    intro f
    induction f with
    | zero =>
      intro k h1 h2
      exact absurd h2 (by omega)
    | succ f ihloop =>
      intro k h1 h2 H locs w ls hl
      have fe := fun (h : k < 8) => hre k h
      refine rp_iln E dX0_nextRound_2 rfl (lv_at hl 1 rfl) ?_
      refine rp_bi E (v := ((8 : Nat) : Int)) dX0_nextRound_3 (by decide) ?_
      refine rp_cge (tgt := 34) E dX0_nextRound_5 (by decide) ⟨by omega, by omega⟩ ⟨by omega, by omega⟩ (fun c5 => ?_) (fun c5 => ?_)
      · have e9 : k = 8 := by omega
        subst e9
        refine rp_ic E (v := ((0 : Nat) : Int)) dX0_nextRound_34 rfl ?_
        refine rp_isn (lv' := [(0, .ref (q 0)), (1, .int (iI ((0 : Nat) : Int)))]) E [1, 0] dX0_nextRound_35 rfl hl (by decide) rfl (fun ls hl => ?_)
        exact lines (tL t + 1) 0 (by omega) (by omega) _ _ (by rw [nrL]; exact w) ls hl
      · refine rx_ag E w (lv_at hl 0 rfl) 10 (by decide) rfl q45 rfl dX0_nextRound_8 dX0_nextRound_9 ?_
        refine rp_iln E dX0_nextRound_12 rfl (lv_at hl 1 rfl) ?_
        refine rx_ag E w (lv_at hl 0 rfl) 9 (by decide) rfl q44 rfl dX0_nextRound_13 dX0_nextRound_14 ?_
        refine rp_iln E dX0_nextRound_17 rfl (lv_at hl 1 rfl) ?_
        refine rp_ald E w 8 rfl (k) (rfl) (by omega) (by decide) dX0_nextRound_18 ?_
        refine rp_ast E w 9 rfl (k) (rfl) (by omega) (by decide) dX0_nextRound_19 (fun H locs w => ?_)
        have w : rp_H D A s.heap H locs (XW d0 q t (fl 1000000 ri k) re (upI (cp re be k) (k) ((re (k)))) b) := w
        refine rx_ag E w (lv_at hl 0 rfl) 8 (by decide) rfl q43 rfl dX0_nextRound_20 dX0_nextRound_21 ?_
        refine rp_iln E dX0_nextRound_24 rfl (lv_at hl 1 rfl) ?_
        refine rp_ldc E (v := (1000000)) q123 (by decide) dX0_nextRound_25 ?_
        refine rp_ast E w 7 rfl (k) (rfl) (by omega) (by decide) dX0_nextRound_27 (fun H locs w => ?_)
        have w : rp_H D A s.heap H locs (XW d0 q t (upI (fl 1000000 ri k) (k) ((1000000))) re (upI (cp re be k) (k) ((re (k)))) b) := w
        refine rp_iinc (v := ((k + 1 : Nat) : Int)) (lv' := [(0, .ref (q 0)), (1, .int (iI ((k + 1 : Nat) : Int)))]) E [1, 0] dX0_nextRound_28 hl (k := 1) rfl (by omega) (by decide) rfl (fun ls hl => ?_)
        refine rp_goto (tgt := 2) E dX0_nextRound_31 (by decide) ?_
        exact ihloop (k + 1) (by omega) (by omega) _ _ (by rw [cp, fl]; exact w) ls hl
  refine rp_ic E (v := ((0 : Nat) : Int)) dX0_nextRound_0 rfl ?_
  refine rp_isn (lv' := [(0, .ref (q 0)), (1, .int (iI ((0 : Nat) : Int)))]) E [1, 0] dX0_nextRound_1 rfl hl (by decide) rfl (fun ls hl => ?_)
  exact loop 9 0 (by omega) (by omega) _ _ (by rw [cp, fl]; exact w) ls hl
set_option maxHeartbeats 4000000 in
set_option maxRecDepth 100000 in
/-- plan -/
theorem metX0_plan (lc : Launch) (D : va_G) (d0 : ClassId) (q : Nat → Nat) (t : TT) (ri re be : Nat → Int) (b : Nat) (ok : tOk t) (a : Nat) (τ : Int) (n : Nat) (h8 : a < 8) (hτ : 0 ≤ τ ∧ τ ≤ 1000) (hn : n ≤ 12) : rp_MV lc D d0 yX0_plan cX0_plan 5 (rp_r 3 73) [.ref (q 0), .int (iI ((a : Nat) : Int)), .int (iI (τ)), .int (iI ((n : Nat) : Int))] (XW d0 q t ri re be b) (fun (u : XS) => ∃ k, k ≤ n ∧ u = itr t (bg t a τ (ri, re, be, b)) k ∧ (k = n ∨ u.2.2.2 = 0)) (fun (u : XS) => XWs d0 q t u) := by
  refine rp_MV.of (by decide) rfl (Nat.le_of_ble_eq_true rfl) ?_
  intro p e s m below meth c args A ls Q E hA w hl hret
  have hl : lv_has ls 5 [(0, .ref (q 0)), (1, .int (iI ((a : Nat) : Int))), (2, .int (iI (τ))), (3, .int (iI ((n : Nat) : Int)))] := hl
  have hσ := bg_ok ok hτ (a := a) (ri, re, be, b)
  obtain ⟨σ, eσ⟩ : ∃ σ, σ = bg t a τ (ri, re, be, b) := ⟨_, rfl⟩
  rw [← eσ] at hσ
  have loop : ∀ f k : Nat, k ≤ n → n < k + f → ∀ H locs, rp_H D A s.heap H locs (XW d0 q t ((itr t σ k).1) ((itr t σ k).2.1) ((itr t σ k).2.2.1) ((itr t σ k).2.2.2)) → ∀ ls, lv_has ls 5 [(0, .ref (q 0)), (1, .int (iI ((a : Nat) : Int))), (2, .int (iI (τ))), (3, .int (iI ((n : Nat) : Int))), (4, .int (iI ((k : Nat) : Int)))] → W p lc e (rp_r 3 73) s m args below meth c H locs 0 0 Q (F0 m 9 ls []) := by
    intro f
    induction f with
    | zero =>
      intro k h1 h2
      exact absurd h2 (by omega)
    | succ f ihloop =>
      intro k h1 h2 H locs w ls hl
      have hk := itr_ok ok hσ k
      have hk1 := hk.1
      have hk2 := hk.2
      refine rp_il E dX0_plan_9 (lv_at hl 4 rfl) ?_
      refine rp_iln E dX0_plan_11 rfl (lv_at hl 3 rfl) ?_
      refine rp_cge (tgt := 32) E dX0_plan_12 (by decide) ⟨by omega, by omega⟩ ⟨by omega, by omega⟩ (fun c12 => ?_) (fun c12 => ?_)
      · exact hret _ _ (itr t σ k) _ _ (⟨k, h1, by rw [eσ], by first | exact Or.inl (by omega) | exact Or.inr (by omega)⟩) w dX0_plan_32
      · refine rx_ag (v := .int (iI (((itr t σ k).2.2.2 : Nat) : Int))) E w (lv_at hl 0 rfl) 11 (by decide) rfl q46 rfl dX0_plan_15 dX0_plan_16 ?_
        refine rp_feq (tgt := 32) E dX0_plan_19 (by decide) ⟨by omega, by omega⟩ (fun c19 => ?_) (fun c19 => ?_)
        · exact hret _ _ (itr t σ k) _ _ (⟨k, h1, by rw [eσ], by first | exact Or.inl (by omega) | exact Or.inr (by omega)⟩) w dX0_plan_32
        · refine rp_aln E dX0_plan_22 rfl (lv_at hl 0 rfl) ?_
          refine rp_callv (rest := []) E w hA (metX0_nextRound lc D d0 q t (itr t σ k).1 (itr t σ k).2.1 (itr t σ k).2.2.1 (itr t σ k).2.2.2 ok hk2 hk1) (cwV 0 E.1.2.2.2.2 (lw_V q128 q130 qs6 q25 q131) rfl rfl rfl (by decide +kernel) ⟨Nat.le_of_ble_eq_true rfl, Nat.le_of_ble_eq_true rfl⟩) (rx_rcv E w) rfl hl.1 rfl (Nat.le_of_ble_eq_true rfl) dX0_plan_23 ⟨Nat.zero_le _, Nat.zero_le _⟩ (fun u9 H locs hp9 w => ?_)
          refine rp_iinc (v := ((k + 1 : Nat) : Int)) (lv' := [(0, .ref (q 0)), (1, .int (iI ((a : Nat) : Int))), (2, .int (iI (τ))), (3, .int (iI ((n : Nat) : Int))), (4, .int (iI ((k + 1 : Nat) : Int)))]) E [1, 2, 3, 4, 0] dX0_plan_26 hl (k := 4) rfl (by omega) (by decide) rfl (fun ls hl => ?_)
          refine rp_goto (tgt := 9) E dX0_plan_29 (by decide) ?_
          exact ihloop (k + 1) (by omega) (by omega) _ _ w ls hl
  refine rp_aln E dX0_plan_0 rfl (lv_at hl 0 rfl) ?_
  refine rp_iln E dX0_plan_1 rfl (lv_at hl 1 rfl) ?_
  refine rp_iln E dX0_plan_2 rfl (lv_at hl 2 rfl) ?_
  refine rp_callv (rest := []) E w hA (metX0_begin lc D d0 q t ri re be b ok a τ h8 hτ) (cwV 2 E.1.2.2.2.2 (lw_V q119 q121 qs4 q25 q122) rfl rfl rfl (by decide +kernel) ⟨Nat.le_of_ble_eq_true rfl, Nat.le_of_ble_eq_true rfl⟩) (rx_rcv E w) rfl hl.1 rfl (Nat.le_of_ble_eq_true rfl) dX0_plan_3 ⟨Nat.zero_le _, Nat.zero_le _⟩ (fun u9 H locs hp9 w => ?_)
  rw [← eσ] at w
  refine rp_ic E (v := ((0 : Nat) : Int)) dX0_plan_6 rfl ?_
  refine rp_is (lv' := [(0, .ref (q 0)), (1, .int (iI ((a : Nat) : Int))), (2, .int (iI (τ))), (3, .int (iI ((n : Nat) : Int))), (4, .int (iI ((0 : Nat) : Int)))]) E [1, 2, 3, 4, 0] dX0_plan_7 hl (by decide) rfl (fun ls hl => ?_)
  exact loop (n + 1) 0 (by omega) (by omega) _ _ w ls hl
end
section
set_option maxRecDepth 100000
set_option maxHeartbeats 4000000 in
set_option maxRecDepth 100000 in
/-- rideLineBack -/
theorem metX0_rideLineBack (lc : Launch) (D : va_G) (d0 : ClassId) (q : Nat → Nat) (t : TT) (ri re be : Nat → Int) (b : Nat) (ok : tOk t) (l : Nat) (h5 : l < 5) (hb : b < 256) (hbe : bR be 8) (hri : bR ri 8) : rp_MV lc D d0 yX0_rideLineBack cX0_rideLineBack 8 (rp_r 1 25) [.ref (q 0), .int (iI ((l : Nat) : Int))] (XW d0 q t ri re be b) (fun (u : Unit) => True) (fun (u : Unit) => XW d0 q t (rbR t l b be ri (tSz t l)) re be b) := by
  refine rp_MV.of (by decide) rfl (Nat.le_of_ble_eq_true rfl) ?_
  intro p e s m below meth c args A ls Q E hA w hl hret
  have hl : lv_has ls 8 [(0, .ref (q 0)), (1, .int (iI ((l : Nat) : Int)))] := hl
  have fL := tk_LT ok
  have fz := tk_Sz ok l
  have loop : ∀ f j : Nat, j ≤ tSz t l → tSz t l < j + f → ∀ H locs, rp_H D A s.heap H locs (XW d0 q t (rbR t l b be ri j) re be b) → ∀ ls, lv_has ls 8 [(0, .ref (q 0)), (1, .int (iI ((l : Nat) : Int))), (2, .int (iI (rbS t l b be j))), (3, .int (iI ((tSz t l : Int) - 1 - (j : Int))))] → W p lc e (rp_r 1 25) s m args below meth c H locs 0 0 Q (F0 m 12 ls []) := by
    intro f
    induction f with
    | zero =>
      intro j h1 h2
      exact absurd h2 (by omega)
    | succ f ihloop =>
      intro j h1 h2 H locs w ls hl
      have fS := rbS_b ok l b be j
      have fs := tk_St ok (l * 6 + (tSz t l - 1 - j))
      have fg := tk_Og ok (l * 6 + (tSz t l - 1 - j))
      have fr := rbR_b ok l b be ri hri j _ fs
      have fb := hbe _ fs
      have J71 : j < tSz t l → ∀ H locs, rp_H D A s.heap H locs (XW d0 q t (rbR t l b be ri (j + 1)) re be b) → ∀ ls, lv_has ls 8 [(0, .ref (q 0)), (1, .int (iI ((l : Nat) : Int))), (2, .int (iI (rbS t l b be j))), (3, .int (iI ((tSz t l - 1 - j : Nat) : Int))), (4, .int (iI ((tSt t (l * 6 + (tSz t l - 1 - j)) : Nat) : Int))), (5, .int (iI ((rbS t l b be j) + (tOg t (l * 6 + (tSz t l - 1 - j))))))] → W p lc e (rp_r 1 25) s m args below meth c H locs 0 0 Q (F0 m 71 ls []) := by
        intro hj H locs w ls hl
        refine rx_ag (v := .int (iI ((b : Nat) : Int))) E w (lv_at hl 0 rfl) 11 (by decide) rfl q46 rfl dX0_rideLineBack_71 dX0_rideLineBack_72 ?_
        refine rp_il E dX0_rideLineBack_75 (lv_at hl 4 rfl) ?_
        refine rp_shrN E (by omega) (by omega) dX0_rideLineBack_77 ?_
        refine rp_ic E (v := ((1 : Nat) : Int)) dX0_rideLineBack_78 rfl ?_
        refine rp_and1 E (Nat.lt_of_le_of_lt (Nat.div_le_self _ _) (by omega)) dX0_rideLineBack_79 ?_
        have f79 : b / 2 ^ (tSt t (l * 6 + (tSz t l - 1 - j))) % 2 < 2 := Nat.mod_lt _ (by decide)
        refine rp_ic E (v := ((1 : Nat) : Int)) dX0_rideLineBack_80 rfl ?_
        refine rp_cne (tgt := 88) E dX0_rideLineBack_81 (by decide) ⟨by omega, by omega⟩ ⟨by omega, by omega⟩ (fun c81 => ?_) (fun c81 => ?_)
        · refine rp_ic E (v := ((0 : Nat) : Int)) dX0_rideLineBack_88 rfl ?_
          refine rp_is (lv' := [(0, .ref (q 0)), (1, .int (iI ((l : Nat) : Int))), (2, .int (iI (rbS t l b be j))), (3, .int (iI ((tSz t l - 1 - j : Nat) : Int))), (4, .int (iI ((tSt t (l * 6 + (tSz t l - 1 - j)) : Nat) : Int))), (5, .int (iI ((rbS t l b be j) + (tOg t (l * 6 + (tSz t l - 1 - j)))))), (6, .int (iI ((0 : Nat) : Int)))]) E [1, 2, 3, 4, 5, 6, 0] dX0_rideLineBack_89 hl (by decide) rfl (fun ls hl => ?_)
          refine rp_il E dX0_rideLineBack_91 (lv_at hl 6 rfl) ?_
          refine rp_feq (tgt := 138) E dX0_rideLineBack_93 (by decide) ⟨by omega, by omega⟩ (fun c93 => ?_) (fun c93 => ?_)
          · refine rp_iinc (v := ((tSz t l : Int) - 1 - ((j + 1 : Nat) : Int))) (lv' := [(0, .ref (q 0)), (1, .int (iI ((l : Nat) : Int))), (2, .int (iI (rbS t l b be j))), (3, .int (iI ((tSz t l : Int) - 1 - ((j + 1 : Nat) : Int)))), (4, .int (iI ((tSt t (l * 6 + (tSz t l - 1 - j)) : Nat) : Int))), (5, .int (iI ((rbS t l b be j) + (tOg t (l * 6 + (tSz t l - 1 - j)))))), (6, .int (iI ((0 : Nat) : Int)))]) E [1, 2, 3, 0, 4, 5, 6] dX0_rideLineBack_138 hl (k := 3) rfl (by omega) (by decide) rfl (fun ls hl => ?_)
            refine rp_goto (tgt := 12) E dX0_rideLineBack_141 (by decide) ?_
            exact ihloop (j + 1) (by omega) (by omega) _ _ w ls (by rw [rbS, if_neg (by omega)]; exact (lv_sub hl [0, 1, 2, 3] rfl))
          · exact False.elim (by omega)
        · refine rp_ic E (v := ((1 : Nat) : Int)) dX0_rideLineBack_84 rfl ?_
          refine rp_goto (tgt := 89) E dX0_rideLineBack_85 (by decide) ?_
          refine rp_is (lv' := [(0, .ref (q 0)), (1, .int (iI ((l : Nat) : Int))), (2, .int (iI (rbS t l b be j))), (3, .int (iI ((tSz t l - 1 - j : Nat) : Int))), (4, .int (iI ((tSt t (l * 6 + (tSz t l - 1 - j)) : Nat) : Int))), (5, .int (iI ((rbS t l b be j) + (tOg t (l * 6 + (tSz t l - 1 - j)))))), (6, .int (iI ((1 : Nat) : Int)))]) E [1, 2, 3, 4, 5, 6, 0] dX0_rideLineBack_89 hl (by decide) rfl (fun ls hl => ?_)
          refine rp_il E dX0_rideLineBack_91 (lv_at hl 6 rfl) ?_
          refine rp_feq (tgt := 138) E dX0_rideLineBack_93 (by decide) ⟨by omega, by omega⟩ (fun c93 => ?_) (fun c93 => ?_)
          · exact False.elim (by omega)
          · refine rp_iln E dX0_rideLineBack_96 rfl (lv_at hl 2 rfl) ?_
            refine rp_ldc E (v := (-1000000)) q160 (by decide) dX0_rideLineBack_97 ?_
            refine rp_ceq (tgt := 114) E dX0_rideLineBack_99 (by decide) ⟨by omega, by omega⟩ ⟨by omega, by omega⟩ (fun c99 => ?_) (fun c99 => ?_)
            · refine rp_aln E dX0_rideLineBack_114 rfl (lv_at hl 0 rfl) ?_
              refine rp_iln E dX0_rideLineBack_115 rfl (lv_at hl 1 rfl) ?_
              refine rp_iln E dX0_rideLineBack_116 rfl (lv_at hl 3 rfl) ?_
              refine rx_ag E w (lv_at hl 0 rfl) 10 (by decide) rfl q45 rfl dX0_rideLineBack_117 dX0_rideLineBack_118 ?_
              refine rp_il E dX0_rideLineBack_121 (lv_at hl 4 rfl) ?_
              refine rp_ald E w 9 rfl (tSt t (l * 6 + (tSz t l - 1 - j))) (rfl) (by omega) (by decide) dX0_rideLineBack_123 ?_
              refine rp_calli (rest := []) E w hA (metX0_meetTrip lc D d0 q t _ re be b ok l (tSz t l - 1 - j) (be (tSt t (l * 6 + (tSz t l - 1 - j)))) h5 (by omega) fb) (cwV 3 E.1.2.2.2.2 (lw_V q169 q171 qs13 q25 q172) rfl rfl rfl (by decide +kernel) ⟨Nat.le_of_ble_eq_true rfl, Nat.le_of_ble_eq_true rfl⟩) (rx_rcv E w) rfl hl.1 rfl (Nat.le_of_ble_eq_true rfl) dX0_rideLineBack_124 ⟨Nat.zero_le _, Nat.zero_le _⟩ (fun vc uc H locs hpc w => ?_)
              subst hpc
              have fc := mtA_b ok l (tSz t l - 1 - j) (be (tSt t (l * 6 + (tSz t l - 1 - j)))) (tT t)
              refine rp_is (lv' := [(0, .ref (q 0)), (1, .int (iI ((l : Nat) : Int))), (2, .int (iI (rbS t l b be j))), (3, .int (iI ((tSz t l - 1 - j : Nat) : Int))), (4, .int (iI ((tSt t (l * 6 + (tSz t l - 1 - j)) : Nat) : Int))), (5, .int (iI ((rbS t l b be j) + (tOg t (l * 6 + (tSz t l - 1 - j)))))), (6, .int (iI ((1 : Nat) : Int))), (7, .int (iI (mtA t l (tSz t l - 1 - j) (be (tSt t (l * 6 + (tSz t l - 1 - j)))) (tT t))))]) E [1, 2, 3, 4, 5, 6, 7, 0] dX0_rideLineBack_127 hl (by decide) rfl (fun ls hl => ?_)
              refine rp_il E dX0_rideLineBack_129 (lv_at hl 7 rfl) ?_
              refine rp_iln E dX0_rideLineBack_131 rfl (lv_at hl 2 rfl) ?_
              refine rp_cle (tgt := 138) E dX0_rideLineBack_132 (by decide) ⟨by omega, by omega⟩ ⟨by omega, by omega⟩ (fun c132 => ?_) (fun c132 => ?_)
              · refine rp_iinc (v := ((tSz t l : Int) - 1 - ((j + 1 : Nat) : Int))) (lv' := [(0, .ref (q 0)), (1, .int (iI ((l : Nat) : Int))), (2, .int (iI (rbS t l b be j))), (3, .int (iI ((tSz t l : Int) - 1 - ((j + 1 : Nat) : Int)))), (4, .int (iI ((tSt t (l * 6 + (tSz t l - 1 - j)) : Nat) : Int))), (5, .int (iI ((rbS t l b be j) + (tOg t (l * 6 + (tSz t l - 1 - j)))))), (6, .int (iI ((1 : Nat) : Int))), (7, .int (iI (mtA t l (tSz t l - 1 - j) (be (tSt t (l * 6 + (tSz t l - 1 - j)))) (tT t))))]) E [1, 2, 3, 0, 4, 5, 6, 7] dX0_rideLineBack_138 hl (k := 3) rfl (by omega) (by decide) rfl (fun ls hl => ?_)
                refine rp_goto (tgt := 12) E dX0_rideLineBack_141 (by decide) ?_
                exact ihloop (j + 1) (by omega) (by omega) _ _ w ls (by rw [rbS, if_neg (by omega)]; exact (lv_sub hl [0, 1, 2, 3] rfl))
              · refine rp_il E dX0_rideLineBack_135 (lv_at hl 7 rfl) ?_
                refine rp_isn (lv' := [(0, .ref (q 0)), (1, .int (iI ((l : Nat) : Int))), (2, .int (iI (mtA t l (tSz t l - 1 - j) (be (tSt t (l * 6 + (tSz t l - 1 - j)))) (tT t)))), (3, .int (iI ((tSz t l - 1 - j : Nat) : Int))), (4, .int (iI ((tSt t (l * 6 + (tSz t l - 1 - j)) : Nat) : Int))), (5, .int (iI ((rbS t l b be j) + (tOg t (l * 6 + (tSz t l - 1 - j)))))), (6, .int (iI ((1 : Nat) : Int))), (7, .int (iI (mtA t l (tSz t l - 1 - j) (be (tSt t (l * 6 + (tSz t l - 1 - j)))) (tT t))))]) E [1, 2, 0, 3, 4, 5, 6, 7] dX0_rideLineBack_137 rfl hl (by decide) rfl (fun ls hl => ?_)
                refine rp_iinc (v := ((tSz t l : Int) - 1 - ((j + 1 : Nat) : Int))) (lv' := [(0, .ref (q 0)), (1, .int (iI ((l : Nat) : Int))), (2, .int (iI (mtA t l (tSz t l - 1 - j) (be (tSt t (l * 6 + (tSz t l - 1 - j)))) (tT t)))), (3, .int (iI ((tSz t l : Int) - 1 - ((j + 1 : Nat) : Int)))), (4, .int (iI ((tSt t (l * 6 + (tSz t l - 1 - j)) : Nat) : Int))), (5, .int (iI ((rbS t l b be j) + (tOg t (l * 6 + (tSz t l - 1 - j)))))), (6, .int (iI ((1 : Nat) : Int))), (7, .int (iI (mtA t l (tSz t l - 1 - j) (be (tSt t (l * 6 + (tSz t l - 1 - j)))) (tT t))))]) E [1, 2, 3, 0, 4, 5, 6, 7] dX0_rideLineBack_138 hl (k := 3) rfl (by omega) (by decide) rfl (fun ls hl => ?_)
                refine rp_goto (tgt := 12) E dX0_rideLineBack_141 (by decide) ?_
                exact ihloop (j + 1) (by omega) (by omega) _ _ w ls (by rw [rbS, if_pos (by omega)]; exact (lv_sub hl [0, 1, 2, 3] rfl))
            · refine rx_ag E w (lv_at hl 0 rfl) 10 (by decide) rfl q45 rfl dX0_rideLineBack_102 dX0_rideLineBack_103 ?_
              refine rp_il E dX0_rideLineBack_106 (lv_at hl 4 rfl) ?_
              refine rp_ald E w 9 rfl (tSt t (l * 6 + (tSz t l - 1 - j))) (rfl) (by omega) (by decide) dX0_rideLineBack_108 ?_
              refine rp_il E dX0_rideLineBack_109 (lv_at hl 5 rfl) ?_
              refine rp_cle (tgt := 138) E dX0_rideLineBack_111 (by decide) ⟨by omega, by omega⟩ ⟨by omega, by omega⟩ (fun c111 => ?_) (fun c111 => ?_)
              · refine rp_iinc (v := ((tSz t l : Int) - 1 - ((j + 1 : Nat) : Int))) (lv' := [(0, .ref (q 0)), (1, .int (iI ((l : Nat) : Int))), (2, .int (iI (rbS t l b be j))), (3, .int (iI ((tSz t l : Int) - 1 - ((j + 1 : Nat) : Int)))), (4, .int (iI ((tSt t (l * 6 + (tSz t l - 1 - j)) : Nat) : Int))), (5, .int (iI ((rbS t l b be j) + (tOg t (l * 6 + (tSz t l - 1 - j)))))), (6, .int (iI ((1 : Nat) : Int)))]) E [1, 2, 3, 0, 4, 5, 6] dX0_rideLineBack_138 hl (k := 3) rfl (by omega) (by decide) rfl (fun ls hl => ?_)
                refine rp_goto (tgt := 12) E dX0_rideLineBack_141 (by decide) ?_
                exact ihloop (j + 1) (by omega) (by omega) _ _ w ls (by rw [rbS, if_neg (by omega)]; exact (lv_sub hl [0, 1, 2, 3] rfl))
              · refine rp_aln E dX0_rideLineBack_114 rfl (lv_at hl 0 rfl) ?_
                refine rp_iln E dX0_rideLineBack_115 rfl (lv_at hl 1 rfl) ?_
                refine rp_iln E dX0_rideLineBack_116 rfl (lv_at hl 3 rfl) ?_
                refine rx_ag E w (lv_at hl 0 rfl) 10 (by decide) rfl q45 rfl dX0_rideLineBack_117 dX0_rideLineBack_118 ?_
                refine rp_il E dX0_rideLineBack_121 (lv_at hl 4 rfl) ?_
                refine rp_ald E w 9 rfl (tSt t (l * 6 + (tSz t l - 1 - j))) (rfl) (by omega) (by decide) dX0_rideLineBack_123 ?_
                refine rp_calli (rest := []) E w hA (metX0_meetTrip lc D d0 q t _ re be b ok l (tSz t l - 1 - j) (be (tSt t (l * 6 + (tSz t l - 1 - j)))) h5 (by omega) fb) (cwV 3 E.1.2.2.2.2 (lw_V q169 q171 qs13 q25 q172) rfl rfl rfl (by decide +kernel) ⟨Nat.le_of_ble_eq_true rfl, Nat.le_of_ble_eq_true rfl⟩) (rx_rcv E w) rfl hl.1 rfl (Nat.le_of_ble_eq_true rfl) dX0_rideLineBack_124 ⟨Nat.zero_le _, Nat.zero_le _⟩ (fun vc uc H locs hpc w => ?_)
                subst hpc
                have fc := mtA_b ok l (tSz t l - 1 - j) (be (tSt t (l * 6 + (tSz t l - 1 - j)))) (tT t)
                refine rp_is (lv' := [(0, .ref (q 0)), (1, .int (iI ((l : Nat) : Int))), (2, .int (iI (rbS t l b be j))), (3, .int (iI ((tSz t l - 1 - j : Nat) : Int))), (4, .int (iI ((tSt t (l * 6 + (tSz t l - 1 - j)) : Nat) : Int))), (5, .int (iI ((rbS t l b be j) + (tOg t (l * 6 + (tSz t l - 1 - j)))))), (6, .int (iI ((1 : Nat) : Int))), (7, .int (iI (mtA t l (tSz t l - 1 - j) (be (tSt t (l * 6 + (tSz t l - 1 - j)))) (tT t))))]) E [1, 2, 3, 4, 5, 6, 7, 0] dX0_rideLineBack_127 hl (by decide) rfl (fun ls hl => ?_)
                refine rp_il E dX0_rideLineBack_129 (lv_at hl 7 rfl) ?_
                refine rp_iln E dX0_rideLineBack_131 rfl (lv_at hl 2 rfl) ?_
                refine rp_cle (tgt := 138) E dX0_rideLineBack_132 (by decide) ⟨by omega, by omega⟩ ⟨by omega, by omega⟩ (fun c132 => ?_) (fun c132 => ?_)
                · refine rp_iinc (v := ((tSz t l : Int) - 1 - ((j + 1 : Nat) : Int))) (lv' := [(0, .ref (q 0)), (1, .int (iI ((l : Nat) : Int))), (2, .int (iI (rbS t l b be j))), (3, .int (iI ((tSz t l : Int) - 1 - ((j + 1 : Nat) : Int)))), (4, .int (iI ((tSt t (l * 6 + (tSz t l - 1 - j)) : Nat) : Int))), (5, .int (iI ((rbS t l b be j) + (tOg t (l * 6 + (tSz t l - 1 - j)))))), (6, .int (iI ((1 : Nat) : Int))), (7, .int (iI (mtA t l (tSz t l - 1 - j) (be (tSt t (l * 6 + (tSz t l - 1 - j)))) (tT t))))]) E [1, 2, 3, 0, 4, 5, 6, 7] dX0_rideLineBack_138 hl (k := 3) rfl (by omega) (by decide) rfl (fun ls hl => ?_)
                  refine rp_goto (tgt := 12) E dX0_rideLineBack_141 (by decide) ?_
                  exact ihloop (j + 1) (by omega) (by omega) _ _ w ls (by rw [rbS, if_neg (by omega)]; exact (lv_sub hl [0, 1, 2, 3] rfl))
                · refine rp_il E dX0_rideLineBack_135 (lv_at hl 7 rfl) ?_
                  refine rp_isn (lv' := [(0, .ref (q 0)), (1, .int (iI ((l : Nat) : Int))), (2, .int (iI (mtA t l (tSz t l - 1 - j) (be (tSt t (l * 6 + (tSz t l - 1 - j)))) (tT t)))), (3, .int (iI ((tSz t l - 1 - j : Nat) : Int))), (4, .int (iI ((tSt t (l * 6 + (tSz t l - 1 - j)) : Nat) : Int))), (5, .int (iI ((rbS t l b be j) + (tOg t (l * 6 + (tSz t l - 1 - j)))))), (6, .int (iI ((1 : Nat) : Int))), (7, .int (iI (mtA t l (tSz t l - 1 - j) (be (tSt t (l * 6 + (tSz t l - 1 - j)))) (tT t))))]) E [1, 2, 0, 3, 4, 5, 6, 7] dX0_rideLineBack_137 rfl hl (by decide) rfl (fun ls hl => ?_)
                  refine rp_iinc (v := ((tSz t l : Int) - 1 - ((j + 1 : Nat) : Int))) (lv' := [(0, .ref (q 0)), (1, .int (iI ((l : Nat) : Int))), (2, .int (iI (mtA t l (tSz t l - 1 - j) (be (tSt t (l * 6 + (tSz t l - 1 - j)))) (tT t)))), (3, .int (iI ((tSz t l : Int) - 1 - ((j + 1 : Nat) : Int)))), (4, .int (iI ((tSt t (l * 6 + (tSz t l - 1 - j)) : Nat) : Int))), (5, .int (iI ((rbS t l b be j) + (tOg t (l * 6 + (tSz t l - 1 - j)))))), (6, .int (iI ((1 : Nat) : Int))), (7, .int (iI (mtA t l (tSz t l - 1 - j) (be (tSt t (l * 6 + (tSz t l - 1 - j)))) (tT t))))]) E [1, 2, 3, 0, 4, 5, 6, 7] dX0_rideLineBack_138 hl (k := 3) rfl (by omega) (by decide) rfl (fun ls hl => ?_)
                  refine rp_goto (tgt := 12) E dX0_rideLineBack_141 (by decide) ?_
                  exact ihloop (j + 1) (by omega) (by omega) _ _ w ls (by rw [rbS, if_pos (by omega)]; exact (lv_sub hl [0, 1, 2, 3] rfl))
      refine rp_iln E dX0_rideLineBack_12 rfl (lv_at hl 3 rfl) ?_
      refine rp_flt (tgt := 144) E dX0_rideLineBack_13 (by decide) ⟨by omega, by omega⟩ (fun c13 => ?_) (fun c13 => ?_)
      · exact hret _ _ () _ _ (trivial) (by rw [← show j = tSz t l by omega]; exact w) dX0_rideLineBack_144
      · have hl : lv_has ls 8 [(0, .ref (q 0)), (1, .int (iI ((l : Nat) : Int))), (2, .int (iI (rbS t l b be j))), (3, .int (iI ((tSz t l - 1 - j : Nat) : Int)))] := by rw [show ((tSz t l - 1 - j : Nat) : Int) = (tSz t l : Int) - 1 - (j : Int) by omega]; exact hl
        refine rx_ag E w (lv_at hl 0 rfl) 2 (by decide) rfl q37 rfl dX0_rideLineBack_16 dX0_rideLineBack_17 ?_
        refine rp_iln E dX0_rideLineBack_20 rfl (lv_at hl 1 rfl) ?_
        refine rp_bi E (v := ((6 : Nat) : Int)) dX0_rideLineBack_21 (by decide) ?_
        refine rp_mulN E dX0_rideLineBack_23 ?_
        refine rp_iln E dX0_rideLineBack_24 rfl (lv_at hl 3 rfl) ?_
        refine rp_addN E dX0_rideLineBack_25 ?_
        refine rp_ald E w 2 rfl ((l * 6) + (tSz t l - 1 - j)) (rfl) (by omega) (by decide) dX0_rideLineBack_26 ?_
        refine rp_is (lv' := [(0, .ref (q 0)), (1, .int (iI ((l : Nat) : Int))), (2, .int (iI (rbS t l b be j))), (3, .int (iI ((tSz t l - 1 - j : Nat) : Int))), (4, .int (iI ((tSt t ((l * 6) + (tSz t l - 1 - j)) : Nat) : Int)))]) E [1, 2, 3, 4, 0] dX0_rideLineBack_27 hl (by decide) rfl (fun ls hl => ?_)
        refine rp_iln E dX0_rideLineBack_29 rfl (lv_at hl 2 rfl) ?_
        refine rx_ag E w (lv_at hl 0 rfl) 3 (by decide) rfl q38 rfl dX0_rideLineBack_30 dX0_rideLineBack_31 ?_
        refine rp_iln E dX0_rideLineBack_34 rfl (lv_at hl 1 rfl) ?_
        refine rp_bi E (v := ((6 : Nat) : Int)) dX0_rideLineBack_35 (by decide) ?_
        refine rp_mulN E dX0_rideLineBack_37 ?_
        refine rp_iln E dX0_rideLineBack_38 rfl (lv_at hl 3 rfl) ?_
        refine rp_addN E dX0_rideLineBack_39 ?_
        refine rp_ald E w 3 rfl ((l * 6) + (tSz t l - 1 - j)) (rfl) (by omega) (by decide) dX0_rideLineBack_40 ?_
        refine rp_add E dX0_rideLineBack_41 ?_
        refine rp_is (lv' := [(0, .ref (q 0)), (1, .int (iI ((l : Nat) : Int))), (2, .int (iI (rbS t l b be j))), (3, .int (iI ((tSz t l - 1 - j : Nat) : Int))), (4, .int (iI ((tSt t ((l * 6) + (tSz t l - 1 - j)) : Nat) : Int))), (5, .int (iI ((rbS t l b be j) + (tOg t ((l * 6) + (tSz t l - 1 - j))))))]) E [1, 2, 3, 4, 5, 0] dX0_rideLineBack_42 hl (by decide) rfl (fun ls hl => ?_)
        refine rp_iln E dX0_rideLineBack_44 rfl (lv_at hl 2 rfl) ?_
        refine rp_ldc E (v := (-1000000)) q160 (by decide) dX0_rideLineBack_45 ?_
        refine rp_cle (tgt := 71) E dX0_rideLineBack_47 (by decide) ⟨by omega, by omega⟩ ⟨by omega, by omega⟩ (fun c47 => ?_) (fun c47 => ?_)
        · exact J71 (by omega) _ _ (by rw [rbR, if_neg (by omega)]; exact w) ls hl
        · refine rp_il E dX0_rideLineBack_50 (lv_at hl 5 rfl) ?_
          refine rx_ag E w (lv_at hl 0 rfl) 8 (by decide) rfl q43 rfl dX0_rideLineBack_52 dX0_rideLineBack_53 ?_
          refine rp_il E dX0_rideLineBack_56 (lv_at hl 4 rfl) ?_
          refine rp_ald E w 7 rfl (tSt t ((l * 6) + (tSz t l - 1 - j))) (rfl) (by omega) (by decide) dX0_rideLineBack_58 ?_
          refine rp_cle (tgt := 71) E dX0_rideLineBack_59 (by decide) ⟨by omega, by omega⟩ ⟨by omega, by omega⟩ (fun c59 => ?_) (fun c59 => ?_)
          · exact J71 (by omega) _ _ (by rw [rbR, if_neg (by omega)]; exact w) ls hl
          · refine rx_ag E w (lv_at hl 0 rfl) 8 (by decide) rfl q43 rfl dX0_rideLineBack_62 dX0_rideLineBack_63 ?_
            refine rp_il E dX0_rideLineBack_66 (lv_at hl 4 rfl) ?_
            refine rp_il E dX0_rideLineBack_68 (lv_at hl 5 rfl) ?_
            refine rp_ast E w 7 rfl (tSt t ((l * 6) + (tSz t l - 1 - j))) (rfl) (by omega) (by decide) dX0_rideLineBack_70 (fun H locs w => ?_)
            have w : rp_H D A s.heap H locs (XW d0 q t (upI (rbR t l b be ri j) (tSt t ((l * 6) + (tSz t l - 1 - j))) (((rbS t l b be j) + (tOg t ((l * 6) + (tSz t l - 1 - j)))))) re be b) := w
            exact J71 (by omega) _ _ (by rw [rbR, if_pos (by omega)]; exact w) ls hl
  refine rp_ldc E (v := (-1000000)) q160 (by decide) dX0_rideLineBack_0 ?_
  refine rp_isn (lv' := [(0, .ref (q 0)), (1, .int (iI ((l : Nat) : Int))), (2, .int (iI (-1000000)))]) E [1, 2, 0] dX0_rideLineBack_2 rfl hl (by decide) rfl (fun ls hl => ?_)
  refine rx_ag E w (lv_at hl 0 rfl) 1 (by decide) rfl q36 rfl dX0_rideLineBack_3 dX0_rideLineBack_4 ?_
  refine rp_iln E dX0_rideLineBack_7 rfl (lv_at hl 1 rfl) ?_
  refine rp_ald E w 1 rfl (l) (rfl) (by omega) (by decide) dX0_rideLineBack_8 ?_
  refine rp_ic E (v := ((1 : Nat) : Int)) dX0_rideLineBack_9 rfl ?_
  refine rp_sub E dX0_rideLineBack_10 ?_
  refine rp_isn (lv' := [(0, .ref (q 0)), (1, .int (iI ((l : Nat) : Int))), (2, .int (iI (-1000000))), (3, .int (iI (((tSz t (l) : Nat) : Int) - ((1 : Nat) : Int))))]) E [1, 2, 3, 0] dX0_rideLineBack_11 rfl hl (by decide) rfl (fun ls hl => ?_)
  exact loop (tSz t l + 1) 0 (by omega) (by omega) _ _ (by rw [rbR]; exact w) ls (by rw [rbS, show (tSz t l : Int) - 1 - ((0 : Nat) : Int) = ((tSz t l : Nat) : Int) - ((1 : Nat) : Int) by omega]; exact hl)
end
section
set_option maxRecDepth 100000
set_option maxHeartbeats 4000000 in
set_option maxRecDepth 100000 in
/-- planBack -/
theorem metX0_planBack (lc : Launch) (D : va_G) (d0 : ClassId) (q : Nat → Nat) (t : TT) (ri re be : Nat → Int) (b : Nat) (ok : tOk t) (a : Nat) (τ : Int) (h8 : a < 8) (hτ : 0 ≤ τ ∧ τ ≤ 1000) : rp_MV lc D d0 yX0_planBack cX0_planBack 5 (rp_r 2 52) [.ref (q 0), .int (iI ((a : Nat) : Int)), .int (iI (τ))] (XW d0 q t ri re be b) (fun (u : XS) => ∃ k, k ≤ 12 ∧ u = itrB t (bgB t a τ (ri, re, be, b)) k ∧ (k = 12 ∨ u.2.2.2 = 0)) (fun (u : XS) => XWs d0 q t u) := by
  refine rp_MV.of (by decide) rfl (Nat.le_of_ble_eq_true rfl) ?_
  intro p e s m below meth c args A ls Q E hA w hl hret
  have hl : lv_has ls 5 [(0, .ref (q 0)), (1, .int (iI ((a : Nat) : Int))), (2, .int (iI (τ)))] := hl
  have fL := tk_LT ok
  have hσ := bgB_ok ok hτ (a := a) (ri, re, be, b)
  obtain ⟨σ, eσ⟩ : ∃ σ, σ = bgB t a τ (ri, re, be, b) := ⟨_, rfl⟩
  rw [← eσ] at hσ
  have outer : ∀ f k : Nat, k ≤ 12 → 12 < k + f → ∀ H locs, rp_H D A s.heap H locs (XW d0 q t ((itrB t σ k).1) ((itrB t σ k).2.1) ((itrB t σ k).2.2.1) ((itrB t σ k).2.2.2)) → ∀ ls, lv_has ls 5 [(0, .ref (q 0)), (1, .int (iI ((a : Nat) : Int))), (2, .int (iI (τ))), (3, .int (iI ((k : Nat) : Int)))] → W p lc e (rp_r 2 52) s m args below meth c H locs 0 0 Q (F0 m 43 ls []) := by
    intro f
    induction f with
    | zero =>
      intro k h1 h2
      exact absurd h2 (by omega)
    | succ f ihouter =>
      intro k h1 h2 H locs w ls hl
      have hk := itrB_ok ok hσ k
      obtain ⟨ri2, re2, be2, b2, e2⟩ : ∃ ri2 re2 be2 b2, itrB t σ k = (ri2, re2, be2, b2) := ⟨_, _, _, _, rfl⟩
      rw [e2] at w hk
      have w : rp_H D A s.heap H locs (XW d0 q t ri2 re2 be2 b2) := w
      have hk1 : bR re2 8 := hk.1
      have hk2 : b2 < 256 := hk.2
      have lines : k < 12 → ∀ f2 j : Nat, j ≤ tL t → tL t < j + f2 → ∀ H locs, rp_H D A s.heap H locs (XW d0 q t (nrLB t b2 (cp re2 be2 8) (fl (-1000000) ri2 8) j) re2 (cp re2 be2 8) b2) → ∀ ls, lv_has ls 5 [(0, .ref (q 0)), (1, .int (iI ((a : Nat) : Int))), (2, .int (iI (τ))), (3, .int (iI ((k : Nat) : Int))), (4, .int (iI ((j : Nat) : Int)))] → W p lc e (rp_r 2 52) s m args below meth c H locs 0 0 Q (F0 m 98 ls []) := by
        intro hk9 f2
        induction f2 with
        | zero =>
          intro j h3 h4
          exact absurd h4 (by omega)
        | succ f2 ihlines =>
          intro j h3 h4 H locs w ls hl
          refine rp_il E dX0_planBack_98 (lv_at hl 4 rfl) ?_
          refine rx_ag (v := .int (iI ((tL t : Nat) : Int))) E w (lv_at hl 0 rfl) 0 (by decide) rfl q35 rfl dX0_planBack_100 dX0_planBack_101 ?_
          refine rp_cge (tgt := 119) E dX0_planBack_104 (by decide) ⟨by omega, by omega⟩ ⟨by omega, by omega⟩ (fun c104 => ?_) (fun c104 => ?_)
          · have e9 : j = tL t := by omega
            subst e9
            refine rp_aln E dX0_planBack_119 rfl (lv_at hl 0 rfl) ?_
            refine rp_callv (rest := []) E w hA (metX0_walkBack lc D d0 q t (nrLB t b2 (cp re2 be2 8) (fl (-1000000) ri2 8) (tL t)) re2 (cp re2 be2 8) b2 ok (nrLB_b ok b2 (cp re2 be2 8) (fl (-1000000) ri2 8) (fl_b (-1000000) ri2 8 (by omega)) (tL t)) hk1) (cwV 0 E.1.2.2.2.2 (lw_V q161 q163 qs11 q25 q164) rfl rfl rfl (by decide +kernel) ⟨Nat.le_of_ble_eq_true rfl, Nat.le_of_ble_eq_true rfl⟩) (rx_rcv E w) rfl hl.1 rfl (Nat.le_of_ble_eq_true rfl) dX0_planBack_120 ⟨Nat.zero_le _, Nat.zero_le _⟩ (fun u9 H locs hp9 w => ?_)
            have w : rp_H D A s.heap H locs (XWs d0 q t (itrB t σ (k + 1))) := by rw [itrB, e2]; exact w
            refine rp_iinc (v := ((k + 1 : Nat) : Int)) (lv' := [(0, .ref (q 0)), (1, .int (iI ((a : Nat) : Int))), (2, .int (iI (τ))), (3, .int (iI ((k + 1 : Nat) : Int))), (4, .int (iI ((tL t : Nat) : Int)))]) E [1, 2, 3, 0, 4] dX0_planBack_123 hl (k := 3) rfl (by omega) (by decide) rfl (fun ls hl => ?_)
            refine rp_goto (tgt := 43) E dX0_planBack_126 (by decide) ?_
            exact ihouter (k + 1) (by omega) (by omega) _ _ w ls (lv_sub hl [0, 1, 2, 3] rfl)
          · refine rp_aln E dX0_planBack_107 rfl (lv_at hl 0 rfl) ?_
            refine rp_il E dX0_planBack_108 (lv_at hl 4 rfl) ?_
            refine rp_callv (rest := []) E w hA (metX0_rideLineBack lc D d0 q t (nrLB t b2 (cp re2 be2 8) (fl (-1000000) ri2 8) j) re2 (cp re2 be2 8) b2 ok j (by omega) hk2 (cp_b hk1) (nrLB_b ok b2 (cp re2 be2 8) (fl (-1000000) ri2 8) (fl_b (-1000000) ri2 8 (by omega)) j)) (cwV 1 E.1.2.2.2.2 (lw_V q165 q167 qs12 q25 q168) rfl rfl rfl (by decide +kernel) ⟨Nat.le_of_ble_eq_true rfl, Nat.le_of_ble_eq_true rfl⟩) (rx_rcv E w) rfl hl.1 rfl (Nat.le_of_ble_eq_true rfl) dX0_planBack_110 ⟨Nat.zero_le _, Nat.zero_le _⟩ (fun u9 H locs hp9 w => ?_)
            refine rp_iinc (v := ((j + 1 : Nat) : Int)) (lv' := [(0, .ref (q 0)), (1, .int (iI ((a : Nat) : Int))), (2, .int (iI (τ))), (3, .int (iI ((k : Nat) : Int))), (4, .int (iI ((j + 1 : Nat) : Int)))]) E [1, 2, 3, 4, 0] dX0_planBack_113 hl (k := 4) rfl (by omega) (by decide) rfl (fun ls hl => ?_)
            refine rp_goto (tgt := 98) E dX0_planBack_116 (by decide) ?_
            exact ihlines (j + 1) (by omega) (by omega) _ _ (by rw [nrLB]; exact w) ls hl
      have copy : k < 12 → ∀ f2 j : Nat, j ≤ 8 → 8 < j + f2 → ∀ H locs, rp_H D A s.heap H locs (XW d0 q t (fl (-1000000) ri2 j) re2 (cp re2 be2 j) b2) → ∀ ls, lv_has ls 5 [(0, .ref (q 0)), (1, .int (iI ((a : Nat) : Int))), (2, .int (iI (τ))), (3, .int (iI ((k : Nat) : Int))), (4, .int (iI ((j : Nat) : Int)))] → W p lc e (rp_r 2 52) s m args below meth c H locs 0 0 Q (F0 m 59 ls []) := by
        intro hk9 f2
        induction f2 with
        | zero =>
          intro j h3 h4
          exact absurd h4 (by omega)
        | succ f2 ihcopy =>
          intro j h3 h4 H locs w ls hl
          have fe := fun (h : j < 8) => hk1 j h
          refine rp_il E dX0_planBack_59 (lv_at hl 4 rfl) ?_
          refine rp_bi E (v := ((8 : Nat) : Int)) dX0_planBack_61 (by decide) ?_
          refine rp_cge (tgt := 95) E dX0_planBack_63 (by decide) ⟨by omega, by omega⟩ ⟨by omega, by omega⟩ (fun c63 => ?_) (fun c63 => ?_)
          · have e9 : j = 8 := by omega
            subst e9
            refine rp_ic E (v := ((0 : Nat) : Int)) dX0_planBack_95 rfl ?_
            refine rp_is (lv' := [(0, .ref (q 0)), (1, .int (iI ((a : Nat) : Int))), (2, .int (iI (τ))), (3, .int (iI ((k : Nat) : Int))), (4, .int (iI ((0 : Nat) : Int)))]) E [1, 2, 3, 4, 0] dX0_planBack_96 hl (by decide) rfl (fun ls hl => ?_)
            exact lines hk9 (tL t + 1) 0 (by omega) (by omega) _ _ (by rw [nrLB]; exact w) ls hl
          · refine rx_ag E w (lv_at hl 0 rfl) 10 (by decide) rfl q45 rfl dX0_planBack_66 dX0_planBack_67 ?_
            refine rp_il E dX0_planBack_70 (lv_at hl 4 rfl) ?_
            refine rx_ag E w (lv_at hl 0 rfl) 9 (by decide) rfl q44 rfl dX0_planBack_72 dX0_planBack_73 ?_
            refine rp_il E dX0_planBack_76 (lv_at hl 4 rfl) ?_
            refine rp_ald E w 8 rfl (j) (rfl) (by omega) (by decide) dX0_planBack_78 ?_
            refine rp_ast E w 9 rfl (j) (rfl) (by omega) (by decide) dX0_planBack_79 (fun H locs w => ?_)
            have w : rp_H D A s.heap H locs (XW d0 q t (fl (-1000000) ri2 j) re2 (upI (cp re2 be2 j) (j) ((re2 (j)))) b2) := w
            refine rx_ag E w (lv_at hl 0 rfl) 8 (by decide) rfl q43 rfl dX0_planBack_80 dX0_planBack_81 ?_
            refine rp_il E dX0_planBack_84 (lv_at hl 4 rfl) ?_
            refine rp_ldc E (v := (-1000000)) q160 (by decide) dX0_planBack_86 ?_
            refine rp_ast E w 7 rfl (j) (rfl) (by omega) (by decide) dX0_planBack_88 (fun H locs w => ?_)
            have w : rp_H D A s.heap H locs (XW d0 q t (upI (fl (-1000000) ri2 j) (j) ((-1000000))) re2 (upI (cp re2 be2 j) (j) ((re2 (j)))) b2) := w
            refine rp_iinc (v := ((j + 1 : Nat) : Int)) (lv' := [(0, .ref (q 0)), (1, .int (iI ((a : Nat) : Int))), (2, .int (iI (τ))), (3, .int (iI ((k : Nat) : Int))), (4, .int (iI ((j + 1 : Nat) : Int)))]) E [1, 2, 3, 4, 0] dX0_planBack_89 hl (k := 4) rfl (by omega) (by decide) rfl (fun ls hl => ?_)
            refine rp_goto (tgt := 59) E dX0_planBack_92 (by decide) ?_
            exact ihcopy (j + 1) (by omega) (by omega) _ _ (by rw [cp, fl]; exact w) ls hl
      refine rp_iln E dX0_planBack_43 rfl (lv_at hl 3 rfl) ?_
      refine rp_bi E (v := ((12 : Nat) : Int)) dX0_planBack_44 (by decide) ?_
      refine rp_cge (tgt := 129) E dX0_planBack_46 (by decide) ⟨by omega, by omega⟩ ⟨by omega, by omega⟩ (fun c46 => ?_) (fun c46 => ?_)
      · exact hret _ _ (ri2, re2, be2, b2) _ _ (⟨k, h1, by rw [← eσ, e2], by first | exact Or.inl (by omega) | exact Or.inr (show b2 = 0 by omega)⟩) w dX0_planBack_129
      · refine rx_ag (v := .int (iI ((b2 : Nat) : Int))) E w (lv_at hl 0 rfl) 11 (by decide) rfl q46 rfl dX0_planBack_49 dX0_planBack_50 ?_
        refine rp_feq (tgt := 129) E dX0_planBack_53 (by decide) ⟨by omega, by omega⟩ (fun c53 => ?_) (fun c53 => ?_)
        · exact hret _ _ (ri2, re2, be2, b2) _ _ (⟨k, h1, by rw [← eσ, e2], by first | exact Or.inl (by omega) | exact Or.inr (show b2 = 0 by omega)⟩) w dX0_planBack_129
        · refine rp_ic E (v := ((0 : Nat) : Int)) dX0_planBack_56 rfl ?_
          refine rp_is (lv' := [(0, .ref (q 0)), (1, .int (iI ((a : Nat) : Int))), (2, .int (iI (τ))), (3, .int (iI ((k : Nat) : Int))), (4, .int (iI ((0 : Nat) : Int)))]) E [1, 2, 3, 4, 0] dX0_planBack_57 hl (by decide) rfl (fun ls hl => ?_)
          exact copy (by omega) 9 0 (by omega) (by omega) _ _ (by rw [cp, fl]; exact w) ls hl
  have loop : ∀ f k : Nat, k ≤ 8 → 8 < k + f → ∀ H locs, rp_H D A s.heap H locs (XW d0 q t (fl (-1000000) ri k) (fl (-1000000) re k) be b) → ∀ ls, lv_has ls 5 [(0, .ref (q 0)), (1, .int (iI ((a : Nat) : Int))), (2, .int (iI (τ))), (3, .int (iI ((k : Nat) : Int)))] → W p lc e (rp_r 2 52) s m args below meth c H locs 0 0 Q (F0 m 2 ls []) := by
    intro f
    induction f with
    | zero =>
      intro k h1 h2
      exact absurd h2 (by omega)
    | succ f ihloop =>
      intro k h1 h2 H locs w ls hl
      refine rp_iln E dX0_planBack_2 rfl (lv_at hl 3 rfl) ?_
      refine rp_bi E (v := ((8 : Nat) : Int)) dX0_planBack_3 (by decide) ?_
      refine rp_cge (tgt := 30) E dX0_planBack_5 (by decide) ⟨by omega, by omega⟩ ⟨by omega, by omega⟩ (fun c5 => ?_) (fun c5 => ?_)
      · have e9 : k = 8 := by omega
        subst e9
        refine rx_ag E w (lv_at hl 0 rfl) 8 (by decide) rfl q43 rfl dX0_planBack_30 dX0_planBack_31 ?_
        refine rp_iln E dX0_planBack_34 rfl (lv_at hl 1 rfl) ?_
        refine rp_iln E dX0_planBack_35 rfl (lv_at hl 2 rfl) ?_
        refine rp_ast E w 7 rfl (a) (rfl) (by omega) (by decide) dX0_planBack_36 (fun H locs w => ?_)
        have w : rp_H D A s.heap H locs (XW d0 q t (upI (fl (-1000000) ri 8) (a) ((τ))) (fl (-1000000) re 8) be b) := w
        refine rp_aln E dX0_planBack_37 rfl (lv_at hl 0 rfl) ?_
        refine rp_callv (rest := []) E w hA (metX0_walkBack lc D d0 q t (upI (fl (-1000000) ri 8) (a) ((τ))) (fl (-1000000) re 8) be b ok (bgB_r hτ ri) (fl_b (-1000000) re 8 (by omega))) (cwV 0 E.1.2.2.2.2 (lw_V q161 q163 qs11 q25 q164) rfl rfl rfl (by decide +kernel) ⟨Nat.le_of_ble_eq_true rfl, Nat.le_of_ble_eq_true rfl⟩) (rx_rcv E w) rfl hl.1 rfl (Nat.le_of_ble_eq_true rfl) dX0_planBack_38 ⟨Nat.zero_le _, Nat.zero_le _⟩ (fun u9 H locs hp9 w => ?_)
        have w : rp_H D A s.heap H locs (XWs d0 q t σ) := by rw [eσ]; exact w
        refine rp_ic E (v := ((0 : Nat) : Int)) dX0_planBack_41 rfl ?_
        refine rp_isn (lv' := [(0, .ref (q 0)), (1, .int (iI ((a : Nat) : Int))), (2, .int (iI (τ))), (3, .int (iI ((0 : Nat) : Int)))]) E [1, 2, 3, 0] dX0_planBack_42 rfl hl (by decide) rfl (fun ls hl => ?_)
        exact outer 13 0 (by omega) (by omega) _ _ w ls (lv_sub hl [0, 1, 2, 3] rfl)
      · refine rx_ag E w (lv_at hl 0 rfl) 8 (by decide) rfl q43 rfl dX0_planBack_8 dX0_planBack_9 ?_
        refine rp_iln E dX0_planBack_12 rfl (lv_at hl 3 rfl) ?_
        refine rp_ldc E (v := (-1000000)) q160 (by decide) dX0_planBack_13 ?_
        refine rp_ast E w 7 rfl (k) (rfl) (by omega) (by decide) dX0_planBack_15 (fun H locs w => ?_)
        have w : rp_H D A s.heap H locs (XW d0 q t (upI (fl (-1000000) ri k) (k) ((-1000000))) (fl (-1000000) re k) be b) := w
        refine rx_ag E w (lv_at hl 0 rfl) 9 (by decide) rfl q44 rfl dX0_planBack_16 dX0_planBack_17 ?_
        refine rp_iln E dX0_planBack_20 rfl (lv_at hl 3 rfl) ?_
        refine rp_ldc E (v := (-1000000)) q160 (by decide) dX0_planBack_21 ?_
        refine rp_ast E w 8 rfl (k) (rfl) (by omega) (by decide) dX0_planBack_23 (fun H locs w => ?_)
        have w : rp_H D A s.heap H locs (XW d0 q t (upI (fl (-1000000) ri k) (k) ((-1000000))) (upI (fl (-1000000) re k) (k) ((-1000000))) be b) := w
        refine rp_iinc (v := ((k + 1 : Nat) : Int)) (lv' := [(0, .ref (q 0)), (1, .int (iI ((a : Nat) : Int))), (2, .int (iI (τ))), (3, .int (iI ((k + 1 : Nat) : Int)))]) E [1, 2, 3, 0] dX0_planBack_24 hl (k := 3) rfl (by omega) (by decide) rfl (fun ls hl => ?_)
        refine rp_goto (tgt := 2) E dX0_planBack_27 (by decide) ?_
        exact ihloop (k + 1) (by omega) (by omega) _ _ (by rw [fl, fl]; exact w) ls hl
  refine rp_ic E (v := ((0 : Nat) : Int)) dX0_planBack_0 rfl ?_
  refine rp_isn (lv' := [(0, .ref (q 0)), (1, .int (iI ((a : Nat) : Int))), (2, .int (iI (τ))), (3, .int (iI ((0 : Nat) : Int)))]) E [1, 2, 3, 0] dX0_planBack_1 rfl hl (by decide) rfl (fun ls hl => ?_)
  exact loop 9 0 (by omega) (by omega) _ _ (by rw [fl, fl]; exact w) ls hl
end
section
set_option maxRecDepth 100000
set_option maxHeartbeats 4000000 in
set_option maxRecDepth 100000 in
/-- earliest -/
theorem metX0_earliest (lc : Launch) (D : va_G) (d0 : ClassId) (q : Nat → Nat) (t : TT) (ri re be : Nat → Int) (b : Nat) (ok : tOk t) (a b2 t2 : Int) (ha : r32 a) (hb2 : r32 b2) (ht2 : r32 t2) : rp_MI lc D d0 yX0_earliest cX0_earliest 5 (some .int) (rp_r 4 97) [.ref (q 0), .int (iI (a)), .int (iI (b2)), .int (iI (t2))] (XW d0 q t ri re be b) (fun (v : Int) (u : XS) => ((v = -1 ∧ (a < 0 ∨ 8 ≤ a ∨ b2 < 0 ∨ 8 ≤ b2)) ∨ (v = -3 ∧ (0 ≤ a ∧ a < 8 ∧ 0 ≤ b2 ∧ b2 < 8) ∧ (t2 < 0 ∨ 1000 < t2))) ∨ ((0 ≤ a ∧ a < 8 ∧ 0 ≤ b2 ∧ b2 < 8 ∧ 0 ≤ t2 ∧ t2 ≤ 1000) ∧ xAns t (ri, re, be, b) a.toNat t2 12 u ∧ ((v = -5 ∧ 1000000 ≤ u.2.1 b2.toNat) ∨ (v = u.2.1 b2.toNat ∧ u.2.1 b2.toNat < 1000000)))) (fun (u : XS) => XWs d0 q t u) := by
  refine rp_MI.of (by decide) rfl (fun v u h => rfl) (Nat.le_of_ble_eq_true rfl) ?_
  intro p e s m below meth c args A ls Q E hA w hl hret
  have hl : lv_has ls 5 [(0, .ref (q 0)), (1, .int (iI (a))), (2, .int (iI (b2))), (3, .int (iI (t2)))] := hl
  refine rp_aln E dX0_earliest_0 rfl (lv_at hl 0 rfl) ?_
  refine rp_iln E dX0_earliest_1 rfl (lv_at hl 1 rfl) ?_
  refine rp_iln E dX0_earliest_2 rfl (lv_at hl 2 rfl) ?_
  refine rp_iln E dX0_earliest_3 rfl (lv_at hl 3 rfl) ?_
  refine rp_calli (rest := []) E w hA (metX0_refusal lc D d0 q t ri re be b a b2 t2 ha hb2 ht2) (cwV 3 E.1.2.2.2.2 (lw_V q108 q110 qs2 q25 q111) rfl rfl rfl (by decide +kernel) ⟨Nat.le_of_ble_eq_true rfl, Nat.le_of_ble_eq_true rfl⟩) (rx_rcv E w) rfl hl.1 rfl (Nat.le_of_ble_eq_true rfl) dX0_earliest_4 ⟨Nat.zero_le _, Nat.zero_le _⟩ (fun v4 u4 H locs hp4 w => ?_)
  refine rp_is (lv' := [(0, .ref (q 0)), (1, .int (iI (a))), (2, .int (iI (b2))), (3, .int (iI (t2))), (4, .int (iI (v4)))]) E [1, 2, 3, 4, 0] dX0_earliest_7 hl (by decide) rfl (fun ls hl => ?_)
  refine rp_il E dX0_earliest_9 (lv_at hl 4 rfl) ?_
  refine rp_feq (tgt := 17) E dX0_earliest_11 (by decide) ⟨by omega, by omega⟩ (fun c11 => ?_) (fun c11 => ?_)
  · obtain ⟨an, rfl⟩ : ∃ an : Nat, a = (an : Int) := ⟨a.toNat, by omega⟩
    obtain ⟨bn, rfl⟩ : ∃ bn : Nat, b2 = (bn : Int) := ⟨b2.toNat, by omega⟩
    refine rp_aln E dX0_earliest_17 rfl (lv_at hl 0 rfl) ?_
    refine rp_iln E dX0_earliest_18 rfl (lv_at hl 1 rfl) ?_
    refine rp_iln E dX0_earliest_19 rfl (lv_at hl 3 rfl) ?_
    refine rp_bi E (v := ((12 : Nat) : Int)) dX0_earliest_20 (by decide) ?_
    refine rp_callv (rest := []) E w hA (metX0_plan lc D d0 q t ri re be b ok an t2 (12) (by omega) ⟨by omega, by omega⟩ (by omega)) (cwV 3 E.1.2.2.2.2 (lw_V q115 q117 qs3 q25 q118) rfl rfl rfl (by decide +kernel) ⟨Nat.le_of_ble_eq_true rfl, Nat.le_of_ble_eq_true rfl⟩) (rx_rcv E w) rfl hl.1 rfl (Nat.le_of_ble_eq_true rfl) dX0_earliest_22 ⟨Nat.zero_le _, Nat.zero_le _⟩ (fun u7 H locs hp7 w => ?_)
    have hu : xOk u7 := by obtain ⟨k9, -, e9, -⟩ := hp7; rw [e9]; exact itr_ok ok (bg_ok ok ⟨by omega, by omega⟩ _) k9
    refine rp_aln E dX0_earliest_25 rfl (lv_at hl 0 rfl) ?_
    refine rp_iln E dX0_earliest_26 rfl (lv_at hl 2 rfl) ?_
    refine rp_calli (rest := []) E w hA (metX0_arrivalAt lc D d0 q t u7.1 u7.2.1 u7.2.2.1 u7.2.2.2 hu.1 bn (by omega)) (cwV 1 E.1.2.2.2.2 (lw_V q140 q142 qs9 q25 q143) rfl rfl rfl (by decide +kernel) ⟨Nat.le_of_ble_eq_true rfl, Nat.le_of_ble_eq_true rfl⟩) (rx_rcv E w) rfl hl.1 rfl (Nat.le_of_ble_eq_true rfl) dX0_earliest_27 ⟨Nat.zero_le _, Nat.zero_le _⟩ (fun v9 u9 H locs hp9 w => ?_)
    exact hret _ _ v9 u7 _ _ (Or.inr ⟨by omega, hp7, hp9⟩) w dX0_earliest_30
  · refine rp_il E dX0_earliest_14 (lv_at hl 4 rfl) ?_
    exact hret _ _ v4 (ri, re, be, b) _ _ (Or.inl (by omega)) w dX0_earliest_16
set_option maxHeartbeats 4000000 in
set_option maxRecDepth 100000 in
/-- earliestWith -/
theorem metX0_earliestWith (lc : Launch) (D : va_G) (d0 : ClassId) (q : Nat → Nat) (t : TT) (ri re be : Nat → Int) (b : Nat) (ok : tOk t) (a b2 t2 : Int) (ha : r32 a) (hb2 : r32 b2) (ht2 : r32 t2) (n : Int) (hn : r32 n) : rp_MI lc D d0 yX0_earliestWith cX0_earliestWith 7 (some .int) (rp_r 4 97) [.ref (q 0), .int (iI (a)), .int (iI (b2)), .int (iI (t2)), .int (iI (n))] (XW d0 q t ri re be b) (fun (v : Int) (u : XS) => ((v = -1 ∧ (a < 0 ∨ 8 ≤ a ∨ b2 < 0 ∨ 8 ≤ b2)) ∨ (v = -3 ∧ (0 ≤ a ∧ a < 8 ∧ 0 ≤ b2 ∧ b2 < 8) ∧ (t2 < 0 ∨ 1000 < t2))) ∨ ((0 ≤ a ∧ a < 8 ∧ 0 ≤ b2 ∧ b2 < 8 ∧ 0 ≤ t2 ∧ t2 ≤ 1000) ∧ xAns t (ri, re, be, b) a.toNat t2 (cl12 n) u ∧ ((v = -5 ∧ 1000000 ≤ u.2.1 b2.toNat) ∨ (v = u.2.1 b2.toNat ∧ u.2.1 b2.toNat < 1000000)))) (fun (u : XS) => XWs d0 q t u) := by
  refine rp_MI.of (by decide) rfl (fun v u h => rfl) (Nat.le_of_ble_eq_true rfl) ?_
  intro p e s m below meth c args A ls Q E hA w hl hret
  have hl : lv_has ls 7 [(0, .ref (q 0)), (1, .int (iI (a))), (2, .int (iI (b2))), (3, .int (iI (t2))), (4, .int (iI (n)))] := hl
  refine rp_aln E dX0_earliestWith_0 rfl (lv_at hl 0 rfl) ?_
  refine rp_iln E dX0_earliestWith_1 rfl (lv_at hl 1 rfl) ?_
  refine rp_iln E dX0_earliestWith_2 rfl (lv_at hl 2 rfl) ?_
  refine rp_iln E dX0_earliestWith_3 rfl (lv_at hl 3 rfl) ?_
  refine rp_calli (rest := []) E w hA (metX0_refusal lc D d0 q t ri re be b a b2 t2 ha hb2 ht2) (cwV 3 E.1.2.2.2.2 (lw_V q108 q110 qs2 q25 q111) rfl rfl rfl (by decide +kernel) ⟨Nat.le_of_ble_eq_true rfl, Nat.le_of_ble_eq_true rfl⟩) (rx_rcv E w) rfl hl.1 rfl (Nat.le_of_ble_eq_true rfl) dX0_earliestWith_4 ⟨Nat.zero_le _, Nat.zero_le _⟩ (fun v4 u4 H locs hp4 w => ?_)
  refine rp_is (lv' := [(0, .ref (q 0)), (1, .int (iI (a))), (2, .int (iI (b2))), (3, .int (iI (t2))), (4, .int (iI (n))), (5, .int (iI (v4)))]) E [1, 2, 3, 4, 5, 0] dX0_earliestWith_7 hl (by decide) rfl (fun ls hl => ?_)
  refine rp_il E dX0_earliestWith_9 (lv_at hl 5 rfl) ?_
  refine rp_feq (tgt := 17) E dX0_earliestWith_11 (by decide) ⟨by omega, by omega⟩ (fun c11 => ?_) (fun c11 => ?_)
  · obtain ⟨an, rfl⟩ : ∃ an : Nat, a = (an : Int) := ⟨a.toNat, by omega⟩
    obtain ⟨bn, rfl⟩ : ∃ bn : Nat, b2 = (bn : Int) := ⟨b2.toNat, by omega⟩
    refine rp_il E dX0_earliestWith_17 (lv_at hl 4 rfl) ?_
    refine rp_fge (tgt := 26) E dX0_earliestWith_19 (by decide) ⟨by omega, by omega⟩ (fun c19 => ?_) (fun c19 => ?_)
    · obtain ⟨nn, rfl⟩ : ∃ nn : Nat, n = (nn : Int) := ⟨n.toNat, by omega⟩
      refine rp_il E dX0_earliestWith_26 (lv_at hl 4 rfl) ?_
      refine rp_is (lv' := [(0, .ref (q 0)), (1, .int (iI ((an : Nat) : Int))), (2, .int (iI ((bn : Nat) : Int))), (3, .int (iI (t2))), (4, .int (iI ((nn : Nat) : Int))), (5, .int (iI (v4))), (6, .int (iI ((nn : Nat) : Int)))]) E [1, 2, 3, 4, 5, 6, 0] dX0_earliestWith_28 hl (by decide) rfl (fun ls hl => ?_)
      refine rp_aln E dX0_earliestWith_30 rfl (lv_at hl 0 rfl) ?_
      refine rp_iln E dX0_earliestWith_31 rfl (lv_at hl 1 rfl) ?_
      refine rp_iln E dX0_earliestWith_32 rfl (lv_at hl 3 rfl) ?_
      refine rp_il E dX0_earliestWith_33 (lv_at hl 6 rfl) ?_
      refine rp_bi E (v := ((12 : Nat) : Int)) dX0_earliestWith_35 (by decide) ?_
      refine rp_cle (tgt := 45) E dX0_earliestWith_37 (by decide) ⟨by omega, by omega⟩ ⟨by omega, by omega⟩ (fun c37 => ?_) (fun c37 => ?_)
      · refine rp_il E dX0_earliestWith_45 (lv_at hl 6 rfl) ?_
        refine rp_callv (rest := []) E w hA (metX0_plan lc D d0 q t ri re be b ok an t2 (nn) (by omega) ⟨by omega, by omega⟩ (by omega)) (cwV 3 E.1.2.2.2.2 (lw_V q115 q117 qs3 q25 q118) rfl rfl rfl (by decide +kernel) ⟨Nat.le_of_ble_eq_true rfl, Nat.le_of_ble_eq_true rfl⟩) (rx_rcv E w) rfl hl.1 rfl (Nat.le_of_ble_eq_true rfl) dX0_earliestWith_47 ⟨Nat.zero_le _, Nat.zero_le _⟩ (fun u7 H locs hp7 w => ?_)
        have hu : xOk u7 := by obtain ⟨k9, -, e9, -⟩ := hp7; rw [e9]; exact itr_ok ok (bg_ok ok ⟨by omega, by omega⟩ _) k9
        refine rp_aln E dX0_earliestWith_50 rfl (lv_at hl 0 rfl) ?_
        refine rp_iln E dX0_earliestWith_51 rfl (lv_at hl 2 rfl) ?_
        refine rp_calli (rest := []) E w hA (metX0_arrivalAt lc D d0 q t u7.1 u7.2.1 u7.2.2.1 u7.2.2.2 hu.1 bn (by omega)) (cwV 1 E.1.2.2.2.2 (lw_V q140 q142 qs9 q25 q143) rfl rfl rfl (by decide +kernel) ⟨Nat.le_of_ble_eq_true rfl, Nat.le_of_ble_eq_true rfl⟩) (rx_rcv E w) rfl hl.1 rfl (Nat.le_of_ble_eq_true rfl) dX0_earliestWith_52 ⟨Nat.zero_le _, Nat.zero_le _⟩ (fun v9 u9 H locs hp9 w => ?_)
        have e8 : cl12 (nn : Int) = nn := by rw [cl12, if_neg (by omega), if_neg (by omega)]; rfl
        exact hret _ _ v9 u7 _ _ (Or.inr ⟨by omega, by rw [e8]; exact hp7, hp9⟩) w dX0_earliestWith_55
      · refine rp_bi E (v := ((12 : Nat) : Int)) dX0_earliestWith_40 (by decide) ?_
        refine rp_goto (tgt := 47) E dX0_earliestWith_42 (by decide) ?_
        refine rp_callv (rest := []) E w hA (metX0_plan lc D d0 q t ri re be b ok an t2 (12) (by omega) ⟨by omega, by omega⟩ (by omega)) (cwV 3 E.1.2.2.2.2 (lw_V q115 q117 qs3 q25 q118) rfl rfl rfl (by decide +kernel) ⟨Nat.le_of_ble_eq_true rfl, Nat.le_of_ble_eq_true rfl⟩) (rx_rcv E w) rfl hl.1 rfl (Nat.le_of_ble_eq_true rfl) dX0_earliestWith_47 ⟨Nat.zero_le _, Nat.zero_le _⟩ (fun u7 H locs hp7 w => ?_)
        have hu : xOk u7 := by obtain ⟨k9, -, e9, -⟩ := hp7; rw [e9]; exact itr_ok ok (bg_ok ok ⟨by omega, by omega⟩ _) k9
        refine rp_aln E dX0_earliestWith_50 rfl (lv_at hl 0 rfl) ?_
        refine rp_iln E dX0_earliestWith_51 rfl (lv_at hl 2 rfl) ?_
        refine rp_calli (rest := []) E w hA (metX0_arrivalAt lc D d0 q t u7.1 u7.2.1 u7.2.2.1 u7.2.2.2 hu.1 bn (by omega)) (cwV 1 E.1.2.2.2.2 (lw_V q140 q142 qs9 q25 q143) rfl rfl rfl (by decide +kernel) ⟨Nat.le_of_ble_eq_true rfl, Nat.le_of_ble_eq_true rfl⟩) (rx_rcv E w) rfl hl.1 rfl (Nat.le_of_ble_eq_true rfl) dX0_earliestWith_52 ⟨Nat.zero_le _, Nat.zero_le _⟩ (fun v9 u9 H locs hp9 w => ?_)
        have e8 : cl12 (nn : Int) = 12 := by rw [cl12, if_neg (by omega), if_pos (by omega)]
        exact hret _ _ v9 u7 _ _ (Or.inr ⟨by omega, by rw [e8]; exact hp7, hp9⟩) w dX0_earliestWith_55
    · refine rp_ic E (v := ((0 : Nat) : Int)) dX0_earliestWith_22 rfl ?_
      refine rp_goto (tgt := 28) E dX0_earliestWith_23 (by decide) ?_
      refine rp_is (lv' := [(0, .ref (q 0)), (1, .int (iI ((an : Nat) : Int))), (2, .int (iI ((bn : Nat) : Int))), (3, .int (iI (t2))), (4, .int (iI (n))), (5, .int (iI (v4))), (6, .int (iI ((0 : Nat) : Int)))]) E [1, 2, 3, 4, 5, 6, 0] dX0_earliestWith_28 hl (by decide) rfl (fun ls hl => ?_)
      refine rp_aln E dX0_earliestWith_30 rfl (lv_at hl 0 rfl) ?_
      refine rp_iln E dX0_earliestWith_31 rfl (lv_at hl 1 rfl) ?_
      refine rp_iln E dX0_earliestWith_32 rfl (lv_at hl 3 rfl) ?_
      refine rp_il E dX0_earliestWith_33 (lv_at hl 6 rfl) ?_
      refine rp_bi E (v := ((12 : Nat) : Int)) dX0_earliestWith_35 (by decide) ?_
      refine rp_cle (tgt := 45) E dX0_earliestWith_37 (by decide) ⟨by omega, by omega⟩ ⟨by omega, by omega⟩ (fun c37 => ?_) (fun c37 => ?_)
      · refine rp_il E dX0_earliestWith_45 (lv_at hl 6 rfl) ?_
        refine rp_callv (rest := []) E w hA (metX0_plan lc D d0 q t ri re be b ok an t2 (0) (by omega) ⟨by omega, by omega⟩ (by omega)) (cwV 3 E.1.2.2.2.2 (lw_V q115 q117 qs3 q25 q118) rfl rfl rfl (by decide +kernel) ⟨Nat.le_of_ble_eq_true rfl, Nat.le_of_ble_eq_true rfl⟩) (rx_rcv E w) rfl hl.1 rfl (Nat.le_of_ble_eq_true rfl) dX0_earliestWith_47 ⟨Nat.zero_le _, Nat.zero_le _⟩ (fun u7 H locs hp7 w => ?_)
        have hu : xOk u7 := by obtain ⟨k9, -, e9, -⟩ := hp7; rw [e9]; exact itr_ok ok (bg_ok ok ⟨by omega, by omega⟩ _) k9
        refine rp_aln E dX0_earliestWith_50 rfl (lv_at hl 0 rfl) ?_
        refine rp_iln E dX0_earliestWith_51 rfl (lv_at hl 2 rfl) ?_
        refine rp_calli (rest := []) E w hA (metX0_arrivalAt lc D d0 q t u7.1 u7.2.1 u7.2.2.1 u7.2.2.2 hu.1 bn (by omega)) (cwV 1 E.1.2.2.2.2 (lw_V q140 q142 qs9 q25 q143) rfl rfl rfl (by decide +kernel) ⟨Nat.le_of_ble_eq_true rfl, Nat.le_of_ble_eq_true rfl⟩) (rx_rcv E w) rfl hl.1 rfl (Nat.le_of_ble_eq_true rfl) dX0_earliestWith_52 ⟨Nat.zero_le _, Nat.zero_le _⟩ (fun v9 u9 H locs hp9 w => ?_)
        have e8 : cl12 n = 0 := by rw [cl12, if_pos (by omega)]
        exact hret _ _ v9 u7 _ _ (Or.inr ⟨by omega, by rw [e8]; exact hp7, hp9⟩) w dX0_earliestWith_55
      · exact False.elim (by omega)
  · refine rp_il E dX0_earliestWith_14 (lv_at hl 5 rfl) ?_
    exact hret _ _ v4 (ri, re, be, b) _ _ (Or.inl (by omega)) w dX0_earliestWith_16
end
section
set_option maxRecDepth 100000
set_option maxHeartbeats 4000000 in
set_option maxRecDepth 100000 in
/-- rides -/
theorem metX0_rides (lc : Launch) (D : va_G) (d0 : ClassId) (q : Nat → Nat) (t : TT) (ri re be : Nat → Int) (b : Nat) (ok : tOk t) (a b2 t2 : Int) (ha : r32 a) (hb2 : r32 b2) (ht2 : r32 t2) : rp_MI lc D d0 yX0_rides cX0_rides 8 (some .int) (rp_r 3 73) [.ref (q 0), .int (iI (a)), .int (iI (b2)), .int (iI (t2))] (XW d0 q t ri re be b) (fun (v : Int) (u : XS) => ((v = -1 ∧ (a < 0 ∨ 8 ≤ a ∨ b2 < 0 ∨ 8 ≤ b2)) ∨ (v = -3 ∧ (0 ≤ a ∧ a < 8 ∧ 0 ≤ b2 ∧ b2 < 8) ∧ (t2 < 0 ∨ 1000 < t2))) ∨ ((0 ≤ a ∧ a < 8 ∧ 0 ≤ b2 ∧ b2 < 8 ∧ 0 ≤ t2 ∧ t2 ≤ 1000) ∧ ∃ k, k ≤ 12 ∧ u = itr t (bg t a.toNat t2 (ri, re, be, b)) k ∧ (k = 12 ∨ u.2.2.2 = 0) ∧ v = rdL t (bg t a.toNat t2 (ri, re, be, b)) b2.toNat k)) (fun (u : XS) => XWs d0 q t u) := by
  refine rp_MI.of (by decide) rfl (fun v u h => rfl) (Nat.le_of_ble_eq_true rfl) ?_
  intro p e s m below meth c args A ls Q E hA w hl hret
  have hl : lv_has ls 8 [(0, .ref (q 0)), (1, .int (iI (a))), (2, .int (iI (b2))), (3, .int (iI (t2)))] := hl
  refine rp_aln E dX0_rides_0 rfl (lv_at hl 0 rfl) ?_
  refine rp_iln E dX0_rides_1 rfl (lv_at hl 1 rfl) ?_
  refine rp_iln E dX0_rides_2 rfl (lv_at hl 2 rfl) ?_
  refine rp_iln E dX0_rides_3 rfl (lv_at hl 3 rfl) ?_
  refine rp_calli (rest := []) E w hA (metX0_refusal lc D d0 q t ri re be b a b2 t2 ha hb2 ht2) (cwV 3 E.1.2.2.2.2 (lw_V q108 q110 qs2 q25 q111) rfl rfl rfl (by decide +kernel) ⟨Nat.le_of_ble_eq_true rfl, Nat.le_of_ble_eq_true rfl⟩) (rx_rcv E w) rfl hl.1 rfl (Nat.le_of_ble_eq_true rfl) dX0_rides_4 ⟨Nat.zero_le _, Nat.zero_le _⟩ (fun v4 u4 H locs hp4 w => ?_)
  refine rp_is (lv' := [(0, .ref (q 0)), (1, .int (iI (a))), (2, .int (iI (b2))), (3, .int (iI (t2))), (4, .int (iI (v4)))]) E [1, 2, 3, 4, 0] dX0_rides_7 hl (by decide) rfl (fun ls hl => ?_)
  refine rp_il E dX0_rides_9 (lv_at hl 4 rfl) ?_
  refine rp_feq (tgt := 17) E dX0_rides_11 (by decide) ⟨by omega, by omega⟩ (fun c11 => ?_) (fun c11 => ?_)
  · obtain ⟨an, rfl⟩ : ∃ an : Nat, a = (an : Int) := ⟨a.toNat, by omega⟩
    obtain ⟨bn, rfl⟩ : ∃ bn : Nat, b2 = (bn : Int) := ⟨b2.toNat, by omega⟩
    have hσ := bg_ok ok (τ := t2) ⟨by omega, by omega⟩ (a := an) (ri, re, be, b)
    obtain ⟨σ, eσ⟩ : ∃ σ, σ = bg t an t2 (ri, re, be, b) := ⟨_, rfl⟩
    rw [← eσ] at hσ
    have loop : ∀ f k : Nat, k ≤ 12 → 12 < k + f → ∀ H locs, rp_H D A s.heap H locs (XW d0 q t ((itr t σ k).1) ((itr t σ k).2.1) ((itr t σ k).2.2.1) ((itr t σ k).2.2.2)) → ∀ ls, lv_has ls 8 [(0, .ref (q 0)), (2, .int (iI ((bn : Nat) : Int))), (5, .int (iI (rdL t σ bn k))), (6, .int (iI ((k + 1 : Nat) : Int)))] → W p lc e (rp_r 3 73) s m args below meth c H locs 0 0 Q (F0 m 45 ls []) := by
      intro f
      induction f with
      | zero =>
        intro k h1 h2
        exact absurd h2 (by omega)
      | succ f ihloop =>
        intro k h1 h2 H locs w ls hl
        have hk := itr_ok ok hσ k
        have hk1 := hk.1
        have hk2 := hk.2
        have fb := hk1 bn (by omega)
        have fb2 := (itr_ok ok hσ (k + 1)).1 bn (by omega)
        refine rp_il E dX0_rides_45 (lv_at hl 3 rfl) ?_
        refine rp_bi E (v := ((12 : Nat) : Int)) dX0_rides_47 (by decide) ?_
        refine rp_cgt (tgt := 92) E dX0_rides_49 (by decide) ⟨by omega, by omega⟩ ⟨by omega, by omega⟩ (fun c49 => ?_) (fun c49 => ?_)
        · refine rp_il E dX0_rides_92 (lv_at hl 2 rfl) ?_
          exact hret _ _ (rdL t σ bn k) (itr t σ k) _ _ (Or.inr ⟨by omega, k, h1, by rw [eσ]; rfl, by first | exact Or.inl (by omega) | exact Or.inr (by omega), by rw [eσ]; rfl⟩) w dX0_rides_94
        · refine rx_ag (v := .int (iI (((itr t σ k).2.2.2 : Nat) : Int))) E w (lv_at hl 0 rfl) 11 (by decide) rfl q46 rfl dX0_rides_52 dX0_rides_53 ?_
          refine rp_feq (tgt := 92) E dX0_rides_56 (by decide) ⟨by omega, by omega⟩ (fun c56 => ?_) (fun c56 => ?_)
          · refine rp_il E dX0_rides_92 (lv_at hl 2 rfl) ?_
            exact hret _ _ (rdL t σ bn k) (itr t σ k) _ _ (Or.inr ⟨by omega, k, h1, by rw [eσ]; rfl, by first | exact Or.inl (by omega) | exact Or.inr (by omega), by rw [eσ]; rfl⟩) w dX0_rides_94
          · refine rx_ag E w (lv_at hl 0 rfl) 9 (by decide) rfl q44 rfl dX0_rides_59 dX0_rides_60 ?_
            refine rp_iln E dX0_rides_63 rfl (lv_at hl 1 rfl) ?_
            refine rp_ald E w 8 rfl (bn) (rfl) (by omega) (by decide) dX0_rides_64 ?_
            refine rp_is (lv' := [(0, .ref (q 0)), (2, .int (iI ((bn : Nat) : Int))), (5, .int (iI (rdL t σ bn k))), (6, .int (iI ((k + 1 : Nat) : Int))), (7, .int (iI (((itr t σ k).2.1) (bn))))]) E [1, 2, 3, 4, 0] dX0_rides_65 hl (by decide) rfl (fun ls hl => ?_)
            refine rp_aln E dX0_rides_67 rfl (lv_at hl 0 rfl) ?_
            refine rp_callv (rest := []) E w hA (metX0_nextRound lc D d0 q t (itr t σ k).1 (itr t σ k).2.1 (itr t σ k).2.2.1 (itr t σ k).2.2.2 ok hk2 hk1) (cwV 0 E.1.2.2.2.2 (lw_V q128 q130 qs6 q25 q131) rfl rfl rfl (by decide +kernel) ⟨Nat.le_of_ble_eq_true rfl, Nat.le_of_ble_eq_true rfl⟩) (rx_rcv E w) rfl hl.1 rfl (Nat.le_of_ble_eq_true rfl) dX0_rides_68 ⟨Nat.zero_le _, Nat.zero_le _⟩ (fun u9 H locs hp9 w => ?_)
            have w : rp_H D A s.heap H locs (XWs d0 q t (itr t σ (k + 1))) := w
            refine rx_ag E w (lv_at hl 0 rfl) 9 (by decide) rfl q44 rfl dX0_rides_71 dX0_rides_72 ?_
            refine rp_iln E dX0_rides_75 rfl (lv_at hl 1 rfl) ?_
            refine rp_ald E w 8 rfl (bn) (rfl) (by omega) (by decide) dX0_rides_76 ?_
            refine rp_il E dX0_rides_77 (lv_at hl 4 rfl) ?_
            refine rp_cge (tgt := 86) E dX0_rides_79 (by decide) ⟨by omega, by omega⟩ ⟨by omega, by omega⟩ (fun c79 => ?_) (fun c79 => ?_)
            · refine rp_iinc (v := ((k + 1 + 1 : Nat) : Int)) (lv' := [(0, .ref (q 0)), (2, .int (iI ((bn : Nat) : Int))), (5, .int (iI (rdL t σ bn k))), (6, .int (iI ((k + 1 + 1 : Nat) : Int))), (7, .int (iI (((itr t σ k).2.1) (bn))))]) E [1, 2, 3, 0, 4] dX0_rides_86 hl (k := 3) rfl (by omega) (by decide) rfl (fun ls hl => ?_)
              refine rp_goto (tgt := 45) E dX0_rides_89 (by decide) ?_
              exact ihloop (k + 1) (by omega) (by omega) _ _ w ls (by rw [rdL, if_neg (by omega)]; exact (lv_sub hl [0, 1, 2, 3] rfl))
            · refine rp_il E dX0_rides_82 (lv_at hl 3 rfl) ?_
              refine rp_is (lv' := [(0, .ref (q 0)), (2, .int (iI ((bn : Nat) : Int))), (5, .int (iI ((k + 1 : Nat) : Int))), (6, .int (iI ((k + 1 : Nat) : Int))), (7, .int (iI (((itr t σ k).2.1) (bn))))]) E [1, 2, 0, 3, 4] dX0_rides_84 hl (by decide) rfl (fun ls hl => ?_)
              refine rp_iinc (v := ((k + 1 + 1 : Nat) : Int)) (lv' := [(0, .ref (q 0)), (2, .int (iI ((bn : Nat) : Int))), (5, .int (iI ((k + 1 : Nat) : Int))), (6, .int (iI ((k + 1 + 1 : Nat) : Int))), (7, .int (iI (((itr t σ k).2.1) (bn))))]) E [1, 2, 3, 0, 4] dX0_rides_86 hl (k := 3) rfl (by omega) (by decide) rfl (fun ls hl => ?_)
              refine rp_goto (tgt := 45) E dX0_rides_89 (by decide) ?_
              exact ihloop (k + 1) (by omega) (by omega) _ _ w ls (by rw [rdL, if_pos (by omega)]; exact (lv_sub hl [0, 1, 2, 3] rfl))
    refine rp_aln E dX0_rides_17 rfl (lv_at hl 0 rfl) ?_
    refine rp_iln E dX0_rides_18 rfl (lv_at hl 1 rfl) ?_
    refine rp_iln E dX0_rides_19 rfl (lv_at hl 3 rfl) ?_
    refine rp_callv (rest := []) E w hA (metX0_begin lc D d0 q t ri re be b ok an t2 (by omega) ⟨by omega, by omega⟩) (cwV 2 E.1.2.2.2.2 (lw_V q119 q121 qs4 q25 q122) rfl rfl rfl (by decide +kernel) ⟨Nat.le_of_ble_eq_true rfl, Nat.le_of_ble_eq_true rfl⟩) (rx_rcv E w) rfl hl.1 rfl (Nat.le_of_ble_eq_true rfl) dX0_rides_20 ⟨Nat.zero_le _, Nat.zero_le _⟩ (fun u9 H locs hp9 w => ?_)
    rw [← eσ] at w
    have fσ := hσ.1 bn (by omega)
    refine rx_ag E w (lv_at hl 0 rfl) 9 (by decide) rfl q44 rfl dX0_rides_23 dX0_rides_24 ?_
    refine rp_iln E dX0_rides_27 rfl (lv_at hl 2 rfl) ?_
    refine rp_ald E w 8 rfl (bn) (rfl) (by omega) (by decide) dX0_rides_28 ?_
    refine rp_ldc E (v := (1000000)) q123 (by decide) dX0_rides_29 ?_
    refine rp_cge (tgt := 38) E dX0_rides_31 (by decide) ⟨by omega, by omega⟩ ⟨by omega, by omega⟩ (fun c31 => ?_) (fun c31 => ?_)
    · refine rp_bi E (v := (-5)) dX0_rides_38 (by decide) ?_
      refine rp_is (lv' := [(0, .ref (q 0)), (1, .int (iI ((an : Nat) : Int))), (2, .int (iI ((bn : Nat) : Int))), (3, .int (iI (t2))), (4, .int (iI (v4))), (5, .int (iI (-5)))]) E [1, 2, 3, 4, 5, 0] dX0_rides_40 hl (by decide) rfl (fun ls hl => ?_)
      refine rp_ic E (v := ((1 : Nat) : Int)) dX0_rides_42 rfl ?_
      refine rp_is (lv' := [(0, .ref (q 0)), (1, .int (iI ((an : Nat) : Int))), (2, .int (iI ((bn : Nat) : Int))), (3, .int (iI (t2))), (4, .int (iI (v4))), (5, .int (iI (-5))), (6, .int (iI ((1 : Nat) : Int)))]) E [1, 2, 3, 4, 5, 6, 0] dX0_rides_43 hl (by decide) rfl (fun ls hl => ?_)
      exact loop 13 0 (by omega) (by omega) _ _ w ls (by rw [rdL, if_neg (by omega)]; exact (lv_sub hl [0, 2, 5, 6] rfl))
    · refine rp_ic E (v := ((0 : Nat) : Int)) dX0_rides_34 rfl ?_
      refine rp_goto (tgt := 40) E dX0_rides_35 (by decide) ?_
      refine rp_is (lv' := [(0, .ref (q 0)), (1, .int (iI ((an : Nat) : Int))), (2, .int (iI ((bn : Nat) : Int))), (3, .int (iI (t2))), (4, .int (iI (v4))), (5, .int (iI ((0 : Nat) : Int)))]) E [1, 2, 3, 4, 5, 0] dX0_rides_40 hl (by decide) rfl (fun ls hl => ?_)
      refine rp_ic E (v := ((1 : Nat) : Int)) dX0_rides_42 rfl ?_
      refine rp_is (lv' := [(0, .ref (q 0)), (1, .int (iI ((an : Nat) : Int))), (2, .int (iI ((bn : Nat) : Int))), (3, .int (iI (t2))), (4, .int (iI (v4))), (5, .int (iI ((0 : Nat) : Int))), (6, .int (iI ((1 : Nat) : Int)))]) E [1, 2, 3, 4, 5, 6, 0] dX0_rides_43 hl (by decide) rfl (fun ls hl => ?_)
      exact loop 13 0 (by omega) (by omega) _ _ w ls (by rw [rdL, if_pos (by omega)]; exact (lv_sub hl [0, 2, 5, 6] rfl))
  · refine rp_il E dX0_rides_14 (lv_at hl 4 rfl) ?_
    exact hret _ _ v4 (ri, re, be, b) _ _ (Or.inl (by omega)) w dX0_rides_16
set_option maxHeartbeats 4000000 in
set_option maxRecDepth 100000 in
/-- latest -/
theorem metX0_latest (lc : Launch) (D : va_G) (d0 : ClassId) (q : Nat → Nat) (t : TT) (ri re be : Nat → Int) (b : Nat) (ok : tOk t) (a b2 t2 : Int) (ha : r32 a) (hb2 : r32 b2) (ht2 : r32 t2) : rp_MI lc D d0 yX0_latest cX0_latest 5 (some .int) (rp_r 3 76) [.ref (q 0), .int (iI (a)), .int (iI (b2)), .int (iI (t2))] (XW d0 q t ri re be b) (fun (v : Int) (u : XS) => ((v = -1 ∧ (a < 0 ∨ 8 ≤ a ∨ b2 < 0 ∨ 8 ≤ b2)) ∨ (v = -3 ∧ (0 ≤ a ∧ a < 8 ∧ 0 ≤ b2 ∧ b2 < 8) ∧ (t2 < 0 ∨ 1000 < t2))) ∨ ((0 ≤ a ∧ a < 8 ∧ 0 ≤ b2 ∧ b2 < 8 ∧ 0 ≤ t2 ∧ t2 ≤ 1000) ∧ xAnsB t (ri, re, be, b) b2.toNat t2 12 u ∧ ((v = -5 ∧ u.2.1 a.toNat < 0) ∨ (v = 1000 ∧ 1000 < u.2.1 a.toNat) ∨ (v = u.2.1 a.toNat ∧ 0 ≤ u.2.1 a.toNat ∧ u.2.1 a.toNat ≤ 1000)))) (fun (u : XS) => XWs d0 q t u) := by
  refine rp_MI.of (by decide) rfl (fun v u h => rfl) (Nat.le_of_ble_eq_true rfl) ?_
  intro p e s m below meth c args A ls Q E hA w hl hret
  have hl : lv_has ls 5 [(0, .ref (q 0)), (1, .int (iI (a))), (2, .int (iI (b2))), (3, .int (iI (t2)))] := hl
  refine rp_aln E dX0_latest_0 rfl (lv_at hl 0 rfl) ?_
  refine rp_iln E dX0_latest_1 rfl (lv_at hl 1 rfl) ?_
  refine rp_iln E dX0_latest_2 rfl (lv_at hl 2 rfl) ?_
  refine rp_iln E dX0_latest_3 rfl (lv_at hl 3 rfl) ?_
  refine rp_calli (rest := []) E w hA (metX0_refusal lc D d0 q t ri re be b a b2 t2 ha hb2 ht2) (cwV 3 E.1.2.2.2.2 (lw_V q108 q110 qs2 q25 q111) rfl rfl rfl (by decide +kernel) ⟨Nat.le_of_ble_eq_true rfl, Nat.le_of_ble_eq_true rfl⟩) (rx_rcv E w) rfl hl.1 rfl (Nat.le_of_ble_eq_true rfl) dX0_latest_4 ⟨Nat.zero_le _, Nat.zero_le _⟩ (fun v4 u4 H locs hp4 w => ?_)
  refine rp_is (lv' := [(0, .ref (q 0)), (1, .int (iI (a))), (2, .int (iI (b2))), (3, .int (iI (t2))), (4, .int (iI (v4)))]) E [1, 2, 3, 4, 0] dX0_latest_7 hl (by decide) rfl (fun ls hl => ?_)
  refine rp_il E dX0_latest_9 (lv_at hl 4 rfl) ?_
  refine rp_feq (tgt := 17) E dX0_latest_11 (by decide) ⟨by omega, by omega⟩ (fun c11 => ?_) (fun c11 => ?_)
  · obtain ⟨an, rfl⟩ : ∃ an : Nat, a = (an : Int) := ⟨a.toNat, by omega⟩
    obtain ⟨bn, rfl⟩ : ∃ bn : Nat, b2 = (bn : Int) := ⟨b2.toNat, by omega⟩
    refine rp_aln E dX0_latest_17 rfl (lv_at hl 0 rfl) ?_
    refine rp_iln E dX0_latest_18 rfl (lv_at hl 2 rfl) ?_
    refine rp_iln E dX0_latest_19 rfl (lv_at hl 3 rfl) ?_
    refine rp_callv (rest := []) E w hA (metX0_planBack lc D d0 q t ri re be b ok bn t2 (by omega) ⟨by omega, by omega⟩) (cwV 2 E.1.2.2.2.2 (lw_V q156 q158 qs10 q25 q159) rfl rfl rfl (by decide +kernel) ⟨Nat.le_of_ble_eq_true rfl, Nat.le_of_ble_eq_true rfl⟩) (rx_rcv E w) rfl hl.1 rfl (Nat.le_of_ble_eq_true rfl) dX0_latest_20 ⟨Nat.zero_le _, Nat.zero_le _⟩ (fun u7 H locs hp7 w => ?_)
    have hu : xOk u7 := by obtain ⟨k9, -, e9, -⟩ := hp7; rw [e9]; exact itrB_ok ok (bgB_ok ok ⟨by omega, by omega⟩ _) k9
    have fu := hu.1 an (by omega)
    refine rx_ag E w (lv_at hl 0 rfl) 9 (by decide) rfl q44 rfl dX0_latest_23 dX0_latest_24 ?_
    refine rp_iln E dX0_latest_27 rfl (lv_at hl 1 rfl) ?_
    refine rp_ald E w 8 rfl (an) (rfl) (by omega) (by decide) dX0_latest_28 ?_
    refine rp_fge (tgt := 35) E dX0_latest_29 (by decide) ⟨by omega, by omega⟩ (fun c29 => ?_) (fun c29 => ?_)
    · refine rx_ag E w (lv_at hl 0 rfl) 9 (by decide) rfl q44 rfl dX0_latest_35 dX0_latest_36 ?_
      refine rp_iln E dX0_latest_39 rfl (lv_at hl 1 rfl) ?_
      refine rp_ald E w 8 rfl (an) (rfl) (by omega) (by decide) dX0_latest_40 ?_
      refine rp_si E (v := (1000)) dX0_latest_41 (by decide) ?_
      refine rp_cle (tgt := 53) E dX0_latest_44 (by decide) ⟨by omega, by omega⟩ ⟨by omega, by omega⟩ (fun c44 => ?_) (fun c44 => ?_)
      · refine rx_ag E w (lv_at hl 0 rfl) 9 (by decide) rfl q44 rfl dX0_latest_53 dX0_latest_54 ?_
        refine rp_iln E dX0_latest_57 rfl (lv_at hl 1 rfl) ?_
        refine rp_ald E w 8 rfl (an) (rfl) (by omega) (by decide) dX0_latest_58 ?_
        exact hret _ _ (u7.2.1 (an)) u7 _ _ (Or.inr ⟨by omega, hp7, by show (_ ∧ u7.2.1 an < 0) ∨ (_ ∧ 1000 < u7.2.1 an) ∨ (_ = u7.2.1 an ∧ 0 ≤ u7.2.1 an ∧ u7.2.1 an ≤ 1000); omega⟩) w dX0_latest_59
      · refine rp_si E (v := (1000)) dX0_latest_47 (by decide) ?_
        refine rp_goto (tgt := 59) E dX0_latest_50 (by decide) ?_
        exact hret _ _ (1000) u7 _ _ (Or.inr ⟨by omega, hp7, by show (_ ∧ u7.2.1 an < 0) ∨ (_ ∧ 1000 < u7.2.1 an) ∨ (_ = u7.2.1 an ∧ 0 ≤ u7.2.1 an ∧ u7.2.1 an ≤ 1000); omega⟩) w dX0_latest_59
    · refine rp_bi E (v := (-5)) dX0_latest_32 (by decide) ?_
      exact hret _ _ (-5) u7 _ _ (Or.inr ⟨by omega, hp7, by show (_ ∧ u7.2.1 an < 0) ∨ (_ ∧ 1000 < u7.2.1 an) ∨ (_ = u7.2.1 an ∧ 0 ≤ u7.2.1 an ∧ u7.2.1 an ≤ 1000); omega⟩) w dX0_latest_34
  · refine rp_il E dX0_latest_14 (lv_at hl 4 rfl) ?_
    exact hret _ _ v4 (ri, re, be, b) _ _ (Or.inl (by omega)) w dX0_latest_16
set_option maxHeartbeats 4000000 in
set_option maxRecDepth 100000 in
/-- within -/
theorem metX0_within (lc : Launch) (D : va_G) (d0 : ClassId) (q : Nat → Nat) (t : TT) (ri re be : Nat → Int) (b : Nat) (ok : tOk t) (a t2 un : Int) (ha : r32 a) (ht2 : r32 t2) (hun : r32 un) : rp_MI lc D d0 yX0_within cX0_within 7 (some .int) (rp_r 4 97) [.ref (q 0), .int (iI (a)), .int (iI (t2)), .int (iI (un))] (XW d0 q t ri re be b) (fun (v : Int) (u : XS) => ((v = -1 ∧ (a < 0 ∨ 8 ≤ a ∨ a < 0 ∨ 8 ≤ a)) ∨ (v = -3 ∧ (0 ≤ a ∧ a < 8 ∧ 0 ≤ a ∧ a < 8) ∧ (t2 < 0 ∨ 1000 < t2))) ∨ ((0 ≤ a ∧ a < 8 ∧ 0 ≤ a ∧ a < 8 ∧ 0 ≤ t2 ∧ t2 ≤ 1000) ∧ (un < 0 ∨ 1000 < un) ∧ v = -3) ∨ ((0 ≤ a ∧ a < 8 ∧ 0 ≤ a ∧ a < 8 ∧ 0 ≤ t2 ∧ t2 ≤ 1000) ∧ (0 ≤ un ∧ un ≤ 1000) ∧ xAns t (ri, re, be, b) a.toNat t2 12 u ∧ v = ((wn u.2.1 un 8 : Nat) : Int))) (fun (u : XS) => XWs d0 q t u) := by
  refine rp_MI.of (by decide) rfl (fun v u h => rfl) (Nat.le_of_ble_eq_true rfl) ?_
  intro p e s m below meth c args A ls Q E hA w hl hret
  have hl : lv_has ls 7 [(0, .ref (q 0)), (1, .int (iI (a))), (2, .int (iI (t2))), (3, .int (iI (un)))] := hl
  refine rp_aln E dX0_within_0 rfl (lv_at hl 0 rfl) ?_
  refine rp_iln E dX0_within_1 rfl (lv_at hl 1 rfl) ?_
  refine rp_iln E dX0_within_2 rfl (lv_at hl 1 rfl) ?_
  refine rp_iln E dX0_within_3 rfl (lv_at hl 2 rfl) ?_
  refine rp_calli (rest := []) E w hA (metX0_refusal lc D d0 q t ri re be b a a t2 ha ha ht2) (cwV 3 E.1.2.2.2.2 (lw_V q108 q110 qs2 q25 q111) rfl rfl rfl (by decide +kernel) ⟨Nat.le_of_ble_eq_true rfl, Nat.le_of_ble_eq_true rfl⟩) (rx_rcv E w) rfl hl.1 rfl (Nat.le_of_ble_eq_true rfl) dX0_within_4 ⟨Nat.zero_le _, Nat.zero_le _⟩ (fun v4 u4 H locs hp4 w => ?_)
  refine rp_is (lv' := [(0, .ref (q 0)), (1, .int (iI (a))), (2, .int (iI (t2))), (3, .int (iI (un))), (4, .int (iI (v4)))]) E [1, 2, 3, 4, 0] dX0_within_7 hl (by decide) rfl (fun ls hl => ?_)
  refine rp_il E dX0_within_9 (lv_at hl 4 rfl) ?_
  refine rp_feq (tgt := 17) E dX0_within_11 (by decide) ⟨by omega, by omega⟩ (fun c11 => ?_) (fun c11 => ?_)
  · obtain ⟨an, rfl⟩ : ∃ an : Nat, a = (an : Int) := ⟨a.toNat, by omega⟩
    refine rp_iln E dX0_within_17 rfl (lv_at hl 3 rfl) ?_
    refine rp_calls (rest := []) E w hA (metX0_badTime lc D d0 _ un hun) (va_cwS 1 E.1.2.2.2.2 (lw_S q112 q113 q25 q114) rfl rfl rfl (by decide +kernel) ⟨Nat.le_of_ble_eq_true rfl, Nat.le_of_ble_eq_true rfl⟩) rfl hl.1 rfl (Nat.le_of_ble_eq_true rfl) dX0_within_18 ⟨Nat.zero_le _, Nat.zero_le _⟩ (fun v5 u5 H locs hp5 w => ?_)
    refine rp_feq (tgt := 27) E dX0_within_21 (by decide) ⟨by omega, by omega⟩ (fun c21 => ?_) (fun c21 => ?_)
    · refine rp_aln E dX0_within_27 rfl (lv_at hl 0 rfl) ?_
      refine rp_iln E dX0_within_28 rfl (lv_at hl 1 rfl) ?_
      refine rp_iln E dX0_within_29 rfl (lv_at hl 2 rfl) ?_
      refine rp_bi E (v := ((12 : Nat) : Int)) dX0_within_30 (by decide) ?_
      refine rp_callv (rest := []) E w hA (metX0_plan lc D d0 q t ri re be b ok an t2 (12) (by omega) ⟨by omega, by omega⟩ (by omega)) (cwV 3 E.1.2.2.2.2 (lw_V q115 q117 qs3 q25 q118) rfl rfl rfl (by decide +kernel) ⟨Nat.le_of_ble_eq_true rfl, Nat.le_of_ble_eq_true rfl⟩) (rx_rcv E w) rfl hl.1 rfl (Nat.le_of_ble_eq_true rfl) dX0_within_32 ⟨Nat.zero_le _, Nat.zero_le _⟩ (fun u7 H locs hp7 w => ?_)
      have hu : xOk u7 := by obtain ⟨k9, -, e9, -⟩ := hp7; rw [e9]; exact itr_ok ok (bg_ok ok ⟨by omega, by omega⟩ _) k9
      have loop : ∀ f k : Nat, k ≤ 8 → 8 < k + f → ∀ ls, lv_has ls 7 [(0, .ref (q 0)), (3, .int (iI (un))), (5, .int (iI ((wn u7.2.1 un k : Nat) : Int))), (6, .int (iI ((k : Nat) : Int)))] → W p lc e (rp_r 4 97) s m args below meth c H locs 0 0 Q (F0 m 41 ls []) := by
        intro f
        induction f with
        | zero =>
          intro k h1 h2
          exact absurd h2 (by omega)
        | succ f ihloop =>
          intro k h1 h2 ls hl
          have fu := fun (h : k < 8) => hu.1 k h
          refine rp_il E dX0_within_41 (lv_at hl 3 rfl) ?_
          refine rp_bi E (v := ((8 : Nat) : Int)) dX0_within_43 (by decide) ?_
          refine rp_cge (tgt := 68) E dX0_within_45 (by decide) ⟨by omega, by omega⟩ ⟨by omega, by omega⟩ (fun c45 => ?_) (fun c45 => ?_)
          · refine rp_il E dX0_within_68 (lv_at hl 2 rfl) ?_
            exact hret _ _ _ u7 _ _ (Or.inr (Or.inr ⟨by omega, by omega, hp7, by rw [← show k = 8 by omega]⟩)) w dX0_within_70
          · have fu := fu (by omega)
            refine rx_ag E w (lv_at hl 0 rfl) 9 (by decide) rfl q44 rfl dX0_within_48 dX0_within_49 ?_
            refine rp_il E dX0_within_52 (lv_at hl 3 rfl) ?_
            refine rp_ald E w 8 rfl (k) (rfl) (by omega) (by decide) dX0_within_54 ?_
            refine rp_iln E dX0_within_55 rfl (lv_at hl 1 rfl) ?_
            refine rp_cgt (tgt := 62) E dX0_within_56 (by decide) ⟨by omega, by omega⟩ ⟨by omega, by omega⟩ (fun c56 => ?_) (fun c56 => ?_)
            · refine rp_iinc (v := ((k + 1 : Nat) : Int)) (lv' := [(0, .ref (q 0)), (3, .int (iI (un))), (5, .int (iI ((wn u7.2.1 un k : Nat) : Int))), (6, .int (iI ((k + 1 : Nat) : Int)))]) E [1, 2, 3, 0] dX0_within_62 hl (k := 3) rfl (by omega) (by decide) rfl (fun ls hl => ?_)
              refine rp_goto (tgt := 41) E dX0_within_65 (by decide) ?_
              exact ihloop (k + 1) (by omega) (by omega) ls (by rw [wn, if_neg (by omega)]; exact hl)
            · refine rp_iinc (v := ((wn u7.2.1 un k + 1 : Nat) : Int)) (lv' := [(0, .ref (q 0)), (3, .int (iI (un))), (5, .int (iI ((wn u7.2.1 un k + 1 : Nat) : Int))), (6, .int (iI ((k : Nat) : Int)))]) E [1, 2, 0, 3] dX0_within_59 hl (k := 2) rfl (by omega) (by decide) rfl (fun ls hl => ?_)
              refine rp_iinc (v := ((k + 1 : Nat) : Int)) (lv' := [(0, .ref (q 0)), (3, .int (iI (un))), (5, .int (iI ((wn u7.2.1 un k + 1 : Nat) : Int))), (6, .int (iI ((k + 1 : Nat) : Int)))]) E [1, 2, 3, 0] dX0_within_62 hl (k := 3) rfl (by omega) (by decide) rfl (fun ls hl => ?_)
              refine rp_goto (tgt := 41) E dX0_within_65 (by decide) ?_
              exact ihloop (k + 1) (by omega) (by omega) ls (by rw [wn, if_pos (by omega)]; exact hl)
      refine rp_ic E (v := ((0 : Nat) : Int)) dX0_within_35 rfl ?_
      refine rp_is (lv' := [(0, .ref (q 0)), (1, .int (iI ((an : Nat) : Int))), (2, .int (iI (t2))), (3, .int (iI (un))), (4, .int (iI (v4))), (5, .int (iI ((0 : Nat) : Int)))]) E [1, 2, 3, 4, 5, 0] dX0_within_36 hl (by decide) rfl (fun ls hl => ?_)
      refine rp_ic E (v := ((0 : Nat) : Int)) dX0_within_38 rfl ?_
      refine rp_is (lv' := [(0, .ref (q 0)), (1, .int (iI ((an : Nat) : Int))), (2, .int (iI (t2))), (3, .int (iI (un))), (4, .int (iI (v4))), (5, .int (iI ((0 : Nat) : Int))), (6, .int (iI ((0 : Nat) : Int)))]) E [1, 2, 3, 4, 5, 6, 0] dX0_within_39 hl (by decide) rfl (fun ls hl => ?_)
      exact loop 9 0 (by omega) (by omega) ls (by rw [wn]; exact (lv_sub hl [0, 3, 5, 6] rfl))
    · refine rp_bi E (v := (-3)) dX0_within_24 (by decide) ?_
      exact hret _ _ (-3) (ri, re, be, b) _ _ (Or.inr (Or.inl ⟨by omega, by omega, by omega⟩)) w dX0_within_26
  · refine rp_il E dX0_within_14 (lv_at hl 4 rfl) ?_
    exact hret _ _ v4 (ri, re, be, b) _ _ (Or.inl (by omega)) w dX0_within_16
end
section
set_option maxRecDepth 100000
set_option maxHeartbeats 4000000 in
set_option maxRecDepth 100000 in
/-- line -/
theorem metX0_line (lc : Launch) (D : va_G) (d0 : ClassId) (q : Nat → Nat) (t : TT) (ri re be : Nat → Int) (b : Nat) (ok : tOk t) (a : Int) (ha : r32 a) : rp_MI lc D d0 yX0_line cX0_line 2 (some .int) (rp_r 1 20) [.ref (q 0), .int (iI (a))] (XW d0 q t ri re be b) (fun (v : Int) (u : TT) => aLine t a v u) (fun (u : TT) => XW d0 q u ri re be b) := by
  refine rp_MI.of (by decide) rfl (fun v u h => rfl) (Nat.le_of_ble_eq_true rfl) ?_
  intro p e s m below meth c args A ls Q E hA w hl hret
  have hl : lv_has ls 2 [(0, .ref (q 0)), (1, .int (iI (a)))] := hl
  have fL := tk_LT ok
  refine rp_iln E dX0_line_0 rfl (lv_at hl 1 rfl) ?_
  refine rp_calls (rest := []) E w hA (metX0_badStop lc D d0 _ a ha) (va_cwS 1 E.1.2.2.2.2 (lw_S q77 q78 q25 q79) rfl rfl rfl (by decide +kernel) ⟨Nat.le_of_ble_eq_true rfl, Nat.le_of_ble_eq_true rfl⟩) rfl hl.1 rfl (Nat.le_of_ble_eq_true rfl) dX0_line_1 ⟨Nat.zero_le _, Nat.zero_le _⟩ (fun v1 u1 H locs hp1 w => ?_)
  refine rp_feq (tgt := 9) E dX0_line_4 (by decide) ⟨by omega, by omega⟩ (fun c4 => ?_) (fun c4 => ?_)
  · obtain ⟨an, rfl⟩ : ∃ an : Nat, a = (an : Int) := ⟨a.toNat, by omega⟩
    refine rx_ag (v := .int (iI ((tL t : Nat) : Int))) E w (lv_at hl 0 rfl) 0 (by decide) rfl q35 rfl dX0_line_9 dX0_line_10 ?_
    refine rp_ic E (v := ((5 : Nat) : Int)) dX0_line_13 rfl ?_
    refine rp_clt (tgt := 20) E dX0_line_14 (by decide) ⟨by omega, by omega⟩ ⟨by omega, by omega⟩ (fun c14 => ?_) (fun c14 => ?_)
    · refine rx_ag E w (lv_at hl 0 rfl) 1 (by decide) rfl q36 rfl dX0_line_20 dX0_line_21 ?_
      refine rx_ag (v := .int (iI ((tL t : Nat) : Int))) E w (lv_at hl 0 rfl) 0 (by decide) rfl q35 rfl dX0_line_24 dX0_line_25 ?_
      refine rp_ic E (v := ((1 : Nat) : Int)) dX0_line_28 rfl ?_
      refine rp_ast E w 1 rfl (tL t) (rfl) (by omega) (by decide) dX0_line_29 (fun H locs w => ?_)
      rw [upIN _ (tL t) (1)] at w
      have w : rp_H D A s.heap H locs (XW d0 q ((tL t, upN (tSz t) (tL t) (1), tSt t, tOg t, tT t, tLo t, tSo t, tWk t) : TT) ri re be b) := w
      refine rx_ag E w (lv_at hl 0 rfl) 2 (by decide) rfl q37 rfl dX0_line_30 dX0_line_31 ?_
      refine rx_ag (v := .int (iI ((tL t : Nat) : Int))) E w (lv_at hl 0 rfl) 0 (by decide) rfl q35 rfl dX0_line_34 dX0_line_35 ?_
      refine rp_bi E (v := ((6 : Nat) : Int)) dX0_line_38 (by decide) ?_
      refine rp_mulN E dX0_line_40 ?_
      refine rp_iln E dX0_line_41 rfl (lv_at hl 1 rfl) ?_
      refine rp_ast E w 2 rfl ((tL t) * 6) (rfl) (by omega) (by decide) dX0_line_42 (fun H locs w => ?_)
      rw [upIN _ ((tL t) * 6) (an)] at w
      have w : rp_H D A s.heap H locs (XW d0 q ((tL t, upN (tSz t) (tL t) (1), upN (tSt t) ((tL t) * 6) (an), tOg t, tT t, tLo t, tSo t, tWk t) : TT) ri re be b) := w
      refine rx_ag E w (lv_at hl 0 rfl) 3 (by decide) rfl q38 rfl dX0_line_43 dX0_line_44 ?_
      refine rx_ag (v := .int (iI ((tL t : Nat) : Int))) E w (lv_at hl 0 rfl) 0 (by decide) rfl q35 rfl dX0_line_47 dX0_line_48 ?_
      refine rp_bi E (v := ((6 : Nat) : Int)) dX0_line_51 (by decide) ?_
      refine rp_mulN E dX0_line_53 ?_
      refine rp_ic E (v := ((0 : Nat) : Int)) dX0_line_54 rfl ?_
      refine rp_ast E w 3 rfl ((tL t) * 6) (rfl) (by omega) (by decide) dX0_line_55 (fun H locs w => ?_)
      have w : rp_H D A s.heap H locs (XW d0 q ((tL t, upN (tSz t) (tL t) (1), upN (tSt t) ((tL t) * 6) (an), upI (tOg t) ((tL t) * 6) (((0 : Nat) : Int)), tT t, tLo t, tSo t, tWk t) : TT) ri re be b) := w
      refine rp_aln E dX0_line_56 rfl (lv_at hl 0 rfl) ?_
      refine rp_dup E dX0_line_57 rfl ?_
      refine rx_get (v := .int (iI ((tL t : Nat) : Int))) E w 0 (by decide) rfl q35 rfl dX0_line_58 ?_
      refine rp_ic E (v := ((1 : Nat) : Int)) dX0_line_61 rfl ?_
      refine rp_addN E dX0_line_62 ?_
      refine rx_put E w 0 (by decide) rfl q35 rfl (by decide +kernel) dX0_line_63 (fun H locs w => ?_)
      have w : rp_H D A s.heap H locs (XW d0 q (((tL t) + 1, upN (tSz t) (tL t) (1), upN (tSt t) ((tL t) * 6) (an), upI (tOg t) ((tL t) * 6) (((0 : Nat) : Int)), tT t, tLo t, tSo t, tWk t) : TT) ri re be b) := w
      refine rx_ag (v := .int (iI (((tL t) + 1 : Nat) : Int))) E w (lv_at hl 0 rfl) 0 (by decide) rfl q35 rfl dX0_line_66 dX0_line_67 ?_
      refine rp_ic E (v := ((1 : Nat) : Int)) dX0_line_70 rfl ?_
      refine rp_sub E dX0_line_71 ?_
      exact hret _ _ _ (tLine t an) _ _ (Or.inr (Or.inr ⟨by omega, rfl, by omega, by omega⟩)) w dX0_line_72
    · refine rp_bi E (v := (-4)) dX0_line_17 (by decide) ?_
      exact hret _ _ (-4) t _ _ (Or.inr (Or.inl ⟨rfl, rfl, by omega, by omega⟩)) w dX0_line_19
  · refine rp_ic E (v := (-1)) dX0_line_7 rfl ?_
    exact hret _ _ (-1) t _ _ (Or.inl ⟨rfl, rfl, by omega⟩) w dX0_line_8
set_option maxHeartbeats 4000000 in
set_option maxRecDepth 100000 in
/-- trip -/
theorem metX0_trip (lc : Launch) (D : va_G) (d0 : ClassId) (q : Nat → Nat) (t : TT) (ri re be : Nat → Int) (b : Nat) (ok : tOk t) (a st : Int) (ha : r32 a) (hst : r32 st) : rp_MI lc D d0 yX0_trip cX0_trip 3 (some .int) (rp_r 1 21) [.ref (q 0), .int (iI (a)), .int (iI (st))] (XW d0 q t ri re be b) (fun (v : Int) (u : TT) => aTrip t a st v u) (fun (u : TT) => XW d0 q u ri re be b) := by
  refine rp_MI.of (by decide) rfl (fun v u h => rfl) (Nat.le_of_ble_eq_true rfl) ?_
  intro p e s m below meth c args A ls Q E hA w hl hret
  have hl : lv_has ls 3 [(0, .ref (q 0)), (1, .int (iI (a))), (2, .int (iI (st)))] := hl
  have fL := tk_LT ok
  refine rp_aln E dX0_trip_0 rfl (lv_at hl 0 rfl) ?_
  refine rp_iln E dX0_trip_1 rfl (lv_at hl 1 rfl) ?_
  refine rp_calli (rest := []) E w hA (metX0_badLine lc D d0 q t ri re be b ok a ha) (cwV 1 E.1.2.2.2.2 (lw_V q84 q86 qs0 q25 q87) rfl rfl rfl (by decide +kernel) ⟨Nat.le_of_ble_eq_true rfl, Nat.le_of_ble_eq_true rfl⟩) (rx_rcv E w) rfl hl.1 rfl (Nat.le_of_ble_eq_true rfl) dX0_trip_2 ⟨Nat.zero_le _, Nat.zero_le _⟩ (fun v2 u2 H locs hp2 w => ?_)
  refine rp_feq (tgt := 11) E dX0_trip_5 (by decide) ⟨by omega, by omega⟩ (fun c5 => ?_) (fun c5 => ?_)
  · obtain ⟨an, rfl⟩ : ∃ an : Nat, a = (an : Int) := ⟨a.toNat, by omega⟩
    refine rp_iln E dX0_trip_11 rfl (lv_at hl 2 rfl) ?_
    refine rp_flt (tgt := 22) E dX0_trip_12 (by decide) ⟨by omega, by omega⟩ (fun c12 => ?_) (fun c12 => ?_)
    · refine rp_bi E (v := (-3)) dX0_trip_22 (by decide) ?_
      exact hret _ _ (-3) t _ _ (Or.inr (Or.inl ⟨rfl, rfl, by omega, by omega⟩)) w dX0_trip_24
    · refine rp_iln E dX0_trip_15 rfl (lv_at hl 2 rfl) ?_
      refine rp_si E (v := (500)) dX0_trip_16 (by decide) ?_
      refine rp_cle (tgt := 25) E dX0_trip_19 (by decide) ⟨by omega, by omega⟩ ⟨by omega, by omega⟩ (fun c19 => ?_) (fun c19 => ?_)
      · refine rx_ag (v := .int (iI ((tT t : Nat) : Int))) E w (lv_at hl 0 rfl) 4 (by decide) rfl q39 rfl dX0_trip_25 dX0_trip_26 ?_
        refine rp_bi E (v := ((12 : Nat) : Int)) dX0_trip_29 (by decide) ?_
        refine rp_clt (tgt := 37) E dX0_trip_31 (by decide) ⟨by omega, by omega⟩ ⟨by omega, by omega⟩ (fun c31 => ?_) (fun c31 => ?_)
        · refine rx_ag E w (lv_at hl 0 rfl) 5 (by decide) rfl q40 rfl dX0_trip_37 dX0_trip_38 ?_
          refine rx_ag (v := .int (iI ((tT t : Nat) : Int))) E w (lv_at hl 0 rfl) 4 (by decide) rfl q39 rfl dX0_trip_41 dX0_trip_42 ?_
          refine rp_iln E dX0_trip_45 rfl (lv_at hl 1 rfl) ?_
          refine rp_ast E w 4 rfl (tT t) (rfl) (by omega) (by decide) dX0_trip_46 (fun H locs w => ?_)
          rw [upIN _ (tT t) (an)] at w
          have w : rp_H D A s.heap H locs (XW d0 q ((tL t, tSz t, tSt t, tOg t, tT t, upN (tLo t) (tT t) (an), tSo t, tWk t) : TT) ri re be b) := w
          refine rx_ag E w (lv_at hl 0 rfl) 6 (by decide) rfl q41 rfl dX0_trip_47 dX0_trip_48 ?_
          refine rx_ag (v := .int (iI ((tT t : Nat) : Int))) E w (lv_at hl 0 rfl) 4 (by decide) rfl q39 rfl dX0_trip_51 dX0_trip_52 ?_
          refine rp_iln E dX0_trip_55 rfl (lv_at hl 2 rfl) ?_
          refine rp_ast E w 5 rfl (tT t) (rfl) (by omega) (by decide) dX0_trip_56 (fun H locs w => ?_)
          have w : rp_H D A s.heap H locs (XW d0 q ((tL t, tSz t, tSt t, tOg t, tT t, upN (tLo t) (tT t) (an), upI (tSo t) (tT t) ((st)), tWk t) : TT) ri re be b) := w
          refine rp_aln E dX0_trip_57 rfl (lv_at hl 0 rfl) ?_
          refine rp_dup E dX0_trip_58 rfl ?_
          refine rx_get (v := .int (iI ((tT t : Nat) : Int))) E w 4 (by decide) rfl q39 rfl dX0_trip_59 ?_
          refine rp_ic E (v := ((1 : Nat) : Int)) dX0_trip_62 rfl ?_
          refine rp_addN E dX0_trip_63 ?_
          refine rx_put E w 4 (by decide) rfl q39 rfl (by decide +kernel) dX0_trip_64 (fun H locs w => ?_)
          have w : rp_H D A s.heap H locs (XW d0 q ((tL t, tSz t, tSt t, tOg t, (tT t) + 1, upN (tLo t) (tT t) (an), upI (tSo t) (tT t) ((st)), tWk t) : TT) ri re be b) := w
          refine rx_ag (v := .int (iI (((tT t) + 1 : Nat) : Int))) E w (lv_at hl 0 rfl) 4 (by decide) rfl q39 rfl dX0_trip_67 dX0_trip_68 ?_
          refine rp_ic E (v := ((1 : Nat) : Int)) dX0_trip_71 rfl ?_
          refine rp_sub E dX0_trip_72 ?_
          exact hret _ _ _ (tTrip t an st) _ _ (Or.inr (Or.inr (Or.inr ⟨by omega, rfl, by omega, by omega, by omega⟩))) w dX0_trip_73
        · refine rp_bi E (v := (-4)) dX0_trip_34 (by decide) ?_
          exact hret _ _ (-4) t _ _ (Or.inr (Or.inr (Or.inl ⟨rfl, rfl, by omega, by omega, by omega⟩))) w dX0_trip_36
      · refine rp_bi E (v := (-3)) dX0_trip_22 (by decide) ?_
        exact hret _ _ (-3) t _ _ (Or.inr (Or.inl ⟨rfl, rfl, by omega, by omega⟩)) w dX0_trip_24
  · refine rp_bi E (v := (-2)) dX0_trip_8 (by decide) ?_
    exact hret _ _ (-2) t _ _ (Or.inl ⟨rfl, rfl, by omega⟩) w dX0_trip_10
set_option maxHeartbeats 4000000 in
set_option maxRecDepth 100000 in
/-- footpath -/
theorem metX0_footpath (lc : Launch) (D : va_G) (d0 : ClassId) (q : Nat → Nat) (t : TT) (ri re be : Nat → Int) (b : Nat) (ok : tOk t) (a b2 mi : Int) (ha : r32 a) (hb2 : r32 b2) (hmi : r32 mi) : rp_MI lc D d0 yX0_footpath cX0_footpath 5 (some .int) (rp_r 1 20) [.ref (q 0), .int (iI (a)), .int (iI (b2)), .int (iI (mi))] (XW d0 q t ri re be b) (fun (v : Int) (u : TT) => aFoot t a b2 mi v u) (fun (u : TT) => XW d0 q u ri re be b) := by
  refine rp_MI.of (by decide) rfl (fun v u h => rfl) (Nat.le_of_ble_eq_true rfl) ?_
  intro p e s m below meth c args A ls Q E hA w hl hret
  have hl : lv_has ls 5 [(0, .ref (q 0)), (1, .int (iI (a))), (2, .int (iI (b2))), (3, .int (iI (mi)))] := hl
  refine rp_iln E dX0_footpath_0 rfl (lv_at hl 1 rfl) ?_
  refine rp_calls (rest := []) E w hA (metX0_badStop lc D d0 _ a ha) (va_cwS 1 E.1.2.2.2.2 (lw_S q77 q78 q25 q79) rfl rfl rfl (by decide +kernel) ⟨Nat.le_of_ble_eq_true rfl, Nat.le_of_ble_eq_true rfl⟩) rfl hl.1 rfl (Nat.le_of_ble_eq_true rfl) dX0_footpath_1 ⟨Nat.zero_le _, Nat.zero_le _⟩ (fun v1 u1 H locs hp1 w => ?_)
  refine rp_fne (tgt := 19) E dX0_footpath_4 (by decide) ⟨by omega, by omega⟩ (fun c4 => ?_) (fun c4 => ?_)
  · refine rp_ic E (v := (-1)) dX0_footpath_19 rfl ?_
    exact hret _ _ (-1) t _ _ (Or.inl ⟨rfl, rfl, by omega⟩) w dX0_footpath_20
  · refine rp_iln E dX0_footpath_7 rfl (lv_at hl 2 rfl) ?_
    refine rp_calls (rest := []) E w hA (metX0_badStop lc D d0 _ b2 hb2) (va_cwS 1 E.1.2.2.2.2 (lw_S q77 q78 q25 q79) rfl rfl rfl (by decide +kernel) ⟨Nat.le_of_ble_eq_true rfl, Nat.le_of_ble_eq_true rfl⟩) rfl hl.1 rfl (Nat.le_of_ble_eq_true rfl) dX0_footpath_8 ⟨Nat.zero_le _, Nat.zero_le _⟩ (fun v8 u8 H locs hp8 w => ?_)
    refine rp_fne (tgt := 19) E dX0_footpath_11 (by decide) ⟨by omega, by omega⟩ (fun c11 => ?_) (fun c11 => ?_)
    · refine rp_ic E (v := (-1)) dX0_footpath_19 rfl ?_
      exact hret _ _ (-1) t _ _ (Or.inl ⟨rfl, rfl, by omega⟩) w dX0_footpath_20
    · refine rp_iln E dX0_footpath_14 rfl (lv_at hl 1 rfl) ?_
      refine rp_iln E dX0_footpath_15 rfl (lv_at hl 2 rfl) ?_
      refine rp_cne (tgt := 21) E dX0_footpath_16 (by decide) ⟨by omega, by omega⟩ ⟨by omega, by omega⟩ (fun c16 => ?_) (fun c16 => ?_)
      · obtain ⟨an, rfl⟩ : ∃ an : Nat, a = (an : Int) := ⟨a.toNat, by omega⟩
        obtain ⟨bn, rfl⟩ : ∃ bn : Nat, b2 = (bn : Int) := ⟨b2.toNat, by omega⟩
        refine rp_iln E dX0_footpath_21 rfl (lv_at hl 3 rfl) ?_
        refine rp_flt (tgt := 31) E dX0_footpath_22 (by decide) ⟨by omega, by omega⟩ (fun c22 => ?_) (fun c22 => ?_)
        · refine rp_bi E (v := (-3)) dX0_footpath_31 (by decide) ?_
          exact hret _ _ (-3) t _ _ (Or.inr (Or.inl ⟨rfl, rfl, by omega, by omega⟩)) w dX0_footpath_33
        · refine rp_iln E dX0_footpath_25 rfl (lv_at hl 3 rfl) ?_
          refine rp_bi E (v := ((30 : Nat) : Int)) dX0_footpath_26 (by decide) ?_
          refine rp_cle (tgt := 34) E dX0_footpath_28 (by decide) ⟨by omega, by omega⟩ ⟨by omega, by omega⟩ (fun c28 => ?_) (fun c28 => ?_)
          · refine rx_ag E w (lv_at hl 0 rfl) 7 (by decide) rfl q42 rfl dX0_footpath_34 dX0_footpath_35 ?_
            refine rp_iln E dX0_footpath_38 rfl (lv_at hl 1 rfl) ?_
            refine rp_bi E (v := ((8 : Nat) : Int)) dX0_footpath_39 (by decide) ?_
            refine rp_mulN E dX0_footpath_41 ?_
            refine rp_iln E dX0_footpath_42 rfl (lv_at hl 2 rfl) ?_
            refine rp_addN E dX0_footpath_43 ?_
            refine rp_ald E w 6 rfl ((an * 8) + bn) (rfl) (by omega) (by decide) dX0_footpath_44 ?_
            have f44 := tk_Wk ok ((an * 8) + bn)
            refine rp_is (lv' := [(0, .ref (q 0)), (1, .int (iI ((an : Nat) : Int))), (2, .int (iI ((bn : Nat) : Int))), (3, .int (iI (mi))), (4, .int (iI (tWk t ((an * 8) + bn))))]) E [1, 2, 3, 4, 0] dX0_footpath_45 hl (by decide) rfl (fun ls hl => ?_)
            refine rx_ag E w (lv_at hl 0 rfl) 7 (by decide) rfl q42 rfl dX0_footpath_47 dX0_footpath_48 ?_
            refine rp_iln E dX0_footpath_51 rfl (lv_at hl 1 rfl) ?_
            refine rp_bi E (v := ((8 : Nat) : Int)) dX0_footpath_52 (by decide) ?_
            refine rp_mulN E dX0_footpath_54 ?_
            refine rp_iln E dX0_footpath_55 rfl (lv_at hl 2 rfl) ?_
            refine rp_addN E dX0_footpath_56 ?_
            refine rp_iln E dX0_footpath_57 rfl (lv_at hl 3 rfl) ?_
            refine rp_ast E w 6 rfl ((an * 8) + bn) (rfl) (by omega) (by decide) dX0_footpath_58 (fun H locs w => ?_)
            have w : rp_H D A s.heap H locs (XW d0 q ((tL t, tSz t, tSt t, tOg t, tT t, tLo t, tSo t, upI (tWk t) ((an * 8) + bn) ((mi))) : TT) ri re be b) := w
            refine rx_ag E w (lv_at hl 0 rfl) 7 (by decide) rfl q42 rfl dX0_footpath_59 dX0_footpath_60 ?_
            refine rp_iln E dX0_footpath_63 rfl (lv_at hl 2 rfl) ?_
            refine rp_bi E (v := ((8 : Nat) : Int)) dX0_footpath_64 (by decide) ?_
            refine rp_mulN E dX0_footpath_66 ?_
            refine rp_iln E dX0_footpath_67 rfl (lv_at hl 1 rfl) ?_
            refine rp_addN E dX0_footpath_68 ?_
            refine rp_iln E dX0_footpath_69 rfl (lv_at hl 3 rfl) ?_
            refine rp_ast E w 6 rfl ((bn * 8) + an) (rfl) (by omega) (by decide) dX0_footpath_70 (fun H locs w => ?_)
            have w : rp_H D A s.heap H locs (XW d0 q ((tL t, tSz t, tSt t, tOg t, tT t, tLo t, tSo t, upI (upI (tWk t) ((an * 8) + bn) ((mi))) ((bn * 8) + an) ((mi))) : TT) ri re be b) := w
            refine rp_il E dX0_footpath_71 (lv_at hl 4 rfl) ?_
            exact hret _ _ _ (tFoot t an bn mi) _ _ (Or.inr (Or.inr ⟨rfl, rfl, by omega, by omega⟩)) w dX0_footpath_73
          · refine rp_bi E (v := (-3)) dX0_footpath_31 (by decide) ?_
            exact hret _ _ (-3) t _ _ (Or.inr (Or.inl ⟨rfl, rfl, by omega, by omega⟩)) w dX0_footpath_33
      · refine rp_ic E (v := (-1)) dX0_footpath_19 rfl ?_
        exact hret _ _ (-1) t _ _ (Or.inl ⟨rfl, rfl, by omega⟩) w dX0_footpath_20
set_option maxHeartbeats 4000000 in
set_option maxRecDepth 100000 in
/-- delay -/
theorem metX0_delay (lc : Launch) (D : va_G) (d0 : ClassId) (q : Nat → Nat) (t : TT) (ri re be : Nat → Int) (b : Nat) (ok : tOk t) (a st : Int) (ha : r32 a) (hst : r32 st) : rp_MI lc D d0 yX0_delay cX0_delay 4 (some .int) (rp_r 0 0) [.ref (q 0), .int (iI (a)), .int (iI (st))] (XW d0 q t ri re be b) (fun (v : Int) (u : TT) => aDel t a st v u) (fun (u : TT) => XW d0 q u ri re be b) := by
  refine rp_MI.of (by decide) rfl (fun v u h => rfl) (Nat.le_of_ble_eq_true rfl) ?_
  intro p e s m below meth c args A ls Q E hA w hl hret
  have hl : lv_has ls 4 [(0, .ref (q 0)), (1, .int (iI (a))), (2, .int (iI (st)))] := hl
  have fL := tk_LT ok
  refine rp_iln E dX0_delay_0 rfl (lv_at hl 1 rfl) ?_
  refine rp_flt (tgt := 12) E dX0_delay_1 (by decide) ⟨by omega, by omega⟩ (fun c1 => ?_) (fun c1 => ?_)
  · refine rp_bi E (v := (-2)) dX0_delay_12 (by decide) ?_
    exact hret _ _ (-2) t _ _ (Or.inl ⟨rfl, rfl, by omega⟩) w dX0_delay_14
  · refine rp_iln E dX0_delay_4 rfl (lv_at hl 1 rfl) ?_
    refine rx_ag (v := .int (iI ((tT t : Nat) : Int))) E w (lv_at hl 0 rfl) 4 (by decide) rfl q39 rfl dX0_delay_5 dX0_delay_6 ?_
    refine rp_clt (tgt := 15) E dX0_delay_9 (by decide) ⟨by omega, by omega⟩ ⟨by omega, by omega⟩ (fun c9 => ?_) (fun c9 => ?_)
    · obtain ⟨an, rfl⟩ : ∃ an : Nat, a = (an : Int) := ⟨a.toNat, by omega⟩
      refine rp_iln E dX0_delay_15 rfl (lv_at hl 2 rfl) ?_
      refine rp_flt (tgt := 26) E dX0_delay_16 (by decide) ⟨by omega, by omega⟩ (fun c16 => ?_) (fun c16 => ?_)
      · refine rp_bi E (v := (-3)) dX0_delay_26 (by decide) ?_
        exact hret _ _ (-3) t _ _ (Or.inr (Or.inl ⟨rfl, rfl, by omega, by omega⟩)) w dX0_delay_28
      · refine rp_iln E dX0_delay_19 rfl (lv_at hl 2 rfl) ?_
        refine rp_si E (v := (500)) dX0_delay_20 (by decide) ?_
        refine rp_cle (tgt := 29) E dX0_delay_23 (by decide) ⟨by omega, by omega⟩ ⟨by omega, by omega⟩ (fun c23 => ?_) (fun c23 => ?_)
        · refine rx_ag E w (lv_at hl 0 rfl) 6 (by decide) rfl q41 rfl dX0_delay_29 dX0_delay_30 ?_
          refine rp_iln E dX0_delay_33 rfl (lv_at hl 1 rfl) ?_
          refine rp_ald E w 5 rfl (an) (rfl) (by omega) (by decide) dX0_delay_34 ?_
          have f34 := tk_So ok (an)
          refine rp_isn (lv' := [(0, .ref (q 0)), (1, .int (iI ((an : Nat) : Int))), (2, .int (iI (st))), (3, .int (iI (tSo t (an))))]) E [1, 2, 3, 0] dX0_delay_35 rfl hl (by decide) rfl (fun ls hl => ?_)
          refine rx_ag E w (lv_at hl 0 rfl) 6 (by decide) rfl q41 rfl dX0_delay_36 dX0_delay_37 ?_
          refine rp_iln E dX0_delay_40 rfl (lv_at hl 1 rfl) ?_
          refine rp_iln E dX0_delay_41 rfl (lv_at hl 2 rfl) ?_
          refine rp_ast E w 5 rfl (an) (rfl) (by omega) (by decide) dX0_delay_42 (fun H locs w => ?_)
          have w : rp_H D A s.heap H locs (XW d0 q ((tL t, tSz t, tSt t, tOg t, tT t, tLo t, upI (tSo t) (an) ((st)), tWk t) : TT) ri re be b) := w
          refine rp_iln E dX0_delay_43 rfl (lv_at hl 3 rfl) ?_
          exact hret _ _ _ (tDel t an st) _ _ (Or.inr (Or.inr ⟨rfl, rfl, by omega, by omega⟩)) w dX0_delay_44
        · refine rp_bi E (v := (-3)) dX0_delay_26 (by decide) ?_
          exact hret _ _ (-3) t _ _ (Or.inr (Or.inl ⟨rfl, rfl, by omega, by omega⟩)) w dX0_delay_28
    · refine rp_bi E (v := (-2)) dX0_delay_12 (by decide) ?_
      exact hret _ _ (-2) t _ _ (Or.inl ⟨rfl, rfl, by omega⟩) w dX0_delay_14
end
section
set_option maxRecDepth 100000
set_option maxHeartbeats 4000000 in
set_option maxRecDepth 100000 in
/-- extend -/
theorem metX0_extend (lc : Launch) (D : va_G) (d0 : ClassId) (q : Nat → Nat) (t : TT) (ri re be : Nat → Int) (b : Nat) (ok : tOk t) (a st mi : Int) (ha : r32 a) (hst : r32 st) (hmi : r32 mi) : rp_MI lc D d0 yX0_extend cX0_extend 6 (some .int) (rp_r 1 22) [.ref (q 0), .int (iI (a)), .int (iI (st)), .int (iI (mi))] (XW d0 q t ri re be b) (fun (v : Int) (u : TT) => aExt t a st mi v u) (fun (u : TT) => XW d0 q u ri re be b) := by
  refine rp_MI.of (by decide) rfl (fun v u h => rfl) (Nat.le_of_ble_eq_true rfl) ?_
  intro p e s m below meth c args A ls Q E hA w hl hret
  have hl : lv_has ls 6 [(0, .ref (q 0)), (1, .int (iI (a))), (2, .int (iI (st))), (3, .int (iI (mi)))] := hl
  have fL := tk_LT ok
  refine rp_aln E dX0_extend_0 rfl (lv_at hl 0 rfl) ?_
  refine rp_iln E dX0_extend_1 rfl (lv_at hl 1 rfl) ?_
  refine rp_calli (rest := []) E w hA (metX0_badLine lc D d0 q t ri re be b ok a ha) (cwV 1 E.1.2.2.2.2 (lw_V q84 q86 qs0 q25 q87) rfl rfl rfl (by decide +kernel) ⟨Nat.le_of_ble_eq_true rfl, Nat.le_of_ble_eq_true rfl⟩) (rx_rcv E w) rfl hl.1 rfl (Nat.le_of_ble_eq_true rfl) dX0_extend_2 ⟨Nat.zero_le _, Nat.zero_le _⟩ (fun v2 u2 H locs hp2 w => ?_)
  refine rp_feq (tgt := 11) E dX0_extend_5 (by decide) ⟨by omega, by omega⟩ (fun c5 => ?_) (fun c5 => ?_)
  · obtain ⟨an, rfl⟩ : ∃ an : Nat, a = (an : Int) := ⟨a.toNat, by omega⟩
    refine rp_iln E dX0_extend_11 rfl (lv_at hl 2 rfl) ?_
    refine rp_calls (rest := []) E w hA (metX0_badStop lc D d0 _ st hst) (va_cwS 1 E.1.2.2.2.2 (lw_S q77 q78 q25 q79) rfl rfl rfl (by decide +kernel) ⟨Nat.le_of_ble_eq_true rfl, Nat.le_of_ble_eq_true rfl⟩) rfl hl.1 rfl (Nat.le_of_ble_eq_true rfl) dX0_extend_12 ⟨Nat.zero_le _, Nat.zero_le _⟩ (fun v12 u12 H locs hp12 w => ?_)
    refine rp_feq (tgt := 20) E dX0_extend_15 (by decide) ⟨by omega, by omega⟩ (fun c15 => ?_) (fun c15 => ?_)
    · obtain ⟨sn, rfl⟩ : ∃ sn : Nat, st = (sn : Int) := ⟨st.toNat, by omega⟩
      refine rx_ag E w (lv_at hl 0 rfl) 1 (by decide) rfl q36 rfl dX0_extend_20 dX0_extend_21 ?_
      refine rp_iln E dX0_extend_24 rfl (lv_at hl 1 rfl) ?_
      refine rp_ald E w 1 rfl (an) (rfl) (by omega) (by decide) dX0_extend_25 ?_
      have f25 := tk_Sz ok (an)
      refine rp_is (lv' := [(0, .ref (q 0)), (1, .int (iI ((an : Nat) : Int))), (2, .int (iI ((sn : Nat) : Int))), (3, .int (iI (mi))), (4, .int (iI ((tSz t (an) : Nat) : Int)))]) E [1, 2, 3, 4, 0] dX0_extend_26 hl (by decide) rfl (fun ls hl => ?_)
      refine rp_ic E (v := ((0 : Nat) : Int)) dX0_extend_28 rfl ?_
      refine rp_is (lv' := [(0, .ref (q 0)), (1, .int (iI ((an : Nat) : Int))), (2, .int (iI ((sn : Nat) : Int))), (3, .int (iI (mi))), (4, .int (iI ((tSz t (an) : Nat) : Int))), (5, .int (iI ((0 : Nat) : Int)))]) E [1, 2, 3, 4, 5, 0] dX0_extend_29 hl (by decide) rfl (fun ls hl => ?_)
      have fz := tk_Sz ok an
      have fz1 := tk_Sz1 ok (l := an) (by omega)
      have J62 : (∀ i, i < tSz t an → tSt t (an * 6 + i) ≠ sn) → ∀ ls, lv_has ls 6 [(0, .ref (q 0)), (1, .int (iI ((an : Nat) : Int))), (2, .int (iI ((sn : Nat) : Int))), (3, .int (iI (mi))), (4, .int (iI ((tSz t (an) : Nat) : Int)))] → W p lc e (rp_r 1 22) s m args below meth c H locs 0 0 Q (F0 m 62 ls []) := by
        intro hi ls hl
        refine rp_iln E dX0_extend_62 rfl (lv_at hl 3 rfl) ?_
        refine rp_ic E (v := ((1 : Nat) : Int)) dX0_extend_63 rfl ?_
        refine rp_clt (tgt := 73) E dX0_extend_64 (by decide) ⟨by omega, by omega⟩ ⟨by omega, by omega⟩ (fun c64 => ?_) (fun c64 => ?_)
        · refine rp_bi E (v := (-3)) dX0_extend_73 (by decide) ?_
          exact hret _ _ (-3) t _ _ (Or.inr (Or.inr (Or.inr (Or.inl ⟨rfl, rfl, by omega, by omega, hi, by omega⟩)))) w dX0_extend_75
        · refine rp_iln E dX0_extend_67 rfl (lv_at hl 3 rfl) ?_
          refine rp_bi E (v := ((30 : Nat) : Int)) dX0_extend_68 (by decide) ?_
          refine rp_cle (tgt := 76) E dX0_extend_70 (by decide) ⟨by omega, by omega⟩ ⟨by omega, by omega⟩ (fun c70 => ?_) (fun c70 => ?_)
          · refine rp_aln E dX0_extend_76 rfl (lv_at hl 0 rfl) ?_
            refine rp_iln E dX0_extend_77 rfl (lv_at hl 1 rfl) ?_
            refine rp_calli (rest := []) E w hA (metX0_hasTrips lc D d0 q t ri re be b ok an (by omega)) (cwV 1 E.1.2.2.2.2 (lw_V q88 q90 qs1 q25 q91) rfl rfl rfl (by decide +kernel) ⟨Nat.le_of_ble_eq_true rfl, Nat.le_of_ble_eq_true rfl⟩) (rx_rcv E w) rfl hl.1 rfl (Nat.le_of_ble_eq_true rfl) dX0_extend_78 ⟨Nat.zero_le _, Nat.zero_le _⟩ (fun v7 u7 H locs hp7 w => ?_)
            refine rp_is (lv' := [(0, .ref (q 0)), (1, .int (iI ((an : Nat) : Int))), (2, .int (iI ((sn : Nat) : Int))), (3, .int (iI (mi))), (4, .int (iI ((tSz t (an) : Nat) : Int))), (5, .int (iI (v7)))]) E [1, 2, 3, 4, 5, 0] dX0_extend_81 hl (by decide) rfl (fun ls hl => ?_)
            refine rp_il E dX0_extend_83 (lv_at hl 4 rfl) ?_
            refine rp_bi E (v := ((6 : Nat) : Int)) dX0_extend_85 (by decide) ?_
            refine rp_cge (tgt := 95) E dX0_extend_87 (by decide) ⟨by omega, by omega⟩ ⟨by omega, by omega⟩ (fun c87 => ?_) (fun c87 => ?_)
            · refine rp_bi E (v := (-4)) dX0_extend_95 (by decide) ?_
              exact hret _ _ (-4) t _ _ (Or.inr (Or.inr (Or.inr (Or.inr (Or.inl ⟨rfl, rfl, by omega, by omega, hi, by omega, by first | exact Or.inl (show 6 ≤ tSz t an by omega) | exact Or.inr (by rcases hp7 with h | h; exact h.2; exact absurd h.1 (by omega))⟩))))) w dX0_extend_97
            · refine rp_il E dX0_extend_90 (lv_at hl 5 rfl) ?_
              refine rp_feq (tgt := 98) E dX0_extend_92 (by decide) ⟨by omega, by omega⟩ (fun c92 => ?_) (fun c92 => ?_)
              · refine rx_ag E w (lv_at hl 0 rfl) 2 (by decide) rfl q37 rfl dX0_extend_98 dX0_extend_99 ?_
                refine rp_iln E dX0_extend_102 rfl (lv_at hl 1 rfl) ?_
                refine rp_bi E (v := ((6 : Nat) : Int)) dX0_extend_103 (by decide) ?_
                refine rp_mulN E dX0_extend_105 ?_
                refine rp_il E dX0_extend_106 (lv_at hl 4 rfl) ?_
                refine rp_addN E dX0_extend_108 ?_
                refine rp_iln E dX0_extend_109 rfl (lv_at hl 2 rfl) ?_
                refine rp_ast E w 2 rfl ((an * 6) + (tSz t (an))) (rfl) (by omega) (by decide) dX0_extend_110 (fun H locs w => ?_)
                rw [upIN _ ((an * 6) + (tSz t (an))) (sn)] at w
                have w : rp_H D A s.heap H locs (XW d0 q ((tL t, tSz t, upN (tSt t) ((an * 6) + (tSz t (an))) (sn), tOg t, tT t, tLo t, tSo t, tWk t) : TT) ri re be b) := w
                refine rx_ag E w (lv_at hl 0 rfl) 3 (by decide) rfl q38 rfl dX0_extend_111 dX0_extend_112 ?_
                refine rp_iln E dX0_extend_115 rfl (lv_at hl 1 rfl) ?_
                refine rp_bi E (v := ((6 : Nat) : Int)) dX0_extend_116 (by decide) ?_
                refine rp_mulN E dX0_extend_118 ?_
                refine rp_il E dX0_extend_119 (lv_at hl 4 rfl) ?_
                refine rp_addN E dX0_extend_121 ?_
                refine rx_ag E w (lv_at hl 0 rfl) 3 (by decide) rfl q38 rfl dX0_extend_122 dX0_extend_123 ?_
                refine rp_iln E dX0_extend_126 rfl (lv_at hl 1 rfl) ?_
                refine rp_bi E (v := ((6 : Nat) : Int)) dX0_extend_127 (by decide) ?_
                refine rp_mulN E dX0_extend_129 ?_
                refine rp_il E dX0_extend_130 (lv_at hl 4 rfl) ?_
                refine rp_addN E dX0_extend_132 ?_
                refine rp_ic E (v := ((1 : Nat) : Int)) dX0_extend_133 rfl ?_
                refine rp_sub E dX0_extend_134 ?_
                refine rp_ald E w 3 rfl (an * 6 + tSz t (an) - 1) (by omega) (by omega) (by decide) dX0_extend_135 ?_
                refine rp_val (y := (tOg t (an * 6 + tSz t (an) - 1))) rfl ?_
                have f135 := tk_Og ok (an * 6 + tSz t (an) - 1)
                refine rp_iln E dX0_extend_136 rfl (lv_at hl 3 rfl) ?_
                refine rp_add E dX0_extend_137 ?_
                refine rp_ast E w 3 rfl ((an * 6) + (tSz t (an))) (rfl) (by omega) (by decide) dX0_extend_138 (fun H locs w => ?_)
                have w : rp_H D A s.heap H locs (XW d0 q ((tL t, tSz t, upN (tSt t) ((an * 6) + (tSz t (an))) (sn), upI (tOg t) ((an * 6) + (tSz t (an))) (((tOg t (an * 6 + tSz t (an) - 1)) + (mi))), tT t, tLo t, tSo t, tWk t) : TT) ri re be b) := w
                refine rx_ag E w (lv_at hl 0 rfl) 1 (by decide) rfl q36 rfl dX0_extend_139 dX0_extend_140 ?_
                refine rp_iln E dX0_extend_143 rfl (lv_at hl 1 rfl) ?_
                refine rp_il E dX0_extend_144 (lv_at hl 4 rfl) ?_
                refine rp_ic E (v := ((1 : Nat) : Int)) dX0_extend_146 rfl ?_
                refine rp_addN E dX0_extend_147 ?_
                refine rp_ast E w 1 rfl (an) (rfl) (by omega) (by decide) dX0_extend_148 (fun H locs w => ?_)
                rw [upIN _ (an) ((tSz t (an)) + 1)] at w
                have w : rp_H D A s.heap H locs (XW d0 q ((tL t, upN (tSz t) (an) ((tSz t (an)) + 1), upN (tSt t) ((an * 6) + (tSz t (an))) (sn), upI (tOg t) ((an * 6) + (tSz t (an))) (((tOg t (an * 6 + tSz t (an) - 1)) + (mi))), tT t, tLo t, tSo t, tWk t) : TT) ri re be b) := w
                refine rp_il E dX0_extend_149 (lv_at hl 4 rfl) ?_
                refine rp_ic E (v := ((1 : Nat) : Int)) dX0_extend_151 rfl ?_
                refine rp_addN E dX0_extend_152 ?_
                exact hret _ _ _ (tExt t an sn mi) _ _ (Or.inr (Or.inr (Or.inr (Or.inr (Or.inr ⟨show _ = (tSz t an : Int) + 1 by omega, rfl, by omega, by omega, hi, by omega, show tSz t an < 6 by omega, by rcases hp7 with h | h; exact absurd h.1 (by omega); exact h.2⟩))))) w dX0_extend_153
              · refine rp_bi E (v := (-4)) dX0_extend_95 (by decide) ?_
                exact hret _ _ (-4) t _ _ (Or.inr (Or.inr (Or.inr (Or.inr (Or.inl ⟨rfl, rfl, by omega, by omega, hi, by omega, by first | exact Or.inl (show 6 ≤ tSz t an by omega) | exact Or.inr (by rcases hp7 with h | h; exact h.2; exact absurd h.1 (by omega))⟩))))) w dX0_extend_97
          · refine rp_bi E (v := (-3)) dX0_extend_73 (by decide) ?_
            exact hret _ _ (-3) t _ _ (Or.inr (Or.inr (Or.inr (Or.inl ⟨rfl, rfl, by omega, by omega, hi, by omega⟩)))) w dX0_extend_75
      have loop : ∀ f i : Nat, i ≤ tSz t an → tSz t an < i + f → (∀ j, j < i → tSt t (an * 6 + j) ≠ sn) → ∀ ls, lv_has ls 6 [(0, .ref (q 0)), (1, .int (iI ((an : Nat) : Int))), (2, .int (iI ((sn : Nat) : Int))), (3, .int (iI (mi))), (4, .int (iI ((tSz t (an) : Nat) : Int))), (5, .int (iI ((i : Nat) : Int)))] → W p lc e (rp_r 1 22) s m args below meth c H locs 0 0 Q (F0 m 31 ls []) := by
        intro f
        induction f with
        | zero =>
          intro i h1 h2
          exact absurd h2 (by omega)
        | succ f ihloop =>
          intro i h1 h2 hi ls hl
          refine rp_il E dX0_extend_31 (lv_at hl 5 rfl) ?_
          refine rp_il E dX0_extend_33 (lv_at hl 4 rfl) ?_
          refine rp_cge (tgt := 62) E dX0_extend_35 (by decide) ⟨by omega, by omega⟩ ⟨by omega, by omega⟩ (fun c35 => ?_) (fun c35 => ?_)
          · exact J62 (fun k hk => hi k (by omega)) ls (lv_sub hl [0, 1, 2, 3, 4] rfl)
          · refine rx_ag E w (lv_at hl 0 rfl) 2 (by decide) rfl q37 rfl dX0_extend_38 dX0_extend_39 ?_
            refine rp_iln E dX0_extend_42 rfl (lv_at hl 1 rfl) ?_
            refine rp_bi E (v := ((6 : Nat) : Int)) dX0_extend_43 (by decide) ?_
            refine rp_mulN E dX0_extend_45 ?_
            refine rp_il E dX0_extend_46 (lv_at hl 5 rfl) ?_
            refine rp_addN E dX0_extend_48 ?_
            refine rp_ald E w 2 rfl ((an * 6) + i) (rfl) (by omega) (by decide) dX0_extend_49 ?_
            have f49 := tk_St ok ((an * 6) + i)
            refine rp_iln E dX0_extend_50 rfl (lv_at hl 2 rfl) ?_
            refine rp_cne (tgt := 56) E dX0_extend_51 (by decide) ⟨by omega, by omega⟩ ⟨by omega, by omega⟩ (fun c51 => ?_) (fun c51 => ?_)
            · refine rp_iinc (v := ((i + 1 : Nat) : Int)) (lv' := [(0, .ref (q 0)), (1, .int (iI ((an : Nat) : Int))), (2, .int (iI ((sn : Nat) : Int))), (3, .int (iI (mi))), (4, .int (iI ((tSz t (an) : Nat) : Int))), (5, .int (iI ((i + 1 : Nat) : Int)))]) E [1, 2, 3, 4, 5, 0] dX0_extend_56 hl (k := 5) rfl (by omega) (by decide) rfl (fun ls hl => ?_)
              refine rp_goto (tgt := 31) E dX0_extend_59 (by decide) ?_
              exact ihloop (i + 1) (by omega) (by omega) (fun k hk => by rcases Nat.lt_succ_iff_lt_or_eq.mp hk with h | h; exact hi k h; (rw [h]; omega)) ls hl
            · refine rp_ic E (v := (-1)) dX0_extend_54 rfl ?_
              exact hret _ _ (-1) t _ _ (Or.inr (Or.inr (Or.inl ⟨rfl, rfl, by omega, by omega, i, show i < tSz t an by omega, show tSt t (an * 6 + i) = sn by omega⟩))) w dX0_extend_55
      exact loop (tSz t an + 1) 0 (by omega) (by omega) (fun k hk => absurd hk (by omega)) ls hl
    · refine rp_ic E (v := (-1)) dX0_extend_18 rfl ?_
      exact hret _ _ (-1) t _ _ (Or.inr (Or.inl ⟨rfl, rfl, by omega, by omega⟩)) w dX0_extend_19
  · refine rp_bi E (v := (-2)) dX0_extend_8 (by decide) ?_
    exact hret _ _ (-2) t _ _ (Or.inl ⟨rfl, rfl, by omega⟩) w dX0_extend_10
end
section
set_option maxRecDepth 100000
set_option maxHeartbeats 4000000 in
set_option maxRecDepth 100000 in
theorem metX1_isStop (lc : Launch) (D : va_G) (d0 : ClassId) (q : Nat → Nat) (t : TT) (oo th : Nat → Int) (a : Int) (ha : r32 a) : rp_MI lc D d0 yX1_isStop cX1_isStop 2 (some .boolean) (rp_r 0 0) [.ref (q 0), .int (iI (a))] (MW d0 q t oo th) (fun (v : Int) (u : Unit) => (v = 1 ∧ (0 ≤ a ∧ a < 8)) ∨ (v = 0 ∧ (a < 0 ∨ 8 ≤ a))) (fun (u : Unit) => MW d0 q t oo th) := by
  refine rp_MI.of (by decide) rfl (fun v u h => nar01 (by rcases h with h | h; exact Or.inr h.1; exact Or.inl h.1)) (Nat.le_of_ble_eq_true rfl) ?_
  intro p e s m below meth c args A ls Q E hA w hl hret
  have hl : lv_has ls 2 [(0, .ref (q 0)), (1, .int (iI (a)))] := hl
  refine rp_iln E dX1_isStop_0 rfl (lv_at hl 1 rfl) ?_
  refine rp_flt (tgt := 14) E dX1_isStop_1 (by decide) ⟨by omega, by omega⟩ (fun c1 => ?_) (fun c1 => ?_)
  · refine rp_ic E (v := ((0 : Nat) : Int)) dX1_isStop_14 rfl ?_
    exact hret _ _ ((0 : Nat) : Int) () _ _ (by omega) w dX1_isStop_15
  · refine rp_iln E dX1_isStop_4 rfl (lv_at hl 1 rfl) ?_
    refine rp_bi E (v := ((8 : Nat) : Int)) dX1_isStop_5 (by decide) ?_
    refine rp_cge (tgt := 14) E dX1_isStop_7 (by decide) ⟨by omega, by omega⟩ ⟨by omega, by omega⟩ (fun c7 => ?_) (fun c7 => ?_)
    · refine rp_ic E (v := ((0 : Nat) : Int)) dX1_isStop_14 rfl ?_
      exact hret _ _ ((0 : Nat) : Int) () _ _ (by omega) w dX1_isStop_15
    · refine rp_ic E (v := ((1 : Nat) : Int)) dX1_isStop_10 rfl ?_
      refine rp_goto (tgt := 15) E dX1_isStop_11 (by decide) ?_
      exact hret _ _ ((1 : Nat) : Int) () _ _ (by omega) w dX1_isStop_15
set_option maxHeartbeats 4000000 in
set_option maxRecDepth 100000 in
theorem metX1_isTime (lc : Launch) (D : va_G) (d0 : ClassId) (q : Nat → Nat) (t : TT) (oo th : Nat → Int) (a : Int) (ha : r32 a) : rp_MI lc D d0 yX1_isTime cX1_isTime 2 (some .boolean) (rp_r 0 0) [.ref (q 0), .int (iI (a))] (MW d0 q t oo th) (fun (v : Int) (u : Unit) => (v = 1 ∧ (0 ≤ a ∧ a ≤ 1000)) ∨ (v = 0 ∧ (a < 0 ∨ 1000 < a))) (fun (u : Unit) => MW d0 q t oo th) := by
  refine rp_MI.of (by decide) rfl (fun v u h => nar01 (by rcases h with h | h; exact Or.inr h.1; exact Or.inl h.1)) (Nat.le_of_ble_eq_true rfl) ?_
  intro p e s m below meth c args A ls Q E hA w hl hret
  have hl : lv_has ls 2 [(0, .ref (q 0)), (1, .int (iI (a)))] := hl
  refine rp_iln E dX1_isTime_0 rfl (lv_at hl 1 rfl) ?_
  refine rp_flt (tgt := 15) E dX1_isTime_1 (by decide) ⟨by omega, by omega⟩ (fun c1 => ?_) (fun c1 => ?_)
  · refine rp_ic E (v := ((0 : Nat) : Int)) dX1_isTime_15 rfl ?_
    exact hret _ _ ((0 : Nat) : Int) () _ _ (by omega) w dX1_isTime_16
  · refine rp_iln E dX1_isTime_4 rfl (lv_at hl 1 rfl) ?_
    refine rp_si E (v := (1000)) dX1_isTime_5 (by decide) ?_
    refine rp_cgt (tgt := 15) E dX1_isTime_8 (by decide) ⟨by omega, by omega⟩ ⟨by omega, by omega⟩ (fun c8 => ?_) (fun c8 => ?_)
    · refine rp_ic E (v := ((0 : Nat) : Int)) dX1_isTime_15 rfl ?_
      exact hret _ _ ((0 : Nat) : Int) () _ _ (by omega) w dX1_isTime_16
    · refine rp_ic E (v := ((1 : Nat) : Int)) dX1_isTime_11 rfl ?_
      refine rp_goto (tgt := 16) E dX1_isTime_12 (by decide) ?_
      exact hret _ _ ((1 : Nat) : Int) () _ _ (by omega) w dX1_isTime_16
set_option maxHeartbeats 4000000 in
set_option maxRecDepth 100000 in
theorem metX1_isLine (lc : Launch) (D : va_G) (d0 : ClassId) (q : Nat → Nat) (t : TT) (oo th : Nat → Int) (ok : tOk t) (a : Int) (ha : r32 a) : rp_MI lc D d0 yX1_isLine cX1_isLine 2 (some .boolean) (rp_r 0 0) [.ref (q 0), .int (iI (a))] (MW d0 q t oo th) (fun (v : Int) (u : Unit) => (v = 1 ∧ (0 ≤ a ∧ a < (tL t : Int))) ∨ (v = 0 ∧ (a < 0 ∨ (tL t : Int) ≤ a))) (fun (u : Unit) => MW d0 q t oo th) := by
  refine rp_MI.of (by decide) rfl (fun v u h => nar01 (by rcases h with h | h; exact Or.inr h.1; exact Or.inl h.1)) (Nat.le_of_ble_eq_true rfl) ?_
  intro p e s m below meth c args A ls Q E hA w hl hret
  have hl : lv_has ls 2 [(0, .ref (q 0)), (1, .int (iI (a)))] := hl
  have fL := tk_LT ok
  refine rp_iln E dX1_isLine_0 rfl (lv_at hl 1 rfl) ?_
  refine rp_flt (tgt := 16) E dX1_isLine_1 (by decide) ⟨by omega, by omega⟩ (fun c1 => ?_) (fun c1 => ?_)
  · refine rp_ic E (v := ((0 : Nat) : Int)) dX1_isLine_16 rfl ?_
    exact hret _ _ ((0 : Nat) : Int) () _ _ (by omega) w dX1_isLine_17
  · refine rp_iln E dX1_isLine_4 rfl (lv_at hl 1 rfl) ?_
    refine rm_ag (v := .int (iI ((tL t : Nat) : Int))) E w (lv_at hl 0 rfl) 0 (by decide) rfl q183 rfl dX1_isLine_5 dX1_isLine_6 ?_
    refine rp_cge (tgt := 16) E dX1_isLine_9 (by decide) ⟨by omega, by omega⟩ ⟨by omega, by omega⟩ (fun c9 => ?_) (fun c9 => ?_)
    · refine rp_ic E (v := ((0 : Nat) : Int)) dX1_isLine_16 rfl ?_
      exact hret _ _ ((0 : Nat) : Int) () _ _ (by omega) w dX1_isLine_17
    · refine rp_ic E (v := ((1 : Nat) : Int)) dX1_isLine_12 rfl ?_
      refine rp_goto (tgt := 17) E dX1_isLine_13 (by decide) ?_
      exact hret _ _ ((1 : Nat) : Int) () _ _ (by omega) w dX1_isLine_17
set_option maxHeartbeats 4000000 in
set_option maxRecDepth 100000 in
theorem metX1_hasTrips (lc : Launch) (D : va_G) (d0 : ClassId) (q : Nat → Nat) (t : TT) (oo th : Nat → Int) (ok : tOk t) (l : Nat) (h5 : l < 5) : rp_MI lc D d0 yX1_hasTrips cX1_hasTrips 3 (some .boolean) (rp_r 0 0) [.ref (q 0), .int (iI ((l : Nat) : Int))] (MW d0 q t oo th) (fun (v : Int) (u : Unit) => (v = 1 ∧ ∃ k, k < tT t ∧ tLo t k = l) ∨ (v = 0 ∧ ∀ k, k < tT t → tLo t k ≠ l)) (fun (u : Unit) => MW d0 q t oo th) := by
  refine rp_MI.of (by decide) rfl (fun v u h => nar01 (by rcases h with h | h; exact Or.inr h.1; exact Or.inl h.1)) (Nat.le_of_ble_eq_true rfl) ?_
  intro p e s m below meth c args A ls Q E hA w hl hret
  have hl : lv_has ls 3 [(0, .ref (q 0)), (1, .int (iI ((l : Nat) : Int)))] := hl
  have fL := tk_LT ok
  have loop : ∀ n i : Nat, i ≤ tT t → tT t < i + n → (∀ k, k < i → tLo t k ≠ l) → ∀ ls, lv_has ls 3 [(0, .ref (q 0)), (1, .int (iI ((l : Nat) : Int))), (2, .int (iI ((i : Nat) : Int)))] → W p lc e (rp_r 0 0) s m args below meth c s.heap [] 0 0 Q (F0 m 2 ls []) := by
    intro n
    induction n with
    | zero =>
      intro i h1 h2
      exact absurd h2 (by omega)
    | succ n ih =>
      intro i h1 h2 hi ls hl
      refine rp_iln E dX1_hasTrips_2 rfl (lv_at hl 2 rfl) ?_
      refine rm_ag (v := .int (iI ((tT t : Nat) : Int))) E w (lv_at hl 0 rfl) 4 (by decide) rfl q187 rfl dX1_hasTrips_3 dX1_hasTrips_4 ?_
      refine rp_cge (tgt := 28) E dX1_hasTrips_7 (by decide) ⟨by omega, by omega⟩ ⟨by omega, by omega⟩ (fun c7 => ?_) (fun c7 => ?_)
      · refine rp_ic E (v := ((0 : Nat) : Int)) dX1_hasTrips_28 rfl ?_
        exact hret _ _ ((0 : Nat) : Int) () _ _ (Or.inr ⟨by omega, fun k hk => hi k (by omega)⟩) w dX1_hasTrips_29
      · refine rm_ag E w (lv_at hl 0 rfl) 5 (by decide) rfl q188 rfl dX1_hasTrips_10 dX1_hasTrips_11 ?_
        refine rp_iln E dX1_hasTrips_14 rfl (lv_at hl 2 rfl) ?_
        refine rp_ald E w 4 rfl (i) (rfl) (by omega) (by decide) dX1_hasTrips_15 ?_
        have f15 := tk_Lo ok (i)
        refine rp_iln E dX1_hasTrips_16 rfl (lv_at hl 1 rfl) ?_
        refine rp_cne (tgt := 22) E dX1_hasTrips_17 (by decide) ⟨by omega, by omega⟩ ⟨by omega, by omega⟩ (fun c17 => ?_) (fun c17 => ?_)
        · refine rp_iinc (v := ((i + 1 : Nat) : Int)) (lv' := [(0, .ref (q 0)), (1, .int (iI ((l : Nat) : Int))), (2, .int (iI ((i + 1 : Nat) : Int)))]) E [1, 2, 0] dX1_hasTrips_22 hl (k := 2) rfl (by omega) (by decide) rfl (fun ls hl => ?_)
          refine rp_goto (tgt := 2) E dX1_hasTrips_25 (by decide) ?_
          exact ih (i + 1) (by omega) (by omega) (fun k hk => by rcases Nat.lt_succ_iff_lt_or_eq.mp hk with h | h; exact hi k h; (rw [h]; omega)) ls hl
        · refine rp_ic E (v := ((1 : Nat) : Int)) dX1_hasTrips_20 rfl ?_
          exact hret _ _ ((1 : Nat) : Int) () _ _ (Or.inl ⟨by omega, i, by omega, by omega⟩) w dX1_hasTrips_21
  refine rp_ic E (v := ((0 : Nat) : Int)) dX1_hasTrips_0 rfl ?_
  refine rp_isn (lv' := [(0, .ref (q 0)), (1, .int (iI ((l : Nat) : Int))), (2, .int (iI ((0 : Nat) : Int)))]) E [1, 2, 0] dX1_hasTrips_1 rfl hl (by decide) rfl (fun ls hl => ?_)
  exact loop (tT t + 1) 0 (by omega) (by omega) (fun k hk => absurd hk (by omega)) ls hl
set_option maxHeartbeats 4000000 in
set_option maxRecDepth 100000 in
theorem metX1_onLine (lc : Launch) (D : va_G) (d0 : ClassId) (q : Nat → Nat) (t : TT) (oo th : Nat → Int) (ok : tOk t) (l sn : Nat) (h5 : l < 5) (h8 : sn < 8) : rp_MI lc D d0 yX1_onLine cX1_onLine 4 (some .boolean) (rp_r 0 0) [.ref (q 0), .int (iI ((l : Nat) : Int)), .int (iI ((sn : Nat) : Int))] (MW d0 q t oo th) (fun (v : Int) (u : Unit) => (v = 1 ∧ ∃ i, i < tSz t l ∧ tSt t (l * 6 + i) = sn) ∨ (v = 0 ∧ ∀ i, i < tSz t l → tSt t (l * 6 + i) ≠ sn)) (fun (u : Unit) => MW d0 q t oo th) := by
  refine rp_MI.of (by decide) rfl (fun v u h => nar01 (by rcases h with h | h; exact Or.inr h.1; exact Or.inl h.1)) (Nat.le_of_ble_eq_true rfl) ?_
  intro p e s m below meth c args A ls Q E hA w hl hret
  have hl : lv_has ls 4 [(0, .ref (q 0)), (1, .int (iI ((l : Nat) : Int))), (2, .int (iI ((sn : Nat) : Int)))] := hl
  have fz := tk_Sz ok l
  have loop : ∀ f i : Nat, i ≤ tSz t l → tSz t l < i + f → (∀ j, j < i → tSt t (l * 6 + j) ≠ sn) → ∀ ls, lv_has ls 4 [(0, .ref (q 0)), (1, .int (iI ((l : Nat) : Int))), (2, .int (iI ((sn : Nat) : Int))), (3, .int (iI ((i : Nat) : Int)))] → W p lc e (rp_r 0 0) s m args below meth c s.heap [] 0 0 Q (F0 m 2 ls []) := by
    intro f
    induction f with
    | zero =>
      intro i h1 h2
      exact absurd h2 (by omega)
    | succ f ihloop =>
      intro i h1 h2 hi ls hl
      refine rp_iln E dX1_onLine_2 rfl (lv_at hl 3 rfl) ?_
      refine rm_ag E w (lv_at hl 0 rfl) 1 (by decide) rfl q184 rfl dX1_onLine_3 dX1_onLine_4 ?_
      refine rp_iln E dX1_onLine_7 rfl (lv_at hl 1 rfl) ?_
      refine rp_ald E w 1 rfl (l) (rfl) (by omega) (by decide) dX1_onLine_8 ?_
      have f8 := tk_Sz ok (l)
      refine rp_cge (tgt := 35) E dX1_onLine_9 (by decide) ⟨by omega, by omega⟩ ⟨by omega, by omega⟩ (fun c9 => ?_) (fun c9 => ?_)
      · refine rp_ic E (v := ((0 : Nat) : Int)) dX1_onLine_35 rfl ?_
        exact hret _ _ ((0 : Nat) : Int) () _ _ (Or.inr ⟨by omega, fun k hk => hi k (by omega)⟩) w dX1_onLine_36
      · refine rm_ag E w (lv_at hl 0 rfl) 2 (by decide) rfl q185 rfl dX1_onLine_12 dX1_onLine_13 ?_
        refine rp_iln E dX1_onLine_16 rfl (lv_at hl 1 rfl) ?_
        refine rp_bi E (v := ((6 : Nat) : Int)) dX1_onLine_17 (by decide) ?_
        refine rp_mulN E dX1_onLine_19 ?_
        refine rp_iln E dX1_onLine_20 rfl (lv_at hl 3 rfl) ?_
        refine rp_addN E dX1_onLine_21 ?_
        refine rp_ald E w 2 rfl ((l * 6) + i) (rfl) (by omega) (by decide) dX1_onLine_22 ?_
        have f22 := tk_St ok ((l * 6) + i)
        refine rp_iln E dX1_onLine_23 rfl (lv_at hl 2 rfl) ?_
        refine rp_cne (tgt := 29) E dX1_onLine_24 (by decide) ⟨by omega, by omega⟩ ⟨by omega, by omega⟩ (fun c24 => ?_) (fun c24 => ?_)
        · refine rp_iinc (v := ((i + 1 : Nat) : Int)) (lv' := [(0, .ref (q 0)), (1, .int (iI ((l : Nat) : Int))), (2, .int (iI ((sn : Nat) : Int))), (3, .int (iI ((i + 1 : Nat) : Int)))]) E [1, 2, 3, 0] dX1_onLine_29 hl (k := 3) rfl (by omega) (by decide) rfl (fun ls hl => ?_)
          refine rp_goto (tgt := 2) E dX1_onLine_32 (by decide) ?_
          exact ihloop (i + 1) (by omega) (by omega) (fun k hk => by rcases Nat.lt_succ_iff_lt_or_eq.mp hk with h | h; exact hi k h; (rw [h]; omega)) ls hl
        · refine rp_ic E (v := ((1 : Nat) : Int)) dX1_onLine_27 rfl ?_
          exact hret _ _ ((1 : Nat) : Int) () _ _ (Or.inl ⟨by omega, i, by omega, by omega⟩) w dX1_onLine_28
  refine rp_ic E (v := ((0 : Nat) : Int)) dX1_onLine_0 rfl ?_
  refine rp_isn (lv' := [(0, .ref (q 0)), (1, .int (iI ((l : Nat) : Int))), (2, .int (iI ((sn : Nat) : Int))), (3, .int (iI ((0 : Nat) : Int)))]) E [1, 2, 3, 0] dX1_onLine_1 rfl hl (by decide) rfl (fun ls hl => ?_)
  exact loop (tSz t l + 1) 0 (by omega) (by omega) (fun k hk => absurd hk (by omega)) ls hl
set_option maxHeartbeats 4000000 in
set_option maxRecDepth 100000 in
theorem metX1_refusal (lc : Launch) (D : va_G) (d0 : ClassId) (q : Nat → Nat) (t : TT) (oo th : Nat → Int) (a b2 t2 : Int) (ha : r32 a) (hb2 : r32 b2) (ht2 : r32 t2) : rp_MI lc D d0 yX1_refusal cX1_refusal 4 (some .int) (rp_r 1 21) [.ref (q 0), .int (iI (a)), .int (iI (b2)), .int (iI (t2))] (MW d0 q t oo th) (fun (v : Int) (u : Unit) => (v = -1 ∧ (a < 0 ∨ 8 ≤ a ∨ b2 < 0 ∨ 8 ≤ b2)) ∨ (v = -3 ∧ (0 ≤ a ∧ a < 8 ∧ 0 ≤ b2 ∧ b2 < 8) ∧ (t2 < 0 ∨ 1000 < t2)) ∨ (v = 0 ∧ (0 ≤ a ∧ a < 8 ∧ 0 ≤ b2 ∧ b2 < 8) ∧ 0 ≤ t2 ∧ t2 ≤ 1000)) (fun (u : Unit) => MW d0 q t oo th) := by
  refine rp_MI.of (by decide) rfl (fun v u h => rfl) (Nat.le_of_ble_eq_true rfl) ?_
  intro p e s m below meth c args A ls Q E hA w hl hret
  have hl : lv_has ls 4 [(0, .ref (q 0)), (1, .int (iI (a))), (2, .int (iI (b2))), (3, .int (iI (t2)))] := hl
  refine rp_aln E dX1_refusal_0 rfl (lv_at hl 0 rfl) ?_
  refine rp_iln E dX1_refusal_1 rfl (lv_at hl 1 rfl) ?_
  refine rp_calli (rest := []) E w hA (metX1_isStop lc D d0 q t oo th a ha) (cwV 1 E.1.2.2.2.2 (lw_V q218 q220 qs14 q26 q221) rfl rfl rfl (by decide +kernel) ⟨Nat.le_of_ble_eq_true rfl, Nat.le_of_ble_eq_true rfl⟩) (rm_rcv E w) rfl hl.1 rfl (Nat.le_of_ble_eq_true rfl) dX1_refusal_2 ⟨Nat.zero_le _, Nat.zero_le _⟩ (fun v2 u2 H locs hp2 w => ?_)
  refine rp_feq (tgt := 16) E dX1_refusal_5 (by decide) ⟨by omega, by omega⟩ (fun c5 => ?_) (fun c5 => ?_)
  · refine rp_ic E (v := (-1)) dX1_refusal_16 rfl ?_
    exact hret _ _ (-1) () _ _ (by omega) w dX1_refusal_17
  · refine rp_aln E dX1_refusal_8 rfl (lv_at hl 0 rfl) ?_
    refine rp_iln E dX1_refusal_9 rfl (lv_at hl 2 rfl) ?_
    refine rp_calli (rest := []) E w hA (metX1_isStop lc D d0 q t oo th b2 hb2) (cwV 1 E.1.2.2.2.2 (lw_V q218 q220 qs14 q26 q221) rfl rfl rfl (by decide +kernel) ⟨Nat.le_of_ble_eq_true rfl, Nat.le_of_ble_eq_true rfl⟩) (rm_rcv E w) rfl hl.1 rfl (Nat.le_of_ble_eq_true rfl) dX1_refusal_10 ⟨Nat.zero_le _, Nat.zero_le _⟩ (fun v10 u10 H locs hp10 w => ?_)
    refine rp_fne (tgt := 18) E dX1_refusal_13 (by decide) ⟨by omega, by omega⟩ (fun c13 => ?_) (fun c13 => ?_)
    · refine rp_aln E dX1_refusal_18 rfl (lv_at hl 0 rfl) ?_
      refine rp_iln E dX1_refusal_19 rfl (lv_at hl 3 rfl) ?_
      refine rp_calli (rest := []) E w hA (metX1_isTime lc D d0 q t oo th t2 ht2) (cwV 1 E.1.2.2.2.2 (lw_V q262 q264 qs19 q26 q265) rfl rfl rfl (by decide +kernel) ⟨Nat.le_of_ble_eq_true rfl, Nat.le_of_ble_eq_true rfl⟩) (rm_rcv E w) rfl hl.1 rfl (Nat.le_of_ble_eq_true rfl) dX1_refusal_20 ⟨Nat.zero_le _, Nat.zero_le _⟩ (fun v20 u20 H locs hp20 w => ?_)
      refine rp_feq (tgt := 30) E dX1_refusal_23 (by decide) ⟨by omega, by omega⟩ (fun c23 => ?_) (fun c23 => ?_)
      · refine rp_bi E (v := (-3)) dX1_refusal_30 (by decide) ?_
        exact hret _ _ (-3) () _ _ (by omega) w dX1_refusal_32
      · refine rp_ic E (v := ((0 : Nat) : Int)) dX1_refusal_26 rfl ?_
        refine rp_goto (tgt := 32) E dX1_refusal_27 (by decide) ?_
        exact hret _ _ ((0 : Nat) : Int) () _ _ (by omega) w dX1_refusal_32
    · refine rp_ic E (v := (-1)) dX1_refusal_16 rfl ?_
      exact hret _ _ (-1) () _ _ (by omega) w dX1_refusal_17
end
section
set_option maxRecDepth 100000
set_option maxHeartbeats 4000000 in
set_option maxRecDepth 100000 in
theorem metX1_line (lc : Launch) (D : va_G) (d0 : ClassId) (q : Nat → Nat) (t : TT) (oo th : Nat → Int) (ok : tOk t) (a : Int) (ha : r32 a) : rp_MI lc D d0 yX1_line cX1_line 2 (some .int) (rp_r 1 21) [.ref (q 0), .int (iI (a))] (MW d0 q t oo th) (fun (v : Int) (u : TT) => aLine t a v u) (fun (u : TT) => MW d0 q u oo th) := by
  refine rp_MI.of (by decide) rfl (fun v u h => rfl) (Nat.le_of_ble_eq_true rfl) ?_
  intro p e s m below meth c args A ls Q E hA w hl hret
  have hl : lv_has ls 2 [(0, .ref (q 0)), (1, .int (iI (a)))] := hl
  have fL := tk_LT ok
  refine rp_aln E dX1_line_0 rfl (lv_at hl 0 rfl) ?_
  refine rp_iln E dX1_line_1 rfl (lv_at hl 1 rfl) ?_
  refine rp_calli (rest := []) E w hA (metX1_isStop lc D d0 q t oo th a ha) (cwV 1 E.1.2.2.2.2 (lw_V q218 q220 qs14 q26 q221) rfl rfl rfl (by decide +kernel) ⟨Nat.le_of_ble_eq_true rfl, Nat.le_of_ble_eq_true rfl⟩) (rm_rcv E w) rfl hl.1 rfl (Nat.le_of_ble_eq_true rfl) dX1_line_2 ⟨Nat.zero_le _, Nat.zero_le _⟩ (fun v2 u2 H locs hp2 w => ?_)
  refine rp_fne (tgt := 10) E dX1_line_5 (by decide) ⟨by omega, by omega⟩ (fun c5 => ?_) (fun c5 => ?_)
  · obtain ⟨an, rfl⟩ : ∃ an : Nat, a = (an : Int) := ⟨a.toNat, by omega⟩
    refine rm_ag (v := .int (iI ((tL t : Nat) : Int))) E w (lv_at hl 0 rfl) 0 (by decide) rfl q183 rfl dX1_line_10 dX1_line_11 ?_
    refine rp_ic E (v := ((5 : Nat) : Int)) dX1_line_14 rfl ?_
    refine rp_cne (tgt := 21) E dX1_line_15 (by decide) ⟨by omega, by omega⟩ ⟨by omega, by omega⟩ (fun c15 => ?_) (fun c15 => ?_)
    · refine rm_ag E w (lv_at hl 0 rfl) 2 (by decide) rfl q185 rfl dX1_line_21 dX1_line_22 ?_
      refine rm_ag (v := .int (iI ((tL t : Nat) : Int))) E w (lv_at hl 0 rfl) 0 (by decide) rfl q183 rfl dX1_line_25 dX1_line_26 ?_
      refine rp_bi E (v := ((6 : Nat) : Int)) dX1_line_29 (by decide) ?_
      refine rp_mulN E dX1_line_31 ?_
      refine rp_iln E dX1_line_32 rfl (lv_at hl 1 rfl) ?_
      refine rp_ast E w 2 rfl ((tL t) * 6) (rfl) (by omega) (by decide) dX1_line_33 (fun H locs w => ?_)
      rw [upIN _ ((tL t) * 6) (an)] at w
      have w : rp_H D A s.heap H locs (MW d0 q ((tL t, tSz t, upN (tSt t) ((tL t) * 6) (an), tOg t, tT t, tLo t, tSo t, tWk t) : TT) oo th) := w
      refine rm_ag E w (lv_at hl 0 rfl) 3 (by decide) rfl q186 rfl dX1_line_34 dX1_line_35 ?_
      refine rm_ag (v := .int (iI ((tL t : Nat) : Int))) E w (lv_at hl 0 rfl) 0 (by decide) rfl q183 rfl dX1_line_38 dX1_line_39 ?_
      refine rp_bi E (v := ((6 : Nat) : Int)) dX1_line_42 (by decide) ?_
      refine rp_mulN E dX1_line_44 ?_
      refine rp_ic E (v := ((0 : Nat) : Int)) dX1_line_45 rfl ?_
      refine rp_ast E w 3 rfl ((tL t) * 6) (rfl) (by omega) (by decide) dX1_line_46 (fun H locs w => ?_)
      have w : rp_H D A s.heap H locs (MW d0 q ((tL t, tSz t, upN (tSt t) ((tL t) * 6) (an), upI (tOg t) ((tL t) * 6) (((0 : Nat) : Int)), tT t, tLo t, tSo t, tWk t) : TT) oo th) := w
      refine rm_ag E w (lv_at hl 0 rfl) 1 (by decide) rfl q184 rfl dX1_line_47 dX1_line_48 ?_
      refine rm_ag (v := .int (iI ((tL t : Nat) : Int))) E w (lv_at hl 0 rfl) 0 (by decide) rfl q183 rfl dX1_line_51 dX1_line_52 ?_
      refine rp_ic E (v := ((1 : Nat) : Int)) dX1_line_55 rfl ?_
      refine rp_ast E w 1 rfl (tL t) (rfl) (by omega) (by decide) dX1_line_56 (fun H locs w => ?_)
      rw [upIN _ (tL t) (1)] at w
      have w : rp_H D A s.heap H locs (MW d0 q ((tL t, upN (tSz t) (tL t) (1), upN (tSt t) ((tL t) * 6) (an), upI (tOg t) ((tL t) * 6) (((0 : Nat) : Int)), tT t, tLo t, tSo t, tWk t) : TT) oo th) := w
      refine rp_aln E dX1_line_57 rfl (lv_at hl 0 rfl) ?_
      refine rp_dup E dX1_line_58 rfl ?_
      refine rm_get (v := .int (iI ((tL t : Nat) : Int))) E w 0 (by decide) rfl q183 rfl dX1_line_59 ?_
      refine rp_ic E (v := ((1 : Nat) : Int)) dX1_line_62 rfl ?_
      refine rp_addN E dX1_line_63 ?_
      refine rm_put E w 0 (by decide) rfl q183 rfl (by decide +kernel) dX1_line_64 (fun H locs w => ?_)
      have w : rp_H D A s.heap H locs (MW d0 q (((tL t) + 1, upN (tSz t) (tL t) (1), upN (tSt t) ((tL t) * 6) (an), upI (tOg t) ((tL t) * 6) (((0 : Nat) : Int)), tT t, tLo t, tSo t, tWk t) : TT) oo th) := w
      refine rm_ag (v := .int (iI (((tL t) + 1 : Nat) : Int))) E w (lv_at hl 0 rfl) 0 (by decide) rfl q183 rfl dX1_line_67 dX1_line_68 ?_
      refine rp_ic E (v := ((1 : Nat) : Int)) dX1_line_71 rfl ?_
      refine rp_sub E dX1_line_72 ?_
      exact hret _ _ _ (tLine t an) _ _ (Or.inr (Or.inr ⟨by omega, rfl, by omega, by omega⟩)) w dX1_line_73
    · refine rp_bi E (v := (-4)) dX1_line_18 (by decide) ?_
      exact hret _ _ (-4) t _ _ (Or.inr (Or.inl ⟨rfl, rfl, by omega, by omega⟩)) w dX1_line_20
  · refine rp_ic E (v := (-1)) dX1_line_8 rfl ?_
    exact hret _ _ (-1) t _ _ (Or.inl ⟨rfl, rfl, by omega⟩) w dX1_line_9
set_option maxHeartbeats 4000000 in
set_option maxRecDepth 100000 in
theorem metX1_trip (lc : Launch) (D : va_G) (d0 : ClassId) (q : Nat → Nat) (t : TT) (oo th : Nat → Int) (ok : tOk t) (a st : Int) (ha : r32 a) (hst : r32 st) : rp_MI lc D d0 yX1_trip cX1_trip 3 (some .int) (rp_r 1 21) [.ref (q 0), .int (iI (a)), .int (iI (st))] (MW d0 q t oo th) (fun (v : Int) (u : TT) => aTrip t a st v u) (fun (u : TT) => MW d0 q u oo th) := by
  refine rp_MI.of (by decide) rfl (fun v u h => rfl) (Nat.le_of_ble_eq_true rfl) ?_
  intro p e s m below meth c args A ls Q E hA w hl hret
  have hl : lv_has ls 3 [(0, .ref (q 0)), (1, .int (iI (a))), (2, .int (iI (st)))] := hl
  have fL := tk_LT ok
  refine rp_aln E dX1_trip_0 rfl (lv_at hl 0 rfl) ?_
  refine rp_iln E dX1_trip_1 rfl (lv_at hl 1 rfl) ?_
  refine rp_calli (rest := []) E w hA (metX1_isLine lc D d0 q t oo th ok a ha) (cwV 1 E.1.2.2.2.2 (lw_V q226 q228 qs15 q26 q229) rfl rfl rfl (by decide +kernel) ⟨Nat.le_of_ble_eq_true rfl, Nat.le_of_ble_eq_true rfl⟩) (rm_rcv E w) rfl hl.1 rfl (Nat.le_of_ble_eq_true rfl) dX1_trip_2 ⟨Nat.zero_le _, Nat.zero_le _⟩ (fun v2 u2 H locs hp2 w => ?_)
  refine rp_fne (tgt := 11) E dX1_trip_5 (by decide) ⟨by omega, by omega⟩ (fun c5 => ?_) (fun c5 => ?_)
  · obtain ⟨an, rfl⟩ : ∃ an : Nat, a = (an : Int) := ⟨a.toNat, by omega⟩
    refine rp_iln E dX1_trip_11 rfl (lv_at hl 2 rfl) ?_
    refine rp_flt (tgt := 22) E dX1_trip_12 (by decide) ⟨by omega, by omega⟩ (fun c12 => ?_) (fun c12 => ?_)
    · refine rp_bi E (v := (-3)) dX1_trip_22 (by decide) ?_
      exact hret _ _ (-3) t _ _ (Or.inr (Or.inl ⟨rfl, rfl, by omega, by omega⟩)) w dX1_trip_24
    · refine rp_iln E dX1_trip_15 rfl (lv_at hl 2 rfl) ?_
      refine rp_si E (v := (500)) dX1_trip_16 (by decide) ?_
      refine rp_cle (tgt := 25) E dX1_trip_19 (by decide) ⟨by omega, by omega⟩ ⟨by omega, by omega⟩ (fun c19 => ?_) (fun c19 => ?_)
      · refine rm_ag (v := .int (iI ((tT t : Nat) : Int))) E w (lv_at hl 0 rfl) 4 (by decide) rfl q187 rfl dX1_trip_25 dX1_trip_26 ?_
        refine rp_bi E (v := ((12 : Nat) : Int)) dX1_trip_29 (by decide) ?_
        refine rp_cne (tgt := 37) E dX1_trip_31 (by decide) ⟨by omega, by omega⟩ ⟨by omega, by omega⟩ (fun c31 => ?_) (fun c31 => ?_)
        · refine rm_ag E w (lv_at hl 0 rfl) 5 (by decide) rfl q188 rfl dX1_trip_37 dX1_trip_38 ?_
          refine rm_ag (v := .int (iI ((tT t : Nat) : Int))) E w (lv_at hl 0 rfl) 4 (by decide) rfl q187 rfl dX1_trip_41 dX1_trip_42 ?_
          refine rp_iln E dX1_trip_45 rfl (lv_at hl 1 rfl) ?_
          refine rp_ast E w 4 rfl (tT t) (rfl) (by omega) (by decide) dX1_trip_46 (fun H locs w => ?_)
          rw [upIN _ (tT t) (an)] at w
          have w : rp_H D A s.heap H locs (MW d0 q ((tL t, tSz t, tSt t, tOg t, tT t, upN (tLo t) (tT t) (an), tSo t, tWk t) : TT) oo th) := w
          refine rm_ag E w (lv_at hl 0 rfl) 6 (by decide) rfl q189 rfl dX1_trip_47 dX1_trip_48 ?_
          refine rm_ag (v := .int (iI ((tT t : Nat) : Int))) E w (lv_at hl 0 rfl) 4 (by decide) rfl q187 rfl dX1_trip_51 dX1_trip_52 ?_
          refine rp_iln E dX1_trip_55 rfl (lv_at hl 2 rfl) ?_
          refine rp_ast E w 5 rfl (tT t) (rfl) (by omega) (by decide) dX1_trip_56 (fun H locs w => ?_)
          have w : rp_H D A s.heap H locs (MW d0 q ((tL t, tSz t, tSt t, tOg t, tT t, upN (tLo t) (tT t) (an), upI (tSo t) (tT t) ((st)), tWk t) : TT) oo th) := w
          refine rp_aln E dX1_trip_57 rfl (lv_at hl 0 rfl) ?_
          refine rp_dup E dX1_trip_58 rfl ?_
          refine rm_get (v := .int (iI ((tT t : Nat) : Int))) E w 4 (by decide) rfl q187 rfl dX1_trip_59 ?_
          refine rp_ic E (v := ((1 : Nat) : Int)) dX1_trip_62 rfl ?_
          refine rp_addN E dX1_trip_63 ?_
          refine rm_put E w 4 (by decide) rfl q187 rfl (by decide +kernel) dX1_trip_64 (fun H locs w => ?_)
          have w : rp_H D A s.heap H locs (MW d0 q ((tL t, tSz t, tSt t, tOg t, (tT t) + 1, upN (tLo t) (tT t) (an), upI (tSo t) (tT t) ((st)), tWk t) : TT) oo th) := w
          refine rm_ag (v := .int (iI (((tT t) + 1 : Nat) : Int))) E w (lv_at hl 0 rfl) 4 (by decide) rfl q187 rfl dX1_trip_67 dX1_trip_68 ?_
          refine rp_ic E (v := ((1 : Nat) : Int)) dX1_trip_71 rfl ?_
          refine rp_sub E dX1_trip_72 ?_
          exact hret _ _ _ (tTrip t an st) _ _ (Or.inr (Or.inr (Or.inr ⟨by omega, rfl, by omega, by omega, by omega⟩))) w dX1_trip_73
        · refine rp_bi E (v := (-4)) dX1_trip_34 (by decide) ?_
          exact hret _ _ (-4) t _ _ (Or.inr (Or.inr (Or.inl ⟨rfl, rfl, by omega, by omega, by omega⟩))) w dX1_trip_36
      · refine rp_bi E (v := (-3)) dX1_trip_22 (by decide) ?_
        exact hret _ _ (-3) t _ _ (Or.inr (Or.inl ⟨rfl, rfl, by omega, by omega⟩)) w dX1_trip_24
  · refine rp_bi E (v := (-2)) dX1_trip_8 (by decide) ?_
    exact hret _ _ (-2) t _ _ (Or.inl ⟨rfl, rfl, by omega⟩) w dX1_trip_10
set_option maxHeartbeats 4000000 in
set_option maxRecDepth 100000 in
theorem metX1_footpath (lc : Launch) (D : va_G) (d0 : ClassId) (q : Nat → Nat) (t : TT) (oo th : Nat → Int) (ok : tOk t) (a b2 mi : Int) (ha : r32 a) (hb2 : r32 b2) (hmi : r32 mi) : rp_MI lc D d0 yX1_footpath cX1_footpath 5 (some .int) (rp_r 1 21) [.ref (q 0), .int (iI (a)), .int (iI (b2)), .int (iI (mi))] (MW d0 q t oo th) (fun (v : Int) (u : TT) => aFoot t a b2 mi v u) (fun (u : TT) => MW d0 q u oo th) := by
  refine rp_MI.of (by decide) rfl (fun v u h => rfl) (Nat.le_of_ble_eq_true rfl) ?_
  intro p e s m below meth c args A ls Q E hA w hl hret
  have hl : lv_has ls 5 [(0, .ref (q 0)), (1, .int (iI (a))), (2, .int (iI (b2))), (3, .int (iI (mi)))] := hl
  refine rp_aln E dX1_footpath_0 rfl (lv_at hl 0 rfl) ?_
  refine rp_iln E dX1_footpath_1 rfl (lv_at hl 1 rfl) ?_
  refine rp_calli (rest := []) E w hA (metX1_isStop lc D d0 q t oo th a ha) (cwV 1 E.1.2.2.2.2 (lw_V q218 q220 qs14 q26 q221) rfl rfl rfl (by decide +kernel) ⟨Nat.le_of_ble_eq_true rfl, Nat.le_of_ble_eq_true rfl⟩) (rm_rcv E w) rfl hl.1 rfl (Nat.le_of_ble_eq_true rfl) dX1_footpath_2 ⟨Nat.zero_le _, Nat.zero_le _⟩ (fun v2 u2 H locs hp2 w => ?_)
  refine rp_feq (tgt := 21) E dX1_footpath_5 (by decide) ⟨by omega, by omega⟩ (fun c5 => ?_) (fun c5 => ?_)
  · refine rp_ic E (v := (-1)) dX1_footpath_21 rfl ?_
    exact hret _ _ (-1) t _ _ (Or.inl ⟨rfl, rfl, by omega⟩) w dX1_footpath_22
  · refine rp_aln E dX1_footpath_8 rfl (lv_at hl 0 rfl) ?_
    refine rp_iln E dX1_footpath_9 rfl (lv_at hl 2 rfl) ?_
    refine rp_calli (rest := []) E w hA (metX1_isStop lc D d0 q t oo th b2 hb2) (cwV 1 E.1.2.2.2.2 (lw_V q218 q220 qs14 q26 q221) rfl rfl rfl (by decide +kernel) ⟨Nat.le_of_ble_eq_true rfl, Nat.le_of_ble_eq_true rfl⟩) (rm_rcv E w) rfl hl.1 rfl (Nat.le_of_ble_eq_true rfl) dX1_footpath_10 ⟨Nat.zero_le _, Nat.zero_le _⟩ (fun v10 u10 H locs hp10 w => ?_)
    refine rp_feq (tgt := 21) E dX1_footpath_13 (by decide) ⟨by omega, by omega⟩ (fun c13 => ?_) (fun c13 => ?_)
    · refine rp_ic E (v := (-1)) dX1_footpath_21 rfl ?_
      exact hret _ _ (-1) t _ _ (Or.inl ⟨rfl, rfl, by omega⟩) w dX1_footpath_22
    · refine rp_iln E dX1_footpath_16 rfl (lv_at hl 1 rfl) ?_
      refine rp_iln E dX1_footpath_17 rfl (lv_at hl 2 rfl) ?_
      refine rp_cne (tgt := 23) E dX1_footpath_18 (by decide) ⟨by omega, by omega⟩ ⟨by omega, by omega⟩ (fun c18 => ?_) (fun c18 => ?_)
      · obtain ⟨an, rfl⟩ : ∃ an : Nat, a = (an : Int) := ⟨a.toNat, by omega⟩
        obtain ⟨bn, rfl⟩ : ∃ bn : Nat, b2 = (bn : Int) := ⟨b2.toNat, by omega⟩
        refine rp_iln E dX1_footpath_23 rfl (lv_at hl 3 rfl) ?_
        refine rp_flt (tgt := 33) E dX1_footpath_24 (by decide) ⟨by omega, by omega⟩ (fun c24 => ?_) (fun c24 => ?_)
        · refine rp_bi E (v := (-3)) dX1_footpath_33 (by decide) ?_
          exact hret _ _ (-3) t _ _ (Or.inr (Or.inl ⟨rfl, rfl, by omega, by omega⟩)) w dX1_footpath_35
        · refine rp_iln E dX1_footpath_27 rfl (lv_at hl 3 rfl) ?_
          refine rp_bi E (v := ((30 : Nat) : Int)) dX1_footpath_28 (by decide) ?_
          refine rp_cle (tgt := 36) E dX1_footpath_30 (by decide) ⟨by omega, by omega⟩ ⟨by omega, by omega⟩ (fun c30 => ?_) (fun c30 => ?_)
          · refine rm_ag E w (lv_at hl 0 rfl) 7 (by decide) rfl q190 rfl dX1_footpath_36 dX1_footpath_37 ?_
            refine rp_iln E dX1_footpath_40 rfl (lv_at hl 1 rfl) ?_
            refine rp_bi E (v := ((8 : Nat) : Int)) dX1_footpath_41 (by decide) ?_
            refine rp_mulN E dX1_footpath_43 ?_
            refine rp_iln E dX1_footpath_44 rfl (lv_at hl 2 rfl) ?_
            refine rp_addN E dX1_footpath_45 ?_
            refine rp_ald E w 6 rfl ((an * 8) + bn) (rfl) (by omega) (by decide) dX1_footpath_46 ?_
            have f46 := tk_Wk ok ((an * 8) + bn)
            refine rp_is (lv' := [(0, .ref (q 0)), (1, .int (iI ((an : Nat) : Int))), (2, .int (iI ((bn : Nat) : Int))), (3, .int (iI (mi))), (4, .int (iI (tWk t ((an * 8) + bn))))]) E [1, 2, 3, 4, 0] dX1_footpath_47 hl (by decide) rfl (fun ls hl => ?_)
            refine rm_ag E w (lv_at hl 0 rfl) 7 (by decide) rfl q190 rfl dX1_footpath_49 dX1_footpath_50 ?_
            refine rp_iln E dX1_footpath_53 rfl (lv_at hl 1 rfl) ?_
            refine rp_bi E (v := ((8 : Nat) : Int)) dX1_footpath_54 (by decide) ?_
            refine rp_mulN E dX1_footpath_56 ?_
            refine rp_iln E dX1_footpath_57 rfl (lv_at hl 2 rfl) ?_
            refine rp_addN E dX1_footpath_58 ?_
            refine rp_iln E dX1_footpath_59 rfl (lv_at hl 3 rfl) ?_
            refine rp_ast E w 6 rfl ((an * 8) + bn) (rfl) (by omega) (by decide) dX1_footpath_60 (fun H locs w => ?_)
            have w : rp_H D A s.heap H locs (MW d0 q ((tL t, tSz t, tSt t, tOg t, tT t, tLo t, tSo t, upI (tWk t) ((an * 8) + bn) ((mi))) : TT) oo th) := w
            refine rm_ag E w (lv_at hl 0 rfl) 7 (by decide) rfl q190 rfl dX1_footpath_61 dX1_footpath_62 ?_
            refine rp_iln E dX1_footpath_65 rfl (lv_at hl 2 rfl) ?_
            refine rp_bi E (v := ((8 : Nat) : Int)) dX1_footpath_66 (by decide) ?_
            refine rp_mulN E dX1_footpath_68 ?_
            refine rp_iln E dX1_footpath_69 rfl (lv_at hl 1 rfl) ?_
            refine rp_addN E dX1_footpath_70 ?_
            refine rp_iln E dX1_footpath_71 rfl (lv_at hl 3 rfl) ?_
            refine rp_ast E w 6 rfl ((bn * 8) + an) (rfl) (by omega) (by decide) dX1_footpath_72 (fun H locs w => ?_)
            have w : rp_H D A s.heap H locs (MW d0 q ((tL t, tSz t, tSt t, tOg t, tT t, tLo t, tSo t, upI (upI (tWk t) ((an * 8) + bn) ((mi))) ((bn * 8) + an) ((mi))) : TT) oo th) := w
            refine rp_il E dX1_footpath_73 (lv_at hl 4 rfl) ?_
            exact hret _ _ _ (tFoot t an bn mi) _ _ (Or.inr (Or.inr ⟨rfl, rfl, by omega, by omega⟩)) w dX1_footpath_75
          · refine rp_bi E (v := (-3)) dX1_footpath_33 (by decide) ?_
            exact hret _ _ (-3) t _ _ (Or.inr (Or.inl ⟨rfl, rfl, by omega, by omega⟩)) w dX1_footpath_35
      · refine rp_ic E (v := (-1)) dX1_footpath_21 rfl ?_
        exact hret _ _ (-1) t _ _ (Or.inl ⟨rfl, rfl, by omega⟩) w dX1_footpath_22
set_option maxHeartbeats 4000000 in
set_option maxRecDepth 100000 in
theorem metX1_delay (lc : Launch) (D : va_G) (d0 : ClassId) (q : Nat → Nat) (t : TT) (oo th : Nat → Int) (ok : tOk t) (a st : Int) (ha : r32 a) (hst : r32 st) : rp_MI lc D d0 yX1_delay cX1_delay 4 (some .int) (rp_r 0 0) [.ref (q 0), .int (iI (a)), .int (iI (st))] (MW d0 q t oo th) (fun (v : Int) (u : TT) => aDel t a st v u) (fun (u : TT) => MW d0 q u oo th) := by
  refine rp_MI.of (by decide) rfl (fun v u h => rfl) (Nat.le_of_ble_eq_true rfl) ?_
  intro p e s m below meth c args A ls Q E hA w hl hret
  have hl : lv_has ls 4 [(0, .ref (q 0)), (1, .int (iI (a))), (2, .int (iI (st)))] := hl
  have fL := tk_LT ok
  refine rp_iln E dX1_delay_0 rfl (lv_at hl 1 rfl) ?_
  refine rp_flt (tgt := 12) E dX1_delay_1 (by decide) ⟨by omega, by omega⟩ (fun c1 => ?_) (fun c1 => ?_)
  · refine rp_bi E (v := (-2)) dX1_delay_12 (by decide) ?_
    exact hret _ _ (-2) t _ _ (Or.inl ⟨rfl, rfl, by omega⟩) w dX1_delay_14
  · refine rp_iln E dX1_delay_4 rfl (lv_at hl 1 rfl) ?_
    refine rm_ag (v := .int (iI ((tT t : Nat) : Int))) E w (lv_at hl 0 rfl) 4 (by decide) rfl q187 rfl dX1_delay_5 dX1_delay_6 ?_
    refine rp_clt (tgt := 15) E dX1_delay_9 (by decide) ⟨by omega, by omega⟩ ⟨by omega, by omega⟩ (fun c9 => ?_) (fun c9 => ?_)
    · obtain ⟨an, rfl⟩ : ∃ an : Nat, a = (an : Int) := ⟨a.toNat, by omega⟩
      refine rp_iln E dX1_delay_15 rfl (lv_at hl 2 rfl) ?_
      refine rp_flt (tgt := 26) E dX1_delay_16 (by decide) ⟨by omega, by omega⟩ (fun c16 => ?_) (fun c16 => ?_)
      · refine rp_bi E (v := (-3)) dX1_delay_26 (by decide) ?_
        exact hret _ _ (-3) t _ _ (Or.inr (Or.inl ⟨rfl, rfl, by omega, by omega⟩)) w dX1_delay_28
      · refine rp_iln E dX1_delay_19 rfl (lv_at hl 2 rfl) ?_
        refine rp_si E (v := (500)) dX1_delay_20 (by decide) ?_
        refine rp_cle (tgt := 29) E dX1_delay_23 (by decide) ⟨by omega, by omega⟩ ⟨by omega, by omega⟩ (fun c23 => ?_) (fun c23 => ?_)
        · refine rm_ag E w (lv_at hl 0 rfl) 6 (by decide) rfl q189 rfl dX1_delay_29 dX1_delay_30 ?_
          refine rp_iln E dX1_delay_33 rfl (lv_at hl 1 rfl) ?_
          refine rp_ald E w 5 rfl (an) (rfl) (by omega) (by decide) dX1_delay_34 ?_
          have f34 := tk_So ok (an)
          refine rp_isn (lv' := [(0, .ref (q 0)), (1, .int (iI ((an : Nat) : Int))), (2, .int (iI (st))), (3, .int (iI (tSo t (an))))]) E [1, 2, 3, 0] dX1_delay_35 rfl hl (by decide) rfl (fun ls hl => ?_)
          refine rm_ag E w (lv_at hl 0 rfl) 6 (by decide) rfl q189 rfl dX1_delay_36 dX1_delay_37 ?_
          refine rp_iln E dX1_delay_40 rfl (lv_at hl 1 rfl) ?_
          refine rp_iln E dX1_delay_41 rfl (lv_at hl 2 rfl) ?_
          refine rp_ast E w 5 rfl (an) (rfl) (by omega) (by decide) dX1_delay_42 (fun H locs w => ?_)
          have w : rp_H D A s.heap H locs (MW d0 q ((tL t, tSz t, tSt t, tOg t, tT t, tLo t, upI (tSo t) (an) ((st)), tWk t) : TT) oo th) := w
          refine rp_iln E dX1_delay_43 rfl (lv_at hl 3 rfl) ?_
          exact hret _ _ _ (tDel t an st) _ _ (Or.inr (Or.inr ⟨rfl, rfl, by omega, by omega⟩)) w dX1_delay_44
        · refine rp_bi E (v := (-3)) dX1_delay_26 (by decide) ?_
          exact hret _ _ (-3) t _ _ (Or.inr (Or.inl ⟨rfl, rfl, by omega, by omega⟩)) w dX1_delay_28
    · refine rp_bi E (v := (-2)) dX1_delay_12 (by decide) ?_
      exact hret _ _ (-2) t _ _ (Or.inl ⟨rfl, rfl, by omega⟩) w dX1_delay_14
set_option maxHeartbeats 4000000 in
set_option maxRecDepth 100000 in
theorem metX1_extend (lc : Launch) (D : va_G) (d0 : ClassId) (q : Nat → Nat) (t : TT) (oo th : Nat → Int) (ok : tOk t) (a st mi : Int) (ha : r32 a) (hst : r32 st) (hmi : r32 mi) : rp_MI lc D d0 yX1_extend cX1_extend 5 (some .int) (rp_r 1 23) [.ref (q 0), .int (iI (a)), .int (iI (st)), .int (iI (mi))] (MW d0 q t oo th) (fun (v : Int) (u : TT) => aExt t a st mi v u) (fun (u : TT) => MW d0 q u oo th) := by
  refine rp_MI.of (by decide) rfl (fun v u h => rfl) (Nat.le_of_ble_eq_true rfl) ?_
  intro p e s m below meth c args A ls Q E hA w hl hret
  have hl : lv_has ls 5 [(0, .ref (q 0)), (1, .int (iI (a))), (2, .int (iI (st))), (3, .int (iI (mi)))] := hl
  have fL := tk_LT ok
  refine rp_aln E dX1_extend_0 rfl (lv_at hl 0 rfl) ?_
  refine rp_iln E dX1_extend_1 rfl (lv_at hl 1 rfl) ?_
  refine rp_calli (rest := []) E w hA (metX1_isLine lc D d0 q t oo th ok a ha) (cwV 1 E.1.2.2.2.2 (lw_V q226 q228 qs15 q26 q229) rfl rfl rfl (by decide +kernel) ⟨Nat.le_of_ble_eq_true rfl, Nat.le_of_ble_eq_true rfl⟩) (rm_rcv E w) rfl hl.1 rfl (Nat.le_of_ble_eq_true rfl) dX1_extend_2 ⟨Nat.zero_le _, Nat.zero_le _⟩ (fun v2 u2 H locs hp2 w => ?_)
  refine rp_fne (tgt := 11) E dX1_extend_5 (by decide) ⟨by omega, by omega⟩ (fun c5 => ?_) (fun c5 => ?_)
  · obtain ⟨an, rfl⟩ : ∃ an : Nat, a = (an : Int) := ⟨a.toNat, by omega⟩
    have fz := tk_Sz ok an
    have fz1 := tk_Sz1 ok (l := an) (by omega)
    refine rp_aln E dX1_extend_11 rfl (lv_at hl 0 rfl) ?_
    refine rp_iln E dX1_extend_12 rfl (lv_at hl 2 rfl) ?_
    refine rp_calli (rest := []) E w hA (metX1_isStop lc D d0 q t oo th st hst) (cwV 1 E.1.2.2.2.2 (lw_V q218 q220 qs14 q26 q221) rfl rfl rfl (by decide +kernel) ⟨Nat.le_of_ble_eq_true rfl, Nat.le_of_ble_eq_true rfl⟩) (rm_rcv E w) rfl hl.1 rfl (Nat.le_of_ble_eq_true rfl) dX1_extend_13 ⟨Nat.zero_le _, Nat.zero_le _⟩ (fun v13 u13 H locs hp13 w => ?_)
    refine rp_feq (tgt := 28) E dX1_extend_16 (by decide) ⟨by omega, by omega⟩ (fun c16 => ?_) (fun c16 => ?_)
    · refine rp_ic E (v := (-1)) dX1_extend_28 rfl ?_
      exact hret _ _ (-1) t _ _ (Or.inr (Or.inl ⟨rfl, rfl, by omega, by omega⟩)) w dX1_extend_29
    · obtain ⟨sn, rfl⟩ : ∃ sn : Nat, st = (sn : Int) := ⟨st.toNat, by omega⟩
      refine rp_aln E dX1_extend_19 rfl (lv_at hl 0 rfl) ?_
      refine rp_iln E dX1_extend_20 rfl (lv_at hl 1 rfl) ?_
      refine rp_iln E dX1_extend_21 rfl (lv_at hl 2 rfl) ?_
      refine rp_calli (rest := []) E w hA (metX1_onLine lc D d0 q t oo th ok an sn (by omega) (by omega)) (cwV 2 E.1.2.2.2.2 (lw_V q230 q232 qs16 q26 q233) rfl rfl rfl (by decide +kernel) ⟨Nat.le_of_ble_eq_true rfl, Nat.le_of_ble_eq_true rfl⟩) (rm_rcv E w) rfl hl.1 rfl (Nat.le_of_ble_eq_true rfl) dX1_extend_22 ⟨Nat.zero_le _, Nat.zero_le _⟩ (fun v22 u22 H locs hp22 w => ?_)
      refine rp_feq (tgt := 30) E dX1_extend_25 (by decide) ⟨by omega, by omega⟩ (fun c25 => ?_) (fun c25 => ?_)
      · have hi : ∀ i, i < tSz t an → tSt t (an * 6 + i) ≠ sn := by rcases hp22 with h | h; exact absurd h.1 (by omega); exact h.2
        refine rp_iln E dX1_extend_30 rfl (lv_at hl 3 rfl) ?_
        refine rp_ic E (v := ((1 : Nat) : Int)) dX1_extend_31 rfl ?_
        refine rp_clt (tgt := 41) E dX1_extend_32 (by decide) ⟨by omega, by omega⟩ ⟨by omega, by omega⟩ (fun c32 => ?_) (fun c32 => ?_)
        · refine rp_bi E (v := (-3)) dX1_extend_41 (by decide) ?_
          exact hret _ _ (-3) t _ _ (Or.inr (Or.inr (Or.inr (Or.inl ⟨rfl, rfl, by omega, by omega, hi, by omega⟩)))) w dX1_extend_43
        · refine rp_iln E dX1_extend_35 rfl (lv_at hl 3 rfl) ?_
          refine rp_bi E (v := ((30 : Nat) : Int)) dX1_extend_36 (by decide) ?_
          refine rp_cle (tgt := 44) E dX1_extend_38 (by decide) ⟨by omega, by omega⟩ ⟨by omega, by omega⟩ (fun c38 => ?_) (fun c38 => ?_)
          · refine rm_ag E w (lv_at hl 0 rfl) 1 (by decide) rfl q184 rfl dX1_extend_44 dX1_extend_45 ?_
            refine rp_iln E dX1_extend_48 rfl (lv_at hl 1 rfl) ?_
            refine rp_ald E w 1 rfl (an) (rfl) (by omega) (by decide) dX1_extend_49 ?_
            have f49 := tk_Sz ok (an)
            refine rp_bi E (v := ((6 : Nat) : Int)) dX1_extend_50 (by decide) ?_
            refine rp_ceq (tgt := 63) E dX1_extend_52 (by decide) ⟨by omega, by omega⟩ ⟨by omega, by omega⟩ (fun c52 => ?_) (fun c52 => ?_)
            · refine rp_bi E (v := (-4)) dX1_extend_63 (by decide) ?_
              exact hret _ _ (-4) t _ _ (Or.inr (Or.inr (Or.inr (Or.inr (Or.inl ⟨rfl, rfl, by omega, by omega, hi, by omega, by first | exact Or.inl (show 6 ≤ tSz t an by omega) | exact Or.inr (by rcases hp7 with h | h; exact h.2; exact absurd h.1 (by omega))⟩))))) w dX1_extend_65
            · refine rp_aln E dX1_extend_55 rfl (lv_at hl 0 rfl) ?_
              refine rp_iln E dX1_extend_56 rfl (lv_at hl 1 rfl) ?_
              refine rp_calli (rest := []) E w hA (metX1_hasTrips lc D d0 q t oo th ok an (by omega)) (cwV 1 E.1.2.2.2.2 (lw_V q234 q236 qs17 q26 q237) rfl rfl rfl (by decide +kernel) ⟨Nat.le_of_ble_eq_true rfl, Nat.le_of_ble_eq_true rfl⟩) (rm_rcv E w) rfl hl.1 rfl (Nat.le_of_ble_eq_true rfl) dX1_extend_57 ⟨Nat.zero_le _, Nat.zero_le _⟩ (fun v7 u7 H locs hp7 w => ?_)
              refine rp_feq (tgt := 66) E dX1_extend_60 (by decide) ⟨by omega, by omega⟩ (fun c60 => ?_) (fun c60 => ?_)
              · refine rp_iln E dX1_extend_66 rfl (lv_at hl 1 rfl) ?_
                refine rp_bi E (v := ((6 : Nat) : Int)) dX1_extend_67 (by decide) ?_
                refine rp_mulN E dX1_extend_69 ?_
                refine rm_ag E w (lv_at hl 0 rfl) 1 (by decide) rfl q184 rfl dX1_extend_70 dX1_extend_71 ?_
                refine rp_iln E dX1_extend_74 rfl (lv_at hl 1 rfl) ?_
                refine rp_ald E w 1 rfl (an) (rfl) (by omega) (by decide) dX1_extend_75 ?_
                have f75 := tk_Sz ok (an)
                refine rp_addN E dX1_extend_76 ?_
                refine rp_is (lv' := [(0, .ref (q 0)), (1, .int (iI ((an : Nat) : Int))), (2, .int (iI ((sn : Nat) : Int))), (3, .int (iI (mi))), (4, .int (iI (((an * 6) + (tSz t (an)) : Nat) : Int)))]) E [1, 2, 3, 4, 0] dX1_extend_77 hl (by decide) rfl (fun ls hl => ?_)
                refine rm_ag E w (lv_at hl 0 rfl) 2 (by decide) rfl q185 rfl dX1_extend_79 dX1_extend_80 ?_
                refine rp_il E dX1_extend_83 (lv_at hl 4 rfl) ?_
                refine rp_iln E dX1_extend_85 rfl (lv_at hl 2 rfl) ?_
                refine rp_ast E w 2 rfl ((an * 6) + (tSz t (an))) (rfl) (by omega) (by decide) dX1_extend_86 (fun H locs w => ?_)
                rw [upIN _ ((an * 6) + (tSz t (an))) (sn)] at w
                have w : rp_H D A s.heap H locs (MW d0 q ((tL t, tSz t, upN (tSt t) ((an * 6) + (tSz t (an))) (sn), tOg t, tT t, tLo t, tSo t, tWk t) : TT) oo th) := w
                refine rm_ag E w (lv_at hl 0 rfl) 3 (by decide) rfl q186 rfl dX1_extend_87 dX1_extend_88 ?_
                refine rp_il E dX1_extend_91 (lv_at hl 4 rfl) ?_
                refine rm_ag E w (lv_at hl 0 rfl) 3 (by decide) rfl q186 rfl dX1_extend_93 dX1_extend_94 ?_
                refine rp_il E dX1_extend_97 (lv_at hl 4 rfl) ?_
                refine rp_ic E (v := ((1 : Nat) : Int)) dX1_extend_99 rfl ?_
                refine rp_sub E dX1_extend_100 ?_
                refine rp_ald E w 3 rfl (an * 6 + tSz t (an) - 1) (by omega) (by omega) (by decide) dX1_extend_101 ?_
                refine rp_val (y := (tOg t (an * 6 + tSz t (an) - 1))) rfl ?_
                have f101 := tk_Og ok (an * 6 + tSz t (an) - 1)
                refine rp_iln E dX1_extend_102 rfl (lv_at hl 3 rfl) ?_
                refine rp_add E dX1_extend_103 ?_
                refine rp_ast E w 3 rfl ((an * 6) + (tSz t (an))) (rfl) (by omega) (by decide) dX1_extend_104 (fun H locs w => ?_)
                have w : rp_H D A s.heap H locs (MW d0 q ((tL t, tSz t, upN (tSt t) ((an * 6) + (tSz t (an))) (sn), upI (tOg t) ((an * 6) + (tSz t (an))) (((tOg t (an * 6 + tSz t (an) - 1)) + (mi))), tT t, tLo t, tSo t, tWk t) : TT) oo th) := w
                refine rm_ag E w (lv_at hl 0 rfl) 1 (by decide) rfl q184 rfl dX1_extend_105 dX1_extend_106 ?_
                refine rp_iln E dX1_extend_109 rfl (lv_at hl 1 rfl) ?_
                refine rp_dup2 E dX1_extend_110 rfl rfl ?_
                refine rp_ald E w 1 rfl (an) (rfl) (by omega) (by decide) dX1_extend_111 ?_
                refine rp_val (y := ((tSz t (an) : Nat) : Int)) rfl ?_
                have f111 := tk_Sz ok (an)
                refine rp_ic E (v := ((1 : Nat) : Int)) dX1_extend_112 rfl ?_
                refine rp_addN E dX1_extend_113 ?_
                refine rp_ast E w 1 rfl (an) (rfl) (by omega) (by decide) dX1_extend_114 (fun H locs w => ?_)
                rw [upIN _ (an) ((tSz t (an)) + 1)] at w
                have w : rp_H D A s.heap H locs (MW d0 q ((tL t, upN (tSz t) (an) ((tSz t (an)) + 1), upN (tSt t) ((an * 6) + (tSz t (an))) (sn), upI (tOg t) ((an * 6) + (tSz t (an))) (((tOg t (an * 6 + tSz t (an) - 1)) + (mi))), tT t, tLo t, tSo t, tWk t) : TT) oo th) := w
                refine rm_ag E w (lv_at hl 0 rfl) 1 (by decide) rfl q184 rfl dX1_extend_115 dX1_extend_116 ?_
                refine rp_iln E dX1_extend_119 rfl (lv_at hl 1 rfl) ?_
                refine rp_ald E w 1 rfl (an) (rfl) (by omega) (by decide) dX1_extend_120 ?_
                refine rp_val (y := (((upN (tSz t) (an) ((tSz t (an)) + 1)) (an) : Nat) : Int)) rfl ?_
                have f120 := tk_Sz ok (an)
                exact hret _ _ _ (tExt t an sn mi) _ _ (Or.inr (Or.inr (Or.inr (Or.inr (Or.inr ⟨show _ = (tSz t an : Int) + 1 by rw [upN_s]; omega, rfl, by omega, by omega, hi, by omega, show tSz t an < 6 by omega, by rcases hp7 with h | h; exact absurd h.1 (by omega); exact h.2⟩))))) w dX1_extend_121
              · refine rp_bi E (v := (-4)) dX1_extend_63 (by decide) ?_
                exact hret _ _ (-4) t _ _ (Or.inr (Or.inr (Or.inr (Or.inr (Or.inl ⟨rfl, rfl, by omega, by omega, hi, by omega, by first | exact Or.inl (show 6 ≤ tSz t an by omega) | exact Or.inr (by rcases hp7 with h | h; exact h.2; exact absurd h.1 (by omega))⟩))))) w dX1_extend_65
          · refine rp_bi E (v := (-3)) dX1_extend_41 (by decide) ?_
            exact hret _ _ (-3) t _ _ (Or.inr (Or.inr (Or.inr (Or.inl ⟨rfl, rfl, by omega, by omega, hi, by omega⟩)))) w dX1_extend_43
      · have hx : ∃ i, i < tSz t an ∧ tSt t (an * 6 + i) = sn := by rcases hp22 with h | h; exact h.2; exact absurd h.1 (by omega)
        refine rp_ic E (v := (-1)) dX1_extend_28 rfl ?_
        exact hret _ _ (-1) t _ _ (Or.inr (Or.inr (Or.inl ⟨rfl, rfl, by omega, by omega, hx⟩))) w dX1_extend_29
  · refine rp_bi E (v := (-2)) dX1_extend_8 (by decide) ?_
    exact hret _ _ (-2) t _ _ (Or.inl ⟨rfl, rfl, by omega⟩) w dX1_extend_10
end
section
set_option maxRecDepth 100000
set_option maxHeartbeats 4000000 in
set_option maxRecDepth 100000 in
/-- walk -/
theorem metX1_walk (lc : Launch) (D : va_G) (d0 : ClassId) (q : Nat → Nat) (t : TT) (oo th : Nat → Int) (ok : tOk t) (r : Nat) (hr : r ≤ 12) (ho : bR oo ((r + 1) * 8)) : rp_MV lc D d0 yX1_walk cX1_walk 5 (rp_r 0 0) [.ref (q 0), .int (iI ((r : Nat) : Int))] (MW d0 q t oo th) (fun (u : Unit) => True) (fun (u : Unit) => MW d0 q t oo (mwT t oo r th 8)) := by
  refine rp_MV.of (by decide) rfl (Nat.le_of_ble_eq_true rfl) ?_
  intro p e s m below meth c args A ls Q E hA w hl hret
  have hl : lv_has ls 5 [(0, .ref (q 0)), (1, .int (iI ((r : Nat) : Int)))] := hl
  have hf : bR (fun j => oo (r * 8 + j)) 8 := fun j hj => ho _ (by omega)
  have outer : ∀ f k : Nat, k ≤ 8 → 8 < k + f → ∀ H locs, rp_H D A s.heap H locs (MW d0 q t oo (mwT t oo r th k)) → ∀ ls, lv_has ls 5 [(0, .ref (q 0)), (1, .int (iI ((r : Nat) : Int))), (2, .int (iI ((k : Nat) : Int)))] → W p lc e (rp_r 0 0) s m args below meth c H locs 0 0 Q (F0 m 2 ls []) := by
    intro f
    induction f with
    | zero =>
      intro k h1 h2
      exact absurd h2 (by omega)
    | succ f ihouter =>
      intro k h1 h2 H locs w ls hl
      have inner : k < 8 → ∀ f2 u : Nat, u ≤ 8 → 8 < u + f2 → ∀ H locs, rp_H D A s.heap H locs (MW d0 q t oo (upI (mwT t oo r th k) (r * 8 + k) (wB t (fun j => oo (r * 8 + j)) k u))) → ∀ ls, lv_has ls 5 [(0, .ref (q 0)), (1, .int (iI ((r : Nat) : Int))), (2, .int (iI ((k : Nat) : Int))), (3, .int (iI ((u : Nat) : Int)))] → W p lc e (rp_r 0 0) s m args below meth c H locs 0 0 Q (F0 m 32 ls []) := by
        intro hk f2
        induction f2 with
        | zero =>
          intro u h3 h4
          exact absurd h4 (by omega)
        | succ f2 ih2 =>
          intro u h3 h4 H locs w ls hl
          have fw := wB_b ok hf hk u h3
          have fu := fun (h : u < 8) => ho (r * 8 + u) (by omega)
          refine rp_iln E dX1_walk_32 rfl (lv_at hl 3 rfl) ?_
          refine rp_bi E (v := ((8 : Nat) : Int)) dX1_walk_33 (by decide) ?_
          refine rp_cge (tgt := 115) E dX1_walk_35 (by decide) ⟨by omega, by omega⟩ ⟨by omega, by omega⟩ (fun c35 => ?_) (fun c35 => ?_)
          · have e9 : u = 8 := by omega
            subst e9
            refine rp_iinc (v := ((k + 1 : Nat) : Int)) (lv' := [(0, .ref (q 0)), (1, .int (iI ((r : Nat) : Int))), (2, .int (iI ((k + 1 : Nat) : Int))), (3, .int (iI ((8 : Nat) : Int)))]) E [1, 2, 0, 3] dX1_walk_115 hl (k := 2) rfl (by omega) (by decide) rfl (fun ls hl => ?_)
            refine rp_goto (tgt := 2) E dX1_walk_118 (by decide) ?_
            exact ihouter (k + 1) (by omega) (by omega) _ _ (by rw [mwT]; exact w) ls (lv_sub hl [0, 1, 2] rfl)
          · have fu := fu (by omega)
            refine rm_ag E w (lv_at hl 0 rfl) 7 (by decide) rfl q190 rfl dX1_walk_38 dX1_walk_39 ?_
            refine rp_iln E dX1_walk_42 rfl (lv_at hl 3 rfl) ?_
            refine rp_bi E (v := ((8 : Nat) : Int)) dX1_walk_43 (by decide) ?_
            refine rp_mulN E dX1_walk_45 ?_
            refine rp_iln E dX1_walk_46 rfl (lv_at hl 2 rfl) ?_
            refine rp_addN E dX1_walk_47 ?_
            refine rp_ald E w 6 rfl ((u * 8) + k) (rfl) (by omega) (by decide) dX1_walk_48 ?_
            have f48 := tk_Wk ok ((u * 8) + k)
            refine rp_is (lv' := [(0, .ref (q 0)), (1, .int (iI ((r : Nat) : Int))), (2, .int (iI ((k : Nat) : Int))), (3, .int (iI ((u : Nat) : Int))), (4, .int (iI (tWk t ((u * 8) + k))))]) E [1, 2, 3, 4, 0] dX1_walk_49 hl (by decide) rfl (fun ls hl => ?_)
            refine rp_il E dX1_walk_51 (lv_at hl 4 rfl) ?_
            refine rp_fle (tgt := 109) E dX1_walk_53 (by decide) ⟨by omega, by omega⟩ (fun c53 => ?_) (fun c53 => ?_)
            · refine rp_iinc (v := ((u + 1 : Nat) : Int)) (lv' := [(0, .ref (q 0)), (1, .int (iI ((r : Nat) : Int))), (2, .int (iI ((k : Nat) : Int))), (3, .int (iI ((u + 1 : Nat) : Int))), (4, .int (iI (tWk t ((u * 8) + k))))]) E [1, 2, 3, 0, 4] dX1_walk_109 hl (k := 3) rfl (by omega) (by decide) rfl (fun ls hl => ?_)
              refine rp_goto (tgt := 32) E dX1_walk_112 (by decide) ?_
              exact ih2 (u + 1) (by omega) (by omega) _ _ (by rw [wB, if_neg (by omega)]; exact w) ls (lv_sub hl [0, 1, 2, 3] rfl)
            · refine rm_ag E w (lv_at hl 0 rfl) 8 (by decide) rfl q191 rfl dX1_walk_56 dX1_walk_57 ?_
              refine rp_iln E dX1_walk_60 rfl (lv_at hl 1 rfl) ?_
              refine rp_bi E (v := ((8 : Nat) : Int)) dX1_walk_61 (by decide) ?_
              refine rp_mulN E dX1_walk_63 ?_
              refine rp_iln E dX1_walk_64 rfl (lv_at hl 3 rfl) ?_
              refine rp_addN E dX1_walk_65 ?_
              refine rp_ald E w 7 rfl ((r * 8) + u) (rfl) (by omega) (by decide) dX1_walk_66 ?_
              refine rp_il E dX1_walk_67 (lv_at hl 4 rfl) ?_
              refine rp_add E dX1_walk_69 ?_
              refine rm_ag E w (lv_at hl 0 rfl) 9 (by decide) rfl q192 rfl dX1_walk_70 dX1_walk_71 ?_
              refine rp_iln E dX1_walk_74 rfl (lv_at hl 1 rfl) ?_
              refine rp_bi E (v := ((8 : Nat) : Int)) dX1_walk_75 (by decide) ?_
              refine rp_mulN E dX1_walk_77 ?_
              refine rp_iln E dX1_walk_78 rfl (lv_at hl 2 rfl) ?_
              refine rp_addN E dX1_walk_79 ?_
              refine rp_ald E w 8 rfl ((r * 8) + k) (rfl) (by omega) (by decide) dX1_walk_80 ?_
              refine rp_val (y := wB t (fun j => oo (r * 8 + j)) k u) upI_s ?_
              refine rp_cge (tgt := 109) E dX1_walk_81 (by decide) ⟨by omega, by omega⟩ ⟨by omega, by omega⟩ (fun c81 => ?_) (fun c81 => ?_)
              · refine rp_iinc (v := ((u + 1 : Nat) : Int)) (lv' := [(0, .ref (q 0)), (1, .int (iI ((r : Nat) : Int))), (2, .int (iI ((k : Nat) : Int))), (3, .int (iI ((u + 1 : Nat) : Int))), (4, .int (iI (tWk t ((u * 8) + k))))]) E [1, 2, 3, 0, 4] dX1_walk_109 hl (k := 3) rfl (by omega) (by decide) rfl (fun ls hl => ?_)
                refine rp_goto (tgt := 32) E dX1_walk_112 (by decide) ?_
                exact ih2 (u + 1) (by omega) (by omega) _ _ (by rw [wB, if_neg (by omega)]; exact w) ls (lv_sub hl [0, 1, 2, 3] rfl)
              · refine rm_ag E w (lv_at hl 0 rfl) 9 (by decide) rfl q192 rfl dX1_walk_84 dX1_walk_85 ?_
                refine rp_iln E dX1_walk_88 rfl (lv_at hl 1 rfl) ?_
                refine rp_bi E (v := ((8 : Nat) : Int)) dX1_walk_89 (by decide) ?_
                refine rp_mulN E dX1_walk_91 ?_
                refine rp_iln E dX1_walk_92 rfl (lv_at hl 2 rfl) ?_
                refine rp_addN E dX1_walk_93 ?_
                refine rm_ag E w (lv_at hl 0 rfl) 8 (by decide) rfl q191 rfl dX1_walk_94 dX1_walk_95 ?_
                refine rp_iln E dX1_walk_98 rfl (lv_at hl 1 rfl) ?_
                refine rp_bi E (v := ((8 : Nat) : Int)) dX1_walk_99 (by decide) ?_
                refine rp_mulN E dX1_walk_101 ?_
                refine rp_iln E dX1_walk_102 rfl (lv_at hl 3 rfl) ?_
                refine rp_addN E dX1_walk_103 ?_
                refine rp_ald E w 7 rfl ((r * 8) + u) (rfl) (by omega) (by decide) dX1_walk_104 ?_
                refine rp_il E dX1_walk_105 (lv_at hl 4 rfl) ?_
                refine rp_add E dX1_walk_107 ?_
                refine rp_ast E w 8 rfl ((r * 8) + k) (rfl) (by omega) (by decide) dX1_walk_108 (fun H locs w => ?_)
                have w : rp_H D A s.heap H locs (MW d0 q t oo (upI (upI (mwT t oo r th k) (r * 8 + k) (wB t (fun j => oo (r * 8 + j)) k u)) ((r * 8) + k) (((oo ((r * 8) + u)) + (tWk t ((u * 8) + k)))))) := w
                rw [upI_up] at w
                refine rp_iinc (v := ((u + 1 : Nat) : Int)) (lv' := [(0, .ref (q 0)), (1, .int (iI ((r : Nat) : Int))), (2, .int (iI ((k : Nat) : Int))), (3, .int (iI ((u + 1 : Nat) : Int))), (4, .int (iI (tWk t ((u * 8) + k))))]) E [1, 2, 3, 0, 4] dX1_walk_109 hl (k := 3) rfl (by omega) (by decide) rfl (fun ls hl => ?_)
                refine rp_goto (tgt := 32) E dX1_walk_112 (by decide) ?_
                exact ih2 (u + 1) (by omega) (by omega) _ _ (by rw [wB, if_pos (by omega)]; exact w) ls (lv_sub hl [0, 1, 2, 3] rfl)
      refine rp_iln E dX1_walk_2 rfl (lv_at hl 2 rfl) ?_
      refine rp_bi E (v := ((8 : Nat) : Int)) dX1_walk_3 (by decide) ?_
      refine rp_cge (tgt := 121) E dX1_walk_5 (by decide) ⟨by omega, by omega⟩ ⟨by omega, by omega⟩ (fun c5 => ?_) (fun c5 => ?_)
      · exact hret _ _ () _ _ (trivial) (by rw [← show k = 8 by omega]; exact w) dX1_walk_121
      · refine rm_ag E w (lv_at hl 0 rfl) 9 (by decide) rfl q192 rfl dX1_walk_8 dX1_walk_9 ?_
        refine rp_iln E dX1_walk_12 rfl (lv_at hl 1 rfl) ?_
        refine rp_bi E (v := ((8 : Nat) : Int)) dX1_walk_13 (by decide) ?_
        refine rp_mulN E dX1_walk_15 ?_
        refine rp_iln E dX1_walk_16 rfl (lv_at hl 2 rfl) ?_
        refine rp_addN E dX1_walk_17 ?_
        refine rm_ag E w (lv_at hl 0 rfl) 8 (by decide) rfl q191 rfl dX1_walk_18 dX1_walk_19 ?_
        refine rp_iln E dX1_walk_22 rfl (lv_at hl 1 rfl) ?_
        refine rp_bi E (v := ((8 : Nat) : Int)) dX1_walk_23 (by decide) ?_
        refine rp_mulN E dX1_walk_25 ?_
        refine rp_iln E dX1_walk_26 rfl (lv_at hl 2 rfl) ?_
        refine rp_addN E dX1_walk_27 ?_
        refine rp_ald E w 7 rfl ((r * 8) + k) (rfl) (by omega) (by decide) dX1_walk_28 ?_
        refine rp_ast E w 8 rfl ((r * 8) + k) (rfl) (by omega) (by decide) dX1_walk_29 (fun H locs w => ?_)
        have w : rp_H D A s.heap H locs (MW d0 q t oo (upI (mwT t oo r th k) ((r * 8) + k) ((oo ((r * 8) + k))))) := w
        refine rp_ic E (v := ((0 : Nat) : Int)) dX1_walk_30 rfl ?_
        refine rp_isn (lv' := [(0, .ref (q 0)), (1, .int (iI ((r : Nat) : Int))), (2, .int (iI ((k : Nat) : Int))), (3, .int (iI ((0 : Nat) : Int)))]) E [1, 2, 3, 0] dX1_walk_31 rfl hl (by decide) rfl (fun ls hl => ?_)
        exact inner (by omega) 9 0 (by omega) (by omega) _ _ (by rw [wB]; exact w) ls hl
  refine rp_ic E (v := ((0 : Nat) : Int)) dX1_walk_0 rfl ?_
  refine rp_isn (lv' := [(0, .ref (q 0)), (1, .int (iI ((r : Nat) : Int))), (2, .int (iI ((0 : Nat) : Int)))]) E [1, 2, 0] dX1_walk_1 rfl hl (by decide) rfl (fun ls hl => ?_)
  exact outer 9 0 (by omega) (by omega) _ _ (by rw [mwT]; exact w) ls hl
set_option maxHeartbeats 4000000 in
set_option maxRecDepth 100000 in
/-- ride -/
theorem metX1_ride (lc : Launch) (D : va_G) (d0 : ClassId) (q : Nat → Nat) (t : TT) (oo th : Nat → Int) (ok : tOk t) (r k i : Nat) (hr1 : 1 ≤ r) (hr : r ≤ 12) (hk : k < tT t) (hi : i < tSz t (tLo t k)) (ht : bR th (r * 8)) (ho : bR oo ((r + 1) * 8)) : rp_MV lc D d0 yX1_ride cX1_ride 9 (rp_r 0 0) [.ref (q 0), .int (iI ((r : Nat) : Int)), .int (iI ((k : Nat) : Int)), .int (iI ((i : Nat) : Int))] (MW d0 q t oo th) (fun (u : Unit) => True) (fun (u : Unit) => MW d0 q t (rd t r k i th oo) th) := by
  refine rp_MV.of (by decide) rfl (Nat.le_of_ble_eq_true rfl) ?_
  intro p e s m below meth c args A ls Q E hA w hl hret
  have hl : lv_has ls 9 [(0, .ref (q 0)), (1, .int (iI ((r : Nat) : Int))), (2, .int (iI ((k : Nat) : Int))), (3, .int (iI ((i : Nat) : Int)))] := hl
  have fL := tk_LT ok
  have fz := tk_Sz ok (tLo t k)
  have flo := tk_Lo ok k
  have fso := tk_So ok k
  have fst := tk_St ok (tLo t k * 6 + i)
  have fog := tk_Og ok (tLo t k * 6 + i)
  have fth := ht ((r - 1) * 8 + tSt t (tLo t k * 6 + i)) (by omega)
  have loop : th ((r - 1) * 8 + tSt t (tLo t k * 6 + i)) ≤ tSo t k + tOg t (tLo t k * 6 + i) → ∀ f n : Nat, n ≤ tSz t (tLo t k) - (i + 1) → tSz t (tLo t k) - (i + 1) < n + f → ∀ H locs, rp_H D A s.heap H locs (MW d0 q t (mrO t r k i oo n) th) → ∀ ls, lv_has ls 9 [(0, .ref (q 0)), (1, .int (iI ((r : Nat) : Int))), (2, .int (iI ((k : Nat) : Int))), (3, .int (iI ((i : Nat) : Int))), (4, .int (iI (((tLo t (k)) * 6 : Nat) : Int))), (5, .int (iI ((1 : Nat) : Int))), (6, .int (iI ((i + 1 + n : Nat) : Int)))] → W p lc e (rp_r 0 0) s m args below meth c H locs 0 0 Q (F0 m 63 ls []) := by
    intro hbd f
    induction f with
    | zero =>
      intro n h1 h2
      exact absurd h2 (by omega)
    | succ f ih =>
      intro n h1 h2 H locs w ls hl
      have gst := tk_St ok (tLo t k * 6 + (i + 1 + n))
      have gog := tk_Og ok (tLo t k * 6 + (i + 1 + n))
      have goo := mrO_b ok r k i ho n (r * 8 + tSt t (tLo t k * 6 + (i + 1 + n))) (by omega)
      refine rp_il E dX1_ride_63 (lv_at hl 5 rfl) ?_
      refine rp_feq (tgt := 147) E dX1_ride_65 (by decide) ⟨by omega, by omega⟩ (fun c65 => ?_) (fun c65 => ?_)
      · exact False.elim (by omega)
      · refine rp_il E dX1_ride_68 (lv_at hl 6 rfl) ?_
        refine rm_ag E w (lv_at hl 0 rfl) 1 (by decide) rfl q184 rfl dX1_ride_70 dX1_ride_71 ?_
        refine rm_ag E w (lv_at hl 0 rfl) 5 (by decide) rfl q188 rfl dX1_ride_74 dX1_ride_75 ?_
        refine rp_iln E dX1_ride_78 rfl (lv_at hl 2 rfl) ?_
        refine rp_ald E w 4 rfl (k) (rfl) (by omega) (by decide) dX1_ride_79 ?_
        refine rp_ald E w 1 rfl (tLo t (k)) (rfl) (by omega) (by decide) dX1_ride_80 ?_
        refine rp_cge (tgt := 147) E dX1_ride_81 (by decide) ⟨by omega, by omega⟩ ⟨by omega, by omega⟩ (fun c81 => ?_) (fun c81 => ?_)
        · exact hret _ _ () _ _ (trivial) (by rw [rd, if_pos hbd, ← show n = tSz t (tLo t k) - (i + 1) by omega]; exact w) dX1_ride_147
        · refine rp_iln E dX1_ride_84 rfl (lv_at hl 1 rfl) ?_
          refine rp_bi E (v := ((8 : Nat) : Int)) dX1_ride_85 (by decide) ?_
          refine rp_mulN E dX1_ride_87 ?_
          refine rm_ag E w (lv_at hl 0 rfl) 2 (by decide) rfl q185 rfl dX1_ride_88 dX1_ride_89 ?_
          refine rp_il E dX1_ride_92 (lv_at hl 4 rfl) ?_
          refine rp_il E dX1_ride_94 (lv_at hl 6 rfl) ?_
          refine rp_addN E dX1_ride_96 ?_
          refine rp_ald E w 2 rfl (((tLo t (k)) * 6) + (i + 1 + n)) (rfl) (by omega) (by decide) dX1_ride_97 ?_
          refine rp_addN E dX1_ride_98 ?_
          refine rp_is (lv' := [(0, .ref (q 0)), (1, .int (iI ((r : Nat) : Int))), (2, .int (iI ((k : Nat) : Int))), (3, .int (iI ((i : Nat) : Int))), (4, .int (iI (((tLo t (k)) * 6 : Nat) : Int))), (5, .int (iI ((1 : Nat) : Int))), (6, .int (iI ((i + 1 + n : Nat) : Int))), (7, .int (iI (((r * 8) + (tSt t (((tLo t (k)) * 6) + (i + 1 + n))) : Nat) : Int)))]) E [1, 2, 3, 4, 5, 6, 7, 0] dX1_ride_99 hl (by decide) rfl (fun ls hl => ?_)
          refine rm_ag E w (lv_at hl 0 rfl) 6 (by decide) rfl q189 rfl dX1_ride_101 dX1_ride_102 ?_
          refine rp_iln E dX1_ride_105 rfl (lv_at hl 2 rfl) ?_
          refine rp_ald E w 5 rfl (k) (rfl) (by omega) (by decide) dX1_ride_106 ?_
          refine rm_ag E w (lv_at hl 0 rfl) 3 (by decide) rfl q186 rfl dX1_ride_107 dX1_ride_108 ?_
          refine rp_il E dX1_ride_111 (lv_at hl 4 rfl) ?_
          refine rp_il E dX1_ride_113 (lv_at hl 6 rfl) ?_
          refine rp_addN E dX1_ride_115 ?_
          refine rp_ald E w 3 rfl (((tLo t (k)) * 6) + (i + 1 + n)) (rfl) (by omega) (by decide) dX1_ride_116 ?_
          refine rp_add E dX1_ride_117 ?_
          refine rp_is (lv' := [(0, .ref (q 0)), (1, .int (iI ((r : Nat) : Int))), (2, .int (iI ((k : Nat) : Int))), (3, .int (iI ((i : Nat) : Int))), (4, .int (iI (((tLo t (k)) * 6 : Nat) : Int))), (5, .int (iI ((1 : Nat) : Int))), (6, .int (iI ((i + 1 + n : Nat) : Int))), (7, .int (iI (((r * 8) + (tSt t (((tLo t (k)) * 6) + (i + 1 + n))) : Nat) : Int))), (8, .int (iI ((tSo t (k)) + (tOg t (((tLo t (k)) * 6) + (i + 1 + n))))))]) E [1, 2, 3, 4, 5, 6, 7, 8, 0] dX1_ride_118 hl (by decide) rfl (fun ls hl => ?_)
          refine rp_il E dX1_ride_120 (lv_at hl 8 rfl) ?_
          refine rm_ag E w (lv_at hl 0 rfl) 8 (by decide) rfl q191 rfl dX1_ride_122 dX1_ride_123 ?_
          refine rp_il E dX1_ride_126 (lv_at hl 7 rfl) ?_
          refine rp_ald E w 7 rfl ((r * 8) + (tSt t (((tLo t (k)) * 6) + (i + 1 + n)))) (rfl) (by omega) (by decide) dX1_ride_128 ?_
          refine rp_cge (tgt := 141) E dX1_ride_129 (by decide) ⟨by omega, by omega⟩ ⟨by omega, by omega⟩ (fun c129 => ?_) (fun c129 => ?_)
          · refine rp_iinc (v := ((i + 1 + (n + 1) : Nat) : Int)) (lv' := [(0, .ref (q 0)), (1, .int (iI ((r : Nat) : Int))), (2, .int (iI ((k : Nat) : Int))), (3, .int (iI ((i : Nat) : Int))), (4, .int (iI (((tLo t (k)) * 6 : Nat) : Int))), (5, .int (iI ((1 : Nat) : Int))), (6, .int (iI ((i + 1 + (n + 1) : Nat) : Int))), (7, .int (iI (((r * 8) + (tSt t (((tLo t (k)) * 6) + (i + 1 + n))) : Nat) : Int))), (8, .int (iI ((tSo t (k)) + (tOg t (((tLo t (k)) * 6) + (i + 1 + n))))))]) E [1, 2, 3, 4, 5, 6, 0, 7, 8] dX1_ride_141 hl (k := 6) rfl (by omega) (by decide) rfl (fun ls hl => ?_)
            refine rp_goto (tgt := 63) E dX1_ride_144 (by decide) ?_
            exact ih (n + 1) (by omega) (by omega) _ _ (by rw [mrO, if_neg (by omega)]; exact w) ls (lv_sub hl [0, 1, 2, 3, 4, 5, 6] rfl)
          · refine rm_ag E w (lv_at hl 0 rfl) 8 (by decide) rfl q191 rfl dX1_ride_132 dX1_ride_133 ?_
            refine rp_il E dX1_ride_136 (lv_at hl 7 rfl) ?_
            refine rp_il E dX1_ride_138 (lv_at hl 8 rfl) ?_
            refine rp_ast E w 7 rfl ((r * 8) + (tSt t (((tLo t (k)) * 6) + (i + 1 + n)))) (rfl) (by omega) (by decide) dX1_ride_140 (fun H locs w => ?_)
            have w : rp_H D A s.heap H locs (MW d0 q t (upI (mrO t r k i oo n) ((r * 8) + (tSt t (((tLo t (k)) * 6) + (i + 1 + n)))) (((tSo t (k)) + (tOg t (((tLo t (k)) * 6) + (i + 1 + n)))))) th) := w
            refine rp_iinc (v := ((i + 1 + (n + 1) : Nat) : Int)) (lv' := [(0, .ref (q 0)), (1, .int (iI ((r : Nat) : Int))), (2, .int (iI ((k : Nat) : Int))), (3, .int (iI ((i : Nat) : Int))), (4, .int (iI (((tLo t (k)) * 6 : Nat) : Int))), (5, .int (iI ((1 : Nat) : Int))), (6, .int (iI ((i + 1 + (n + 1) : Nat) : Int))), (7, .int (iI (((r * 8) + (tSt t (((tLo t (k)) * 6) + (i + 1 + n))) : Nat) : Int))), (8, .int (iI ((tSo t (k)) + (tOg t (((tLo t (k)) * 6) + (i + 1 + n))))))]) E [1, 2, 3, 4, 5, 6, 0, 7, 8] dX1_ride_141 hl (k := 6) rfl (by omega) (by decide) rfl (fun ls hl => ?_)
            refine rp_goto (tgt := 63) E dX1_ride_144 (by decide) ?_
            exact ih (n + 1) (by omega) (by omega) _ _ (by rw [mrO, if_pos (by omega)]; exact w) ls (lv_sub hl [0, 1, 2, 3, 4, 5, 6] rfl)
  refine rm_ag E w (lv_at hl 0 rfl) 5 (by decide) rfl q188 rfl dX1_ride_0 dX1_ride_1 ?_
  refine rp_iln E dX1_ride_4 rfl (lv_at hl 2 rfl) ?_
  refine rp_ald E w 4 rfl (k) (rfl) (by omega) (by decide) dX1_ride_5 ?_
  refine rp_bi E (v := ((6 : Nat) : Int)) dX1_ride_6 (by decide) ?_
  refine rp_mulN E dX1_ride_8 ?_
  refine rp_is (lv' := [(0, .ref (q 0)), (1, .int (iI ((r : Nat) : Int))), (2, .int (iI ((k : Nat) : Int))), (3, .int (iI ((i : Nat) : Int))), (4, .int (iI (((tLo t (k)) * 6 : Nat) : Int)))]) E [1, 2, 3, 4, 0] dX1_ride_9 hl (by decide) rfl (fun ls hl => ?_)
  refine rm_ag E w (lv_at hl 0 rfl) 9 (by decide) rfl q192 rfl dX1_ride_11 dX1_ride_12 ?_
  refine rp_iln E dX1_ride_15 rfl (lv_at hl 1 rfl) ?_
  refine rp_ic E (v := ((1 : Nat) : Int)) dX1_ride_16 rfl ?_
  refine rp_sub E dX1_ride_17 ?_
  refine rp_val (y := ((r - 1 : Nat) : Int)) (by omega) ?_
  refine rp_bi E (v := ((8 : Nat) : Int)) dX1_ride_18 (by decide) ?_
  refine rp_mulN E dX1_ride_20 ?_
  refine rm_ag E w (lv_at hl 0 rfl) 2 (by decide) rfl q185 rfl dX1_ride_21 dX1_ride_22 ?_
  refine rp_il E dX1_ride_25 (lv_at hl 4 rfl) ?_
  refine rp_iln E dX1_ride_27 rfl (lv_at hl 3 rfl) ?_
  refine rp_addN E dX1_ride_28 ?_
  refine rp_ald E w 2 rfl (((tLo t (k)) * 6) + i) (rfl) (by omega) (by decide) dX1_ride_29 ?_
  refine rp_addN E dX1_ride_30 ?_
  refine rp_ald E w 8 rfl (((r - 1) * 8) + (tSt t (((tLo t (k)) * 6) + i))) (rfl) (by omega) (by decide) dX1_ride_31 ?_
  refine rm_ag E w (lv_at hl 0 rfl) 6 (by decide) rfl q189 rfl dX1_ride_32 dX1_ride_33 ?_
  refine rp_iln E dX1_ride_36 rfl (lv_at hl 2 rfl) ?_
  refine rp_ald E w 5 rfl (k) (rfl) (by omega) (by decide) dX1_ride_37 ?_
  refine rm_ag E w (lv_at hl 0 rfl) 3 (by decide) rfl q186 rfl dX1_ride_38 dX1_ride_39 ?_
  refine rp_il E dX1_ride_42 (lv_at hl 4 rfl) ?_
  refine rp_iln E dX1_ride_44 rfl (lv_at hl 3 rfl) ?_
  refine rp_addN E dX1_ride_45 ?_
  refine rp_ald E w 3 rfl (((tLo t (k)) * 6) + i) (rfl) (by omega) (by decide) dX1_ride_46 ?_
  refine rp_add E dX1_ride_47 ?_
  refine rp_cgt (tgt := 55) E dX1_ride_48 (by decide) ⟨by omega, by omega⟩ ⟨by omega, by omega⟩ (fun c48 => ?_) (fun c48 => ?_)
  · refine rp_ic E (v := ((0 : Nat) : Int)) dX1_ride_55 rfl ?_
    refine rp_is (lv' := [(0, .ref (q 0)), (1, .int (iI ((r : Nat) : Int))), (2, .int (iI ((k : Nat) : Int))), (3, .int (iI ((i : Nat) : Int))), (4, .int (iI (((tLo t (k)) * 6 : Nat) : Int))), (5, .int (iI ((0 : Nat) : Int)))]) E [1, 2, 3, 4, 5, 0] dX1_ride_56 hl (by decide) rfl (fun ls hl => ?_)
    refine rp_iln E dX1_ride_58 rfl (lv_at hl 3 rfl) ?_
    refine rp_ic E (v := ((1 : Nat) : Int)) dX1_ride_59 rfl ?_
    refine rp_addN E dX1_ride_60 ?_
    refine rp_is (lv' := [(0, .ref (q 0)), (1, .int (iI ((r : Nat) : Int))), (2, .int (iI ((k : Nat) : Int))), (3, .int (iI ((i : Nat) : Int))), (4, .int (iI (((tLo t (k)) * 6 : Nat) : Int))), (5, .int (iI ((0 : Nat) : Int))), (6, .int (iI ((i + 1 : Nat) : Int)))]) E [1, 2, 3, 4, 5, 6, 0] dX1_ride_61 hl (by decide) rfl (fun ls hl => ?_)
    refine rp_il E dX1_ride_63 (lv_at hl 5 rfl) ?_
    refine rp_feq (tgt := 147) E dX1_ride_65 (by decide) ⟨by omega, by omega⟩ (fun c65 => ?_) (fun c65 => ?_)
    · exact hret _ _ () _ _ (trivial) (by rw [rd, if_neg (by omega)]; exact w) dX1_ride_147
    · exact False.elim (by omega)
  · refine rp_ic E (v := ((1 : Nat) : Int)) dX1_ride_51 rfl ?_
    refine rp_goto (tgt := 56) E dX1_ride_52 (by decide) ?_
    refine rp_is (lv' := [(0, .ref (q 0)), (1, .int (iI ((r : Nat) : Int))), (2, .int (iI ((k : Nat) : Int))), (3, .int (iI ((i : Nat) : Int))), (4, .int (iI (((tLo t (k)) * 6 : Nat) : Int))), (5, .int (iI ((1 : Nat) : Int)))]) E [1, 2, 3, 4, 5, 0] dX1_ride_56 hl (by decide) rfl (fun ls hl => ?_)
    refine rp_iln E dX1_ride_58 rfl (lv_at hl 3 rfl) ?_
    refine rp_ic E (v := ((1 : Nat) : Int)) dX1_ride_59 rfl ?_
    refine rp_addN E dX1_ride_60 ?_
    refine rp_is (lv' := [(0, .ref (q 0)), (1, .int (iI ((r : Nat) : Int))), (2, .int (iI ((k : Nat) : Int))), (3, .int (iI ((i : Nat) : Int))), (4, .int (iI (((tLo t (k)) * 6 : Nat) : Int))), (5, .int (iI ((1 : Nat) : Int))), (6, .int (iI ((i + 1 : Nat) : Int)))]) E [1, 2, 3, 4, 5, 6, 0] dX1_ride_61 hl (by decide) rfl (fun ls hl => ?_)
    exact loop (by omega) (tSz t (tLo t k) - (i + 1) + 1) 0 (by omega) (by omega) _ _ (by rw [mrO]; exact w) ls hl
end
section
set_option maxRecDepth 100000
set_option maxHeartbeats 4000000 in
set_option maxRecDepth 100000 in
/-- search -/
theorem metX1_search (lc : Launch) (D : va_G) (d0 : ClassId) (q : Nat → Nat) (t : TT) (oo th : Nat → Int) (ok : tOk t) (a : Nat) (τ : Int) (n : Nat) (h8 : a < 8) (hτ : 0 ≤ τ ∧ τ ≤ 1000) (hn : n ≤ 12) : rp_MV lc D d0 yX1_search cX1_search 6 (rp_r 1 28) [.ref (q 0), .int (iI ((a : Nat) : Int)), .int (iI (τ)), .int (iI ((n : Nat) : Int))] (MW d0 q t oo th) (fun (u : Unit) => True) (fun (u : Unit) => MWs d0 q t (ms t a τ (oo, th) n)) := by
  refine rp_MV.of (by decide) rfl (Nat.le_of_ble_eq_true rfl) ?_
  intro p e s m below meth c args A ls Q E hA w hl hret
  have hl : lv_has ls 6 [(0, .ref (q 0)), (1, .int (iI ((a : Nat) : Int))), (2, .int (iI (τ))), (3, .int (iI ((n : Nat) : Int)))] := hl
  have fL := tk_LT ok
  have outer : ∀ f k : Nat, k ≤ n → n < k + f → ∀ H locs, rp_H D A s.heap H locs (MW d0 q t ((ms t a τ (oo, th) k).1) ((ms t a τ (oo, th) k).2)) → ∀ ls, lv_has ls 6 [(0, .ref (q 0)), (1, .int (iI ((a : Nat) : Int))), (2, .int (iI (τ))), (3, .int (iI ((n : Nat) : Int))), (4, .int (iI ((k + 1 : Nat) : Int)))] → W p lc e (rp_r 1 28) s m args below meth c H locs 0 0 Q (F0 m 43 ls []) := by
    intro f
    induction f with
    | zero =>
      intro k h1 h2
      exact absurd h2 (by omega)
    | succ f ihouter =>
      intro k h1 h2 H locs w ls hl
      have hb9 := ms_b (a := a) ok hτ (oo, th) k
      have e2 : ms t a τ (oo, th) (k + 1) = (msR t (k + 1) (ms t a τ (oo, th) k).2 (f8 (k + 1) 100000 (ms t a τ (oo, th) k).1 8) (tT t * 6), mwT t (msR t (k + 1) (ms t a τ (oo, th) k).2 (f8 (k + 1) 100000 (ms t a τ (oo, th) k).1 8) (tT t * 6)) (k + 1) (ms t a τ (oo, th) k).2 8) := rfl
      obtain ⟨oo2, th2, e3⟩ : ∃ oo2 th2, ms t a τ (oo, th) k = (oo2, th2) := ⟨_, _, rfl⟩
      rw [e3] at w hb9 e2
      have w : rp_H D A s.heap H locs (MW d0 q t oo2 th2) := w
      have hb1 : bR oo2 ((k + 1) * 8) := hb9.1
      have hb2 : bR th2 ((k + 1) * 8) := hb9.2
      have rides : k < n → ∀ f2 j : Nat, j ≤ tT t * 6 → tT t * 6 < j + f2 → ∀ H locs, rp_H D A s.heap H locs (MW d0 q t (msR t (k + 1) th2 (f8 (k + 1) 100000 oo2 8) j) th2) → ∀ ls, lv_has ls 6 [(0, .ref (q 0)), (1, .int (iI ((a : Nat) : Int))), (2, .int (iI (τ))), (3, .int (iI ((n : Nat) : Int))), (4, .int (iI ((k + 1 : Nat) : Int))), (5, .int (iI ((j : Nat) : Int)))] → W p lc e (rp_r 1 28) s m args below meth c H locs 0 0 Q (F0 m 83 ls []) := by
        intro hk9 f2
        induction f2 with
        | zero =>
          intro j h3 h4
          exact absurd h4 (by omega)
        | succ f2 ihrides =>
          intro j h3 h4 H locs w ls hl
          have hb3 : bR (msR t (k + 1) th2 (f8 (k + 1) 100000 oo2 8) j) ((k + 1 + 1) * 8) := msR_b ok (k + 1) th2 (f8_b hb1) j
          refine rp_il E dX1_search_83 (lv_at hl 5 rfl) ?_
          refine rm_ag (v := .int (iI ((tT t : Nat) : Int))) E w (lv_at hl 0 rfl) 4 (by decide) rfl q187 rfl dX1_search_85 dX1_search_86 ?_
          refine rp_bi E (v := ((6 : Nat) : Int)) dX1_search_89 (by decide) ?_
          refine rp_mulN E dX1_search_91 ?_
          refine rp_cge (tgt := 140) E dX1_search_92 (by decide) ⟨by omega, by omega⟩ ⟨by omega, by omega⟩ (fun c92 => ?_) (fun c92 => ?_)
          · have e9 : j = tT t * 6 := by omega
            subst e9
            refine rp_aln E dX1_search_140 rfl (lv_at hl 0 rfl) ?_
            refine rp_il E dX1_search_141 (lv_at hl 4 rfl) ?_
            refine rp_callv (rest := []) E w hA (metX1_walk lc D d0 q t (msR t (k + 1) th2 (f8 (k + 1) 100000 oo2 8) (tT t * 6)) th2 ok (k + 1) (by omega) hb3) (cwV 1 E.1.2.2.2.2 (lw_V q271 q273 qs21 q26 q274) rfl rfl rfl (by decide +kernel) ⟨Nat.le_of_ble_eq_true rfl, Nat.le_of_ble_eq_true rfl⟩) (rm_rcv E w) rfl hl.1 rfl (Nat.le_of_ble_eq_true rfl) dX1_search_143 ⟨Nat.zero_le _, Nat.zero_le _⟩ (fun u9 H locs hp9 w => ?_)
            have w : rp_H D A s.heap H locs (MWs d0 q t (ms t a τ (oo, th) (k + 1))) := by rw [e2]; exact w
            refine rp_iinc (v := ((k + 1 + 1 : Nat) : Int)) (lv' := [(0, .ref (q 0)), (1, .int (iI ((a : Nat) : Int))), (2, .int (iI (τ))), (3, .int (iI ((n : Nat) : Int))), (4, .int (iI ((k + 1 + 1 : Nat) : Int))), (5, .int (iI ((tT t * 6 : Nat) : Int)))]) E [1, 2, 3, 4, 0, 5] dX1_search_146 hl (k := 4) rfl (by omega) (by decide) rfl (fun ls hl => ?_)
            refine rp_goto (tgt := 43) E dX1_search_149 (by decide) ?_
            exact ihouter (k + 1) (by omega) (by omega) _ _ w ls (lv_sub hl [0, 1, 2, 3, 4] rfl)
          · refine rp_il E dX1_search_95 (lv_at hl 5 rfl) ?_
            refine rp_bi E (v := ((6 : Nat) : Int)) dX1_search_97 (by decide) ?_
            refine rp_remN E (by omega) (by decide) (by decide) dX1_search_99 ?_
            refine rm_ag E w (lv_at hl 0 rfl) 1 (by decide) rfl q184 rfl dX1_search_100 dX1_search_101 ?_
            refine rm_ag E w (lv_at hl 0 rfl) 5 (by decide) rfl q188 rfl dX1_search_104 dX1_search_105 ?_
            refine rp_il E dX1_search_108 (lv_at hl 5 rfl) ?_
            refine rp_bi E (v := ((6 : Nat) : Int)) dX1_search_110 (by decide) ?_
            refine rp_divN E (by omega) (by decide) (by decide) dX1_search_112 ?_
            refine rp_ald E w 4 rfl (j / 6) (rfl) (by omega) (by decide) dX1_search_113 ?_
            have f113 := tk_Lo ok (j / 6)
            refine rp_ald E w 1 rfl (tLo t (j / 6)) (rfl) (by omega) (by decide) dX1_search_114 ?_
            have f114 := tk_Sz ok (tLo t (j / 6))
            refine rp_cge (tgt := 134) E dX1_search_115 (by decide) ⟨by omega, by omega⟩ ⟨by omega, by omega⟩ (fun c115 => ?_) (fun c115 => ?_)
            · refine rp_iinc (v := ((j + 1 : Nat) : Int)) (lv' := [(0, .ref (q 0)), (1, .int (iI ((a : Nat) : Int))), (2, .int (iI (τ))), (3, .int (iI ((n : Nat) : Int))), (4, .int (iI ((k + 1 : Nat) : Int))), (5, .int (iI ((j + 1 : Nat) : Int)))]) E [1, 2, 3, 4, 5, 0] dX1_search_134 hl (k := 5) rfl (by omega) (by decide) rfl (fun ls hl => ?_)
              refine rp_goto (tgt := 83) E dX1_search_137 (by decide) ?_
              exact ihrides (j + 1) (by omega) (by omega) _ _ (by rw [msR, if_neg (by omega)]; exact w) ls hl
            · refine rp_aln E dX1_search_118 rfl (lv_at hl 0 rfl) ?_
              refine rp_il E dX1_search_119 (lv_at hl 4 rfl) ?_
              refine rp_il E dX1_search_121 (lv_at hl 5 rfl) ?_
              refine rp_bi E (v := ((6 : Nat) : Int)) dX1_search_123 (by decide) ?_
              refine rp_divN E (by omega) (by decide) (by decide) dX1_search_125 ?_
              refine rp_il E dX1_search_126 (lv_at hl 5 rfl) ?_
              refine rp_bi E (v := ((6 : Nat) : Int)) dX1_search_128 (by decide) ?_
              refine rp_remN E (by omega) (by decide) (by decide) dX1_search_130 ?_
              refine rp_callv (rest := []) E w hA (metX1_ride lc D d0 q t (msR t (k + 1) th2 (f8 (k + 1) 100000 oo2 8) j) th2 ok (k + 1) (j / 6) (j % 6) (by omega) (by omega) (by omega) (by omega) hb2 hb3) (cwV 3 E.1.2.2.2.2 (lw_V q275 q277 qs22 q26 q278) rfl rfl rfl (by decide +kernel) ⟨Nat.le_of_ble_eq_true rfl, Nat.le_of_ble_eq_true rfl⟩) (rm_rcv E w) rfl hl.1 rfl (Nat.le_of_ble_eq_true rfl) dX1_search_131 ⟨Nat.zero_le _, Nat.zero_le _⟩ (fun u9 H locs hp9 w => ?_)
              refine rp_iinc (v := ((j + 1 : Nat) : Int)) (lv' := [(0, .ref (q 0)), (1, .int (iI ((a : Nat) : Int))), (2, .int (iI (τ))), (3, .int (iI ((n : Nat) : Int))), (4, .int (iI ((k + 1 : Nat) : Int))), (5, .int (iI ((j + 1 : Nat) : Int)))]) E [1, 2, 3, 4, 5, 0] dX1_search_134 hl (k := 5) rfl (by omega) (by decide) rfl (fun ls hl => ?_)
              refine rp_goto (tgt := 83) E dX1_search_137 (by decide) ?_
              exact ihrides (j + 1) (by omega) (by omega) _ _ (by rw [msR, if_pos (by omega)]; exact w) ls hl
      have fill : k < n → ∀ f2 j : Nat, j ≤ 8 → 8 < j + f2 → ∀ H locs, rp_H D A s.heap H locs (MW d0 q t (f8 (k + 1) 100000 oo2 j) th2) → ∀ ls, lv_has ls 6 [(0, .ref (q 0)), (1, .int (iI ((a : Nat) : Int))), (2, .int (iI (τ))), (3, .int (iI ((n : Nat) : Int))), (4, .int (iI ((k + 1 : Nat) : Int))), (5, .int (iI ((j : Nat) : Int)))] → W p lc e (rp_r 1 28) s m args below meth c H locs 0 0 Q (F0 m 52 ls []) := by
        intro hk9 f2
        induction f2 with
        | zero =>
          intro j h3 h4
          exact absurd h4 (by omega)
        | succ f2 ihfill =>
          intro j h3 h4 H locs w ls hl
          refine rp_il E dX1_search_52 (lv_at hl 5 rfl) ?_
          refine rp_bi E (v := ((8 : Nat) : Int)) dX1_search_54 (by decide) ?_
          refine rp_cge (tgt := 80) E dX1_search_56 (by decide) ⟨by omega, by omega⟩ ⟨by omega, by omega⟩ (fun c56 => ?_) (fun c56 => ?_)
          · have e9 : j = 8 := by omega
            subst e9
            refine rp_ic E (v := ((0 : Nat) : Int)) dX1_search_80 rfl ?_
            refine rp_is (lv' := [(0, .ref (q 0)), (1, .int (iI ((a : Nat) : Int))), (2, .int (iI (τ))), (3, .int (iI ((n : Nat) : Int))), (4, .int (iI ((k + 1 : Nat) : Int))), (5, .int (iI ((0 : Nat) : Int)))]) E [1, 2, 3, 4, 5, 0] dX1_search_81 hl (by decide) rfl (fun ls hl => ?_)
            exact rides hk9 (tT t * 6 + 1) 0 (by omega) (by omega) _ _ (by rw [msR]; exact w) ls hl
          · refine rm_ag E w (lv_at hl 0 rfl) 8 (by decide) rfl q191 rfl dX1_search_59 dX1_search_60 ?_
            refine rp_il E dX1_search_63 (lv_at hl 4 rfl) ?_
            refine rp_bi E (v := ((8 : Nat) : Int)) dX1_search_65 (by decide) ?_
            refine rp_mulN E dX1_search_67 ?_
            refine rp_il E dX1_search_68 (lv_at hl 5 rfl) ?_
            refine rp_addN E dX1_search_70 ?_
            refine rp_ldc E (v := (100000)) q270 (by decide) dX1_search_71 ?_
            refine rp_ast E w 7 rfl (((k + 1) * 8) + j) (rfl) (by omega) (by decide) dX1_search_73 (fun H locs w => ?_)
            have w : rp_H D A s.heap H locs (MW d0 q t (upI (f8 (k + 1) 100000 oo2 j) (((k + 1) * 8) + j) ((100000))) th2) := w
            refine rp_iinc (v := ((j + 1 : Nat) : Int)) (lv' := [(0, .ref (q 0)), (1, .int (iI ((a : Nat) : Int))), (2, .int (iI (τ))), (3, .int (iI ((n : Nat) : Int))), (4, .int (iI ((k + 1 : Nat) : Int))), (5, .int (iI ((j + 1 : Nat) : Int)))]) E [1, 2, 3, 4, 5, 0] dX1_search_74 hl (k := 5) rfl (by omega) (by decide) rfl (fun ls hl => ?_)
            refine rp_goto (tgt := 52) E dX1_search_77 (by decide) ?_
            exact ihfill (j + 1) (by omega) (by omega) _ _ (by rw [f8]; exact w) ls hl
      refine rp_il E dX1_search_43 (lv_at hl 4 rfl) ?_
      refine rp_iln E dX1_search_45 rfl (lv_at hl 3 rfl) ?_
      refine rp_cgt (tgt := 152) E dX1_search_46 (by decide) ⟨by omega, by omega⟩ ⟨by omega, by omega⟩ (fun c46 => ?_) (fun c46 => ?_)
      · exact hret _ _ () _ _ (trivial) (by rw [← show k = n by omega, e3]; exact w) dX1_search_152
      · refine rp_ic E (v := ((0 : Nat) : Int)) dX1_search_49 rfl ?_
        refine rp_is (lv' := [(0, .ref (q 0)), (1, .int (iI ((a : Nat) : Int))), (2, .int (iI (τ))), (3, .int (iI ((n : Nat) : Int))), (4, .int (iI ((k + 1 : Nat) : Int))), (5, .int (iI ((0 : Nat) : Int)))]) E [1, 2, 3, 4, 5, 0] dX1_search_50 hl (by decide) rfl (fun ls hl => ?_)
        exact fill (by omega) 9 0 (by omega) (by omega) _ _ (by rw [f8]; exact w) ls hl
  have loop : ∀ f k : Nat, k ≤ 8 → 8 < k + f → ∀ H locs, rp_H D A s.heap H locs (MW d0 q t (ms0 a τ oo k) th) → ∀ ls, lv_has ls 6 [(0, .ref (q 0)), (1, .int (iI ((a : Nat) : Int))), (2, .int (iI (τ))), (3, .int (iI ((n : Nat) : Int))), (4, .int (iI ((k : Nat) : Int)))] → W p lc e (rp_r 1 28) s m args below meth c H locs 0 0 Q (F0 m 3 ls []) := by
    intro f
    induction f with
    | zero =>
      intro k h1 h2
      exact absurd h2 (by omega)
    | succ f ihloop =>
      intro k h1 h2 H locs w ls hl
      refine rp_il E dX1_search_3 (lv_at hl 4 rfl) ?_
      refine rp_bi E (v := ((8 : Nat) : Int)) dX1_search_5 (by decide) ?_
      refine rp_cge (tgt := 35) E dX1_search_7 (by decide) ⟨by omega, by omega⟩ ⟨by omega, by omega⟩ (fun c7 => ?_) (fun c7 => ?_)
      · have e9 : k = 8 := by omega
        subst e9
        refine rp_aln E dX1_search_35 rfl (lv_at hl 0 rfl) ?_
        refine rp_ic E (v := ((0 : Nat) : Int)) dX1_search_36 rfl ?_
        refine rp_callv (rest := []) E w hA (metX1_walk lc D d0 q t (ms0 a τ oo 8) th ok 0 (by omega) (ms0_b hτ oo)) (cwV 1 E.1.2.2.2.2 (lw_V q271 q273 qs21 q26 q274) rfl rfl rfl (by decide +kernel) ⟨Nat.le_of_ble_eq_true rfl, Nat.le_of_ble_eq_true rfl⟩) (rm_rcv E w) rfl hl.1 rfl (Nat.le_of_ble_eq_true rfl) dX1_search_37 ⟨Nat.zero_le _, Nat.zero_le _⟩ (fun u9 H locs hp9 w => ?_)
        have w : rp_H D A s.heap H locs (MWs d0 q t (ms t a τ (oo, th) 0)) := w
        refine rp_ic E (v := ((0 + 1 : Nat) : Int)) dX1_search_40 rfl ?_
        refine rp_is (lv' := [(0, .ref (q 0)), (1, .int (iI ((a : Nat) : Int))), (2, .int (iI (τ))), (3, .int (iI ((n : Nat) : Int))), (4, .int (iI ((0 + 1 : Nat) : Int)))]) E [1, 2, 3, 4, 0] dX1_search_41 hl (by decide) rfl (fun ls hl => ?_)
        exact outer (n + 1) 0 (by omega) (by omega) _ _ w ls (lv_sub hl [0, 1, 2, 3, 4] rfl)
      · refine rm_ag E w (lv_at hl 0 rfl) 8 (by decide) rfl q191 rfl dX1_search_10 dX1_search_11 ?_
        refine rp_il E dX1_search_14 (lv_at hl 4 rfl) ?_
        refine rp_il E dX1_search_16 (lv_at hl 4 rfl) ?_
        refine rp_iln E dX1_search_18 rfl (lv_at hl 1 rfl) ?_
        refine rp_cne (tgt := 26) E dX1_search_19 (by decide) ⟨by omega, by omega⟩ ⟨by omega, by omega⟩ (fun c19 => ?_) (fun c19 => ?_)
        · refine rp_ldc E (v := (100000)) q270 (by decide) dX1_search_26 ?_
          refine rp_ast E w 7 rfl (k) (rfl) (by omega) (by decide) dX1_search_28 (fun H locs w => ?_)
          have w : rp_H D A s.heap H locs (MW d0 q t (upI (ms0 a τ oo k) (k) ((100000))) th) := w
          refine rp_iinc (v := ((k + 1 : Nat) : Int)) (lv' := [(0, .ref (q 0)), (1, .int (iI ((a : Nat) : Int))), (2, .int (iI (τ))), (3, .int (iI ((n : Nat) : Int))), (4, .int (iI ((k + 1 : Nat) : Int)))]) E [1, 2, 3, 4, 0] dX1_search_29 hl (k := 4) rfl (by omega) (by decide) rfl (fun ls hl => ?_)
          refine rp_goto (tgt := 3) E dX1_search_32 (by decide) ?_
          exact ihloop (k + 1) (by omega) (by omega) _ _ (by rw [ms0, if_neg (by omega)]; exact w) ls hl
        · refine rp_iln E dX1_search_22 rfl (lv_at hl 2 rfl) ?_
          refine rp_goto (tgt := 28) E dX1_search_23 (by decide) ?_
          refine rp_ast E w 7 rfl (k) (rfl) (by omega) (by decide) dX1_search_28 (fun H locs w => ?_)
          have w : rp_H D A s.heap H locs (MW d0 q t (upI (ms0 a τ oo k) (k) ((τ))) th) := w
          refine rp_iinc (v := ((k + 1 : Nat) : Int)) (lv' := [(0, .ref (q 0)), (1, .int (iI ((a : Nat) : Int))), (2, .int (iI (τ))), (3, .int (iI ((n : Nat) : Int))), (4, .int (iI ((k + 1 : Nat) : Int)))]) E [1, 2, 3, 4, 0] dX1_search_29 hl (k := 4) rfl (by omega) (by decide) rfl (fun ls hl => ?_)
          refine rp_goto (tgt := 3) E dX1_search_32 (by decide) ?_
          exact ihloop (k + 1) (by omega) (by omega) _ _ (by rw [ms0, if_pos (by omega)]; exact w) ls hl
  refine rp_ic E (v := ((0 : Nat) : Int)) dX1_search_0 rfl ?_
  refine rp_is (lv' := [(0, .ref (q 0)), (1, .int (iI ((a : Nat) : Int))), (2, .int (iI (τ))), (3, .int (iI ((n : Nat) : Int))), (4, .int (iI ((0 : Nat) : Int)))]) E [1, 2, 3, 4, 0] dX1_search_1 hl (by decide) rfl (fun ls hl => ?_)
  exact loop 9 0 (by omega) (by omega) _ _ (by rw [ms0]; exact w) ls hl
set_option maxHeartbeats 4000000 in
set_option maxRecDepth 100000 in
/-- best -/
theorem metX1_best (lc : Launch) (D : va_G) (d0 : ClassId) (q : Nat → Nat) (t : TT) (oo th : Nat → Int) (b n : Nat) (h8 : b < 8) (hn : n ≤ 12) (ht : bR th ((n + 1) * 8)) : rp_MI lc D d0 yX1_best cX1_best 5 (some .int) (rp_r 0 0) [.ref (q 0), .int (iI ((b : Nat) : Int)), .int (iI ((n : Nat) : Int))] (MW d0 q t oo th) (fun (v : Int) (u : Unit) => v = bsA th b (n + 1)) (fun (u : Unit) => MW d0 q t oo th) := by
  refine rp_MI.of (by decide) rfl (fun v u h => rfl) (Nat.le_of_ble_eq_true rfl) ?_
  intro p e s m below meth c args A ls Q E hA w hl hret
  have hl : lv_has ls 5 [(0, .ref (q 0)), (1, .int (iI ((b : Nat) : Int))), (2, .int (iI ((n : Nat) : Int)))] := hl
  have loop : ∀ f k : Nat, k ≤ n + 1 → n + 1 < k + f → ∀ ls, lv_has ls 5 [(0, .ref (q 0)), (1, .int (iI ((b : Nat) : Int))), (2, .int (iI ((n : Nat) : Int))), (3, .int (iI (bsA th b k))), (4, .int (iI ((k : Nat) : Int)))] → W p lc e (rp_r 0 0) s m args below meth c s.heap [] 0 0 Q (F0 m 6 ls []) := by
    intro f
    induction f with
    | zero =>
      intro k h1 h2
      exact absurd h2 (by omega)
    | succ f ihloop =>
      intro k h1 h2 ls hl
      have fb := bsA_b ht h8 k h1
      have ft := fun (h : k < n + 1) => ht (k * 8 + b) (by omega)
      refine rp_il E dX1_best_6 (lv_at hl 4 rfl) ?_
      refine rp_iln E dX1_best_8 rfl (lv_at hl 2 rfl) ?_
      refine rp_cgt (tgt := 47) E dX1_best_9 (by decide) ⟨by omega, by omega⟩ ⟨by omega, by omega⟩ (fun c9 => ?_) (fun c9 => ?_)
      · refine rp_iln E dX1_best_47 rfl (lv_at hl 3 rfl) ?_
        exact hret _ _ (bsA th b k) () _ _ (by rw [show k = n + 1 by omega]) w dX1_best_48
      · have ft := ft (by omega)
        refine rm_ag E w (lv_at hl 0 rfl) 9 (by decide) rfl q192 rfl dX1_best_12 dX1_best_13 ?_
        refine rp_il E dX1_best_16 (lv_at hl 4 rfl) ?_
        refine rp_bi E (v := ((8 : Nat) : Int)) dX1_best_18 (by decide) ?_
        refine rp_mulN E dX1_best_20 ?_
        refine rp_iln E dX1_best_21 rfl (lv_at hl 1 rfl) ?_
        refine rp_addN E dX1_best_22 ?_
        refine rp_ald E w 8 rfl ((k * 8) + b) (rfl) (by omega) (by decide) dX1_best_23 ?_
        refine rp_iln E dX1_best_24 rfl (lv_at hl 3 rfl) ?_
        refine rp_cge (tgt := 41) E dX1_best_25 (by decide) ⟨by omega, by omega⟩ ⟨by omega, by omega⟩ (fun c25 => ?_) (fun c25 => ?_)
        · refine rp_iinc (v := ((k + 1 : Nat) : Int)) (lv' := [(0, .ref (q 0)), (1, .int (iI ((b : Nat) : Int))), (2, .int (iI ((n : Nat) : Int))), (3, .int (iI (bsA th b k))), (4, .int (iI ((k + 1 : Nat) : Int)))]) E [1, 2, 3, 4, 0] dX1_best_41 hl (k := 4) rfl (by omega) (by decide) rfl (fun ls hl => ?_)
          refine rp_goto (tgt := 6) E dX1_best_44 (by decide) ?_
          exact ihloop (k + 1) (by omega) (by omega) ls (by rw [bsA, if_neg (by omega)]; exact hl)
        · refine rm_ag E w (lv_at hl 0 rfl) 9 (by decide) rfl q192 rfl dX1_best_28 dX1_best_29 ?_
          refine rp_il E dX1_best_32 (lv_at hl 4 rfl) ?_
          refine rp_bi E (v := ((8 : Nat) : Int)) dX1_best_34 (by decide) ?_
          refine rp_mulN E dX1_best_36 ?_
          refine rp_iln E dX1_best_37 rfl (lv_at hl 1 rfl) ?_
          refine rp_addN E dX1_best_38 ?_
          refine rp_ald E w 8 rfl ((k * 8) + b) (rfl) (by omega) (by decide) dX1_best_39 ?_
          refine rp_isn (lv' := [(0, .ref (q 0)), (1, .int (iI ((b : Nat) : Int))), (2, .int (iI ((n : Nat) : Int))), (3, .int (iI (th ((k * 8) + b)))), (4, .int (iI ((k : Nat) : Int)))]) E [1, 2, 3, 0, 4] dX1_best_40 rfl hl (by decide) rfl (fun ls hl => ?_)
          refine rp_iinc (v := ((k + 1 : Nat) : Int)) (lv' := [(0, .ref (q 0)), (1, .int (iI ((b : Nat) : Int))), (2, .int (iI ((n : Nat) : Int))), (3, .int (iI (th ((k * 8) + b)))), (4, .int (iI ((k + 1 : Nat) : Int)))]) E [1, 2, 3, 4, 0] dX1_best_41 hl (k := 4) rfl (by omega) (by decide) rfl (fun ls hl => ?_)
          refine rp_goto (tgt := 6) E dX1_best_44 (by decide) ?_
          exact ihloop (k + 1) (by omega) (by omega) ls (by rw [bsA, if_pos (by omega)]; exact hl)
  refine rp_ldc E (v := (100000)) q270 (by decide) dX1_best_0 ?_
  refine rp_isn (lv' := [(0, .ref (q 0)), (1, .int (iI ((b : Nat) : Int))), (2, .int (iI ((n : Nat) : Int))), (3, .int (iI (100000)))]) E [1, 2, 3, 0] dX1_best_2 rfl hl (by decide) rfl (fun ls hl => ?_)
  refine rp_ic E (v := ((0 : Nat) : Int)) dX1_best_3 rfl ?_
  refine rp_is (lv' := [(0, .ref (q 0)), (1, .int (iI ((b : Nat) : Int))), (2, .int (iI ((n : Nat) : Int))), (3, .int (iI (100000))), (4, .int (iI ((0 : Nat) : Int)))]) E [1, 2, 3, 4, 0] dX1_best_4 hl (by decide) rfl (fun ls hl => ?_)
  exact loop (n + 2) 0 (by omega) (by omega) ls (by rw [bsA]; exact hl)
end
section
set_option maxRecDepth 100000
set_option maxHeartbeats 4000000 in
set_option maxRecDepth 100000 in
/-- earliestWith -/
theorem metX1_earliestWith (lc : Launch) (D : va_G) (d0 : ClassId) (q : Nat → Nat) (t : TT) (oo th : Nat → Int) (ok : tOk t) (a b2 t2 : Int) (ha : r32 a) (hb2 : r32 b2) (ht2 : r32 t2) (n : Int) (hn : r32 n) : rp_MI lc D d0 yX1_earliestWith cX1_earliestWith 8 (some .int) (rp_r 2 53) [.ref (q 0), .int (iI (a)), .int (iI (b2)), .int (iI (t2)), .int (iI (n))] (MW d0 q t oo th) (fun (v : Int) (u : MS) => ((v = -1 ∧ (a < 0 ∨ 8 ≤ a ∨ b2 < 0 ∨ 8 ≤ b2)) ∨ (v = -3 ∧ (0 ≤ a ∧ a < 8 ∧ 0 ≤ b2 ∧ b2 < 8) ∧ (t2 < 0 ∨ 1000 < t2))) ∨ ((0 ≤ a ∧ a < 8 ∧ 0 ≤ b2 ∧ b2 < 8 ∧ 0 ≤ t2 ∧ t2 ≤ 1000) ∧ u = ms t a.toNat t2 (oo, th) (cl12 n) ∧ ((v = -5 ∧ bsA u.2 b2.toNat (cl12 n + 1) = 100000) ∨ (v = bsA u.2 b2.toNat (cl12 n + 1) ∧ bsA u.2 b2.toNat (cl12 n + 1) ≠ 100000)))) (fun (u : MS) => MWs d0 q t u) := by
  refine rp_MI.of (by decide) rfl (fun v u h => rfl) (Nat.le_of_ble_eq_true rfl) ?_
  intro p e s m below meth c args A ls Q E hA w hl hret
  have hl : lv_has ls 8 [(0, .ref (q 0)), (1, .int (iI (a))), (2, .int (iI (b2))), (3, .int (iI (t2))), (4, .int (iI (n)))] := hl
  refine rp_aln E dX1_earliestWith_0 rfl (lv_at hl 0 rfl) ?_
  refine rp_iln E dX1_earliestWith_1 rfl (lv_at hl 1 rfl) ?_
  refine rp_iln E dX1_earliestWith_2 rfl (lv_at hl 2 rfl) ?_
  refine rp_iln E dX1_earliestWith_3 rfl (lv_at hl 3 rfl) ?_
  refine rp_calli (rest := []) E w hA (metX1_refusal lc D d0 q t oo th a b2 t2 ha hb2 ht2) (cwV 3 E.1.2.2.2.2 (lw_V q258 q260 qs18 q26 q261) rfl rfl rfl (by decide +kernel) ⟨Nat.le_of_ble_eq_true rfl, Nat.le_of_ble_eq_true rfl⟩) (rm_rcv E w) rfl hl.1 rfl (Nat.le_of_ble_eq_true rfl) dX1_earliestWith_4 ⟨Nat.zero_le _, Nat.zero_le _⟩ (fun v4 u4 H locs hp4 w => ?_)
  refine rp_is (lv' := [(0, .ref (q 0)), (1, .int (iI (a))), (2, .int (iI (b2))), (3, .int (iI (t2))), (4, .int (iI (n))), (5, .int (iI (v4)))]) E [1, 2, 3, 4, 5, 0] dX1_earliestWith_7 hl (by decide) rfl (fun ls hl => ?_)
  refine rp_il E dX1_earliestWith_9 (lv_at hl 5 rfl) ?_
  refine rp_fge (tgt := 17) E dX1_earliestWith_11 (by decide) ⟨by omega, by omega⟩ (fun c11 => ?_) (fun c11 => ?_)
  · obtain ⟨an, rfl⟩ : ∃ an : Nat, a = (an : Int) := ⟨a.toNat, by omega⟩
    obtain ⟨bn, rfl⟩ : ∃ bn : Nat, b2 = (bn : Int) := ⟨b2.toNat, by omega⟩
    refine rp_il E dX1_earliestWith_17 (lv_at hl 4 rfl) ?_
    refine rp_fge (tgt := 26) E dX1_earliestWith_19 (by decide) ⟨by omega, by omega⟩ (fun c19 => ?_) (fun c19 => ?_)
    · obtain ⟨nn, rfl⟩ : ∃ nn : Nat, n = (nn : Int) := ⟨n.toNat, by omega⟩
      refine rp_il E dX1_earliestWith_26 (lv_at hl 4 rfl) ?_
      refine rp_bi E (v := ((12 : Nat) : Int)) dX1_earliestWith_28 (by decide) ?_
      refine rp_cle (tgt := 38) E dX1_earliestWith_30 (by decide) ⟨by omega, by omega⟩ ⟨by omega, by omega⟩ (fun c30 => ?_) (fun c30 => ?_)
      · refine rp_il E dX1_earliestWith_38 (lv_at hl 4 rfl) ?_
        refine rp_is (lv' := [(0, .ref (q 0)), (1, .int (iI ((an : Nat) : Int))), (2, .int (iI ((bn : Nat) : Int))), (3, .int (iI (t2))), (4, .int (iI ((nn : Nat) : Int))), (5, .int (iI (v4))), (6, .int (iI ((nn : Nat) : Int)))]) E [1, 2, 3, 4, 5, 6, 0] dX1_earliestWith_40 hl (by decide) rfl (fun ls hl => ?_)
        refine rp_aln E dX1_earliestWith_42 rfl (lv_at hl 0 rfl) ?_
        refine rp_iln E dX1_earliestWith_43 rfl (lv_at hl 1 rfl) ?_
        refine rp_iln E dX1_earliestWith_44 rfl (lv_at hl 3 rfl) ?_
        refine rp_il E dX1_earliestWith_45 (lv_at hl 6 rfl) ?_
        refine rp_callv (rest := []) E w hA (metX1_search lc D d0 q t oo th ok an t2 (nn) (by omega) ⟨by omega, by omega⟩ (by omega)) (cwV 3 E.1.2.2.2.2 (lw_V q266 q268 qs20 q26 q269) rfl rfl rfl (by decide +kernel) ⟨Nat.le_of_ble_eq_true rfl, Nat.le_of_ble_eq_true rfl⟩) (rm_rcv E w) rfl hl.1 rfl (Nat.le_of_ble_eq_true rfl) dX1_earliestWith_47 ⟨Nat.zero_le _, Nat.zero_le _⟩ (fun u7 H locs hp7 w => ?_)
        have hu := ms_b (a := an) (τ := t2) ok ⟨by omega, by omega⟩ (oo, th) (nn)
        refine rp_aln E dX1_earliestWith_50 rfl (lv_at hl 0 rfl) ?_
        refine rp_iln E dX1_earliestWith_51 rfl (lv_at hl 2 rfl) ?_
        refine rp_il E dX1_earliestWith_52 (lv_at hl 6 rfl) ?_
        refine rp_calli (rest := []) E w hA (metX1_best lc D d0 q t ((ms t an t2 (oo, th) (nn)).1) ((ms t an t2 (oo, th) (nn)).2) bn (nn) (by omega) (by omega) hu.2) (cwV 2 E.1.2.2.2.2 (lw_V q279 q281 qs23 q26 q282) rfl rfl rfl (by decide +kernel) ⟨Nat.le_of_ble_eq_true rfl, Nat.le_of_ble_eq_true rfl⟩) (rm_rcv E w) rfl hl.1 rfl (Nat.le_of_ble_eq_true rfl) dX1_earliestWith_54 ⟨Nat.zero_le _, Nat.zero_le _⟩ (fun v9 u9 H locs hp9 w => ?_)
        have fb9 := bsA_b hu.2 (b := bn) (by omega) (nn + 1) (by omega)
        rw [← hp9] at fb9
        refine rp_is (lv' := [(0, .ref (q 0)), (1, .int (iI ((an : Nat) : Int))), (2, .int (iI ((bn : Nat) : Int))), (3, .int (iI (t2))), (4, .int (iI ((nn : Nat) : Int))), (5, .int (iI (v4))), (6, .int (iI ((nn : Nat) : Int))), (7, .int (iI (v9)))]) E [1, 2, 3, 4, 5, 6, 7, 0] dX1_earliestWith_57 hl (by decide) rfl (fun ls hl => ?_)
        refine rp_il E dX1_earliestWith_59 (lv_at hl 7 rfl) ?_
        refine rp_ldc E (v := (100000)) q270 (by decide) dX1_earliestWith_61 ?_
        refine rp_cne (tgt := 71) E dX1_earliestWith_63 (by decide) ⟨by omega, by omega⟩ ⟨by omega, by omega⟩ (fun c63 => ?_) (fun c63 => ?_)
        · refine rp_il E dX1_earliestWith_71 (lv_at hl 7 rfl) ?_
          have e8 : cl12 (nn : Int) = nn := by rw [cl12, if_neg (by omega), if_neg (by omega)]; rfl
          exact hret _ _ (v9) (ms t an t2 (oo, th) (nn)) _ _ (Or.inr ⟨by omega, by rw [e8]; rfl, by rw [e8]; show (_ ∧ bsA (ms t an t2 (oo, th) (nn)).2 bn (nn + 1) = 100000) ∨ (_ = bsA (ms t an t2 (oo, th) (nn)).2 bn (nn + 1) ∧ bsA (ms t an t2 (oo, th) (nn)).2 bn (nn + 1) ≠ 100000); omega⟩) w dX1_earliestWith_73
        · refine rp_bi E (v := (-5)) dX1_earliestWith_66 (by decide) ?_
          refine rp_goto (tgt := 73) E dX1_earliestWith_68 (by decide) ?_
          have e8 : cl12 (nn : Int) = nn := by rw [cl12, if_neg (by omega), if_neg (by omega)]; rfl
          exact hret _ _ (-5) (ms t an t2 (oo, th) (nn)) _ _ (Or.inr ⟨by omega, by rw [e8]; rfl, by rw [e8]; show (_ ∧ bsA (ms t an t2 (oo, th) (nn)).2 bn (nn + 1) = 100000) ∨ (_ = bsA (ms t an t2 (oo, th) (nn)).2 bn (nn + 1) ∧ bsA (ms t an t2 (oo, th) (nn)).2 bn (nn + 1) ≠ 100000); omega⟩) w dX1_earliestWith_73
      · refine rp_bi E (v := ((12 : Nat) : Int)) dX1_earliestWith_33 (by decide) ?_
        refine rp_goto (tgt := 40) E dX1_earliestWith_35 (by decide) ?_
        refine rp_is (lv' := [(0, .ref (q 0)), (1, .int (iI ((an : Nat) : Int))), (2, .int (iI ((bn : Nat) : Int))), (3, .int (iI (t2))), (4, .int (iI ((nn : Nat) : Int))), (5, .int (iI (v4))), (6, .int (iI ((12 : Nat) : Int)))]) E [1, 2, 3, 4, 5, 6, 0] dX1_earliestWith_40 hl (by decide) rfl (fun ls hl => ?_)
        refine rp_aln E dX1_earliestWith_42 rfl (lv_at hl 0 rfl) ?_
        refine rp_iln E dX1_earliestWith_43 rfl (lv_at hl 1 rfl) ?_
        refine rp_iln E dX1_earliestWith_44 rfl (lv_at hl 3 rfl) ?_
        refine rp_il E dX1_earliestWith_45 (lv_at hl 6 rfl) ?_
        refine rp_callv (rest := []) E w hA (metX1_search lc D d0 q t oo th ok an t2 (12) (by omega) ⟨by omega, by omega⟩ (by omega)) (cwV 3 E.1.2.2.2.2 (lw_V q266 q268 qs20 q26 q269) rfl rfl rfl (by decide +kernel) ⟨Nat.le_of_ble_eq_true rfl, Nat.le_of_ble_eq_true rfl⟩) (rm_rcv E w) rfl hl.1 rfl (Nat.le_of_ble_eq_true rfl) dX1_earliestWith_47 ⟨Nat.zero_le _, Nat.zero_le _⟩ (fun u7 H locs hp7 w => ?_)
        have hu := ms_b (a := an) (τ := t2) ok ⟨by omega, by omega⟩ (oo, th) (12)
        refine rp_aln E dX1_earliestWith_50 rfl (lv_at hl 0 rfl) ?_
        refine rp_iln E dX1_earliestWith_51 rfl (lv_at hl 2 rfl) ?_
        refine rp_il E dX1_earliestWith_52 (lv_at hl 6 rfl) ?_
        refine rp_calli (rest := []) E w hA (metX1_best lc D d0 q t ((ms t an t2 (oo, th) (12)).1) ((ms t an t2 (oo, th) (12)).2) bn (12) (by omega) (by omega) hu.2) (cwV 2 E.1.2.2.2.2 (lw_V q279 q281 qs23 q26 q282) rfl rfl rfl (by decide +kernel) ⟨Nat.le_of_ble_eq_true rfl, Nat.le_of_ble_eq_true rfl⟩) (rm_rcv E w) rfl hl.1 rfl (Nat.le_of_ble_eq_true rfl) dX1_earliestWith_54 ⟨Nat.zero_le _, Nat.zero_le _⟩ (fun v9 u9 H locs hp9 w => ?_)
        have fb9 := bsA_b hu.2 (b := bn) (by omega) (12 + 1) (by omega)
        rw [← hp9] at fb9
        refine rp_is (lv' := [(0, .ref (q 0)), (1, .int (iI ((an : Nat) : Int))), (2, .int (iI ((bn : Nat) : Int))), (3, .int (iI (t2))), (4, .int (iI ((nn : Nat) : Int))), (5, .int (iI (v4))), (6, .int (iI ((12 : Nat) : Int))), (7, .int (iI (v9)))]) E [1, 2, 3, 4, 5, 6, 7, 0] dX1_earliestWith_57 hl (by decide) rfl (fun ls hl => ?_)
        refine rp_il E dX1_earliestWith_59 (lv_at hl 7 rfl) ?_
        refine rp_ldc E (v := (100000)) q270 (by decide) dX1_earliestWith_61 ?_
        refine rp_cne (tgt := 71) E dX1_earliestWith_63 (by decide) ⟨by omega, by omega⟩ ⟨by omega, by omega⟩ (fun c63 => ?_) (fun c63 => ?_)
        · refine rp_il E dX1_earliestWith_71 (lv_at hl 7 rfl) ?_
          have e8 : cl12 (nn : Int) = 12 := by rw [cl12, if_neg (by omega), if_pos (by omega)]
          exact hret _ _ (v9) (ms t an t2 (oo, th) (12)) _ _ (Or.inr ⟨by omega, by rw [e8]; rfl, by rw [e8]; show (_ ∧ bsA (ms t an t2 (oo, th) (12)).2 bn (12 + 1) = 100000) ∨ (_ = bsA (ms t an t2 (oo, th) (12)).2 bn (12 + 1) ∧ bsA (ms t an t2 (oo, th) (12)).2 bn (12 + 1) ≠ 100000); omega⟩) w dX1_earliestWith_73
        · refine rp_bi E (v := (-5)) dX1_earliestWith_66 (by decide) ?_
          refine rp_goto (tgt := 73) E dX1_earliestWith_68 (by decide) ?_
          have e8 : cl12 (nn : Int) = 12 := by rw [cl12, if_neg (by omega), if_pos (by omega)]
          exact hret _ _ (-5) (ms t an t2 (oo, th) (12)) _ _ (Or.inr ⟨by omega, by rw [e8]; rfl, by rw [e8]; show (_ ∧ bsA (ms t an t2 (oo, th) (12)).2 bn (12 + 1) = 100000) ∨ (_ = bsA (ms t an t2 (oo, th) (12)).2 bn (12 + 1) ∧ bsA (ms t an t2 (oo, th) (12)).2 bn (12 + 1) ≠ 100000); omega⟩) w dX1_earliestWith_73
    · refine rp_ic E (v := ((0 : Nat) : Int)) dX1_earliestWith_22 rfl ?_
      refine rp_goto (tgt := 40) E dX1_earliestWith_23 (by decide) ?_
      refine rp_is (lv' := [(0, .ref (q 0)), (1, .int (iI ((an : Nat) : Int))), (2, .int (iI ((bn : Nat) : Int))), (3, .int (iI (t2))), (4, .int (iI (n))), (5, .int (iI (v4))), (6, .int (iI ((0 : Nat) : Int)))]) E [1, 2, 3, 4, 5, 6, 0] dX1_earliestWith_40 hl (by decide) rfl (fun ls hl => ?_)
      refine rp_aln E dX1_earliestWith_42 rfl (lv_at hl 0 rfl) ?_
      refine rp_iln E dX1_earliestWith_43 rfl (lv_at hl 1 rfl) ?_
      refine rp_iln E dX1_earliestWith_44 rfl (lv_at hl 3 rfl) ?_
      refine rp_il E dX1_earliestWith_45 (lv_at hl 6 rfl) ?_
      refine rp_callv (rest := []) E w hA (metX1_search lc D d0 q t oo th ok an t2 (0) (by omega) ⟨by omega, by omega⟩ (by omega)) (cwV 3 E.1.2.2.2.2 (lw_V q266 q268 qs20 q26 q269) rfl rfl rfl (by decide +kernel) ⟨Nat.le_of_ble_eq_true rfl, Nat.le_of_ble_eq_true rfl⟩) (rm_rcv E w) rfl hl.1 rfl (Nat.le_of_ble_eq_true rfl) dX1_earliestWith_47 ⟨Nat.zero_le _, Nat.zero_le _⟩ (fun u7 H locs hp7 w => ?_)
      have hu := ms_b (a := an) (τ := t2) ok ⟨by omega, by omega⟩ (oo, th) (0)
      refine rp_aln E dX1_earliestWith_50 rfl (lv_at hl 0 rfl) ?_
      refine rp_iln E dX1_earliestWith_51 rfl (lv_at hl 2 rfl) ?_
      refine rp_il E dX1_earliestWith_52 (lv_at hl 6 rfl) ?_
      refine rp_calli (rest := []) E w hA (metX1_best lc D d0 q t ((ms t an t2 (oo, th) (0)).1) ((ms t an t2 (oo, th) (0)).2) bn (0) (by omega) (by omega) hu.2) (cwV 2 E.1.2.2.2.2 (lw_V q279 q281 qs23 q26 q282) rfl rfl rfl (by decide +kernel) ⟨Nat.le_of_ble_eq_true rfl, Nat.le_of_ble_eq_true rfl⟩) (rm_rcv E w) rfl hl.1 rfl (Nat.le_of_ble_eq_true rfl) dX1_earliestWith_54 ⟨Nat.zero_le _, Nat.zero_le _⟩ (fun v9 u9 H locs hp9 w => ?_)
      have fb9 := bsA_b hu.2 (b := bn) (by omega) (0 + 1) (by omega)
      rw [← hp9] at fb9
      refine rp_is (lv' := [(0, .ref (q 0)), (1, .int (iI ((an : Nat) : Int))), (2, .int (iI ((bn : Nat) : Int))), (3, .int (iI (t2))), (4, .int (iI (n))), (5, .int (iI (v4))), (6, .int (iI ((0 : Nat) : Int))), (7, .int (iI (v9)))]) E [1, 2, 3, 4, 5, 6, 7, 0] dX1_earliestWith_57 hl (by decide) rfl (fun ls hl => ?_)
      refine rp_il E dX1_earliestWith_59 (lv_at hl 7 rfl) ?_
      refine rp_ldc E (v := (100000)) q270 (by decide) dX1_earliestWith_61 ?_
      refine rp_cne (tgt := 71) E dX1_earliestWith_63 (by decide) ⟨by omega, by omega⟩ ⟨by omega, by omega⟩ (fun c63 => ?_) (fun c63 => ?_)
      · refine rp_il E dX1_earliestWith_71 (lv_at hl 7 rfl) ?_
        have e8 : cl12 n = 0 := by rw [cl12, if_pos (by omega)]
        exact hret _ _ (v9) (ms t an t2 (oo, th) (0)) _ _ (Or.inr ⟨by omega, by rw [e8]; rfl, by rw [e8]; show (_ ∧ bsA (ms t an t2 (oo, th) (0)).2 bn (0 + 1) = 100000) ∨ (_ = bsA (ms t an t2 (oo, th) (0)).2 bn (0 + 1) ∧ bsA (ms t an t2 (oo, th) (0)).2 bn (0 + 1) ≠ 100000); omega⟩) w dX1_earliestWith_73
      · refine rp_bi E (v := (-5)) dX1_earliestWith_66 (by decide) ?_
        refine rp_goto (tgt := 73) E dX1_earliestWith_68 (by decide) ?_
        have e8 : cl12 n = 0 := by rw [cl12, if_pos (by omega)]
        exact hret _ _ (-5) (ms t an t2 (oo, th) (0)) _ _ (Or.inr ⟨by omega, by rw [e8]; rfl, by rw [e8]; show (_ ∧ bsA (ms t an t2 (oo, th) (0)).2 bn (0 + 1) = 100000) ∨ (_ = bsA (ms t an t2 (oo, th) (0)).2 bn (0 + 1) ∧ bsA (ms t an t2 (oo, th) (0)).2 bn (0 + 1) ≠ 100000); omega⟩) w dX1_earliestWith_73
  · refine rp_il E dX1_earliestWith_14 (lv_at hl 5 rfl) ?_
    exact hret _ _ v4 (oo, th) _ _ (Or.inl (by omega)) w dX1_earliestWith_16
set_option maxHeartbeats 4000000 in
set_option maxRecDepth 100000 in
/-- earliest -/
theorem metX1_earliest (lc : Launch) (D : va_G) (d0 : ClassId) (q : Nat → Nat) (t : TT) (oo th : Nat → Int) (ok : tOk t) (a b2 t2 : Int) (ha : r32 a) (hb2 : r32 b2) (ht2 : r32 t2) : rp_MI lc D d0 yX1_earliest cX1_earliest 4 (some .int) (rp_r 3 80) [.ref (q 0), .int (iI (a)), .int (iI (b2)), .int (iI (t2))] (MW d0 q t oo th) (fun (v : Int) (u : MS) => ((v = -1 ∧ (a < 0 ∨ 8 ≤ a ∨ b2 < 0 ∨ 8 ≤ b2)) ∨ (v = -3 ∧ (0 ≤ a ∧ a < 8 ∧ 0 ≤ b2 ∧ b2 < 8) ∧ (t2 < 0 ∨ 1000 < t2))) ∨ ((0 ≤ a ∧ a < 8 ∧ 0 ≤ b2 ∧ b2 < 8 ∧ 0 ≤ t2 ∧ t2 ≤ 1000) ∧ u = ms t a.toNat t2 (oo, th) 12 ∧ ((v = -5 ∧ bsA u.2 b2.toNat 13 = 100000) ∨ (v = bsA u.2 b2.toNat 13 ∧ bsA u.2 b2.toNat 13 ≠ 100000)))) (fun (u : MS) => MWs d0 q t u) := by
  refine rp_MI.of (by decide) rfl (fun v u h => rfl) (Nat.le_of_ble_eq_true rfl) ?_
  intro p e s m below meth c args A ls Q E hA w hl hret
  have hl : lv_has ls 4 [(0, .ref (q 0)), (1, .int (iI (a))), (2, .int (iI (b2))), (3, .int (iI (t2)))] := hl
  have e8 : cl12 ((12 : Nat) : Int) = 12 := by decide
  refine rp_aln E dX1_earliest_0 rfl (lv_at hl 0 rfl) ?_
  refine rp_iln E dX1_earliest_1 rfl (lv_at hl 1 rfl) ?_
  refine rp_iln E dX1_earliest_2 rfl (lv_at hl 2 rfl) ?_
  refine rp_iln E dX1_earliest_3 rfl (lv_at hl 3 rfl) ?_
  refine rp_bi E (v := ((12 : Nat) : Int)) dX1_earliest_4 (by decide) ?_
  refine rp_calli (rest := []) E w hA (metX1_earliestWith lc D d0 q t oo th ok a b2 t2 ha hb2 ht2 ((12 : Nat) : Int) ⟨by omega, by omega⟩) (cwV 4 E.1.2.2.2.2 (lw_V q254 q255 q256 q26 q257) rfl rfl rfl (by decide +kernel) ⟨Nat.le_of_ble_eq_true rfl, Nat.le_of_ble_eq_true rfl⟩) (rm_rcv E w) rfl hl.1 rfl (Nat.le_of_ble_eq_true rfl) dX1_earliest_6 ⟨Nat.zero_le _, Nat.zero_le _⟩ (fun v9 u9 H locs hp9 w => ?_)
  rw [e8] at hp9
  exact hret _ _ v9 u9 _ _ hp9 w dX1_earliest_9
set_option maxHeartbeats 4000000 in
set_option maxRecDepth 100000 in
/-- rides -/
theorem metX1_rides (lc : Launch) (D : va_G) (d0 : ClassId) (q : Nat → Nat) (t : TT) (oo th : Nat → Int) (ok : tOk t) (a b2 t2 : Int) (ha : r32 a) (hb2 : r32 b2) (ht2 : r32 t2) : rp_MI lc D d0 yX1_rides cX1_rides 6 (some .int) (rp_r 4 103) [.ref (q 0), .int (iI (a)), .int (iI (b2)), .int (iI (t2))] (MW d0 q t oo th) (fun (v : Int) (u : MS) => ((v = -1 ∧ (a < 0 ∨ 8 ≤ a ∨ b2 < 0 ∨ 8 ≤ b2)) ∨ (v = -3 ∧ (0 ≤ a ∧ a < 8 ∧ 0 ≤ b2 ∧ b2 < 8) ∧ (t2 < 0 ∨ 1000 < t2))) ∨ ((0 ≤ a ∧ a < 8 ∧ 0 ≤ b2 ∧ b2 < 8 ∧ 0 ≤ t2 ∧ t2 ≤ 1000) ∧ u = ms t a.toNat t2 (oo, th) 12 ∧ ((v = -5 ∧ bsA u.2 b2.toNat 13 = 100000) ∨ (v = bsA u.2 b2.toNat 13 ∧ bsA u.2 b2.toNat 13 < 0) ∨ (∃ k : Nat, v = (k : Int) ∧ k ≤ 12 ∧ (∀ j, j < k → bsA u.2 b2.toNat (j + 1) ≠ bsA u.2 b2.toNat 13) ∧ (k = 12 ∨ bsA u.2 b2.toNat (k + 1) = bsA u.2 b2.toNat 13) ∧ bsA u.2 b2.toNat 13 ≠ 100000)))) (fun (u : MS) => MWs d0 q t u) := by
  refine rp_MI.of (by decide) rfl (fun v u h => rfl) (Nat.le_of_ble_eq_true rfl) ?_
  intro p e s m below meth c args A ls Q E hA w hl hret
  have hl : lv_has ls 6 [(0, .ref (q 0)), (1, .int (iI (a))), (2, .int (iI (b2))), (3, .int (iI (t2)))] := hl
  refine rp_aln E dX1_rides_0 rfl (lv_at hl 0 rfl) ?_
  refine rp_iln E dX1_rides_1 rfl (lv_at hl 1 rfl) ?_
  refine rp_iln E dX1_rides_2 rfl (lv_at hl 2 rfl) ?_
  refine rp_iln E dX1_rides_3 rfl (lv_at hl 3 rfl) ?_
  refine rp_calli (rest := []) E w hA (metX1_earliest lc D d0 q t oo th ok a b2 t2 ha hb2 ht2) (cwV 3 E.1.2.2.2.2 (lw_V q288 q251 q252 q26 q253) rfl rfl rfl (by decide +kernel) ⟨Nat.le_of_ble_eq_true rfl, Nat.le_of_ble_eq_true rfl⟩) (rm_rcv E w) rfl hl.1 rfl (Nat.le_of_ble_eq_true rfl) dX1_rides_4 ⟨Nat.zero_le _, Nat.zero_le _⟩ (fun v4 u4 H locs hp4 w => ?_)
  have fv : -1000000 ≤ v4 ∧ v4 ≤ 100000 := by
    rcases hp4 with h | ⟨hy, hu, h⟩
    · omega
    · have h9 := bsA_b (ms_b (a := a.toNat) (τ := t2) ok ⟨by omega, by omega⟩ (oo, th) 12).2 (b := b2.toNat) (by omega) 13 (by omega)
      rw [← hu] at h9
      omega
  refine rp_is (lv' := [(0, .ref (q 0)), (1, .int (iI (a))), (2, .int (iI (b2))), (3, .int (iI (t2))), (4, .int (iI (v4)))]) E [1, 2, 3, 4, 0] dX1_rides_7 hl (by decide) rfl (fun ls hl => ?_)
  refine rp_il E dX1_rides_9 (lv_at hl 4 rfl) ?_
  refine rp_fge (tgt := 17) E dX1_rides_11 (by decide) ⟨by omega, by omega⟩ (fun c11 => ?_) (fun c11 => ?_)
  · obtain ⟨hy, hu4, h4⟩ : (0 ≤ a ∧ a < 8 ∧ 0 ≤ b2 ∧ b2 < 8 ∧ 0 ≤ t2 ∧ t2 ≤ 1000) ∧ u4 = ms t a.toNat t2 (oo, th) 12 ∧ (v4 = bsA u4.2 b2.toNat 13 ∧ bsA u4.2 b2.toNat 13 ≠ 100000) := by
      rcases hp4 with h | ⟨hy, hu, h⟩
      · exact False.elim (by omega)
      · rcases h with h | h
        · exact False.elim (by have := h.1; omega)
        · exact ⟨hy, hu, h⟩
    obtain ⟨an, rfl⟩ : ∃ an : Nat, a = (an : Int) := ⟨a.toNat, by omega⟩
    obtain ⟨bn, rfl⟩ : ∃ bn : Nat, b2 = (bn : Int) := ⟨b2.toNat, by omega⟩
    have hu := ms_b (a := an) (τ := t2) ok ⟨by omega, by omega⟩ (oo, th) 12
    have hu4 : u4 = ms t an t2 (oo, th) 12 := hu4
    rw [← hu4] at hu
    have h4 : v4 = bsA u4.2 bn 13 ∧ bsA u4.2 bn 13 ≠ 100000 := h4
    clear hp4
    have loop : ∀ f k : Nat, k ≤ 12 → 12 < k + f → (∀ j, j < k → bsA u4.2 bn (j + 1) ≠ bsA u4.2 bn 13) → ∀ H locs, rp_H D A s.heap H locs (MW d0 q t ((u4).1) ((u4).2)) → ∀ ls, lv_has ls 6 [(0, .ref (q 0)), (2, .int (iI ((bn : Nat) : Int))), (4, .int (iI (v4))), (5, .int (iI ((k : Nat) : Int)))] → W p lc e (rp_r 4 103) s m args below meth c H locs 0 0 Q (F0 m 20 ls []) := by
      intro f
      induction f with
      | zero =>
        intro k h1 h2
        exact absurd h2 (by omega)
      | succ f ihloop =>
        intro k h1 h2 hj H locs w ls hl
        refine rp_il E dX1_rides_20 (lv_at hl 3 rfl) ?_
        refine rp_bi E (v := ((12 : Nat) : Int)) dX1_rides_22 (by decide) ?_
        refine rp_cge (tgt := 45) E dX1_rides_24 (by decide) ⟨by omega, by omega⟩ ⟨by omega, by omega⟩ (fun c24 => ?_) (fun c24 => ?_)
        · refine rp_il E dX1_rides_45 (lv_at hl 3 rfl) ?_
          exact hret _ _ _ u4 _ _ (Or.inr ⟨by omega, hu4, Or.inr (Or.inr ⟨k, rfl, h1, hj, by first | exact Or.inl (by omega) | exact Or.inr (show bsA u4.2 bn (k + 1) = bsA u4.2 bn 13 by omega), h4.2⟩)⟩) w dX1_rides_47
        · refine rp_aln E dX1_rides_27 rfl (lv_at hl 0 rfl) ?_
          refine rp_iln E dX1_rides_28 rfl (lv_at hl 1 rfl) ?_
          refine rp_il E dX1_rides_29 (lv_at hl 3 rfl) ?_
          refine rp_calli (rest := []) E w hA (metX1_best lc D d0 q t u4.1 u4.2 bn k (by omega) (by omega) (bR_le hu.2 (by omega))) (cwV 2 E.1.2.2.2.2 (lw_V q279 q281 qs23 q26 q282) rfl rfl rfl (by decide +kernel) ⟨Nat.le_of_ble_eq_true rfl, Nat.le_of_ble_eq_true rfl⟩) (rm_rcv E w) rfl hl.1 rfl (Nat.le_of_ble_eq_true rfl) dX1_rides_31 ⟨Nat.zero_le _, Nat.zero_le _⟩ (fun v9 u9 H locs hp9 w => ?_)
          have fb9 := bsA_b (bR_le hu.2 (k := (k + 1) * 8) (by omega)) (b := bn) (by omega) (k + 1) (by omega)
          rw [← hp9] at fb9
          refine rp_il E dX1_rides_34 (lv_at hl 2 rfl) ?_
          refine rp_ceq (tgt := 45) E dX1_rides_36 (by decide) ⟨by omega, by omega⟩ ⟨by omega, by omega⟩ (fun c36 => ?_) (fun c36 => ?_)
          · refine rp_il E dX1_rides_45 (lv_at hl 3 rfl) ?_
            exact hret _ _ _ u4 _ _ (Or.inr ⟨by omega, hu4, Or.inr (Or.inr ⟨k, rfl, h1, hj, by first | exact Or.inl (by omega) | exact Or.inr (show bsA u4.2 bn (k + 1) = bsA u4.2 bn 13 by omega), h4.2⟩)⟩) w dX1_rides_47
          · refine rp_iinc (v := ((k + 1 : Nat) : Int)) (lv' := [(0, .ref (q 0)), (2, .int (iI ((bn : Nat) : Int))), (4, .int (iI (v4))), (5, .int (iI ((k + 1 : Nat) : Int)))]) E [1, 2, 3, 0] dX1_rides_39 hl (k := 3) rfl (by omega) (by decide) rfl (fun ls hl => ?_)
            refine rp_goto (tgt := 20) E dX1_rides_42 (by decide) ?_
            exact ihloop (k + 1) (by omega) (by omega) (fun j hj2 => by rcases Nat.lt_succ_iff_lt_or_eq.mp hj2 with h | h; exact hj j h; (rw [h]; omega)) _ _ w ls hl
    refine rp_ic E (v := ((0 : Nat) : Int)) dX1_rides_17 rfl ?_
    refine rp_is (lv' := [(0, .ref (q 0)), (1, .int (iI ((an : Nat) : Int))), (2, .int (iI ((bn : Nat) : Int))), (3, .int (iI (t2))), (4, .int (iI (v4))), (5, .int (iI ((0 : Nat) : Int)))]) E [1, 2, 3, 4, 5, 0] dX1_rides_18 hl (by decide) rfl (fun ls hl => ?_)
    exact loop 13 0 (by omega) (by omega) (fun j hj => absurd hj (by omega)) _ _ w ls (lv_sub hl [0, 2, 4, 5] rfl)
  · have hp : ((v4 = -1 ∧ (a < 0 ∨ 8 ≤ a ∨ b2 < 0 ∨ 8 ≤ b2)) ∨ (v4 = -3 ∧ (0 ≤ a ∧ a < 8 ∧ 0 ≤ b2 ∧ b2 < 8) ∧ (t2 < 0 ∨ 1000 < t2))) ∨ ((0 ≤ a ∧ a < 8 ∧ 0 ≤ b2 ∧ b2 < 8 ∧ 0 ≤ t2 ∧ t2 ≤ 1000) ∧ u4 = ms t a.toNat t2 (oo, th) 12 ∧ ((v4 = -5 ∧ bsA u4.2 b2.toNat 13 = 100000) ∨ (v4 = bsA u4.2 b2.toNat 13 ∧ bsA u4.2 b2.toNat 13 < 0) ∨ (∃ k : Nat, v4 = (k : Int) ∧ k ≤ 12 ∧ (∀ j, j < k → bsA u4.2 b2.toNat (j + 1) ≠ bsA u4.2 b2.toNat 13) ∧ (k = 12 ∨ bsA u4.2 b2.toNat (k + 1) = bsA u4.2 b2.toNat 13) ∧ bsA u4.2 b2.toNat 13 ≠ 100000))) := by
      rcases hp4 with h | ⟨hy, hu, h⟩
      · exact Or.inl h
      · refine Or.inr ⟨hy, hu, ?_⟩
        rcases h with h | h
        · exact Or.inl h
        · exact Or.inr (Or.inl ⟨h.1, by have := h.1; omega⟩)
    refine rp_il E dX1_rides_14 (lv_at hl 4 rfl) ?_
    exact hret _ _ v4 u4 _ _ hp w dX1_rides_16
end
section
set_option maxRecDepth 100000
set_option maxHeartbeats 4000000 in
set_option maxRecDepth 100000 in
/-- latest -/
theorem metX1_latest (lc : Launch) (D : va_G) (d0 : ClassId) (q : Nat → Nat) (t : TT) (oo th : Nat → Int) (ok : tOk t) (a b2 t2 : Int) (ha : r32 a) (hb2 : r32 b2) (ht2 : r32 t2) : rp_MI lc D d0 yX1_latest cX1_latest 6 (some .int) (rp_r 2 53) [.ref (q 0), .int (iI (a)), .int (iI (b2)), .int (iI (t2))] (MW d0 q t oo th) (fun (v : Int) (u : MS) => ((v = -1 ∧ (a < 0 ∨ 8 ≤ a ∨ b2 < 0 ∨ 8 ≤ b2)) ∨ (v = -3 ∧ (0 ≤ a ∧ a < 8 ∧ 0 ≤ b2 ∧ b2 < 8) ∧ (t2 < 0 ∨ 1000 < t2))) ∨ ((0 ≤ a ∧ a < 8 ∧ 0 ≤ b2 ∧ b2 < 8 ∧ 0 ≤ t2 ∧ t2 ≤ 1000) ∧ ((v = -5 ∧ ∀ s : Int, 0 ≤ s → s ≤ t2 → (∃ μ : MS, t2 < bsA (ms t a.toNat s μ 8).2 b2.toNat 9)) ∨ ((0 ≤ v ∧ v ≤ t2) ∧ (∃ μ : MS, bsA (ms t a.toNat v μ 8).2 b2.toNat 9 ≤ t2) ∧ ∀ s : Int, v < s → s ≤ t2 → (∃ μ : MS, t2 < bsA (ms t a.toNat s μ 8).2 b2.toNat 9))))) (fun (u : MS) => MWs d0 q t u) := by
  refine rp_MI.of (by decide) rfl (fun v u h => rfl) (Nat.le_of_ble_eq_true rfl) ?_
  intro p e s m below meth c args A ls Q E hA w hl hret
  have hl : lv_has ls 6 [(0, .ref (q 0)), (1, .int (iI (a))), (2, .int (iI (b2))), (3, .int (iI (t2)))] := hl
  refine rp_aln E dX1_latest_0 rfl (lv_at hl 0 rfl) ?_
  refine rp_iln E dX1_latest_1 rfl (lv_at hl 1 rfl) ?_
  refine rp_iln E dX1_latest_2 rfl (lv_at hl 2 rfl) ?_
  refine rp_iln E dX1_latest_3 rfl (lv_at hl 3 rfl) ?_
  refine rp_calli (rest := []) E w hA (metX1_refusal lc D d0 q t oo th a b2 t2 ha hb2 ht2) (cwV 3 E.1.2.2.2.2 (lw_V q258 q260 qs18 q26 q261) rfl rfl rfl (by decide +kernel) ⟨Nat.le_of_ble_eq_true rfl, Nat.le_of_ble_eq_true rfl⟩) (rm_rcv E w) rfl hl.1 rfl (Nat.le_of_ble_eq_true rfl) dX1_latest_4 ⟨Nat.zero_le _, Nat.zero_le _⟩ (fun v4 u4 H locs hp4 w => ?_)
  refine rp_is (lv' := [(0, .ref (q 0)), (1, .int (iI (a))), (2, .int (iI (b2))), (3, .int (iI (t2))), (4, .int (iI (v4)))]) E [1, 2, 3, 4, 0] dX1_latest_7 hl (by decide) rfl (fun ls hl => ?_)
  refine rp_il E dX1_latest_9 (lv_at hl 4 rfl) ?_
  refine rp_fge (tgt := 17) E dX1_latest_11 (by decide) ⟨by omega, by omega⟩ (fun c11 => ?_) (fun c11 => ?_)
  · obtain ⟨an, rfl⟩ : ∃ an : Nat, a = (an : Int) := ⟨a.toNat, by omega⟩
    obtain ⟨bn, rfl⟩ : ∃ bn : Nat, b2 = (bn : Int) := ⟨b2.toNat, by omega⟩
    have loop : ∀ (f : Nat) (z : Int), -1 ≤ z → z ≤ t2 → z + 1 < (f : Int) → (∀ y : Int, z < y → y ≤ t2 → (∃ μ : MS, t2 < bsA (ms t an y μ 8).2 bn 9)) → ∀ μ : MS, ∀ H locs, rp_H D A s.heap H locs (MW d0 q t μ.1 μ.2) → ∀ ls, lv_has ls 6 [(0, .ref (q 0)), (1, .int (iI ((an : Nat) : Int))), (2, .int (iI ((bn : Nat) : Int))), (3, .int (iI (t2))), (5, .int (iI (z)))] → W p lc e (rp_r 2 53) s m args below meth c H locs 0 0 Q (F0 m 20 ls []) := by
      intro f
      induction f with
      | zero =>
        intro z h1 h2 h3
        exact absurd h3 (by omega)
      | succ f ih =>
        intro z h1 h2 h3 hz μ H locs w ls hl
        refine rp_il E dX1_latest_20 (lv_at hl 4 rfl) ?_
        refine rp_flt (tgt := 54) E dX1_latest_22 (by decide) ⟨by omega, by omega⟩ (fun c22 => ?_) (fun c22 => ?_)
        · refine rp_bi E (v := (-5)) dX1_latest_54 (by decide) ?_
          exact hret _ _ (-5) μ _ _ (Or.inr ⟨by omega, Or.inl ⟨by omega, fun y h8 h9 => hz y (by omega) h9⟩⟩) w dX1_latest_56
        · refine rp_aln E dX1_latest_25 rfl (lv_at hl 0 rfl) ?_
          refine rp_iln E dX1_latest_26 rfl (lv_at hl 1 rfl) ?_
          refine rp_il E dX1_latest_27 (lv_at hl 4 rfl) ?_
          refine rp_bi E (v := ((8 : Nat) : Int)) dX1_latest_29 (by decide) ?_
          refine rp_callv (rest := []) E w hA (metX1_search lc D d0 q t μ.1 μ.2 ok an z 8 (by omega) ⟨by omega, by omega⟩ (by omega)) (cwV 3 E.1.2.2.2.2 (lw_V q266 q268 qs20 q26 q269) rfl rfl rfl (by decide +kernel) ⟨Nat.le_of_ble_eq_true rfl, Nat.le_of_ble_eq_true rfl⟩) (rm_rcv E w) rfl hl.1 rfl (Nat.le_of_ble_eq_true rfl) dX1_latest_31 ⟨Nat.zero_le _, Nat.zero_le _⟩ (fun u7 H locs hp7 w => ?_)
          have hu := ms_b (a := an) (τ := z) ok ⟨by omega, by omega⟩ μ 8
          have w : rp_H D A s.heap H locs (MWs d0 q t (ms t an z μ 8)) := w
          refine rp_aln E dX1_latest_34 rfl (lv_at hl 0 rfl) ?_
          refine rp_iln E dX1_latest_35 rfl (lv_at hl 2 rfl) ?_
          refine rp_bi E (v := ((8 : Nat) : Int)) dX1_latest_36 (by decide) ?_
          refine rp_calli (rest := []) E w hA (metX1_best lc D d0 q t ((ms t an z μ 8).1) ((ms t an z μ 8).2) bn (8) (by omega) (by omega) hu.2) (cwV 2 E.1.2.2.2.2 (lw_V q279 q281 qs23 q26 q282) rfl rfl rfl (by decide +kernel) ⟨Nat.le_of_ble_eq_true rfl, Nat.le_of_ble_eq_true rfl⟩) (rm_rcv E w) rfl hl.1 rfl (Nat.le_of_ble_eq_true rfl) dX1_latest_38 ⟨Nat.zero_le _, Nat.zero_le _⟩ (fun v9 u9 H locs hp9 w => ?_)
          have fb9 := bsA_b hu.2 (b := bn) (by omega) (8 + 1) (by omega)
          rw [← hp9] at fb9
          have hp9 : v9 = bsA (ms t an z μ 8).2 bn 9 := hp9
          refine rp_iln E dX1_latest_41 rfl (lv_at hl 3 rfl) ?_
          refine rp_cgt (tgt := 48) E dX1_latest_42 (by decide) ⟨by omega, by omega⟩ ⟨by omega, by omega⟩ (fun c42 => ?_) (fun c42 => ?_)
          · refine rp_iinc (v := (z - 1)) (lv' := [(0, .ref (q 0)), (1, .int (iI ((an : Nat) : Int))), (2, .int (iI ((bn : Nat) : Int))), (3, .int (iI (t2))), (5, .int (iI (z - 1)))]) E [1, 2, 3, 4, 0] dX1_latest_48 hl (k := 4) rfl (by omega) (by decide) rfl (fun ls hl => ?_)
            refine rp_goto (tgt := 20) E dX1_latest_51 (by decide) ?_
            exact ih (z - 1) (by omega) (by omega) (by omega) (fun y h8 h9 => by rcases Int.lt_or_eq_of_le (show z ≤ y by omega) with h | h; exact hz y h h9; (subst h; exact ⟨μ, by omega⟩)) (ms t an z μ 8) _ _ w ls hl
          · refine rp_il E dX1_latest_45 (lv_at hl 4 rfl) ?_
            exact hret _ _ z (ms t an z μ 8) _ _ (Or.inr ⟨by omega, Or.inr ⟨by omega, ⟨μ, show bsA (ms t an z μ 8).2 bn 9 ≤ t2 by omega⟩, hz⟩⟩) w dX1_latest_47
    refine rp_iln E dX1_latest_17 rfl (lv_at hl 3 rfl) ?_
    refine rp_is (lv' := [(0, .ref (q 0)), (1, .int (iI ((an : Nat) : Int))), (2, .int (iI ((bn : Nat) : Int))), (3, .int (iI (t2))), (4, .int (iI (v4))), (5, .int (iI (t2)))]) E [1, 2, 3, 4, 5, 0] dX1_latest_18 hl (by decide) rfl (fun ls hl => ?_)
    exact loop (t2.toNat + 2) t2 (by omega) (by omega) (by omega) (fun y h8 h9 => absurd h9 (by omega)) (oo, th) _ _ w ls (lv_sub hl [0, 1, 2, 3, 5] rfl)
  · refine rp_il E dX1_latest_14 (lv_at hl 4 rfl) ?_
    exact hret _ _ v4 (oo, th) _ _ (Or.inl (by omega)) w dX1_latest_16
set_option maxHeartbeats 4000000 in
set_option maxRecDepth 100000 in
/-- within -/
theorem metX1_within (lc : Launch) (D : va_G) (d0 : ClassId) (q : Nat → Nat) (t : TT) (oo th : Nat → Int) (ok : tOk t) (a t2 un : Int) (ha : r32 a) (ht2 : r32 t2) (hun : r32 un) : rp_MI lc D d0 yX1_within cX1_within 7 (some .int) (rp_r 2 53) [.ref (q 0), .int (iI (a)), .int (iI (t2)), .int (iI (un))] (MW d0 q t oo th) (fun (v : Int) (u : MS) => ((v = -1 ∧ (a < 0 ∨ 8 ≤ a ∨ a < 0 ∨ 8 ≤ a)) ∨ (v = -3 ∧ (0 ≤ a ∧ a < 8 ∧ 0 ≤ a ∧ a < 8) ∧ (t2 < 0 ∨ 1000 < t2))) ∨ ((0 ≤ a ∧ a < 8 ∧ 0 ≤ a ∧ a < 8 ∧ 0 ≤ t2 ∧ t2 ≤ 1000) ∧ (un < 0 ∨ 1000 < un) ∧ v = -3) ∨ ((0 ≤ a ∧ a < 8 ∧ 0 ≤ a ∧ a < 8 ∧ 0 ≤ t2 ∧ t2 ≤ 1000) ∧ (0 ≤ un ∧ un ≤ 1000) ∧ u = ms t a.toNat t2 (oo, th) 12 ∧ v = ((wn (fun s => bsA u.2 s 13) un 8 : Nat) : Int))) (fun (u : MS) => MWs d0 q t u) := by
  refine rp_MI.of (by decide) rfl (fun v u h => rfl) (Nat.le_of_ble_eq_true rfl) ?_
  intro p e s m below meth c args A ls Q E hA w hl hret
  have hl : lv_has ls 7 [(0, .ref (q 0)), (1, .int (iI (a))), (2, .int (iI (t2))), (3, .int (iI (un)))] := hl
  refine rp_aln E dX1_within_0 rfl (lv_at hl 0 rfl) ?_
  refine rp_iln E dX1_within_1 rfl (lv_at hl 1 rfl) ?_
  refine rp_iln E dX1_within_2 rfl (lv_at hl 1 rfl) ?_
  refine rp_iln E dX1_within_3 rfl (lv_at hl 2 rfl) ?_
  refine rp_calli (rest := []) E w hA (metX1_refusal lc D d0 q t oo th a a t2 ha ha ht2) (cwV 3 E.1.2.2.2.2 (lw_V q258 q260 qs18 q26 q261) rfl rfl rfl (by decide +kernel) ⟨Nat.le_of_ble_eq_true rfl, Nat.le_of_ble_eq_true rfl⟩) (rm_rcv E w) rfl hl.1 rfl (Nat.le_of_ble_eq_true rfl) dX1_within_4 ⟨Nat.zero_le _, Nat.zero_le _⟩ (fun v4 u4 H locs hp4 w => ?_)
  refine rp_is (lv' := [(0, .ref (q 0)), (1, .int (iI (a))), (2, .int (iI (t2))), (3, .int (iI (un))), (4, .int (iI (v4)))]) E [1, 2, 3, 4, 0] dX1_within_7 hl (by decide) rfl (fun ls hl => ?_)
  refine rp_il E dX1_within_9 (lv_at hl 4 rfl) ?_
  refine rp_fge (tgt := 17) E dX1_within_11 (by decide) ⟨by omega, by omega⟩ (fun c11 => ?_) (fun c11 => ?_)
  · obtain ⟨an, rfl⟩ : ∃ an : Nat, a = (an : Int) := ⟨a.toNat, by omega⟩
    refine rp_aln E dX1_within_17 rfl (lv_at hl 0 rfl) ?_
    refine rp_iln E dX1_within_18 rfl (lv_at hl 3 rfl) ?_
    refine rp_calli (rest := []) E w hA (metX1_isTime lc D d0 q t oo th un hun) (cwV 1 E.1.2.2.2.2 (lw_V q262 q264 qs19 q26 q265) rfl rfl rfl (by decide +kernel) ⟨Nat.le_of_ble_eq_true rfl, Nat.le_of_ble_eq_true rfl⟩) (rm_rcv E w) rfl hl.1 rfl (Nat.le_of_ble_eq_true rfl) dX1_within_19 ⟨Nat.zero_le _, Nat.zero_le _⟩ (fun v19 u19 H locs hp19 w => ?_)
    refine rp_fne (tgt := 28) E dX1_within_22 (by decide) ⟨by omega, by omega⟩ (fun c22 => ?_) (fun c22 => ?_)
    · refine rp_aln E dX1_within_28 rfl (lv_at hl 0 rfl) ?_
      refine rp_iln E dX1_within_29 rfl (lv_at hl 1 rfl) ?_
      refine rp_iln E dX1_within_30 rfl (lv_at hl 2 rfl) ?_
      refine rp_bi E (v := ((12 : Nat) : Int)) dX1_within_31 (by decide) ?_
      refine rp_callv (rest := []) E w hA (metX1_search lc D d0 q t oo th ok an t2 12 (by omega) ⟨by omega, by omega⟩ (by omega)) (cwV 3 E.1.2.2.2.2 (lw_V q266 q268 qs20 q26 q269) rfl rfl rfl (by decide +kernel) ⟨Nat.le_of_ble_eq_true rfl, Nat.le_of_ble_eq_true rfl⟩) (rm_rcv E w) rfl hl.1 rfl (Nat.le_of_ble_eq_true rfl) dX1_within_33 ⟨Nat.zero_le _, Nat.zero_le _⟩ (fun u7 H locs hp7 w => ?_)
      have hu := ms_b (a := an) (τ := t2) ok ⟨by omega, by omega⟩ (oo, th) 12
      obtain ⟨u7, eu⟩ : ∃ u7, u7 = ms t an t2 (oo, th) 12 := ⟨_, rfl⟩
      rw [← eu] at w hu
      have loop : ∀ f k : Nat, k ≤ 8 → 8 < k + f → ∀ H locs, rp_H D A s.heap H locs (MW d0 q t ((u7).1) ((u7).2)) → ∀ ls, lv_has ls 7 [(0, .ref (q 0)), (3, .int (iI (un))), (5, .int (iI ((wn (fun s => bsA u7.2 s 13) un k : Nat) : Int))), (6, .int (iI ((k : Nat) : Int)))] → W p lc e (rp_r 2 53) s m args below meth c H locs 0 0 Q (F0 m 42 ls []) := by
        intro f
        induction f with
        | zero =>
          intro k h1 h2
          exact absurd h2 (by omega)
        | succ f ihloop =>
          intro k h1 h2 H locs w ls hl
          refine rp_il E dX1_within_42 (lv_at hl 3 rfl) ?_
          refine rp_bi E (v := ((8 : Nat) : Int)) dX1_within_44 (by decide) ?_
          refine rp_cge (tgt := 70) E dX1_within_46 (by decide) ⟨by omega, by omega⟩ ⟨by omega, by omega⟩ (fun c46 => ?_) (fun c46 => ?_)
          · refine rp_il E dX1_within_70 (lv_at hl 2 rfl) ?_
            exact hret _ _ _ u7 _ _ (Or.inr (Or.inr ⟨by omega, by omega, eu, by rw [← show k = 8 by omega]⟩)) w dX1_within_72
          · refine rp_aln E dX1_within_49 rfl (lv_at hl 0 rfl) ?_
            refine rp_il E dX1_within_50 (lv_at hl 3 rfl) ?_
            refine rp_bi E (v := ((12 : Nat) : Int)) dX1_within_52 (by decide) ?_
            refine rp_calli (rest := []) E w hA (metX1_best lc D d0 q t u7.1 u7.2 k 12 (by omega) (by omega) hu.2) (cwV 2 E.1.2.2.2.2 (lw_V q279 q281 qs23 q26 q282) rfl rfl rfl (by decide +kernel) ⟨Nat.le_of_ble_eq_true rfl, Nat.le_of_ble_eq_true rfl⟩) (rm_rcv E w) rfl hl.1 rfl (Nat.le_of_ble_eq_true rfl) dX1_within_54 ⟨Nat.zero_le _, Nat.zero_le _⟩ (fun v9 u9 H locs hp9 w => ?_)
            have hp9 : v9 = bsA u7.2 k 13 := hp9
            have fb9 := bsA_b hu.2 (b := k) (by omega) 13 (by omega)
            rw [← hp9] at fb9
            refine rp_iln E dX1_within_57 rfl (lv_at hl 1 rfl) ?_
            refine rp_cgt (tgt := 64) E dX1_within_58 (by decide) ⟨by omega, by omega⟩ ⟨by omega, by omega⟩ (fun c58 => ?_) (fun c58 => ?_)
            · refine rp_iinc (v := ((k + 1 : Nat) : Int)) (lv' := [(0, .ref (q 0)), (3, .int (iI (un))), (5, .int (iI ((wn (fun s => bsA u7.2 s 13) un k : Nat) : Int))), (6, .int (iI ((k + 1 : Nat) : Int)))]) E [1, 2, 3, 0] dX1_within_64 hl (k := 3) rfl (by omega) (by decide) rfl (fun ls hl => ?_)
              refine rp_goto (tgt := 42) E dX1_within_67 (by decide) ?_
              exact ihloop (k + 1) (by omega) (by omega) _ _ w ls (by rw [wn, if_neg (show ¬ bsA u7.2 k 13 ≤ un by omega)]; exact hl)
            · refine rp_iinc (v := ((wn (fun s => bsA u7.2 s 13) un k + 1 : Nat) : Int)) (lv' := [(0, .ref (q 0)), (3, .int (iI (un))), (5, .int (iI ((wn (fun s => bsA u7.2 s 13) un k + 1 : Nat) : Int))), (6, .int (iI ((k : Nat) : Int)))]) E [1, 2, 0, 3] dX1_within_61 hl (k := 2) rfl (by omega) (by decide) rfl (fun ls hl => ?_)
              refine rp_iinc (v := ((k + 1 : Nat) : Int)) (lv' := [(0, .ref (q 0)), (3, .int (iI (un))), (5, .int (iI ((wn (fun s => bsA u7.2 s 13) un k + 1 : Nat) : Int))), (6, .int (iI ((k + 1 : Nat) : Int)))]) E [1, 2, 3, 0] dX1_within_64 hl (k := 3) rfl (by omega) (by decide) rfl (fun ls hl => ?_)
              refine rp_goto (tgt := 42) E dX1_within_67 (by decide) ?_
              exact ihloop (k + 1) (by omega) (by omega) _ _ w ls (by rw [wn, if_pos (show bsA u7.2 k 13 ≤ un by omega)]; exact hl)
      refine rp_ic E (v := ((0 : Nat) : Int)) dX1_within_36 rfl ?_
      refine rp_is (lv' := [(0, .ref (q 0)), (1, .int (iI ((an : Nat) : Int))), (2, .int (iI (t2))), (3, .int (iI (un))), (4, .int (iI (v4))), (5, .int (iI ((0 : Nat) : Int)))]) E [1, 2, 3, 4, 5, 0] dX1_within_37 hl (by decide) rfl (fun ls hl => ?_)
      refine rp_ic E (v := ((0 : Nat) : Int)) dX1_within_39 rfl ?_
      refine rp_is (lv' := [(0, .ref (q 0)), (1, .int (iI ((an : Nat) : Int))), (2, .int (iI (t2))), (3, .int (iI (un))), (4, .int (iI (v4))), (5, .int (iI ((0 : Nat) : Int))), (6, .int (iI ((0 : Nat) : Int)))]) E [1, 2, 3, 4, 5, 6, 0] dX1_within_40 hl (by decide) rfl (fun ls hl => ?_)
      exact loop 9 0 (by omega) (by omega) _ _ w ls (by rw [wn]; exact (lv_sub hl [0, 3, 5, 6] rfl))
    · refine rp_bi E (v := (-3)) dX1_within_25 (by decide) ?_
      exact hret _ _ (-3) (oo, th) _ _ (Or.inr (Or.inl ⟨by omega, by omega, by omega⟩)) w dX1_within_27
  · refine rp_il E dX1_within_14 (lv_at hl 4 rfl) ?_
    exact hret _ _ v4 (oo, th) _ _ (Or.inl (by omega)) w dX1_within_16
end
section
/-! journeys: with just k rides from (a, z) to s by τ; eight rides are enough; forward and backward agree -/
set_option maxRecDepth 100000
def okR (t : TT) (c i j : Nat) : Prop := c < tT t ∧ i < j ∧ j < tSz t (tLo t c)
def pS (t : TT) (c i : Nat) : Nat := tSt t (tLo t c * 6 + i)
def pT (t : TT) (c i : Nat) : Int := tSo t c + tOg t (tLo t c * 6 + i)
theorem pS_b {t : TT} (h : tOk t) (c i : Nat) : pS t c i < 8 := tk_St h _
theorem pT_b {t : TT} (h : tOk t) (c i : Nat) : 0 ≤ pT t c i ∧ pT t c i ≤ 650 := by
  have h1 := tk_So h c
  have h2 := tk_Og h (tLo t c * 6 + i)
  unfold pT
  omega
theorem og_mono {t : TT} (h : tOk t) (l i : Nat) : ∀ d, i + d < tSz t l → tOg t (l * 6 + i) ≤ tOg t (l * 6 + (i + d))
  | 0, _ => Int.le_refl _
  | d + 1, hd => by
    have h1 := og_mono h l i d (by omega)
    have h2 := tk_mono h (l := l) (i := i + d) (by omega)
    rw [show l * 6 + (i + (d + 1)) = l * 6 + (i + d) + 1 by omega]
    omega
theorem pT_mono {t : TT} (h : tOk t) {c i j : Nat} (o : okR t c i j) : pT t c i ≤ pT t c j := by
  obtain ⟨o1, o2, o3⟩ := o
  have h1 := og_mono h (tLo t c) i (j - i) (by omega)
  rw [show i + (j - i) = j by omega] at h1
  unfold pT
  omega
/-- from u at σ to v by τ, on foot or there already -/
def wk1 (t : TT) (u : Nat) (σ : Int) (v : Nat) (τ : Int) : Prop := (u = v ∧ σ ≤ τ) ∨ (0 < tWk t (u * 8 + v) ∧ σ + tWk t (u * 8 + v) ≤ τ)
theorem wk1_r {t : TT} {u v : Nat} {σ τ τ' : Int} (h : wk1 t u σ v τ) (hτ : τ ≤ τ') : wk1 t u σ v τ' := by
  rcases h with h | h
  · exact Or.inl ⟨h.1, by omega⟩
  · exact Or.inr ⟨h.1, by omega⟩
theorem wk1_l {t : TT} {u v : Nat} {σ σ' τ : Int} (h : wk1 t u σ v τ) (hσ : σ' ≤ σ) : wk1 t u σ' v τ := by
  rcases h with h | h
  · exact Or.inl ⟨h.1, by omega⟩
  · exact Or.inr ⟨h.1, by omega⟩
theorem wk1_le {t : TT} {u v : Nat} {σ τ : Int} (h : wk1 t u σ v τ) : σ ≤ τ := by
  rcases h with h | h <;> omega
def Thr (t : TT) (a : Nat) (z : Int) : Nat → Nat → Int → Prop
  | 0, v, τ => wk1 t a z v τ
  | k + 1, v, τ => ∃ c i j, okR t c i j ∧ Thr t a z k (pS t c i) (pT t c i) ∧ wk1 t (pS t c j) (pT t c j) v τ
def BThr (t : TT) (b : Nat) (y : Int) : Nat → Nat → Int → Prop
  | 0, u, σ => wk1 t u σ b y
  | k + 1, u, σ => ∃ c i j, okR t c i j ∧ wk1 t u σ (pS t c i) (pT t c i) ∧ BThr t b y k (pS t c j) (pT t c j)
theorem Thr_mono {t : TT} {a : Nat} {z : Int} {k v : Nat} {τ τ' : Int} (h : Thr t a z k v τ) (hτ : τ ≤ τ') : Thr t a z k v τ' := by
  cases k with
  | zero => exact wk1_r h hτ
  | succ k =>
    obtain ⟨c, i, j, o, h1, h2⟩ := h
    exact ⟨c, i, j, o, h1, wk1_r h2 hτ⟩
theorem BThr_anti {t : TT} {b : Nat} {y : Int} {k u : Nat} {σ σ' : Int} (h : BThr t b y k u σ) (hσ : σ' ≤ σ) : BThr t b y k u σ' := by
  cases k with
  | zero => exact wk1_l h hσ
  | succ k =>
    obtain ⟨c, i, j, o, h1, h2⟩ := h
    exact ⟨c, i, j, o, wk1_l h1 hσ, h2⟩
theorem Thr_nn {t : TT} (ok : tOk t) {a : Nat} {z : Int} (hz : 0 ≤ z) {k v : Nat} {τ : Int} (h : Thr t a z k v τ) : 0 ≤ τ := by
  cases k with
  | zero =>
    have h1 := wk1_le h
    omega
  | succ k =>
    obtain ⟨c, i, j, o, h1, h2⟩ := h
    have h3 := wk1_le h2
    have h4 := pT_b ok c j
    omega
theorem wk1_fin {t : TT} (ok : tOk t) {u v : Nat} {σ τ : Int} (h : wk1 t u σ v τ) (hσ : σ ≤ 1000) : wk1 t u σ v 1030 := by
  have h1 := tk_Wk ok (u * 8 + v)
  rcases h with h | h
  · exact Or.inl ⟨h.1, by omega⟩
  · exact Or.inr ⟨h.1, by omega⟩
theorem Thr_fin {t : TT} (ok : tOk t) {a : Nat} {z : Int} (hz : z ≤ 1000) {k v : Nat} {τ : Int} (h : Thr t a z k v τ) : Thr t a z k v 1030 := by
  cases k with
  | zero => exact wk1_fin ok h hz
  | succ k =>
    obtain ⟨c, i, j, o, h1, h2⟩ := h
    have h4 := pT_b ok c j
    exact ⟨c, i, j, o, h1, wk1_fin ok h2 (by omega)⟩
theorem BThr_le {t : TT} (ok : tOk t) {b : Nat} {y : Int} : ∀ (k u : Nat) (σ : Int), BThr t b y k u σ → σ ≤ y
  | 0, u, σ, h => wk1_le h
  | k + 1, u, σ, h => by
    obtain ⟨c, i, j, o, h1, h2⟩ := h
    have h3 := BThr_le ok k _ _ h2
    have h4 := wk1_le h1
    have h5 := pT_mono ok o
    omega
theorem Thr_pred {t : TT} (ok : tOk t) {a : Nat} {z : Int} {n v : Nat} {τ : Int} (h : Thr t a z (n + 1) v τ) : ∃ (u : Nat) (θ : Int), u < 8 ∧ Thr t a z n u θ ∧ θ ≤ τ ∧ ∀ j, Thr t a z j u θ → Thr t a z (j + 1) v τ := by
  obtain ⟨c, i, j, o, h1, h2⟩ := h
  have h3 := wk1_le h2
  have h4 := pT_mono ok o
  exact ⟨pS t c i, pT t c i, pS_b ok c i, h1, by omega, fun k hk => ⟨c, i, j, o, hk, h2⟩⟩
theorem pig : ∀ (n : Nat) (p : Nat → Nat), (∀ i, i ≤ n → p i < n) → ∃ i j, i < j ∧ j ≤ n ∧ p i = p j
  | 0, p, h => absurd (h 0 (by omega)) (by omega)
  | n + 1, p, h => by
    by_cases hx : ∃ i, i ≤ n ∧ p i = p (n + 1)
    · obtain ⟨i, h1, h2⟩ := hx
      exact ⟨i, n + 1, by omega, by omega, h2⟩
    · have hne : ∀ i, i ≤ n → p i ≠ p (n + 1) := fun i hi e => hx ⟨i, hi, e⟩
      have hl := h (n + 1) (by omega)
      obtain ⟨i, j, h1, h2, h3⟩ := pig n (fun i => if p i < p (n + 1) then p i else p i - 1) (fun i hi => by
        have h4 := h i (by omega)
        have h5 := hne i hi
        show (if p i < p (n + 1) then p i else p i - 1) < n
        split <;> omega)
      refine ⟨i, j, h1, by omega, ?_⟩
      have h3 : (if p i < p (n + 1) then p i else p i - 1) = (if p j < p (n + 1) then p j else p j - 1) := h3
      have h4 := hne i (by omega)
      have h5 := hne j (by omega)
      split at h3 <;> split at h3 <;> omega
theorem chain {t : TT} (ok : tOk t) {a : Nat} {z : Int} : ∀ (n v : Nat) (τ : Int), v < 8 → Thr t a z n v τ → ∃ (p : Nat → Nat) (θ : Nat → Int), p n = v ∧ θ n = τ ∧ (∀ i, i ≤ n → p i < 8) ∧ (∀ i, i ≤ n → Thr t a z i (p i) (θ i)) ∧ ∀ i, i < n → θ i ≤ θ (i + 1) ∧ ∀ j, Thr t a z j (p i) (θ i) → Thr t a z (j + 1) (p (i + 1)) (θ (i + 1))
  | 0, v, τ, hv, h => ⟨fun _ => v, fun _ => τ, rfl, rfl, fun _ _ => hv, fun i hi => by rw [show i = 0 by omega]; exact h, fun i hi => absurd hi (by omega)⟩
  | n + 1, v, τ, hv, h => by
    obtain ⟨u, θ', hu, h1, h2, h3⟩ := Thr_pred ok h
    obtain ⟨p, θ, e1, e2, g1, g2, g3⟩ := chain ok n u θ' hu h1
    refine ⟨fun i => if i ≤ n then p i else v, fun i => if i ≤ n then θ i else τ, if_neg (by omega), if_neg (by omega), fun i hi => ?_, fun i hi => ?_, fun i hi => ?_⟩
    · show (if i ≤ n then p i else v) < 8
      split
      · exact g1 i (by assumption)
      · exact hv
    · show Thr t a z i (if i ≤ n then p i else v) (if i ≤ n then θ i else τ)
      by_cases hn : i ≤ n
      · rw [if_pos hn, if_pos hn]
        exact g2 i hn
      · rw [if_neg hn, if_neg hn, show i = n + 1 by omega]
        exact h
    · show (if i ≤ n then θ i else τ) ≤ (if i + 1 ≤ n then θ (i + 1) else τ) ∧ ∀ j, Thr t a z j (if i ≤ n then p i else v) (if i ≤ n then θ i else τ) → Thr t a z (j + 1) (if i + 1 ≤ n then p (i + 1) else v) (if i + 1 ≤ n then θ (i + 1) else τ)
      rw [if_pos (show i ≤ n by omega), if_pos (show i ≤ n by omega)]
      by_cases hn : i + 1 ≤ n
      · rw [if_pos hn, if_pos hn]
        exact g3 i (by omega)
      · rw [if_neg hn, if_neg hn, show i = n by omega, e1, e2]
        exact ⟨h2, h3⟩
theorem chain_go {t : TT} {a : Nat} {z : Int} {n : Nat} {p : Nat → Nat} {θ : Nat → Int} (g : ∀ i, i < n → θ i ≤ θ (i + 1) ∧ ∀ j, Thr t a z j (p i) (θ i) → Thr t a z (j + 1) (p (i + 1)) (θ (i + 1))) (i : Nat) : ∀ d, i + d ≤ n → θ i ≤ θ (i + d) ∧ ∀ j, Thr t a z j (p i) (θ i) → Thr t a z (j + d) (p (i + d)) (θ (i + d))
  | 0, _ => ⟨Int.le_refl _, fun j h => h⟩
  | d + 1, hd => by
    have h1 := chain_go g i d (by omega)
    have h2 := g (i + d) (by omega)
    refine ⟨Int.le_trans h1.1 h2.1, fun j hj => ?_⟩
    exact h2.2 (j + d) (h1.2 j hj)
theorem sat {t : TT} (ok : tOk t) {a : Nat} {z : Int} (n : Nat) : ∀ (v : Nat) (τ : Int), v < 8 → Thr t a z n v τ → ∃ j, j ≤ 7 ∧ Thr t a z j v τ := by
  induction n using Nat.strongRecOn with
  | ind n ih =>
    intro v τ hv h
    by_cases hn : n ≤ 7
    · exact ⟨n, hn, h⟩
    · obtain ⟨p, θ, e1, e2, g1, g2, g3⟩ := chain ok n v τ hv h
      obtain ⟨i, j, h1, h2, h3⟩ := pig 8 p (fun i hi => g1 i (by omega))
      have h4 := (chain_go g3 i (j - i) (by omega)).1
      rw [show i + (j - i) = j by omega] at h4
      have h5 := g2 i (by omega)
      rw [h3] at h5
      have h6 := (chain_go g3 j (n - j) (by omega)).2 i (Thr_mono h5 h4)
      rw [show j + (n - j) = n by omega, e1, e2] at h6
      exact ih (i + (n - j)) (by omega) v τ hv h6
/-- a ride in the middle: k rides before, m behind -/
def Mid (t : TT) (a : Nat) (z : Int) (b : Nat) (y : Int) (k m : Nat) : Prop := ∃ c i j, okR t c i j ∧ Thr t a z k (pS t c i) (pT t c i) ∧ BThr t b y m (pS t c j) (pT t c j)
theorem Mid_s {t : TT} {a : Nat} {z : Int} {b : Nat} {y : Int} (k m : Nat) : Mid t a z b y (k + 1) m ↔ Mid t a z b y k (m + 1) := by
  constructor
  · rintro ⟨c2, i2, j2, o2, ⟨c1, i1, j1, o1, h1, h2⟩, h3⟩
    exact ⟨c1, i1, j1, o1, h1, c2, i2, j2, o2, h2, h3⟩
  · rintro ⟨c1, i1, j1, o1, h1, c2, i2, j2, o2, h2, h3⟩
    exact ⟨c2, i2, j2, o2, ⟨c1, i1, j1, o1, h1, h2⟩, h3⟩
theorem Mid_0 {t : TT} {a : Nat} {z : Int} {b : Nat} {y : Int} : ∀ k m : Nat, Mid t a z b y k m ↔ Mid t a z b y 0 (k + m)
  | 0, m => by rw [Nat.zero_add]
  | k + 1, m => by
    rw [Mid_s k m, Mid_0 k (m + 1), show k + (m + 1) = k + 1 + m by omega]
theorem dual {t : TT} {a : Nat} {z : Int} {b : Nat} {y : Int} (k : Nat) : Thr t a z k b y ↔ BThr t b y k a z := by
  cases k with
  | zero => exact Iff.rfl
  | succ k =>
    have h := Mid_0 (t := t) (a := a) (z := z) (b := b) (y := y) k 0
    exact h
end
section
/-! what the class's rounds forward hold -/
set_option maxRecDepth 100000
theorem wB_s (t : TT) (ri : Nat → Int) (s : Nat) (τ : Int) : ∀ n, wB t ri s n ≤ τ ↔ ri s ≤ τ ∨ ∃ u, u < n ∧ 0 < tWk t (u * 8 + s) ∧ ri u + tWk t (u * 8 + s) ≤ τ
  | 0 => by
    rw [wB]
    constructor
    · exact Or.inl
    · rintro (h | ⟨u, h, -⟩)
      · exact h
      · omega
  | n + 1 => by
    have ih := wB_s t ri s τ n
    rw [wB]
    split
    · rename_i hc
      constructor
      · intro h
        exact Or.inr ⟨n, by omega, hc.1, h⟩
      · rintro (h | ⟨u, h1, h2, h3⟩)
        · have := ih.mpr (Or.inl h)
          omega
        · by_cases hu : u = n
          · rw [hu] at h3
            exact h3
          · have := ih.mpr (Or.inr ⟨u, by omega, h2, h3⟩)
            omega
    · rename_i hc
      constructor
      · intro h
        rcases ih.mp h with h | ⟨u, h1, h2⟩
        · exact Or.inl h
        · exact Or.inr ⟨u, by omega, h2⟩
      · rintro (h | ⟨u, h1, h2, h3⟩)
        · exact ih.mpr (Or.inl h)
        · by_cases hu : u = n
          · rw [hu] at h2 h3
            omega
          · exact ih.mpr (Or.inr ⟨u, by omega, h2, h3⟩)
theorem wk_F {t : TT} (ok : tOk t) {F : Int} {ri : Nat → Int} {P : Nat → Int → Prop} (h : ∀ s, s < 8 → ∀ τ, τ < F → (ri s ≤ τ ↔ P s τ)) {s : Nat} {τ : Int} (hs : s < 8) (hτ : τ < F) : wB t ri s 8 ≤ τ ↔ P s τ ∨ ∃ u, u < 8 ∧ 0 < tWk t (u * 8 + s) ∧ P u (τ - tWk t (u * 8 + s)) := by
  rw [wB_s, h s hs τ hτ]
  constructor
  · rintro (h1 | ⟨u, h1, h2, h3⟩)
    · exact Or.inl h1
    · exact Or.inr ⟨u, h1, h2, (h u h1 _ (by omega)).mp (by omega)⟩
  · rintro (h1 | ⟨u, h1, h2, h3⟩)
    · exact Or.inl h1
    · have := (h u h1 _ (by omega)).mpr h3
      exact Or.inr ⟨u, h1, h2, by omega⟩
/-- the footpath behind a ride -/
theorem wk_R {t : TT} {Q : Nat → Nat → Prop} (ok : tOk t) {s : Nat} {τ : Int} : ((∃ c i j, okR t c i j ∧ Q c i ∧ pS t c j = s ∧ pT t c j ≤ τ) ∨ ∃ u, u < 8 ∧ 0 < tWk t (u * 8 + s) ∧ ∃ c i j, okR t c i j ∧ Q c i ∧ pS t c j = u ∧ pT t c j ≤ τ - tWk t (u * 8 + s)) ↔ ∃ c i j, okR t c i j ∧ Q c i ∧ wk1 t (pS t c j) (pT t c j) s τ := by
  constructor
  · rintro (⟨c, i, j, o, h1, h2, h3⟩ | ⟨u, hu, hw, c, i, j, o, h1, h2, h3⟩)
    · exact ⟨c, i, j, o, h1, Or.inl ⟨h2, h3⟩⟩
    · subst h2
      exact ⟨c, i, j, o, h1, Or.inr ⟨hw, by omega⟩⟩
  · rintro ⟨c, i, j, o, h1, h2 | h2⟩
    · exact Or.inl ⟨c, i, j, o, h1, h2.1, h2.2⟩
    · exact Or.inr ⟨pS t c j, pS_b ok c j, h2.1, c, i, j, o, h1, rfl, by omega⟩
theorem wk_0 {t : TT} {a : Nat} {z : Int} (ha : a < 8) {s : Nat} {τ : Int} : ((s = a ∧ z ≤ τ) ∨ ∃ u, u < 8 ∧ 0 < tWk t (u * 8 + s) ∧ (u = a ∧ z ≤ τ - tWk t (u * 8 + s))) ↔ wk1 t a z s τ := by
  constructor
  · rintro (⟨h1, h2⟩ | ⟨u, hu, hw, h1, h2⟩)
    · exact Or.inl ⟨h1.symm, h2⟩
    · subst h1
      exact Or.inr ⟨hw, by omega⟩
  · rintro (h | h)
    · exact Or.inl ⟨h.1.symm, h.2⟩
    · exact Or.inr ⟨a, ha, h.1, rfl, by omega⟩
theorem woR_e (t : TT) (ri re : Nat → Int) : ∀ n s, woR t ri re n s = if s < n ∧ wB t ri s 8 < re s then wB t ri s 8 else re s
  | 0, s => by rw [woR, if_neg (by omega)]
  | n + 1, s => by
    have h1 := woR_e t ri re n n
    rw [if_neg (by omega)] at h1
    rw [woR, h1]
    by_cases hc : wB t ri n 8 < re n
    · rw [if_pos hc, upI_e]
      by_cases hs : s = n
      · subst hs
        rw [if_pos rfl, if_pos ⟨by omega, hc⟩]
      · rw [if_neg hs, woR_e t ri re n s]
        by_cases h2 : s < n ∧ wB t ri s 8 < re s
        · rw [if_pos h2, if_pos ⟨by omega, h2.2⟩]
        · rw [if_neg h2, if_neg (by omega)]
    · rw [if_neg hc, woR_e t ri re n s]
      by_cases h2 : s < n ∧ wB t ri s 8 < re s
      · rw [if_pos h2, if_pos ⟨by omega, h2.2⟩]
      · rw [if_neg h2, if_neg]
        rintro ⟨h3, h4⟩
        by_cases hs : s = n
        · subst hs
          exact hc h4
        · exact h2 ⟨by omega, h4⟩
theorem bit_add : ∀ n, n < 8 → ∀ M, M < 2 ^ n → ∀ s, s < 8 → ((M + 2 ^ n) / 2 ^ s % 2 = 1 ↔ s = n ∨ M / 2 ^ s % 2 = 1) := by decide +kernel
theorem bit_0 : ∀ s, s < 8 → ¬ 0 / 2 ^ s % 2 = 1 := by decide +kernel
theorem bit_hi : ∀ n, n < 8 → ∀ M, M < 2 ^ n → ¬ M / 2 ^ n % 2 = 1 := by decide +kernel
theorem woM_s (t : TT) (ri re : Nat → Int) : ∀ n, n ≤ 8 → ∀ s, s < 8 → (woM t ri re n / 2 ^ s % 2 = 1 ↔ s < n ∧ wB t ri s 8 < re s)
  | 0, _, s, hs => by
    rw [woM]
    exact ⟨fun h => absurd h (bit_0 s hs), fun h => absurd h.1 (by omega)⟩
  | n + 1, hn, s, hs => by
    have ih := woM_s t ri re n (by omega) s hs
    have h1 := woR_e t ri re n n
    rw [if_neg (by omega)] at h1
    rw [woM, h1]
    by_cases hc : wB t ri n 8 < re n
    · rw [if_pos hc, bit_add n (by omega) _ (woM_b t ri re n) s hs, ih]
      constructor
      · rintro (h | h)
        · subst h
          exact ⟨by omega, hc⟩
        · exact ⟨by omega, h.2⟩
      · rintro ⟨h, h2⟩
        by_cases e : s = n
        · exact Or.inl e
        · exact Or.inr ⟨by omega, h2⟩
    · rw [if_neg hc, ih]
      constructor
      · rintro ⟨h, h2⟩
        exact ⟨by omega, h2⟩
      · rintro ⟨h, h2⟩
        by_cases e : s = n
        · subst e
          exact absurd h2 hc
        · exact ⟨by omega, h2⟩
theorem ctA_s (t : TT) (l i : Nat) (τ x : Int) : ∀ n, ctA t l i τ n ≤ x ↔ 1000000 ≤ x ∨ ∃ c, c < n ∧ tLo t c = l ∧ τ ≤ tSo t c + tOg t (l * 6 + i) ∧ tSo t c ≤ x
  | 0 => by
    rw [ctA]
    constructor
    · exact Or.inl
    · rintro (h | ⟨c, h, -⟩)
      · exact h
      · omega
  | n + 1 => by
    have ih := ctA_s t l i τ x n
    rw [ctA]
    split
    · rename_i hc
      constructor
      · intro h
        exact Or.inr ⟨n, by omega, hc.1, hc.2.1, h⟩
      · rintro (h | ⟨c, h1, h2, h3, h4⟩)
        · have := ih.mpr (Or.inl h)
          omega
        · by_cases e : c = n
          · rw [e] at h4
            exact h4
          · have := ih.mpr (Or.inr ⟨c, by omega, h2, h3, h4⟩)
            omega
    · rename_i hc
      constructor
      · intro h
        rcases ih.mp h with h | ⟨c, h1, h2⟩
        · exact Or.inl h
        · exact Or.inr ⟨c, by omega, h2⟩
      · rintro (h | ⟨c, h1, h2, h3, h4⟩)
        · exact ih.mpr (Or.inl h)
        · by_cases e : c = n
          · rw [e] at h2 h3 h4
            omega
          · exact ih.mpr (Or.inr ⟨c, by omega, h2, h3, h4⟩)
theorem rlS_1 {t : TT} (ok : tOk t) (l b : Nat) (be : Nat → Int) (x : Int) (n : Nat) : rlS t l b be (n + 1) ≤ x ↔ rlS t l b be n ≤ x ∨ (b / 2 ^ tSt t (l * 6 + n) % 2 = 1 ∧ ctA t l n (be (tSt t (l * 6 + n))) (tT t) ≤ x) := by
  have hb := rlS_b ok l b be n
  rw [rlS]
  split
  · rename_i hc
    constructor
    · intro h
      exact Or.inr ⟨hc.1, h⟩
    · rintro (h | h)
      · omega
      · exact h.2
  · rename_i hc
    constructor
    · exact Or.inl
    · rintro (h | ⟨h1, h2⟩)
      · exact h
      · by_cases h3 : ctA t l n (be (tSt t (l * 6 + n))) (tT t) < rlS t l b be n
        · have h4 : ¬ (rlS t l b be n = 1000000 ∨ be (tSt t (l * 6 + n)) < rlS t l b be n + tOg t (l * 6 + n)) := fun q => hc ⟨h1, q, h3⟩
          rcases (ctA_s t l n (be (tSt t (l * 6 + n))) x (tT t)).mp h2 with h5 | ⟨c, -, -, h6, h7⟩
          · omega
          · omega
        · omega
theorem rlS_s {t : TT} (ok : tOk t) (l b : Nat) (be : Nat → Int) (x : Int) : ∀ n, rlS t l b be n ≤ x ↔ 1000000 ≤ x ∨ ∃ i c, i < n ∧ b / 2 ^ tSt t (l * 6 + i) % 2 = 1 ∧ c < tT t ∧ tLo t c = l ∧ be (tSt t (l * 6 + i)) ≤ tSo t c + tOg t (l * 6 + i) ∧ tSo t c ≤ x
  | 0 => by
    rw [rlS]
    constructor
    · exact Or.inl
    · rintro (h | ⟨i, c, h, -⟩)
      · exact h
      · omega
  | n + 1 => by
    rw [rlS_1 ok, rlS_s ok l b be x n, ctA_s]
    constructor
    · rintro ((h | ⟨i, c, h1, h2⟩) | ⟨h1, h2 | ⟨c, h3, h4⟩⟩)
      · exact Or.inl h
      · exact Or.inr ⟨i, c, by omega, h2⟩
      · exact Or.inl h2
      · exact Or.inr ⟨n, c, by omega, h1, h3, h4⟩
    · rintro (h | ⟨i, c, h1, h2, h3, h4⟩)
      · exact Or.inl (Or.inl h)
      · by_cases e : i = n
        · subst e
          exact Or.inr ⟨h2, Or.inr ⟨c, h3, h4⟩⟩
        · exact Or.inl (Or.inr ⟨i, c, by omega, h2, h3, h4⟩)
theorem rlR_s (t : TT) (l b : Nat) (be ri : Nat → Int) (s : Nat) (τ : Int) : ∀ n, rlR t l b be ri n s ≤ τ ↔ ri s ≤ τ ∨ ∃ j, j < n ∧ tSt t (l * 6 + j) = s ∧ rlS t l b be j < 1000000 ∧ rlS t l b be j + tOg t (l * 6 + j) ≤ τ
  | 0 => by
    rw [rlR]
    constructor
    · exact Or.inl
    · rintro (h | ⟨j, h, -⟩)
      · exact h
      · omega
  | n + 1 => by
    have ih := rlR_s t l b be ri s τ n
    have wd : (ri s ≤ τ ∨ ∃ j, j < n ∧ tSt t (l * 6 + j) = s ∧ rlS t l b be j < 1000000 ∧ rlS t l b be j + tOg t (l * 6 + j) ≤ τ) → (ri s ≤ τ ∨ ∃ j, j < n + 1 ∧ tSt t (l * 6 + j) = s ∧ rlS t l b be j < 1000000 ∧ rlS t l b be j + tOg t (l * 6 + j) ≤ τ) := by
      rintro (h | ⟨j, h1, h2⟩)
      · exact Or.inl h
      · exact Or.inr ⟨j, by omega, h2⟩
    rw [rlR]
    split
    · rename_i hc
      rw [upI_e]
      by_cases hs : s = tSt t (l * 6 + n)
      · rw [if_pos hs]
        constructor
        · intro h
          exact Or.inr ⟨n, by omega, hs.symm, hc.1, h⟩
        · rintro (h | ⟨j, h1, h2, h3, h4⟩)
          · have := ih.mpr (Or.inl h)
            rw [hs] at this
            omega
          · by_cases e : j = n
            · rw [e] at h4
              exact h4
            · have := ih.mpr (Or.inr ⟨j, by omega, h2, h3, h4⟩)
              rw [hs] at this
              omega
      · rw [if_neg hs]
        constructor
        · exact fun h => wd (ih.mp h)
        · rintro (h | ⟨j, h1, h2, h3⟩)
          · exact ih.mpr (Or.inl h)
          · by_cases e : j = n
            · rw [e] at h2
              exact absurd h2.symm hs
            · exact ih.mpr (Or.inr ⟨j, by omega, h2, h3⟩)
    · rename_i hc
      constructor
      · exact fun h => wd (ih.mp h)
      · rintro (h | ⟨j, h1, h2, h3, h4⟩)
        · exact ih.mpr (Or.inl h)
        · by_cases e : j = n
          · rw [e] at h2 h3 h4
            rw [h2] at hc
            omega
          · exact ih.mpr (Or.inr ⟨j, by omega, h2, h3, h4⟩)
theorem nrL_s (t : TT) (b : Nat) (be ri : Nat → Int) (s : Nat) (τ : Int) : ∀ n, nrL t b be ri n s ≤ τ ↔ ri s ≤ τ ∨ ∃ l j, l < n ∧ j < tSz t l ∧ tSt t (l * 6 + j) = s ∧ rlS t l b be j < 1000000 ∧ rlS t l b be j + tOg t (l * 6 + j) ≤ τ
  | 0 => by
    rw [nrL]
    constructor
    · exact Or.inl
    · rintro (h | ⟨l, j, h, -⟩)
      · exact h
      · omega
  | n + 1 => by
    rw [nrL, rlR_s, nrL_s t b be ri s τ n]
    constructor
    · rintro ((h | ⟨l, j, h1, h2⟩) | ⟨j, h1, h2⟩)
      · exact Or.inl h
      · exact Or.inr ⟨l, j, by omega, h2⟩
      · exact Or.inr ⟨n, j, by omega, h1, h2⟩
    · rintro (h | ⟨l, j, h1, h2, h3⟩)
      · exact Or.inl (Or.inl h)
      · by_cases e : l = n
        · subst e
          exact Or.inr ⟨j, h2, h3⟩
        · exact Or.inl (Or.inr ⟨l, j, by omega, h2, h3⟩)
/-- one round's rides -/
theorem round_s {t : TT} (ok : tOk t) (b : Nat) (be ri : Nat → Int) {s : Nat} {τ : Int} (hτ : τ < 1000000) (hr : 1000000 ≤ ri s) : nrL t b be ri (tL t) s ≤ τ ↔ ∃ c i j, okR t c i j ∧ (b / 2 ^ pS t c i % 2 = 1 ∧ be (pS t c i) ≤ pT t c i) ∧ pS t c j = s ∧ pT t c j ≤ τ := by
  rw [nrL_s]
  constructor
  · rintro (h | ⟨l, j, h1, h2, h3, h4, h5⟩)
    · omega
    · have hg := tk_Og ok (l * 6 + j)
      rcases (rlS_s ok l b be (τ - tOg t (l * 6 + j)) j).mp (by omega) with h | ⟨i, c, g1, g2, g3, g4, g5, g6⟩
      · omega
      · subst g4
        exact ⟨c, i, j, ⟨g3, g1, h2⟩, ⟨g2, g5⟩, h3, by unfold pT; omega⟩
  · rintro ⟨c, i, j, ⟨o1, o2, o3⟩, ⟨h1, h2⟩, h3, h4⟩
    have hg := tk_Og ok (tLo t c * 6 + j)
    have hs := tk_So ok c
    unfold pT at h4 h2
    have h5 := (rlS_s ok (tLo t c) b be (tSo t c) j).mpr (Or.inr ⟨i, c, o2, h1, o1, rfl, h2, Int.le_refl _⟩)
    exact Or.inr ⟨tLo t c, j, tk_LoL ok o1, o3, h3, by omega, by omega⟩
/-- what holds after k rounds -/
def inv (t : TT) (a : Nat) (z : Int) (k : Nat) (σ : XS) : Prop := (∀ s, s < 8 → ∀ τ, τ < 1000000 → (σ.2.1 s ≤ τ ↔ ∃ j, j ≤ k ∧ Thr t a z j s τ)) ∧ ∀ s, s < 8 → ¬ σ.2.2.2 / 2 ^ s % 2 = 1 → ∀ τ, τ < 1000000 → σ.2.1 s ≤ τ → ∃ j, j < k ∧ Thr t a z j s τ
theorem inv_0 {t : TT} (ok : tOk t) {a : Nat} {z : Int} (ha : a < 8) (σ : XS) : inv t a z 0 (bg t a z σ) := by
  have hr : ∀ s, s < 8 → ∀ τ, τ < 1000000 → (upI (fl 1000000 σ.1 8) a z s ≤ τ ↔ (s = a ∧ z ≤ τ)) := by
    intro s hs τ hτ
    rw [upI_e]
    by_cases h : s = a
    · rw [if_pos h]
      exact ⟨fun q => ⟨h, q⟩, fun q => q.2⟩
    · rw [if_neg h, fl_e, if_pos hs]
      exact ⟨fun q => by omega, fun q => absurd q.1 h⟩
  have hw : ∀ s, s < 8 → ∀ τ, τ < 1000000 → (wB t (upI (fl 1000000 σ.1 8) a z) s 8 ≤ τ ↔ Thr t a z 0 s τ) := fun s hs τ hτ => by
    rw [wk_F ok hr hs hτ]
    exact wk_0 ha
  have he : ∀ s, s < 8 → fl 1000000 σ.2.1 8 s = 1000000 := fun s hs => by rw [fl_e, if_pos hs]
  refine ⟨fun s hs τ hτ => ?_, fun s hs hb τ hτ h => ?_⟩
  · show woR t (upI (fl 1000000 σ.1 8) a z) (fl 1000000 σ.2.1 8) 8 s ≤ τ ↔ _
    rw [woR_e, he s hs]
    have h1 := hw s hs τ hτ
    constructor
    · intro h
      refine ⟨0, by omega, h1.mp ?_⟩
      split at h <;> omega
    · rintro ⟨j, hj, h⟩
      have e : j = 0 := by omega
      subst e
      have h2 := h1.mpr h
      rw [if_pos ⟨hs, by omega⟩]
      exact h2
  · have hb : ¬ woM t (upI (fl 1000000 σ.1 8) a z) (fl 1000000 σ.2.1 8) 8 / 2 ^ s % 2 = 1 := hb
    have h : woR t (upI (fl 1000000 σ.1 8) a z) (fl 1000000 σ.2.1 8) 8 s ≤ τ := h
    rw [woM_s _ _ _ 8 (by omega) s hs, he s hs] at hb
    rw [woR_e, he s hs] at h
    split at h <;> omega
theorem inv_s {t : TT} (ok : tOk t) {a : Nat} {z : Int} {k : Nat} {σ : XS} (h : inv t a z k σ) : inv t a z (k + 1) (nr t σ) := by
  obtain ⟨hA, hB⟩ := h
  have hr : ∀ s, s < 8 → ∀ τ, τ < 1000000 → (nrL t σ.2.2.2 (cp σ.2.1 σ.2.2.1 8) (fl 1000000 σ.1 8) (tL t) s ≤ τ ↔ ∃ c i j, okR t c i j ∧ (σ.2.2.2 / 2 ^ pS t c i % 2 = 1 ∧ σ.2.1 (pS t c i) ≤ pT t c i) ∧ pS t c j = s ∧ pT t c j ≤ τ) := by
    intro s hs τ hτ
    rw [round_s ok _ _ _ hτ (by rw [fl_e, if_pos hs]; exact Int.le_refl _)]
    constructor
    · rintro ⟨c, i, j, o, ⟨h1, h2⟩, h3⟩
      rw [cp_e, if_pos (pS_b ok c i)] at h2
      exact ⟨c, i, j, o, ⟨h1, h2⟩, h3⟩
    · rintro ⟨c, i, j, o, ⟨h1, h2⟩, h3⟩
      exact ⟨c, i, j, o, ⟨h1, by rw [cp_e, if_pos (pS_b ok c i)]; exact h2⟩, h3⟩
  have hw : ∀ s, s < 8 → ∀ τ, τ < 1000000 → (wB t (nrL t σ.2.2.2 (cp σ.2.1 σ.2.2.1 8) (fl 1000000 σ.1 8) (tL t)) s 8 ≤ τ ↔ ∃ c i j, okR t c i j ∧ (σ.2.2.2 / 2 ^ pS t c i % 2 = 1 ∧ σ.2.1 (pS t c i) ≤ pT t c i) ∧ wk1 t (pS t c j) (pT t c j) s τ) := fun s hs τ hτ => by
    rw [wk_F ok hr hs hτ]
    exact wk_R (Q := fun c i => σ.2.2.2 / 2 ^ pS t c i % 2 = 1 ∧ σ.2.1 (pS t c i) ≤ pT t c i) ok
  generalize hW : nrL t σ.2.2.2 (cp σ.2.1 σ.2.2.1 8) (fl 1000000 σ.1 8) (tL t) = ri2 at hw
  have e1 : (nr t σ).2.1 = woR t ri2 σ.2.1 8 := by rw [← hW]; rfl
  have e2 : (nr t σ).2.2.2 = woM t ri2 σ.2.1 8 := by rw [← hW]; rfl
  refine ⟨fun s hs τ hτ => ?_, fun s hs hb τ hτ h => ?_⟩
  · have key : (nr t σ).2.1 s ≤ τ ↔ σ.2.1 s ≤ τ ∨ wB t ri2 s 8 ≤ τ := by
      rw [e1, woR_e]
      split <;> omega
    rw [key, hA s hs τ hτ, hw s hs τ hτ]
    constructor
    · rintro (⟨j, h1, h2⟩ | ⟨c, i, j, o, ⟨h1, h2⟩, h3⟩)
      · exact ⟨j, by omega, h2⟩
      · have hp := pT_b ok c i
        obtain ⟨m, g1, g2⟩ := (hA _ (pS_b ok c i) _ (by omega)).mp h2
        exact ⟨m + 1, by omega, c, i, j, o, g2, h3⟩
    · rintro ⟨j, h1, h2⟩
      by_cases hj : j ≤ k
      · exact Or.inl ⟨j, hj, h2⟩
      · have e : j = k + 1 := by omega
        subst e
        obtain ⟨c, i, j, o, g1, g2⟩ := h2
        have hp := pT_b ok c i
        have g3 := (hA _ (pS_b ok c i) (pT t c i) (by omega)).mpr ⟨k, by omega, g1⟩
        by_cases hbit : σ.2.2.2 / 2 ^ pS t c i % 2 = 1
        · exact Or.inr ⟨c, i, j, o, ⟨hbit, g3⟩, g2⟩
        · obtain ⟨m, q1, q2⟩ := hB _ (pS_b ok c i) hbit _ (by omega) g3
          exact Or.inl ⟨m + 1, by omega, c, i, j, o, q2, g2⟩
  · rw [e2, woM_s _ _ _ 8 (by omega) s hs] at hb
    rw [e1, woR_e, if_neg (by omega)] at h
    obtain ⟨j, h1, h2⟩ := (hA s hs τ hτ).mp h
    exact ⟨j, by omega, h2⟩
theorem inv_i {t : TT} (ok : tOk t) {a : Nat} {z : Int} (ha : a < 8) (σ : XS) : ∀ k, inv t a z k (itr t (bg t a z σ) k)
  | 0 => inv_0 ok ha σ
  | k + 1 => inv_s ok (inv_i ok ha σ k)
/-- nothing got better: nothing will -/
theorem thr_stop {t : TT} (ok : tOk t) {a : Nat} {z : Int} {k : Nat} (h : ∀ s, s < 8 → ∀ τ, τ < 1000000 → (∃ j, j ≤ k ∧ Thr t a z j s τ) → ∃ j, j < k ∧ Thr t a z j s τ) : ∀ n s τ, s < 8 → τ < 1000000 → Thr t a z n s τ → ∃ j, j < k ∧ Thr t a z j s τ
  | 0, s, τ, hs, hτ, h1 => h s hs τ hτ ⟨0, by omega, h1⟩
  | n + 1, s, τ, hs, hτ, h1 => by
    obtain ⟨c, i, j, o, g1, g2⟩ := h1
    have hp := pT_b ok c i
    obtain ⟨m, q1, q2⟩ := thr_stop ok h n _ _ (pS_b ok c i) (by omega) g1
    exact h s hs τ hτ ⟨m + 1, by omega, c, i, j, o, q2, g2⟩
theorem xAns_s {t : TT} (ok : tOk t) {a : Nat} {z : Int} (ha : a < 8) {σ u : XS} {k n : Nat} (hk : k ≤ n) (hu : u = itr t (bg t a z σ) k) (hb : k = n ∨ u.2.2.2 = 0) {s : Nat} (hs : s < 8) {τ : Int} (hτ : τ < 1000000) : u.2.1 s ≤ τ ↔ ∃ j, j ≤ n ∧ Thr t a z j s τ := by
  have hi := inv_i ok (z := z) ha σ k
  rw [← hu] at hi
  rw [hi.1 s hs τ hτ]
  constructor
  · rintro ⟨j, h1, h2⟩
    exact ⟨j, by omega, h2⟩
  · rintro ⟨j, h1, h2⟩
    rcases hb with hb | hb
    · exact ⟨j, by omega, h2⟩
    · obtain ⟨m, q1, q2⟩ := thr_stop ok (k := k) (fun s hs τ hτ hx => hi.2 s hs (by rw [hb]; exact bit_0 s hs) τ hτ ((hi.1 s hs τ hτ).mpr hx)) j s τ hs hτ h2
      exact ⟨m, by omega, q2⟩
theorem nr_le (t : TT) (σ : XS) (s : Nat) : (nr t σ).2.1 s ≤ σ.2.1 s := by
  show woR t _ σ.2.1 8 s ≤ σ.2.1 s
  rw [woR_e]
  split <;> omega
end
section
/-! what the class's rounds backward hold -/
set_option maxRecDepth 100000
theorem vB_s (t : TT) (ri : Nat → Int) (s : Nat) (τ : Int) : ∀ n, τ ≤ vB t ri s n ↔ τ ≤ ri s ∨ ∃ u, u < n ∧ 0 < tWk t (s * 8 + u) ∧ τ ≤ ri u - tWk t (s * 8 + u)
  | 0 => by
    rw [vB]
    constructor
    · exact Or.inl
    · rintro (h | ⟨u, h, -⟩)
      · exact h
      · omega
  | n + 1 => by
    have ih := vB_s t ri s τ n
    rw [vB]
    split
    · rename_i hc
      constructor
      · intro h
        exact Or.inr ⟨n, by omega, hc.1, h⟩
      · rintro (h | ⟨u, h1, h2, h3⟩)
        · have := ih.mpr (Or.inl h)
          omega
        · by_cases hu : u = n
          · rw [hu] at h3
            exact h3
          · have := ih.mpr (Or.inr ⟨u, by omega, h2, h3⟩)
            omega
    · rename_i hc
      constructor
      · intro h
        rcases ih.mp h with h | ⟨u, h1, h2⟩
        · exact Or.inl h
        · exact Or.inr ⟨u, by omega, h2⟩
      · rintro (h | ⟨u, h1, h2, h3⟩)
        · exact ih.mpr (Or.inl h)
        · by_cases hu : u = n
          · rw [hu] at h2 h3
            omega
          · exact ih.mpr (Or.inr ⟨u, by omega, h2, h3⟩)
theorem wk_B {t : TT} (ok : tOk t) {ri : Nat → Int} {P : Nat → Int → Prop} (h : ∀ s, s < 8 → ∀ τ, 0 ≤ τ → (τ ≤ ri s ↔ P s τ)) {s : Nat} {τ : Int} (hs : s < 8) (hτ : 0 ≤ τ) : τ ≤ vB t ri s 8 ↔ P s τ ∨ ∃ u, u < 8 ∧ 0 < tWk t (s * 8 + u) ∧ P u (τ + tWk t (s * 8 + u)) := by
  rw [vB_s, h s hs τ hτ]
  constructor
  · rintro (h1 | ⟨u, h1, h2, h3⟩)
    · exact Or.inl h1
    · exact Or.inr ⟨u, h1, h2, (h u h1 _ (by omega)).mp (by omega)⟩
  · rintro (h1 | ⟨u, h1, h2, h3⟩)
    · exact Or.inl h1
    · have := (h u h1 _ (by omega)).mpr h3
      exact Or.inr ⟨u, h1, h2, by omega⟩
theorem wk_RB {t : TT} {Q : Nat → Nat → Prop} (ok : tOk t) {s : Nat} {τ : Int} : ((∃ c i j, okR t c i j ∧ Q c j ∧ pS t c i = s ∧ τ ≤ pT t c i) ∨ ∃ u, u < 8 ∧ 0 < tWk t (s * 8 + u) ∧ ∃ c i j, okR t c i j ∧ Q c j ∧ pS t c i = u ∧ τ + tWk t (s * 8 + u) ≤ pT t c i) ↔ ∃ c i j, okR t c i j ∧ wk1 t s τ (pS t c i) (pT t c i) ∧ Q c j := by
  constructor
  · rintro (⟨c, i, j, o, h1, h2, h3⟩ | ⟨u, hu, hw, c, i, j, o, h1, h2, h3⟩)
    · exact ⟨c, i, j, o, Or.inl ⟨h2.symm, h3⟩, h1⟩
    · subst h2
      exact ⟨c, i, j, o, Or.inr ⟨hw, by omega⟩, h1⟩
  · rintro ⟨c, i, j, o, h2 | h2, h1⟩
    · exact Or.inl ⟨c, i, j, o, h1, h2.1.symm, h2.2⟩
    · exact Or.inr ⟨pS t c i, pS_b ok c i, h2.1, c, i, j, o, h1, rfl, by omega⟩
theorem wk_0B {t : TT} {b : Nat} {y : Int} (hb : b < 8) {s : Nat} {τ : Int} : ((s = b ∧ τ ≤ y) ∨ ∃ u, u < 8 ∧ 0 < tWk t (s * 8 + u) ∧ (u = b ∧ τ + tWk t (s * 8 + u) ≤ y)) ↔ wk1 t s τ b y := by
  constructor
  · rintro (⟨h1, h2⟩ | ⟨u, hu, hw, h1, h2⟩)
    · exact Or.inl ⟨h1, h2⟩
    · subst h1
      exact Or.inr ⟨hw, by omega⟩
  · rintro (h | h)
    · exact Or.inl ⟨h.1, h.2⟩
    · exact Or.inr ⟨b, hb, h.1, rfl, by omega⟩
theorem voR_e (t : TT) (ri re : Nat → Int) : ∀ n s, voR t ri re n s = if s < n ∧ re s < vB t ri s 8 then vB t ri s 8 else re s
  | 0, s => by rw [voR, if_neg (by omega)]
  | n + 1, s => by
    have h1 := voR_e t ri re n n
    rw [if_neg (by omega)] at h1
    rw [voR, h1]
    by_cases hc : re n < vB t ri n 8
    · rw [if_pos hc, upI_e]
      by_cases hs : s = n
      · subst hs
        rw [if_pos rfl, if_pos ⟨by omega, hc⟩]
      · rw [if_neg hs, voR_e t ri re n s]
        by_cases h2 : s < n ∧ re s < vB t ri s 8
        · rw [if_pos h2, if_pos ⟨by omega, h2.2⟩]
        · rw [if_neg h2, if_neg (by omega)]
    · rw [if_neg hc, voR_e t ri re n s]
      by_cases h2 : s < n ∧ re s < vB t ri s 8
      · rw [if_pos h2, if_pos ⟨by omega, h2.2⟩]
      · rw [if_neg h2, if_neg]
        rintro ⟨h3, h4⟩
        by_cases hs : s = n
        · subst hs
          exact hc h4
        · exact h2 ⟨by omega, h4⟩
theorem voM_s (t : TT) (ri re : Nat → Int) : ∀ n, n ≤ 8 → ∀ s, s < 8 → (voM t ri re n / 2 ^ s % 2 = 1 ↔ s < n ∧ re s < vB t ri s 8)
  | 0, _, s, hs => by
    rw [voM]
    exact ⟨fun h => absurd h (bit_0 s hs), fun h => absurd h.1 (by omega)⟩
  | n + 1, hn, s, hs => by
    have ih := voM_s t ri re n (by omega) s hs
    have h1 := voR_e t ri re n n
    rw [if_neg (by omega)] at h1
    rw [voM, h1]
    by_cases hc : re n < vB t ri n 8
    · rw [if_pos hc, bit_add n (by omega) _ (voM_b t ri re n) s hs, ih]
      constructor
      · rintro (h | h)
        · subst h
          exact ⟨by omega, hc⟩
        · exact ⟨by omega, h.2⟩
      · rintro ⟨h, h2⟩
        by_cases e : s = n
        · exact Or.inl e
        · exact Or.inr ⟨by omega, h2⟩
    · rw [if_neg hc, ih]
      constructor
      · rintro ⟨h, h2⟩
        exact ⟨by omega, h2⟩
      · rintro ⟨h, h2⟩
        by_cases e : s = n
        · subst e
          exact absurd h2 hc
        · exact ⟨by omega, h2⟩
theorem mtA_s (t : TT) (l i : Nat) (τ x : Int) : ∀ n, x ≤ mtA t l i τ n ↔ x ≤ -1000000 ∨ ∃ c, c < n ∧ tLo t c = l ∧ tSo t c + tOg t (l * 6 + i) ≤ τ ∧ x ≤ tSo t c
  | 0 => by
    rw [mtA]
    constructor
    · exact Or.inl
    · rintro (h | ⟨c, h, -⟩)
      · exact h
      · omega
  | n + 1 => by
    have ih := mtA_s t l i τ x n
    rw [mtA]
    split
    · rename_i hc
      constructor
      · intro h
        exact Or.inr ⟨n, by omega, hc.1, hc.2.1, h⟩
      · rintro (h | ⟨c, h1, h2, h3, h4⟩)
        · have := ih.mpr (Or.inl h)
          omega
        · by_cases e : c = n
          · rw [e] at h4
            exact h4
          · have := ih.mpr (Or.inr ⟨c, by omega, h2, h3, h4⟩)
            omega
    · rename_i hc
      constructor
      · intro h
        rcases ih.mp h with h | ⟨c, h1, h2⟩
        · exact Or.inl h
        · exact Or.inr ⟨c, by omega, h2⟩
      · rintro (h | ⟨c, h1, h2, h3, h4⟩)
        · exact ih.mpr (Or.inl h)
        · by_cases e : c = n
          · rw [e] at h2 h3 h4
            omega
          · exact ih.mpr (Or.inr ⟨c, by omega, h2, h3, h4⟩)
theorem rbS_1 {t : TT} (ok : tOk t) (l b : Nat) (be : Nat → Int) (x : Int) (n : Nat) : x ≤ rbS t l b be (n + 1) ↔ x ≤ rbS t l b be n ∨ (b / 2 ^ tSt t (l * 6 + (tSz t l - 1 - n)) % 2 = 1 ∧ x ≤ mtA t l (tSz t l - 1 - n) (be (tSt t (l * 6 + (tSz t l - 1 - n)))) (tT t)) := by
  have hb := rbS_b ok l b be n
  rw [rbS]
  split
  · rename_i hc
    constructor
    · intro h
      exact Or.inr ⟨hc.1, h⟩
    · rintro (h | h)
      · omega
      · exact h.2
  · rename_i hc
    constructor
    · exact Or.inl
    · rintro (h | ⟨h1, h2⟩)
      · exact h
      · by_cases h3 : rbS t l b be n < mtA t l (tSz t l - 1 - n) (be (tSt t (l * 6 + (tSz t l - 1 - n)))) (tT t)
        · have h4 : ¬ (rbS t l b be n = -1000000 ∨ rbS t l b be n + tOg t (l * 6 + (tSz t l - 1 - n)) < be (tSt t (l * 6 + (tSz t l - 1 - n)))) := fun q => hc ⟨h1, q, h3⟩
          rcases (mtA_s t l (tSz t l - 1 - n) (be (tSt t (l * 6 + (tSz t l - 1 - n)))) x (tT t)).mp h2 with h5 | ⟨c, -, -, h6, h7⟩
          · omega
          · omega
        · omega
theorem rbS_s {t : TT} (ok : tOk t) (l b : Nat) (be : Nat → Int) (x : Int) : ∀ n, x ≤ rbS t l b be n ↔ x ≤ -1000000 ∨ ∃ i c, i < n ∧ b / 2 ^ tSt t (l * 6 + (tSz t l - 1 - i)) % 2 = 1 ∧ c < tT t ∧ tLo t c = l ∧ tSo t c + tOg t (l * 6 + (tSz t l - 1 - i)) ≤ be (tSt t (l * 6 + (tSz t l - 1 - i))) ∧ x ≤ tSo t c
  | 0 => by
    rw [rbS]
    constructor
    · exact Or.inl
    · rintro (h | ⟨i, c, h, -⟩)
      · exact h
      · omega
  | n + 1 => by
    rw [rbS_1 ok, rbS_s ok l b be x n, mtA_s]
    constructor
    · rintro ((h | ⟨i, c, h1, h2⟩) | ⟨h1, h2 | ⟨c, h3, h4⟩⟩)
      · exact Or.inl h
      · exact Or.inr ⟨i, c, by omega, h2⟩
      · exact Or.inl h2
      · exact Or.inr ⟨n, c, by omega, h1, h3, h4⟩
    · rintro (h | ⟨i, c, h1, h2, h3, h4⟩)
      · exact Or.inl (Or.inl h)
      · by_cases e : i = n
        · subst e
          exact Or.inr ⟨h2, Or.inr ⟨c, h3, h4⟩⟩
        · exact Or.inl (Or.inr ⟨i, c, by omega, h2, h3, h4⟩)
theorem rbR_s (t : TT) (l b : Nat) (be ri : Nat → Int) (s : Nat) (τ : Int) : ∀ n, τ ≤ rbR t l b be ri n s ↔ τ ≤ ri s ∨ ∃ j, j < n ∧ tSt t (l * 6 + (tSz t l - 1 - j)) = s ∧ -1000000 < rbS t l b be j ∧ τ ≤ rbS t l b be j + tOg t (l * 6 + (tSz t l - 1 - j))
  | 0 => by
    rw [rbR]
    constructor
    · exact Or.inl
    · rintro (h | ⟨j, h, -⟩)
      · exact h
      · omega
  | n + 1 => by
    have ih := rbR_s t l b be ri s τ n
    have wd : (τ ≤ ri s ∨ ∃ j, j < n ∧ tSt t (l * 6 + (tSz t l - 1 - j)) = s ∧ -1000000 < rbS t l b be j ∧ τ ≤ rbS t l b be j + tOg t (l * 6 + (tSz t l - 1 - j))) → (τ ≤ ri s ∨ ∃ j, j < n + 1 ∧ tSt t (l * 6 + (tSz t l - 1 - j)) = s ∧ -1000000 < rbS t l b be j ∧ τ ≤ rbS t l b be j + tOg t (l * 6 + (tSz t l - 1 - j))) := by
      rintro (h | ⟨j, h1, h2⟩)
      · exact Or.inl h
      · exact Or.inr ⟨j, by omega, h2⟩
    rw [rbR]
    split
    · rename_i hc
      rw [upI_e]
      by_cases hs : s = tSt t (l * 6 + (tSz t l - 1 - n))
      · rw [if_pos hs]
        constructor
        · intro h
          exact Or.inr ⟨n, by omega, hs.symm, hc.1, h⟩
        · rintro (h | ⟨j, h1, h2, h3, h4⟩)
          · have := ih.mpr (Or.inl h)
            rw [hs] at this
            omega
          · by_cases e : j = n
            · rw [e] at h4
              exact h4
            · have := ih.mpr (Or.inr ⟨j, by omega, h2, h3, h4⟩)
              rw [hs] at this
              omega
      · rw [if_neg hs]
        constructor
        · exact fun h => wd (ih.mp h)
        · rintro (h | ⟨j, h1, h2, h3⟩)
          · exact ih.mpr (Or.inl h)
          · by_cases e : j = n
            · rw [e] at h2
              exact absurd h2.symm hs
            · exact ih.mpr (Or.inr ⟨j, by omega, h2, h3⟩)
    · rename_i hc
      constructor
      · exact fun h => wd (ih.mp h)
      · rintro (h | ⟨j, h1, h2, h3, h4⟩)
        · exact ih.mpr (Or.inl h)
        · by_cases e : j = n
          · rw [e] at h2 h3 h4
            rw [h2] at hc
            omega
          · exact ih.mpr (Or.inr ⟨j, by omega, h2, h3, h4⟩)
theorem nrLB_s (t : TT) (b : Nat) (be ri : Nat → Int) (s : Nat) (τ : Int) : ∀ n, τ ≤ nrLB t b be ri n s ↔ τ ≤ ri s ∨ ∃ l j, l < n ∧ j < tSz t l ∧ tSt t (l * 6 + (tSz t l - 1 - j)) = s ∧ -1000000 < rbS t l b be j ∧ τ ≤ rbS t l b be j + tOg t (l * 6 + (tSz t l - 1 - j))
  | 0 => by
    rw [nrLB]
    constructor
    · exact Or.inl
    · rintro (h | ⟨l, j, h, -⟩)
      · exact h
      · omega
  | n + 1 => by
    rw [nrLB, rbR_s, nrLB_s t b be ri s τ n]
    constructor
    · rintro ((h | ⟨l, j, h1, h2⟩) | ⟨j, h1, h2⟩)
      · exact Or.inl h
      · exact Or.inr ⟨l, j, by omega, h2⟩
      · exact Or.inr ⟨n, j, by omega, h1, h2⟩
    · rintro (h | ⟨l, j, h1, h2, h3⟩)
      · exact Or.inl (Or.inl h)
      · by_cases e : l = n
        · subst e
          exact Or.inr ⟨j, h2, h3⟩
        · exact Or.inl (Or.inr ⟨l, j, by omega, h2, h3⟩)
theorem roundB_s {t : TT} (ok : tOk t) (b : Nat) (be ri : Nat → Int) {s : Nat} {τ : Int} (hτ : 0 ≤ τ) (hr : ri s ≤ -1000000) : τ ≤ nrLB t b be ri (tL t) s ↔ ∃ c i j, okR t c i j ∧ (b / 2 ^ pS t c j % 2 = 1 ∧ pT t c j ≤ be (pS t c j)) ∧ pS t c i = s ∧ τ ≤ pT t c i := by
  rw [nrLB_s]
  constructor
  · rintro (h | ⟨l, m, h1, h2, h3, h4, h5⟩)
    · omega
    · have hg := tk_Og ok (l * 6 + (tSz t l - 1 - m))
      rcases (rbS_s ok l b be (τ - tOg t (l * 6 + (tSz t l - 1 - m))) m).mp (by omega) with h | ⟨i, c, g1, g2, g3, g4, g5, g6⟩
      · omega
      · subst g4
        exact ⟨c, tSz t (tLo t c) - 1 - m, tSz t (tLo t c) - 1 - i, ⟨g3, by omega, by omega⟩, ⟨g2, g5⟩, h3, by unfold pT; omega⟩
  · rintro ⟨c, i, j, ⟨o1, o2, o3⟩, ⟨h1, h2⟩, h3, h4⟩
    have hg := tk_Og ok (tLo t c * 6 + i)
    have hs := tk_So ok c
    have e1 : tSz t (tLo t c) - 1 - (tSz t (tLo t c) - 1 - j) = j := by omega
    have e2 : tSz t (tLo t c) - 1 - (tSz t (tLo t c) - 1 - i) = i := by omega
    unfold pT at h4 h2
    unfold pS at h1 h2 h3
    have h5 := (rbS_s ok (tLo t c) b be (tSo t c) (tSz t (tLo t c) - 1 - i)).mpr (Or.inr ⟨tSz t (tLo t c) - 1 - j, c, by omega, by rw [e1]; exact h1, o1, rfl, by rw [e1]; exact h2, Int.le_refl _⟩)
    exact Or.inr ⟨tLo t c, tSz t (tLo t c) - 1 - i, tk_LoL ok o1, by omega, by rw [e2]; exact h3, by omega, by rw [e2]; omega⟩
def invB (t : TT) (b : Nat) (y : Int) (k : Nat) (σ : XS) : Prop := (∀ s, s < 8 → ∀ τ, 0 ≤ τ → (τ ≤ σ.2.1 s ↔ ∃ j, j ≤ k ∧ BThr t b y j s τ)) ∧ ∀ s, s < 8 → ¬ σ.2.2.2 / 2 ^ s % 2 = 1 → ∀ τ, 0 ≤ τ → τ ≤ σ.2.1 s → ∃ j, j < k ∧ BThr t b y j s τ
theorem invB_0 {t : TT} (ok : tOk t) {b : Nat} {y : Int} (hb8 : b < 8) (σ : XS) : invB t b y 0 (bgB t b y σ) := by
  have hr : ∀ s, s < 8 → ∀ τ, 0 ≤ τ → (τ ≤ upI (fl (-1000000) σ.1 8) b y s ↔ (s = b ∧ τ ≤ y)) := by
    intro s hs τ hτ
    rw [upI_e]
    by_cases h : s = b
    · rw [if_pos h]
      exact ⟨fun q => ⟨h, q⟩, fun q => q.2⟩
    · rw [if_neg h, fl_e, if_pos hs]
      exact ⟨fun q => by omega, fun q => absurd q.1 h⟩
  have hw : ∀ s, s < 8 → ∀ τ, 0 ≤ τ → (τ ≤ vB t (upI (fl (-1000000) σ.1 8) b y) s 8 ↔ BThr t b y 0 s τ) := fun s hs τ hτ => by
    rw [wk_B ok hr hs hτ]
    exact wk_0B hb8
  have he : ∀ s, s < 8 → fl (-1000000) σ.2.1 8 s = -1000000 := fun s hs => by rw [fl_e, if_pos hs]
  refine ⟨fun s hs τ hτ => ?_, fun s hs hb τ hτ h => ?_⟩
  · show τ ≤ voR t (upI (fl (-1000000) σ.1 8) b y) (fl (-1000000) σ.2.1 8) 8 s ↔ _
    rw [voR_e, he s hs]
    have h1 := hw s hs τ hτ
    constructor
    · intro h
      refine ⟨0, by omega, h1.mp ?_⟩
      split at h <;> omega
    · rintro ⟨j, hj, h⟩
      have e : j = 0 := by omega
      subst e
      have h2 := h1.mpr h
      rw [if_pos ⟨hs, by omega⟩]
      exact h2
  · have hb : ¬ voM t (upI (fl (-1000000) σ.1 8) b y) (fl (-1000000) σ.2.1 8) 8 / 2 ^ s % 2 = 1 := hb
    have h : τ ≤ voR t (upI (fl (-1000000) σ.1 8) b y) (fl (-1000000) σ.2.1 8) 8 s := h
    rw [voM_s _ _ _ 8 (by omega) s hs, he s hs] at hb
    rw [voR_e, he s hs] at h
    split at h <;> omega
theorem invB_s {t : TT} (ok : tOk t) {b : Nat} {y : Int} {k : Nat} {σ : XS} (h : invB t b y k σ) : invB t b y (k + 1) (nrB t σ) := by
  obtain ⟨hA, hB⟩ := h
  have hr : ∀ s, s < 8 → ∀ τ, 0 ≤ τ → (τ ≤ nrLB t σ.2.2.2 (cp σ.2.1 σ.2.2.1 8) (fl (-1000000) σ.1 8) (tL t) s ↔ ∃ c i j, okR t c i j ∧ (σ.2.2.2 / 2 ^ pS t c j % 2 = 1 ∧ pT t c j ≤ σ.2.1 (pS t c j)) ∧ pS t c i = s ∧ τ ≤ pT t c i) := by
    intro s hs τ hτ
    rw [roundB_s ok _ _ _ hτ (by rw [fl_e, if_pos hs]; exact Int.le_refl _)]
    constructor
    · rintro ⟨c, i, j, o, ⟨h1, h2⟩, h3⟩
      rw [cp_e, if_pos (pS_b ok c j)] at h2
      exact ⟨c, i, j, o, ⟨h1, h2⟩, h3⟩
    · rintro ⟨c, i, j, o, ⟨h1, h2⟩, h3⟩
      exact ⟨c, i, j, o, ⟨h1, by rw [cp_e, if_pos (pS_b ok c j)]; exact h2⟩, h3⟩
  have hw : ∀ s, s < 8 → ∀ τ, 0 ≤ τ → (τ ≤ vB t (nrLB t σ.2.2.2 (cp σ.2.1 σ.2.2.1 8) (fl (-1000000) σ.1 8) (tL t)) s 8 ↔ ∃ c i j, okR t c i j ∧ wk1 t s τ (pS t c i) (pT t c i) ∧ (σ.2.2.2 / 2 ^ pS t c j % 2 = 1 ∧ pT t c j ≤ σ.2.1 (pS t c j))) := fun s hs τ hτ => by
    rw [wk_B ok hr hs hτ]
    exact wk_RB (Q := fun c j => σ.2.2.2 / 2 ^ pS t c j % 2 = 1 ∧ pT t c j ≤ σ.2.1 (pS t c j)) ok
  generalize hW : nrLB t σ.2.2.2 (cp σ.2.1 σ.2.2.1 8) (fl (-1000000) σ.1 8) (tL t) = ri2 at hw
  have e1 : (nrB t σ).2.1 = voR t ri2 σ.2.1 8 := by rw [← hW]; rfl
  have e2 : (nrB t σ).2.2.2 = voM t ri2 σ.2.1 8 := by rw [← hW]; rfl
  refine ⟨fun s hs τ hτ => ?_, fun s hs hb τ hτ h => ?_⟩
  · have key : τ ≤ (nrB t σ).2.1 s ↔ τ ≤ σ.2.1 s ∨ τ ≤ vB t ri2 s 8 := by
      rw [e1, voR_e]
      split <;> omega
    rw [key, hA s hs τ hτ, hw s hs τ hτ]
    constructor
    · rintro (⟨j, h1, h2⟩ | ⟨c, i, j, o, h3, ⟨h1, h2⟩⟩)
      · exact ⟨j, by omega, h2⟩
      · have hp := pT_b ok c j
        obtain ⟨m, g1, g2⟩ := (hA _ (pS_b ok c j) _ (by omega)).mp h2
        exact ⟨m + 1, by omega, c, i, j, o, h3, g2⟩
    · rintro ⟨j, h1, h2⟩
      by_cases hj : j ≤ k
      · exact Or.inl ⟨j, hj, h2⟩
      · have e : j = k + 1 := by omega
        subst e
        obtain ⟨c, i, j, o, g2, g1⟩ := h2
        have hp := pT_b ok c j
        have g3 := (hA _ (pS_b ok c j) (pT t c j) (by omega)).mpr ⟨k, by omega, g1⟩
        by_cases hbit : σ.2.2.2 / 2 ^ pS t c j % 2 = 1
        · exact Or.inr ⟨c, i, j, o, g2, ⟨hbit, g3⟩⟩
        · obtain ⟨m, q1, q2⟩ := hB _ (pS_b ok c j) hbit _ (by omega) g3
          exact Or.inl ⟨m + 1, by omega, c, i, j, o, g2, q2⟩
  · rw [e2, voM_s _ _ _ 8 (by omega) s hs] at hb
    rw [e1, voR_e, if_neg (by omega)] at h
    obtain ⟨j, h1, h2⟩ := (hA s hs τ hτ).mp h
    exact ⟨j, by omega, h2⟩
theorem invB_i {t : TT} (ok : tOk t) {b : Nat} {y : Int} (hb : b < 8) (σ : XS) : ∀ k, invB t b y k (itrB t (bgB t b y σ) k)
  | 0 => invB_0 ok hb σ
  | k + 1 => invB_s ok (invB_i ok hb σ k)
theorem bthr_stop {t : TT} (ok : tOk t) {b : Nat} {y : Int} {k : Nat} (h : ∀ s, s < 8 → ∀ τ, 0 ≤ τ → (∃ j, j ≤ k ∧ BThr t b y j s τ) → ∃ j, j < k ∧ BThr t b y j s τ) : ∀ n s τ, s < 8 → 0 ≤ τ → BThr t b y n s τ → ∃ j, j < k ∧ BThr t b y j s τ
  | 0, s, τ, hs, hτ, h1 => h s hs τ hτ ⟨0, by omega, h1⟩
  | n + 1, s, τ, hs, hτ, h1 => by
    obtain ⟨c, i, j, o, g2, g1⟩ := h1
    have hp := pT_b ok c j
    obtain ⟨m, q1, q2⟩ := bthr_stop ok h n _ _ (pS_b ok c j) (by omega) g1
    exact h s hs τ hτ ⟨m + 1, by omega, c, i, j, o, g2, q2⟩
theorem xAnsB_s {t : TT} (ok : tOk t) {b : Nat} {y : Int} (hb8 : b < 8) {σ u : XS} {n : Nat} (hx : xAnsB t σ b y n u) {s : Nat} (hs : s < 8) {τ : Int} (hτ : 0 ≤ τ) : τ ≤ u.2.1 s ↔ ∃ j, j ≤ n ∧ BThr t b y j s τ := by
  obtain ⟨k, hk, hu, hb⟩ := hx
  have hi := invB_i ok (y := y) hb8 σ k
  rw [← hu] at hi
  rw [hi.1 s hs τ hτ]
  constructor
  · rintro ⟨j, h1, h2⟩
    exact ⟨j, by omega, h2⟩
  · rintro ⟨j, h1, h2⟩
    rcases hb with hb | hb
    · exact ⟨j, by omega, h2⟩
    · obtain ⟨m, q1, q2⟩ := bthr_stop ok (k := k) (fun s hs τ hτ hx => hi.2 s hs (by rw [hb]; exact bit_0 s hs) τ hτ ((hi.1 s hs τ hτ).mpr hx)) j s τ hs hτ h2
      exact ⟨m, by omega, q2⟩
end
section
/-! what the reference's search holds -/
set_option maxRecDepth 100000
theorem mrO_s (t : TT) (r k i : Nat) (oo : Nat → Int) (s : Nat) (τ : Int) : ∀ n, mrO t r k i oo n (r * 8 + s) ≤ τ ↔ oo (r * 8 + s) ≤ τ ∨ ∃ m, m < n ∧ pS t k (i + 1 + m) = s ∧ pT t k (i + 1 + m) ≤ τ
  | 0 => by
    rw [mrO]
    constructor
    · exact Or.inl
    · rintro (h | ⟨j, h, -⟩)
      · exact h
      · omega
  | n + 1 => by
    have ih := mrO_s t r k i oo s τ n
    have wd : (oo (r * 8 + s) ≤ τ ∨ ∃ m, m < n ∧ pS t k (i + 1 + m) = s ∧ pT t k (i + 1 + m) ≤ τ) → (oo (r * 8 + s) ≤ τ ∨ ∃ m, m < n + 1 ∧ pS t k (i + 1 + m) = s ∧ pT t k (i + 1 + m) ≤ τ) := by
      rintro (h | ⟨j, h1, h2⟩)
      · exact Or.inl h
      · exact Or.inr ⟨j, by omega, h2⟩
    rw [mrO]
    split
    · rename_i hc
      rw [upI_e]
      by_cases hs : r * 8 + s = r * 8 + tSt t (tLo t k * 6 + (i + 1 + n))
      · rw [if_pos hs]
        constructor
        · intro h
          exact Or.inr ⟨n, by omega, by unfold pS; omega, h⟩
        · rintro (h | ⟨j, h1, h2, h3⟩)
          · have := ih.mpr (Or.inl h)
            rw [hs] at this
            omega
          · by_cases e : j = n
            · rw [e] at h3
              exact h3
            · have := ih.mpr (Or.inr ⟨j, by omega, h2, h3⟩)
              rw [hs] at this
              omega
      · rw [if_neg hs]
        constructor
        · exact fun h => wd (ih.mp h)
        · rintro (h | ⟨j, h1, h2, h3⟩)
          · exact ih.mpr (Or.inl h)
          · by_cases e : j = n
            · rw [e] at h2
              unfold pS at h2
              exact absurd (by rw [h2]) hs
            · exact ih.mpr (Or.inr ⟨j, by omega, h2, h3⟩)
    · rename_i hc
      constructor
      · exact fun h => wd (ih.mp h)
      · rintro (h | ⟨j, h1, h2, h3⟩)
        · exact ih.mpr (Or.inl h)
        · by_cases e : j = n
          · rw [e] at h2 h3
            unfold pS at h2
            unfold pT at h3
            rw [h2] at hc
            omega
          · exact ih.mpr (Or.inr ⟨j, by omega, h2, h3⟩)
theorem rd_s (t : TT) (r k i : Nat) (th oo : Nat → Int) (s : Nat) (τ : Int) : rd t r k i th oo (r * 8 + s) ≤ τ ↔ oo (r * 8 + s) ≤ τ ∨ (th ((r - 1) * 8 + pS t k i) ≤ pT t k i ∧ ∃ j, i < j ∧ j < tSz t (tLo t k) ∧ pS t k j = s ∧ pT t k j ≤ τ) := by
  rw [rd]
  split
  · rename_i hc
    rw [mrO_s]
    constructor
    · rintro (h | ⟨m, h1, h2, h3⟩)
      · exact Or.inl h
      · exact Or.inr ⟨hc, i + 1 + m, by omega, by omega, h2, h3⟩
    · rintro (h | ⟨h0, j, h1, h2, h3, h4⟩)
      · exact Or.inl h
      · refine Or.inr ⟨j - (i + 1), by omega, ?_⟩
        rw [show i + 1 + (j - (i + 1)) = j by omega]
        exact ⟨h3, h4⟩
  · rename_i hc
    constructor
    · exact Or.inl
    · rintro (h | ⟨h0, -⟩)
      · exact h
      · exact absurd h0 hc
theorem msR_s (t : TT) (r : Nat) (th oo : Nat → Int) (s : Nat) (τ : Int) : ∀ n, msR t r th oo n (r * 8 + s) ≤ τ ↔ oo (r * 8 + s) ≤ τ ∨ ∃ m j, m < n ∧ m % 6 < j ∧ j < tSz t (tLo t (m / 6)) ∧ th ((r - 1) * 8 + pS t (m / 6) (m % 6)) ≤ pT t (m / 6) (m % 6) ∧ pS t (m / 6) j = s ∧ pT t (m / 6) j ≤ τ
  | 0 => by
    rw [msR]
    constructor
    · exact Or.inl
    · rintro (h | ⟨m, j, h, -⟩)
      · exact h
      · omega
  | n + 1 => by
    have ih := msR_s t r th oo s τ n
    rw [msR]
    split
    · rename_i hc
      rw [rd_s, ih]
      constructor
      · rintro ((h | ⟨m, j, h1, h2⟩) | ⟨h1, j, h2, h3, h4⟩)
        · exact Or.inl h
        · exact Or.inr ⟨m, j, by omega, h2⟩
        · exact Or.inr ⟨n, j, by omega, h2, h3, h1, h4⟩
      · rintro (h | ⟨m, j, h1, h2, h3, h4, h5⟩)
        · exact Or.inl (Or.inl h)
        · by_cases e : m = n
          · subst e
            exact Or.inr ⟨h4, j, h2, h3, h5⟩
          · exact Or.inl (Or.inr ⟨m, j, by omega, h2, h3, h4, h5⟩)
    · rename_i hc
      rw [ih]
      constructor
      · rintro (h | ⟨m, j, h1, h2⟩)
        · exact Or.inl h
        · exact Or.inr ⟨m, j, by omega, h2⟩
      · rintro (h | ⟨m, j, h1, h2, h3, h4⟩)
        · exact Or.inl h
        · by_cases e : m = n
          · subst e
            omega
          · exact Or.inr ⟨m, j, by omega, h2, h3, h4⟩
theorem msR_f {t : TT} (ok : tOk t) (r : Nat) (th oo : Nat → Int) {s : Nat} {τ : Int} (ho : ¬ oo (r * 8 + s) ≤ τ) : msR t r th oo (tT t * 6) (r * 8 + s) ≤ τ ↔ ∃ c i j, okR t c i j ∧ th ((r - 1) * 8 + pS t c i) ≤ pT t c i ∧ pS t c j = s ∧ pT t c j ≤ τ := by
  rw [msR_s]
  constructor
  · rintro (h | ⟨m, j, h1, h2, h3, h4⟩)
    · exact absurd h ho
    · exact ⟨m / 6, m % 6, j, ⟨by omega, h2, h3⟩, h4⟩
  · rintro ⟨c, i, j, ⟨o1, o2, o3⟩, h⟩
    have hz := tk_Sz ok (tLo t c)
    have e1 : (c * 6 + i) / 6 = c := by omega
    have e2 : (c * 6 + i) % 6 = i := by omega
    refine Or.inr ⟨c * 6 + i, j, by omega, ?_⟩
    rw [e1, e2]
    exact ⟨o2, o3, h⟩
theorem ms_s {t : TT} (ok : tOk t) {a : Nat} {z : Int} (ha : a < 8) (μ : MS) : ∀ k j, j ≤ k → ∀ s, s < 8 → ∀ τ, τ < 100000 → ((ms t a z μ k).2 (j * 8 + s) ≤ τ ↔ Thr t a z j s τ)
  | 0, j, hj, s, hs, τ, hτ => by
    have e : j = 0 := by omega
    subst e
    show mwT t (ms0 a z μ.1 8) 0 μ.2 8 (0 * 8 + s) ≤ τ ↔ _
    rw [mwT_e, if_pos (by omega), show 0 * 8 + s - 0 * 8 = s by omega]
    rw [wk_F ok (F := 100000) (P := fun s τ => s = a ∧ z ≤ τ) (fun s hs τ hτ => by
      show ms0 a z μ.1 8 (0 * 8 + s) ≤ τ ↔ _
      rw [ms0_e, if_pos (by omega), show 0 * 8 + s = s by omega]
      by_cases h : s = a
      · rw [if_pos h]
        exact ⟨fun q => ⟨h, q⟩, fun q => q.2⟩
      · rw [if_neg h]
        exact ⟨fun q => by omega, fun q => absurd q.1 h⟩) hs hτ]
    exact wk_0 ha
  | k + 1, j, hj, s, hs, τ, hτ => by
    have ih := ms_s ok (z := z) ha μ k
    show mwT t (msR t (k + 1) (ms t a z μ k).2 (f8 (k + 1) 100000 (ms t a z μ k).1 8) (tT t * 6)) (k + 1) (ms t a z μ k).2 8 (j * 8 + s) ≤ τ ↔ _
    rw [mwT_e]
    by_cases e : j ≤ k
    · rw [if_neg (by omega)]
      exact ih j e s hs τ hτ
    · have e : j = k + 1 := by omega
      subst e
      rw [if_pos (by omega), show (k + 1) * 8 + s - (k + 1) * 8 = s by omega]
      rw [wk_F ok (F := 100000) (P := fun s τ => ∃ c i j, okR t c i j ∧ Thr t a z k (pS t c i) (pT t c i) ∧ pS t c j = s ∧ pT t c j ≤ τ) (fun s hs τ hτ => by
        show msR t (k + 1) (ms t a z μ k).2 (f8 (k + 1) 100000 (ms t a z μ k).1 8) (tT t * 6) ((k + 1) * 8 + s) ≤ τ ↔ _
        rw [msR_f ok _ _ _ (by rw [f8_e, if_pos (by omega)]; omega)]
        constructor
        · rintro ⟨c, i, j, o, h1, h2⟩
          have hp := pT_b ok c i
          rw [show k + 1 - 1 = k by omega, ih k (by omega) _ (pS_b ok c i) _ (by omega)] at h1
          exact ⟨c, i, j, o, h1, h2⟩
        · rintro ⟨c, i, j, o, h1, h2⟩
          have hp := pT_b ok c i
          refine ⟨c, i, j, o, ?_, h2⟩
          rw [show k + 1 - 1 = k by omega, ih k (by omega) _ (pS_b ok c i) _ (by omega)]
          exact h1) hs hτ]
      exact wk_R (Q := fun c i => Thr t a z k (pS t c i) (pT t c i)) ok
theorem bsA_s (th : Nat → Int) (b : Nat) (τ : Int) : ∀ n, bsA th b n ≤ τ ↔ 100000 ≤ τ ∨ ∃ k, k < n ∧ th (k * 8 + b) ≤ τ
  | 0 => by
    rw [bsA]
    constructor
    · exact Or.inl
    · rintro (h | ⟨k, h, -⟩)
      · exact h
      · omega
  | n + 1 => by
    have ih := bsA_s th b τ n
    rw [bsA]
    split
    · rename_i hc
      constructor
      · intro h
        exact Or.inr ⟨n, by omega, h⟩
      · rintro (h | ⟨k, h1, h2⟩)
        · have := ih.mpr (Or.inl h)
          omega
        · by_cases e : k = n
          · rw [e] at h2
            exact h2
          · have := ih.mpr (Or.inr ⟨k, by omega, h2⟩)
            omega
    · rename_i hc
      constructor
      · intro h
        rcases ih.mp h with h | ⟨k, h1, h2⟩
        · exact Or.inl h
        · exact Or.inr ⟨k, by omega, h2⟩
      · rintro (h | ⟨k, h1, h2⟩)
        · exact ih.mpr (Or.inl h)
        · by_cases e : k = n
          · rw [e] at h2
            omega
          · exact ih.mpr (Or.inr ⟨k, by omega, h2⟩)
theorem bsA_le (th : Nat → Int) (b : Nat) : ∀ n, bsA th b n ≤ 100000
  | 0 => by simp [bsA]
  | n + 1 => by
    have h := bsA_le th b n
    rw [bsA]
    split <;> omega
theorem bs_s {t : TT} (ok : tOk t) {a : Nat} {z : Int} (ha : a < 8) (μ : MS) {K n : Nat} (hn : n ≤ K) {b : Nat} (hb : b < 8) {τ : Int} (hτ : τ < 100000) : bsA (ms t a z μ K).2 b (n + 1) ≤ τ ↔ ∃ j, j ≤ n ∧ Thr t a z j b τ := by
  rw [bsA_s]
  constructor
  · rintro (h | ⟨k, h1, h2⟩)
    · omega
    · exact ⟨k, by omega, (ms_s ok ha μ K k (by omega) b hb τ hτ).mp h2⟩
  · rintro ⟨j, h1, h2⟩
    exact Or.inr ⟨j, by omega, (ms_s ok ha μ K j (by omega) b hb τ hτ).mpr h2⟩
end
section
/-! the questions' answers agree -/
set_option maxRecDepth 100000
def pNo (a b z v : Int) : Prop := (v = -1 ∧ (a < 0 ∨ 8 ≤ a ∨ b < 0 ∨ 8 ≤ b)) ∨ (v = -3 ∧ (0 ≤ a ∧ a < 8 ∧ 0 ≤ b ∧ b < 8) ∧ (z < 0 ∨ 1000 < z))
def pYes (a b z : Int) : Prop := 0 ≤ a ∧ a < 8 ∧ 0 ≤ b ∧ b < 8 ∧ 0 ≤ z ∧ z ≤ 1000
theorem pNo_f {a b z v v' : Int} (h : pNo a b z v) (h' : pNo a b z v') : v = v' := by
  unfold pNo at h h'
  omega
theorem pNo_y {a b z v : Int} (h : pNo a b z v) (h' : pYes a b z) : False := by
  unfold pNo at h
  unfold pYes at h'
  omega
theorem eq_ans {X B : Int} {G : Int → Prop} (hx : ∀ τ, τ < 1000000 → (X ≤ τ ↔ G τ)) (hm : ∀ τ, τ < 100000 → (B ≤ τ ↔ G τ)) (hB : B ≤ 100000) (hG : ∀ τ, G τ → G 1030) : (1000000 ≤ X ∧ B = 100000) ∨ (X = B ∧ X ≤ 1030) := by
  by_cases h : X < 1000000
  · have g := (hx X h).mp (Int.le_refl _)
    have g2 := hG _ g
    have x1 := (hx 1030 (by omega)).mpr g2
    have b1 := (hm 1030 (by omega)).mpr g2
    have h3 := (hm X (by omega)).mpr g
    have h4 := (hx B (by omega)).mpr ((hm B (by omega)).mp (Int.le_refl _))
    exact Or.inr ⟨by omega, x1⟩
  · refine Or.inl ⟨by omega, ?_⟩
    by_cases hb : B < 100000
    · have := (hx B (by omega)).mpr ((hm B hb).mp (Int.le_refl _))
      omega
    · omega
theorem fin_G {t : TT} (ok : tOk t) {a : Nat} {z : Int} (hz : z ≤ 1000) {n s : Nat} : ∀ τ, (∃ j, j ≤ n ∧ Thr t a z j s τ) → ∃ j, j ≤ n ∧ Thr t a z j s 1030 := by
  rintro τ ⟨j, h1, h2⟩
  exact ⟨j, h1, Thr_fin ok hz h2⟩
theorem ans_e {t : TT} (ok : tOk t) {σ u : XS} {μ w : MS} {a b z v v' : Int} {n : Nat}
    (hx : pNo a b z v ∨ (pYes a b z ∧ xAns t σ a.toNat z n u ∧ ((v = -5 ∧ 1000000 ≤ u.2.1 b.toNat) ∨ (v = u.2.1 b.toNat ∧ u.2.1 b.toNat < 1000000))))
    (hm : pNo a b z v' ∨ (pYes a b z ∧ w = ms t a.toNat z μ n ∧ ((v' = -5 ∧ bsA w.2 b.toNat (n + 1) = 100000) ∨ (v' = bsA w.2 b.toNat (n + 1) ∧ bsA w.2 b.toNat (n + 1) ≠ 100000)))) : v = v' := by
  rcases hx with hx | ⟨hy, ⟨k, hk, hu, hb⟩, hx⟩
  · rcases hm with hm | ⟨hy, -⟩
    · exact pNo_f hx hm
    · exact (pNo_y hx hy).elim
  · rcases hm with hm | ⟨-, hw, hm⟩
    · exact (pNo_y hm hy).elim
    · obtain ⟨y1, y2, y3, y4, y5, y6⟩ := hy
      have hb8 : b.toNat < 8 := by omega
      have ha8 : a.toNat < 8 := by omega
      have h := eq_ans (X := u.2.1 b.toNat) (B := bsA w.2 b.toNat (n + 1)) (G := fun τ => ∃ j, j ≤ n ∧ Thr t a.toNat z j b.toNat τ) (fun τ hτ => xAns_s ok ha8 hk hu hb hb8 hτ) (fun τ hτ => by rw [hw]; exact bs_s ok ha8 μ (Nat.le_refl n) hb8 hτ) (bsA_le _ _ _) (fin_G ok y6)
      omega
theorem itr_le (t : TT) (σ : XS) (b i : Nat) : ∀ d, (itr t σ (i + d)).2.1 b ≤ (itr t σ i).2.1 b
  | 0 => Int.le_refl _
  | d + 1 => Int.le_trans (nr_le t (itr t σ (i + d)) b) (itr_le t σ b i d)
theorem rdL_s (t : TT) (σ : XS) (b : Nat) (hb : ∀ k, (itr t σ k).2.1 b ≤ 1000000) : ∀ K, (1000000 ≤ (itr t σ K).2.1 b ∧ rdL t σ b K = -5) ∨ ((itr t σ K).2.1 b < 1000000 ∧ ∃ j : Nat, j ≤ K ∧ rdL t σ b K = (j : Int) ∧ (itr t σ j).2.1 b = (itr t σ K).2.1 b ∧ ∀ i, i < j → (itr t σ i).2.1 b ≠ (itr t σ K).2.1 b)
  | 0 => by
    rw [rdL]
    show (1000000 ≤ σ.2.1 b ∧ _) ∨ (σ.2.1 b < 1000000 ∧ _)
    by_cases h : σ.2.1 b < 1000000
    · rw [if_pos h]
      exact Or.inr ⟨h, 0, by omega, rfl, rfl, fun i hi => absurd hi (by omega)⟩
    · rw [if_neg h]
      exact Or.inl ⟨by omega, rfl⟩
  | K + 1 => by
    have ih := rdL_s t σ b hb K
    have hle : (itr t σ (K + 1)).2.1 b ≤ (itr t σ K).2.1 b := nr_le t (itr t σ K) b
    have hK := hb K
    rw [rdL]
    by_cases h : (itr t σ (K + 1)).2.1 b < (itr t σ K).2.1 b
    · rw [if_pos h]
      refine Or.inr ⟨by omega, K + 1, by omega, rfl, rfl, fun i hi => ?_⟩
      have h2 := itr_le t σ b i (K - i)
      rw [show i + (K - i) = K by omega] at h2
      omega
    · rw [if_neg h]
      have e : (itr t σ (K + 1)).2.1 b = (itr t σ K).2.1 b := by omega
      rw [e]
      rcases ih with ih | ⟨h1, j, h2, h3⟩
      · exact Or.inl ih
      · exact Or.inr ⟨h1, j, by omega, h3⟩
theorem ans_r {t : TT} (ok : tOk t) {σ u : XS} {μ w : MS} {a b z v v' : Int}
    (hx : pNo a b z v ∨ (pYes a b z ∧ ∃ k, k ≤ 12 ∧ u = itr t (bg t a.toNat z σ) k ∧ (k = 12 ∨ u.2.2.2 = 0) ∧ v = rdL t (bg t a.toNat z σ) b.toNat k))
    (hm : pNo a b z v' ∨ (pYes a b z ∧ w = ms t a.toNat z μ 12 ∧ ((v' = -5 ∧ bsA w.2 b.toNat 13 = 100000) ∨ (v' = bsA w.2 b.toNat 13 ∧ bsA w.2 b.toNat 13 < 0) ∨ (∃ k : Nat, v' = (k : Int) ∧ k ≤ 12 ∧ (∀ j, j < k → bsA w.2 b.toNat (j + 1) ≠ bsA w.2 b.toNat 13) ∧ (k = 12 ∨ bsA w.2 b.toNat (k + 1) = bsA w.2 b.toNat 13) ∧ bsA w.2 b.toNat 13 ≠ 100000)))) : v = v' := by
  rcases hx with hx | ⟨hy, k, hk, hu, hb, hx⟩
  · rcases hm with hm | ⟨hy, -⟩
    · exact pNo_f hx hm
    · exact (pNo_y hx hy).elim
  · rcases hm with hm | ⟨-, hw, hm⟩
    · exact (pNo_y hm hy).elim
    · obtain ⟨y1, y2, y3, y4, y5, y6⟩ := hy
      have hb8 : b.toNat < 8 := by omega
      have ha8 : a.toNat < 8 := by omega
      have hall : ∀ j, j ≤ 12 → (1000000 ≤ (itr t (bg t a.toNat z σ) j).2.1 b.toNat ∧ bsA w.2 b.toNat (j + 1) = 100000) ∨ ((itr t (bg t a.toNat z σ) j).2.1 b.toNat = bsA w.2 b.toNat (j + 1) ∧ (itr t (bg t a.toNat z σ) j).2.1 b.toNat ≤ 1030) := fun j hj =>
        eq_ans (G := fun τ => ∃ i, i ≤ j ∧ Thr t a.toNat z i b.toNat τ) (fun τ hτ => (inv_i ok ha8 σ j).1 b.toNat hb8 τ hτ) (fun τ hτ => by rw [hw]; exact bs_s ok ha8 μ hj hb8 hτ) (bsA_le _ _ _) (fin_G ok y6)
      have h12 : (1000000 ≤ u.2.1 b.toNat ∧ bsA w.2 b.toNat 13 = 100000) ∨ (u.2.1 b.toNat = bsA w.2 b.toNat 13 ∧ u.2.1 b.toNat ≤ 1030) :=
        eq_ans (G := fun τ => ∃ i, i ≤ 12 ∧ Thr t a.toNat z i b.toNat τ) (fun τ hτ => xAns_s ok ha8 hk hu hb hb8 hτ) (fun τ hτ => by rw [hw]; exact bs_s ok ha8 μ (Nat.le_refl 12) hb8 hτ) (bsA_le _ _ _) (fin_G ok y6)
      have hnn : u.2.1 b.toNat < 1000000 → 0 ≤ u.2.1 b.toNat := fun h => by
        obtain ⟨j, -, hj⟩ := (xAns_s ok ha8 hk hu hb hb8 h).mp (Int.le_refl _)
        exact Thr_nn ok y5 hj
      have hr := rdL_s t (bg t a.toNat z σ) b.toNat (fun j => ((itr_ok ok (bg_ok ok ⟨y5, y6⟩ σ) j).1 b.toNat hb8).2) k
      rw [← hu, ← hx] at hr
      rcases hr with ⟨r1, r2⟩ | ⟨r1, j, r2, r3, r4, r5⟩
      · rcases hm with ⟨m1, m2⟩ | ⟨m1, m2⟩ | ⟨k', m1, m2, m3, m4, m5⟩
        · omega
        · omega
        · omega
      · have hn0 := hnn r1
        rcases hm with ⟨m1, m2⟩ | ⟨m1, m2⟩ | ⟨k', m1, m2, m3, m4, m5⟩
        · omega
        · omega
        · have hj := hall j (by omega)
          rw [r4] at hj
          rcases Nat.lt_trichotomy j k' with q | q | q
          · have h1 := m3 j q
            omega
          · omega
          · have h1 := r5 k' q
            have h2 := hall k' m2
            omega
theorem ans_l {t : TT} (ok : tOk t) {σ u : XS} {a b z v v' : Int}
    (hx : pNo a b z v ∨ (pYes a b z ∧ xAnsB t σ b.toNat z 12 u ∧ ((v = -5 ∧ u.2.1 a.toNat < 0) ∨ (v = 1000 ∧ 1000 < u.2.1 a.toNat) ∨ (v = u.2.1 a.toNat ∧ 0 ≤ u.2.1 a.toNat ∧ u.2.1 a.toNat ≤ 1000))))
    (hm : pNo a b z v' ∨ (pYes a b z ∧ ((v' = -5 ∧ ∀ s : Int, 0 ≤ s → s ≤ z → (∃ μ : MS, z < bsA (ms t a.toNat s μ 8).2 b.toNat 9)) ∨ ((0 ≤ v' ∧ v' ≤ z) ∧ (∃ μ : MS, bsA (ms t a.toNat v' μ 8).2 b.toNat 9 ≤ z) ∧ ∀ s : Int, v' < s → s ≤ z → (∃ μ : MS, z < bsA (ms t a.toNat s μ 8).2 b.toNat 9))))) : v = v' := by
  rcases hx with hx | ⟨hy, hu, hx⟩
  · rcases hm with hm | ⟨hy, -⟩
    · exact pNo_f hx hm
    · exact (pNo_y hx hy).elim
  · rcases hm with hm | ⟨-, hm⟩
    · exact (pNo_y hm hy).elim
    · obtain ⟨y1, y2, y3, y4, y5, y6⟩ := hy
      have hb8 : b.toNat < 8 := by omega
      have ha8 : a.toNat < 8 := by omega
      have key : ∀ (s : Int) (μ : MS), 0 ≤ s → (bsA (ms t a.toNat s μ 8).2 b.toNat 9 ≤ z ↔ s ≤ u.2.1 a.toNat) := by
        intro s μ hs
        rw [bs_s ok ha8 μ (Nat.le_refl 8) hb8 (by omega), xAnsB_s ok hb8 hu ha8 hs]
        constructor
        · rintro ⟨j, h1, h2⟩
          exact ⟨j, by omega, (dual j).mp h2⟩
        · rintro ⟨j, h1, h2⟩
          obtain ⟨i, g1, g2⟩ := sat ok j b.toNat z hb8 ((dual j).mpr h2)
          exact ⟨i, by omega, g2⟩
      have hle : 0 ≤ u.2.1 a.toNat → u.2.1 a.toNat ≤ z := fun h => by
        obtain ⟨j, -, h2⟩ := (xAnsB_s ok hb8 hu ha8 h).mp (Int.le_refl _)
        exact BThr_le ok j _ _ h2
      rcases hm with ⟨m1, m2⟩ | ⟨m1, ⟨μ, m2⟩, m3⟩
      · rcases hx with x | x | x
        · omega
        · have := hle (by omega)
          omega
        · obtain ⟨μ, g⟩ := m2 _ x.2.1 (hle x.2.1)
          have := (key _ μ x.2.1).mpr (Int.le_refl _)
          omega
      · have h1 := (key v' μ m1.1).mp m2
        have h2 := hle (by omega)
        by_cases h3 : v' < u.2.1 a.toNat
        · obtain ⟨μ', g⟩ := m3 _ h3 h2
          have := (key _ μ' (by omega)).mpr (Int.le_refl _)
          omega
        · omega
theorem wn_c {f g : Nat → Int} {y : Int} : ∀ n, (∀ s, s < n → (f s ≤ y ↔ g s ≤ y)) → wn f y n = wn g y n
  | 0, _ => rfl
  | n + 1, h => by
    have ih := wn_c n (fun s hs => h s (by omega))
    have h1 := h n (by omega)
    rw [wn, wn, ih]
    by_cases hf : f n ≤ y
    · rw [if_pos hf, if_pos (h1.mp hf)]
    · rw [if_neg hf, if_neg (fun q => hf (h1.mpr q))]
theorem ans_w {t : TT} (ok : tOk t) {σ u : XS} {μ w : MS} {a z un v v' : Int}
    (hx : pNo a a z v ∨ (pYes a a z ∧ (un < 0 ∨ 1000 < un) ∧ v = -3) ∨ (pYes a a z ∧ (0 ≤ un ∧ un ≤ 1000) ∧ xAns t σ a.toNat z 12 u ∧ v = ((wn u.2.1 un 8 : Nat) : Int)))
    (hm : pNo a a z v' ∨ (pYes a a z ∧ (un < 0 ∨ 1000 < un) ∧ v' = -3) ∨ (pYes a a z ∧ (0 ≤ un ∧ un ≤ 1000) ∧ w = ms t a.toNat z μ 12 ∧ v' = ((wn (fun s => bsA w.2 s 13) un 8 : Nat) : Int))) : v = v' := by
  rcases hx with hx | ⟨hy, h1, h2⟩ | ⟨hy, h1, ⟨k, hk, hu, hb⟩, h3⟩
  · rcases hm with hm | ⟨hy, -⟩ | ⟨hy, -⟩
    · exact pNo_f hx hm
    · exact (pNo_y hx hy).elim
    · exact (pNo_y hx hy).elim
  · rcases hm with hm | ⟨-, -, g2⟩ | ⟨-, g1, -⟩
    · exact (pNo_y hm hy).elim
    · omega
    · omega
  · rcases hm with hm | ⟨-, g1, -⟩ | ⟨-, -, hw, g3⟩
    · exact (pNo_y hm hy).elim
    · omega
    · obtain ⟨y1, y2, y3, y4, y5, y6⟩ := hy
      have ha8 : a.toNat < 8 := by omega
      rw [h3, g3]
      refine congrArg (fun x : Nat => (x : Int)) (wn_c 8 (fun s hs => ?_))
      rw [xAns_s ok ha8 hk hu hb hs (by omega)]
      show _ ↔ bsA w.2 s 13 ≤ un
      rw [hw]
      exact (bs_s ok ha8 μ (Nat.le_refl 12) hs (by omega)).symm
end
section
/-! the changes: one answer, one timetable; what holds of every timetable stays -/
set_option maxRecDepth 100000
theorem upN_e (f : Nat → Nat) (k : Nat) (v : Nat) (j : Nat) : upN f k v j = if j = k then v else f j := rfl
theorem aLine_f {t : TT} {s v v' : Int} {u u' : TT} (h : aLine t s v u) (h' : aLine t s v' u') : v = v' ∧ u = u' := by
  unfold aLine at h h'
  rcases h with ⟨h1, h2, h3⟩ | ⟨h1, h2, h3⟩ | ⟨h1, h2, h3⟩ <;> rcases h' with ⟨g1, g2, g3⟩ | ⟨g1, g2, g3⟩ | ⟨g1, g2, g3⟩ <;> first | exact ⟨h1.trans g1.symm, h2.trans g2.symm⟩ | (exfalso; omega)
theorem aTrip_f {t : TT} {l s v v' : Int} {u u' : TT} (h : aTrip t l s v u) (h' : aTrip t l s v' u') : v = v' ∧ u = u' := by
  unfold aTrip at h h'
  rcases h with ⟨h1, h2, h3⟩ | ⟨h1, h2, h3⟩ | ⟨h1, h2, h3⟩ | ⟨h1, h2, h3⟩ <;> rcases h' with ⟨g1, g2, g3⟩ | ⟨g1, g2, g3⟩ | ⟨g1, g2, g3⟩ | ⟨g1, g2, g3⟩ <;> first | exact ⟨h1.trans g1.symm, h2.trans g2.symm⟩ | (exfalso; omega)
theorem aFoot_f {t : TT} {a b s v v' : Int} {u u' : TT} (h : aFoot t a b s v u) (h' : aFoot t a b s v' u') : v = v' ∧ u = u' := by
  unfold aFoot at h h'
  rcases h with ⟨h1, h2, h3⟩ | ⟨h1, h2, h3⟩ | ⟨h1, h2, h3⟩ <;> rcases h' with ⟨g1, g2, g3⟩ | ⟨g1, g2, g3⟩ | ⟨g1, g2, g3⟩ <;> first | exact ⟨h1.trans g1.symm, h2.trans g2.symm⟩ | (exfalso; omega)
theorem aDel_f {t : TT} {k s v v' : Int} {u u' : TT} (h : aDel t k s v u) (h' : aDel t k s v' u') : v = v' ∧ u = u' := by
  unfold aDel at h h'
  rcases h with ⟨h1, h2, h3⟩ | ⟨h1, h2, h3⟩ | ⟨h1, h2, h3⟩ <;> rcases h' with ⟨g1, g2, g3⟩ | ⟨g1, g2, g3⟩ | ⟨g1, g2, g3⟩ <;> first | exact ⟨h1.trans g1.symm, h2.trans g2.symm⟩ | (exfalso; omega)
theorem aExt_f {t : TT} {l s mi v v' : Int} {u u' : TT} (h : aExt t l s mi v u) (h' : aExt t l s mi v' u') : v = v' ∧ u = u' := by
  have e12 : ∀ {A : Prop}, (∃ i, i < tSz t l.toNat ∧ tSt t (l.toNat * 6 + i) = s.toNat) → (∀ i, i < tSz t l.toNat → tSt t (l.toNat * 6 + i) ≠ s.toNat) → A := fun ⟨i, h1, h2⟩ h3 => absurd h2 (h3 i h1)
  have e45 : ∀ {A : Prop}, (6 ≤ tSz t l.toNat ∨ ∃ k, k < tT t ∧ tLo t k = l.toNat) → tSz t l.toNat < 6 → (∀ k, k < tT t → tLo t k ≠ l.toNat) → A := by
    rintro A (h1 | ⟨k, h1, h2⟩) h3 h4
    · omega
    · exact absurd h2 (h4 k h1)
  unfold aExt at h h'
  rcases h with ⟨h1, h2, h3⟩ | ⟨h1, h2, h3, h4⟩ | ⟨h1, h2, h3, h4, h5⟩ | ⟨h1, h2, h3, h4, h5, h6⟩ | ⟨h1, h2, h3, h4, h5, h6, h7⟩ | ⟨h1, h2, h3, h4, h5, h6, h7, h8⟩ <;> rcases h' with ⟨g1, g2, g3⟩ | ⟨g1, g2, g3, g4⟩ | ⟨g1, g2, g3, g4, g5⟩ | ⟨g1, g2, g3, g4, g5, g6⟩ | ⟨g1, g2, g3, g4, g5, g6, g7⟩ | ⟨g1, g2, g3, g4, g5, g6, g7, g8⟩ <;> first | exact ⟨h1.trans g1.symm, h2.trans g2.symm⟩ | (exfalso; omega) | exact e12 h5 g5 | exact e12 g5 h5 | exact e45 h7 g7 g8 | exact e45 g7 h7 h8
theorem tOk_line {t : TT} (h : tOk t) {s : Nat} (hs : s < 8) (hl : tL t < 5) : tOk (tLine t s) := by
  have hLT := tk_LT h
  refine ⟨⟨?_, ?_⟩, ?_, ?_, ?_, ?_, ?_, ?_, ?_, ?_, ?_, ?_⟩
  · show tL t + 1 ≤ 5
    omega
  · exact hLT.2
  · intro j
    show upN (tSz t) (tL t) 1 j ≤ 6
    have := tk_Sz h j
    rw [upN_e]
    split <;> omega
  · intro j
    show upN (tSt t) (tL t * 6) s j < 8
    have := tk_St h j
    rw [upN_e]
    split <;> omega
  · intro j
    show 0 ≤ upI (tOg t) (tL t * 6) 0 j ∧ upI (tOg t) (tL t * 6) 0 j ≤ 150
    have := tk_Og h j
    rw [upI_e]
    split <;> omega
  · exact tk_Lo (t := t) h
  · exact tk_So (t := t) h
  · exact tk_Wk (t := t) h
  · intro k hk
    show tLo t k < tL t + 1
    have := tk_LoL h (k := k) hk
    omega
  · intro l hl2
    show 1 ≤ upN (tSz t) (tL t) 1 l
    have hl2 : l < tL t + 1 := hl2
    rw [upN_e]
    split
    · omega
    · exact tk_Sz1 h (by omega)
  · intro j
    show upI (tOg t) (tL t * 6) 0 j ≤ 30 * ((j % 6 : Nat) : Int)
    have := tk_Og6 h j
    rw [upI_e]
    split <;> omega
  · intro l i hi
    show upI (tOg t) (tL t * 6) 0 (l * 6 + i) ≤ upI (tOg t) (tL t * 6) 0 (l * 6 + i + 1)
    have hi : i + 1 < upN (tSz t) (tL t) 1 l := hi
    rw [upN_e] at hi
    by_cases e : l = tL t
    · rw [if_pos e] at hi
      omega
    · rw [if_neg e] at hi
      have h6 := tk_Sz h l
      rw [upI_e, upI_e, if_neg (by omega), if_neg (by omega)]
      exact tk_mono h hi
theorem tOk_ext {t : TT} (h : tOk t) {l s : Nat} {mi : Int} (hl : l < tL t) (hs : s < 8) (hm : 1 ≤ mi ∧ mi ≤ 30) (hz : tSz t l < 6) : tOk (tExt t l s mi) := by
  have hLT := tk_LT h
  have h1 := tk_Sz1 h hl
  have hg := tk_Og6 h (l * 6 + tSz t l - 1)
  have hg0 := tk_Og h (l * 6 + tSz t l - 1)
  have hm1 : (l * 6 + tSz t l - 1) % 6 = tSz t l - 1 := by omega
  have hm2 : (l * 6 + tSz t l) % 6 = tSz t l := by omega
  rw [hm1] at hg
  refine ⟨⟨?_, ?_⟩, ?_, ?_, ?_, ?_, ?_, ?_, ?_, ?_, ?_, ?_⟩
  · exact hLT.1
  · exact hLT.2
  · intro j
    show upN (tSz t) l (tSz t l + 1) j ≤ 6
    have := tk_Sz h j
    rw [upN_e]
    split <;> omega
  · intro j
    show upN (tSt t) (l * 6 + tSz t l) s j < 8
    have := tk_St h j
    rw [upN_e]
    split <;> omega
  · intro j
    show 0 ≤ upI (tOg t) (l * 6 + tSz t l) (tOg t (l * 6 + tSz t l - 1) + mi) j ∧ upI (tOg t) (l * 6 + tSz t l) (tOg t (l * 6 + tSz t l - 1) + mi) j ≤ 150
    have := tk_Og h j
    rw [upI_e]
    split <;> omega
  · exact tk_Lo (t := t) h
  · exact tk_So (t := t) h
  · exact tk_Wk (t := t) h
  · intro k hk
    exact tk_LoL (t := t) h (k := k) hk
  · intro l2 hl2
    show 1 ≤ upN (tSz t) l (tSz t l + 1) l2
    rw [upN_e]
    split
    · omega
    · exact tk_Sz1 h hl2
  · intro j
    show upI (tOg t) (l * 6 + tSz t l) (tOg t (l * 6 + tSz t l - 1) + mi) j ≤ 30 * ((j % 6 : Nat) : Int)
    have := tk_Og6 h j
    rw [upI_e]
    split
    · rename_i e
      rw [e, hm2]
      omega
    · exact this
  · intro l2 i hi
    show upI (tOg t) (l * 6 + tSz t l) (tOg t (l * 6 + tSz t l - 1) + mi) (l2 * 6 + i) ≤ upI (tOg t) (l * 6 + tSz t l) (tOg t (l * 6 + tSz t l - 1) + mi) (l2 * 6 + i + 1)
    have hi : i + 1 < upN (tSz t) l (tSz t l + 1) l2 := hi
    rw [upN_e] at hi
    by_cases e : l2 = l
    · rw [if_pos e] at hi
      subst e
      rw [upI_e, upI_e, if_neg (by omega)]
      by_cases e2 : i + 1 = tSz t l2
      · rw [if_pos (by omega), show l2 * 6 + tSz t l2 - 1 = l2 * 6 + i by omega]
        omega
      · rw [if_neg (by omega)]
        exact tk_mono h (by omega)
    · rw [if_neg e] at hi
      have h6 := tk_Sz h l2
      rw [upI_e, upI_e, if_neg (by omega), if_neg (by omega)]
      exact tk_mono h hi
theorem tOk_trip {t : TT} (h : tOk t) {l : Nat} {st : Int} (hl : l < tL t) (hs : 0 ≤ st ∧ st ≤ 500) (hT : tT t < 12) : tOk (tTrip t l st) := by
  have hLT := tk_LT h
  refine ⟨⟨?_, ?_⟩, ?_, ?_, ?_, ?_, ?_, ?_, ?_, ?_, ?_, ?_⟩
  · exact hLT.1
  · show tT t + 1 ≤ 12
    omega
  · exact tk_Sz (t := t) h
  · exact tk_St (t := t) h
  · exact tk_Og (t := t) h
  · intro j
    show upN (tLo t) (tT t) l j < 5
    have := tk_Lo h j
    rw [upN_e]
    split <;> omega
  · intro j
    show 0 ≤ upI (tSo t) (tT t) st j ∧ upI (tSo t) (tT t) st j ≤ 500
    have := tk_So h j
    rw [upI_e]
    split <;> omega
  · exact tk_Wk (t := t) h
  · intro k hk
    have hk : k < tT t + 1 := hk
    show upN (tLo t) (tT t) l k < tL t
    rw [upN_e]
    split
    · exact hl
    · exact tk_LoL h (by omega)
  · exact fun l hl => tk_Sz1 (t := t) h hl
  · exact tk_Og6 (t := t) h
  · exact fun l i hi => tk_mono (t := t) h hi
theorem tOk_foot {t : TT} (h : tOk t) (a b : Nat) {mi : Int} (hm : 0 ≤ mi ∧ mi ≤ 30) : tOk (tFoot t a b mi) := by
  have hLT := tk_LT h
  refine ⟨⟨?_, ?_⟩, ?_, ?_, ?_, ?_, ?_, ?_, ?_, ?_, ?_, ?_⟩
  · exact hLT.1
  · exact hLT.2
  · exact tk_Sz (t := t) h
  · exact tk_St (t := t) h
  · exact tk_Og (t := t) h
  · exact tk_Lo (t := t) h
  · exact tk_So (t := t) h
  · intro j
    show 0 ≤ upI (upI (tWk t) (a * 8 + b) mi) (b * 8 + a) mi j ∧ upI (upI (tWk t) (a * 8 + b) mi) (b * 8 + a) mi j ≤ 30
    have := tk_Wk h j
    rw [upI_e, upI_e]
    split
    · exact hm
    · split
      · exact hm
      · exact this
  · exact fun k hk => tk_LoL (t := t) h hk
  · exact fun l hl => tk_Sz1 (t := t) h hl
  · exact tk_Og6 (t := t) h
  · exact fun l i hi => tk_mono (t := t) h hi
theorem tOk_del {t : TT} (h : tOk t) (k : Nat) {st : Int} (hs : 0 ≤ st ∧ st ≤ 500) : tOk (tDel t k st) := by
  have hLT := tk_LT h
  refine ⟨⟨?_, ?_⟩, ?_, ?_, ?_, ?_, ?_, ?_, ?_, ?_, ?_, ?_⟩
  · exact hLT.1
  · exact hLT.2
  · exact tk_Sz (t := t) h
  · exact tk_St (t := t) h
  · exact tk_Og (t := t) h
  · exact tk_Lo (t := t) h
  · intro j
    show 0 ≤ upI (tSo t) k st j ∧ upI (tSo t) k st j ≤ 500
    have := tk_So h j
    rw [upI_e]
    split
    · exact hs
    · exact this
  · exact tk_Wk (t := t) h
  · exact fun k hk => tk_LoL (t := t) h hk
  · exact fun l hl => tk_Sz1 (t := t) h hl
  · exact tk_Og6 (t := t) h
  · exact fun l i hi => tk_mono (t := t) h hi
theorem aLine_k {t : TT} (h : tOk t) {s v : Int} {u : TT} (ha : aLine t s v u) : tOk u := by
  rcases ha with ⟨-, h2, -⟩ | ⟨-, h2, -⟩ | ⟨-, h2, h3, h4⟩
  · rw [h2]; exact h
  · rw [h2]; exact h
  · rw [h2]; exact tOk_line h (by omega) h4
theorem aExt_k {t : TT} (h : tOk t) {l s mi v : Int} {u : TT} (ha : aExt t l s mi v u) : tOk u := by
  rcases ha with ⟨-, h2, -⟩ | ⟨-, h2, -⟩ | ⟨-, h2, -⟩ | ⟨-, h2, -⟩ | ⟨-, h2, -⟩ | ⟨-, h2, h3, h4, h5, h6, h7, h8⟩
  · rw [h2]; exact h
  · rw [h2]; exact h
  · rw [h2]; exact h
  · rw [h2]; exact h
  · rw [h2]; exact h
  · rw [h2]; exact tOk_ext h (by omega) (by omega) h6 h7
theorem aTrip_k {t : TT} (h : tOk t) {l s v : Int} {u : TT} (ha : aTrip t l s v u) : tOk u := by
  rcases ha with ⟨-, h2, -⟩ | ⟨-, h2, -⟩ | ⟨-, h2, -⟩ | ⟨-, h2, h3, h4, h5⟩
  · rw [h2]; exact h
  · rw [h2]; exact h
  · rw [h2]; exact h
  · rw [h2]; exact tOk_trip h (by omega) h4 h5
theorem aFoot_k {t : TT} (h : tOk t) {a b s v : Int} {u : TT} (ha : aFoot t a b s v u) : tOk u := by
  rcases ha with ⟨-, h2, -⟩ | ⟨-, h2, -⟩ | ⟨-, h2, h3, h4⟩
  · rw [h2]; exact h
  · rw [h2]; exact h
  · rw [h2]; exact tOk_foot h _ _ h4
theorem aDel_k {t : TT} (h : tOk t) {k s v : Int} {u : TT} (ha : aDel t k s v u) : tOk u := by
  rcases ha with ⟨-, h2, -⟩ | ⟨-, h2, -⟩ | ⟨-, h2, h3, h4⟩
  · rw [h2]; exact h
  · rw [h2]; exact h
  · rw [h2]; exact tOk_del h _ h4
/-- the empty timetable -/
def tt0 : TT := (0, fun _ => 0, fun _ => 0, fun _ => 0, 0, fun _ => 0, fun _ => 0, fun _ => 0)
theorem tOk_tt0 : tOk tt0 := by
  refine ⟨⟨?_, ?_⟩, ?_, ?_, ?_, ?_, ?_, ?_, ?_, ?_, ?_, ?_⟩
  · exact Nat.zero_le _
  · exact Nat.zero_le _
  · exact fun _ => Nat.zero_le _
  · exact fun _ => show 0 < 8 by decide
  · exact fun _ => show (0 : Int) ≤ 0 ∧ (0 : Int) ≤ 150 by decide
  · exact fun _ => show 0 < 5 by decide
  · exact fun _ => show (0 : Int) ≤ 0 ∧ (0 : Int) ≤ 500 by decide
  · exact fun _ => show (0 : Int) ≤ 0 ∧ (0 : Int) ≤ 30 by decide
  · exact fun k hk => absurd (show k < 0 from hk) (by omega)
  · exact fun k hk => absurd (show k < 0 from hk) (by omega)
  · exact fun j => show (0 : Int) ≤ 30 * ((j % 6 : Nat) : Int) by omega
  · exact fun l i hi => absurd (show i + 1 < 0 from hi) (by omega)
end
section
/-! the constructors -/
set_option maxRecDepth 100000
def iz : Nat → Int := fun _ => 0
abbrev XF0 : List Value := [.int (iI ((0 : Nat) : Int)), .null, .null, .null, .int (iI ((0 : Nat) : Int)), .null, .null, .null, .null, .null, .null, .int (iI ((0 : Nat) : Int))]
abbrev MF0 : List Value := [.int (iI ((0 : Nat) : Int)), .null, .null, .null, .int (iI ((0 : Nat) : Int)), .null, .null, .null, .null, .null]
def q10 (a0 a1 a2 a3 a4 a5 a6 a7 a8 a9 : Nat) : Nat → Nat := fun k => match k with
  | 0 => a0
  | 1 => a1
  | 2 => a2
  | 3 => a3
  | 4 => a4
  | 5 => a5
  | 6 => a6
  | 7 => a7
  | 8 => a8
  | _ => a9
theorem rp_d0 {D : va_G} {cl : List vw_C} {s : State} {d0 cA : ClassId} (h : va_K D cl ([(d0, .int)] ++ [(cA, .int)]) s) : cA = d0 := by
  have h0 : s.vm.findClass ("[" ++ FieldType.int.toString) = some d0 := (h.2 0 _ rfl).2
  have h1 : s.vm.findClass ("[" ++ FieldType.int.toString) = some cA := (h.2 1 _ rfl).2
  exact Option.some.inj (h1.symm.trans h0)
section RN
variable {p : Program} {l : Launch} {e : Env} {R : Room} {s : State} {m : MethodId} {args : Array Value} {below : List Frame} {meth : Method} {c : Code} {H H0 : Heap} {locs : List Loc} {cells slots : Nat} {Q : State → Prop} {own : String} {cc : ByteArray} {nL pc : Nat} {ls : Array Slot} {rest : List Value} {D : va_G} {d0 : ClassId} {A : Nat → Prop} {ws : va_W}
theorem rp_newa (E : rp_E p s m meth c args own cc nL D d0) (w : rp_H D A s.heap H locs ws) (hA : ∀ q, s.heap.size ≤ q → A q) {N : Nat} (hN : N ≤ 1000) (hc : cells + 1 ≤ R.cells) (hs : slots + N ≤ R.slots) (hdg : decode cc pc = .ok (.newarray .int, 2)) (kk : ∀ (a : Nat) (H1 : Heap), rp_H D A s.heap H1 locs (ws ++ [(a, .inl (d0, N, .inl (iF iz)))]) → W p l e R s m args below meth c H1 locs (cells + 1) (slots + N) Q (F0 m (pc + 2) ls (.ref a :: rest))) : W p l e R s m args below meth c H locs cells slots Q (F0 m pc ls (.int (iI (N : Int)) :: rest)) := by
  have e0 : iF iz = fun _ => (0 : Int32) := by
    funext j
    exact iI_0.symm
  refine va_newa (atype := .int) (a0 := (N, .inl (iF iz))) E.1.1 E.1.2.1 (E.1.2.2.2.2 _ q72) (ty := .int) rfl E.2.1 w.1 w.2.1 w.2.2 hA (fun cA => by rw [vp_cell_i, e0]; rfl) ?_ (iI_clamp (by omega)) ?_ hc hs hdg (fun a cA H1 hK hP hD hS => ?_)
  · rw [iI_0, iI_lt ⟨by omega, by omega⟩ r32_0]
    omega
  · show N * 4 ≤ 536870912
    omega
  · have e1 := rp_d0 hK
    subst e1
    exact kk a H1 ⟨hP, hD, hS⟩
theorem rx_putF (E : rp_E p s m meth c args RX0 cc nL D d0) (w : rp_H D A H0 H locs ws) {fs : List Value} {a x : Nat} (he : ws[0]? = some (a, .inr (0, fs))) (hin2 : meth.name = "<init>") (k : Nat) (hk : k < 12) (h1 : (TX0 k).1 = RX0) {index : Nat} (hq : Cond.fieldLink RX0 index RX0 (TX0 k).2.1 (TX0 k).2.2.1 ∈ lw_all) (hfin : (TX0 k).2.2.2 = true) (hd : parseFieldDescriptor (TX0 k).2.2.1 = some (.array .int)) (hl : k < fs.length) (hdg : decode cc pc = .ok (.putfield index, 3)) (kk : ∀ (H1 : Heap) (locs1 : List Loc), rp_H D A H0 H1 locs1 (ws.set 0 (a, .inr (0, fs.set k (.ref x)))) → W p l e R s m args below meth c H1 locs1 cells slots Q (F0 m (pc + 3) ls rest)) : W p l e R s m args below meth c H locs cells slots Q (F0 m pc ls (.ref x :: .ref a :: rest)) :=
  va_putF (D := D) (ci := 0) (v := .ref x) (ty := .array .int) (C := RX0) (T := TX0) (N := 12) E.1.1 E.1.2.1 E.1.2.2.2.2 in_X0 tyX0 tyX0_ok nmX0 E.1.2.2.2.1 E.2.1 w.1 w.2.1 w.2.2 0 he rfl k hk (E.1.2.2.2.2 _ hq) (fun y hy => by rw [h1] at hy; exact hy) hfin hin2 h1 hd rfl rfl hl hdg (fun H1 locs1 a1 a2 a3 => kk H1 locs1 ⟨a1, a2, a3⟩)
theorem rm_putF (E : rp_E p s m meth c args RX1 cc nL D d0) (w : rp_H D A H0 H locs ws) {fs : List Value} {a x : Nat} (he : ws[0]? = some (a, .inr (1, fs))) (hin2 : meth.name = "<init>") (k : Nat) (hk : k < 10) (h1 : (TX1 k).1 = RX1) {index : Nat} (hq : Cond.fieldLink RX1 index RX1 (TX1 k).2.1 (TX1 k).2.2.1 ∈ lw_all) (hfin : (TX1 k).2.2.2 = true) (hd : parseFieldDescriptor (TX1 k).2.2.1 = some (.array .int)) (hl : k < fs.length) (hdg : decode cc pc = .ok (.putfield index, 3)) (kk : ∀ (H1 : Heap) (locs1 : List Loc), rp_H D A H0 H1 locs1 (ws.set 0 (a, .inr (1, fs.set k (.ref x)))) → W p l e R s m args below meth c H1 locs1 cells slots Q (F0 m (pc + 3) ls rest)) : W p l e R s m args below meth c H locs cells slots Q (F0 m pc ls (.ref x :: .ref a :: rest)) :=
  va_putF (D := D) (ci := 1) (v := .ref x) (ty := .array .int) (C := RX1) (T := TX1) (N := 10) E.1.1 E.1.2.1 E.1.2.2.2.2 in_X1 tyX1 tyX1_ok nmX1 E.1.2.2.2.1 E.2.1 w.1 w.2.1 w.2.2 0 he rfl k hk (E.1.2.2.2.2 _ hq) (fun y hy => by rw [h1] at hy; exact hy) hfin hin2 h1 hd rfl rfl hl hdg (fun H1 locs1 a1 a2 a3 => kk H1 locs1 ⟨a1, a2, a3⟩)
end RN

set_option maxHeartbeats 4000000 in
set_option maxRecDepth 100000 in
/-- the constructor: arrays of zeros -/
theorem metX0_init (lc : Launch) (D : va_G) (d0 : ClassId) (h sz : Nat) : Met lc yX0_init (ws_ yX0_init cX0_init 1 none) { frames := 1, cells := 9, slots := 177, locals := 12 } (va_Pc [.ref h] (fun U => U.heap.size = sz ∧ va_P D vwCl [(h, .inr (0, XF0))] U.heap ∧ va_K D vwCl [(d0, .int)] U ∧ va_D (fun _ => True) [(h, .inr (0, XF0))])) (va_Qv (fun q : Nat → Nat => q 0 = h) (fun q t => va_P D vwCl (XW d0 q tt0 iz iz iz 0) t.heap ∧ va_K D vwCl [(d0, .int)] t ∧ va_D (va_A [(h, .inr (0, XF0))] sz) (XW d0 q tt0 iz iz iz 0)) (va_A [(h, .inr (0, XF0))] sz)) 9 177 (va_A [(h, .inr (0, XF0))] sz) := by
  refine Met.ofW (cc := cX0_init) (maxL := 1) (ret := none) (by decide) rfl ?_
  intro p e s m args below meth c s₁ B hml hv
  obtain ⟨rfl, hsz, hP, hK, hD0⟩ := hv
  have hts := atoms_spec (ws := ws_ yX0_init cX0_init 1 none) B.pre
  have hts : ∀ w ∈ lw_all, w.before _ s = true := fun w h => hts w (List.mem_cons_of_mem _ h)
  have hown : s.vm.findClass RX0 = some m.cls := findClass_of_methodNamed B.named
  have hin : meth.name = "<init>" := (name_of_methodNamed B.named B.method).1
  subst hsz
  have hD := hD0.self (sz := s.heap.size)
  generalize hAe : va_A [(h, .inr (0, XF0))] s.heap.size = A at hD ⊢
  have hA : ∀ q : Nat, s.heap.size ≤ q → A q := fun q h => by rw [← hAe]; exact Or.inr h
  have hl := lv_entry [.ref h] (n := 1) (Nat.le_of_ble_eq_true rfl)
  rw [lg_entry_eq]
  generalize (lg_sl [.ref h] ++ List.replicate (1 - (lg_sl [.ref h]).length) Slot.unset).toArray = ls at hl ⊢
  have hl : lv_has ls 1 [(0, .ref h)] := hl
  have E : rp_E p s m meth c _ RX0 cX0_init 1 D d0 := ⟨⟨B.exec, B.bytes, hml, hown, hts⟩, hK, B.notSynchronized⟩
  have w : rp_H D A s.heap s.heap [] [(h, .inr (0, XF0))] := ⟨hP, hD, va_S.rf⟩
  refine rp_aln E dX0_init_0 rfl (lv_at hl 0 rfl) ?_
  refine W.objInit B.exec B.bytes hown (hts _ q32) (hts _ q33) (hts _ q34) rfl (by rw [hml]; exact hl.1) rfl dX0_init_1 (Nat.le_of_ble_eq_true rfl) (Nat.le_of_ble_eq_true rfl) ?_
  refine W.eq (g2 := F0 m 4 ls []) rfl ?_
  refine rp_aln E dX0_init_4 rfl (lv_at hl 0 rfl) ?_
  refine rp_ic E (v := ((5 : Nat) : Int)) dX0_init_5 rfl ?_
  refine rp_newa (N := 5) E w hA (by decide) (Nat.le_of_ble_eq_true rfl) (Nat.le_of_ble_eq_true rfl) dX0_init_6 (fun a1 H w => ?_)
  have w : rp_H D A s.heap H _ [(h, .inr (0, [.int (iI ((0 : Nat) : Int)), .null, .null, .null, .int (iI ((0 : Nat) : Int)), .null, .null, .null, .null, .null, .null, .int (iI ((0 : Nat) : Int))])), (a1, .inl (d0, 5, .inl (iF iz)))] := w
  refine rx_putF E w rfl hin 1 (by decide) rfl q36 rfl (by decide +kernel) (Nat.le_of_ble_eq_true rfl) dX0_init_8 (fun H locs w => ?_)
  have w : rp_H D A s.heap H locs [(h, .inr (0, [.int (iI ((0 : Nat) : Int)), .ref a1, .null, .null, .int (iI ((0 : Nat) : Int)), .null, .null, .null, .null, .null, .null, .int (iI ((0 : Nat) : Int))])), (a1, .inl (d0, 5, .inl (iF iz)))] := w
  refine rp_aln E dX0_init_11 rfl (lv_at hl 0 rfl) ?_
  refine rp_bi E (v := ((30 : Nat) : Int)) dX0_init_12 (by decide) ?_
  refine rp_newa (N := 30) E w hA (by decide) (Nat.le_of_ble_eq_true rfl) (Nat.le_of_ble_eq_true rfl) dX0_init_14 (fun a2 H w => ?_)
  have w : rp_H D A s.heap H _ [(h, .inr (0, [.int (iI ((0 : Nat) : Int)), .ref a1, .null, .null, .int (iI ((0 : Nat) : Int)), .null, .null, .null, .null, .null, .null, .int (iI ((0 : Nat) : Int))])), (a1, .inl (d0, 5, .inl (iF iz))), (a2, .inl (d0, 30, .inl (iF iz)))] := w
  refine rx_putF E w rfl hin 2 (by decide) rfl q37 rfl (by decide +kernel) (Nat.le_of_ble_eq_true rfl) dX0_init_16 (fun H locs w => ?_)
  have w : rp_H D A s.heap H locs [(h, .inr (0, [.int (iI ((0 : Nat) : Int)), .ref a1, .ref a2, .null, .int (iI ((0 : Nat) : Int)), .null, .null, .null, .null, .null, .null, .int (iI ((0 : Nat) : Int))])), (a1, .inl (d0, 5, .inl (iF iz))), (a2, .inl (d0, 30, .inl (iF iz)))] := w
  refine rp_aln E dX0_init_19 rfl (lv_at hl 0 rfl) ?_
  refine rp_bi E (v := ((30 : Nat) : Int)) dX0_init_20 (by decide) ?_
  refine rp_newa (N := 30) E w hA (by decide) (Nat.le_of_ble_eq_true rfl) (Nat.le_of_ble_eq_true rfl) dX0_init_22 (fun a3 H w => ?_)
  have w : rp_H D A s.heap H _ [(h, .inr (0, [.int (iI ((0 : Nat) : Int)), .ref a1, .ref a2, .null, .int (iI ((0 : Nat) : Int)), .null, .null, .null, .null, .null, .null, .int (iI ((0 : Nat) : Int))])), (a1, .inl (d0, 5, .inl (iF iz))), (a2, .inl (d0, 30, .inl (iF iz))), (a3, .inl (d0, 30, .inl (iF iz)))] := w
  refine rx_putF E w rfl hin 3 (by decide) rfl q38 rfl (by decide +kernel) (Nat.le_of_ble_eq_true rfl) dX0_init_24 (fun H locs w => ?_)
  have w : rp_H D A s.heap H locs [(h, .inr (0, [.int (iI ((0 : Nat) : Int)), .ref a1, .ref a2, .ref a3, .int (iI ((0 : Nat) : Int)), .null, .null, .null, .null, .null, .null, .int (iI ((0 : Nat) : Int))])), (a1, .inl (d0, 5, .inl (iF iz))), (a2, .inl (d0, 30, .inl (iF iz))), (a3, .inl (d0, 30, .inl (iF iz)))] := w
  refine rp_aln E dX0_init_27 rfl (lv_at hl 0 rfl) ?_
  refine rp_bi E (v := ((12 : Nat) : Int)) dX0_init_28 (by decide) ?_
  refine rp_newa (N := 12) E w hA (by decide) (Nat.le_of_ble_eq_true rfl) (Nat.le_of_ble_eq_true rfl) dX0_init_30 (fun a4 H w => ?_)
  have w : rp_H D A s.heap H _ [(h, .inr (0, [.int (iI ((0 : Nat) : Int)), .ref a1, .ref a2, .ref a3, .int (iI ((0 : Nat) : Int)), .null, .null, .null, .null, .null, .null, .int (iI ((0 : Nat) : Int))])), (a1, .inl (d0, 5, .inl (iF iz))), (a2, .inl (d0, 30, .inl (iF iz))), (a3, .inl (d0, 30, .inl (iF iz))), (a4, .inl (d0, 12, .inl (iF iz)))] := w
  refine rx_putF E w rfl hin 5 (by decide) rfl q40 rfl (by decide +kernel) (Nat.le_of_ble_eq_true rfl) dX0_init_32 (fun H locs w => ?_)
  have w : rp_H D A s.heap H locs [(h, .inr (0, [.int (iI ((0 : Nat) : Int)), .ref a1, .ref a2, .ref a3, .int (iI ((0 : Nat) : Int)), .ref a4, .null, .null, .null, .null, .null, .int (iI ((0 : Nat) : Int))])), (a1, .inl (d0, 5, .inl (iF iz))), (a2, .inl (d0, 30, .inl (iF iz))), (a3, .inl (d0, 30, .inl (iF iz))), (a4, .inl (d0, 12, .inl (iF iz)))] := w
  refine rp_aln E dX0_init_35 rfl (lv_at hl 0 rfl) ?_
  refine rp_bi E (v := ((12 : Nat) : Int)) dX0_init_36 (by decide) ?_
  refine rp_newa (N := 12) E w hA (by decide) (Nat.le_of_ble_eq_true rfl) (Nat.le_of_ble_eq_true rfl) dX0_init_38 (fun a5 H w => ?_)
  have w : rp_H D A s.heap H _ [(h, .inr (0, [.int (iI ((0 : Nat) : Int)), .ref a1, .ref a2, .ref a3, .int (iI ((0 : Nat) : Int)), .ref a4, .null, .null, .null, .null, .null, .int (iI ((0 : Nat) : Int))])), (a1, .inl (d0, 5, .inl (iF iz))), (a2, .inl (d0, 30, .inl (iF iz))), (a3, .inl (d0, 30, .inl (iF iz))), (a4, .inl (d0, 12, .inl (iF iz))), (a5, .inl (d0, 12, .inl (iF iz)))] := w
  refine rx_putF E w rfl hin 6 (by decide) rfl q41 rfl (by decide +kernel) (Nat.le_of_ble_eq_true rfl) dX0_init_40 (fun H locs w => ?_)
  have w : rp_H D A s.heap H locs [(h, .inr (0, [.int (iI ((0 : Nat) : Int)), .ref a1, .ref a2, .ref a3, .int (iI ((0 : Nat) : Int)), .ref a4, .ref a5, .null, .null, .null, .null, .int (iI ((0 : Nat) : Int))])), (a1, .inl (d0, 5, .inl (iF iz))), (a2, .inl (d0, 30, .inl (iF iz))), (a3, .inl (d0, 30, .inl (iF iz))), (a4, .inl (d0, 12, .inl (iF iz))), (a5, .inl (d0, 12, .inl (iF iz)))] := w
  refine rp_aln E dX0_init_43 rfl (lv_at hl 0 rfl) ?_
  refine rp_bi E (v := ((64 : Nat) : Int)) dX0_init_44 (by decide) ?_
  refine rp_newa (N := 64) E w hA (by decide) (Nat.le_of_ble_eq_true rfl) (Nat.le_of_ble_eq_true rfl) dX0_init_46 (fun a6 H w => ?_)
  have w : rp_H D A s.heap H _ [(h, .inr (0, [.int (iI ((0 : Nat) : Int)), .ref a1, .ref a2, .ref a3, .int (iI ((0 : Nat) : Int)), .ref a4, .ref a5, .null, .null, .null, .null, .int (iI ((0 : Nat) : Int))])), (a1, .inl (d0, 5, .inl (iF iz))), (a2, .inl (d0, 30, .inl (iF iz))), (a3, .inl (d0, 30, .inl (iF iz))), (a4, .inl (d0, 12, .inl (iF iz))), (a5, .inl (d0, 12, .inl (iF iz))), (a6, .inl (d0, 64, .inl (iF iz)))] := w
  refine rx_putF E w rfl hin 7 (by decide) rfl q42 rfl (by decide +kernel) (Nat.le_of_ble_eq_true rfl) dX0_init_48 (fun H locs w => ?_)
  have w : rp_H D A s.heap H locs [(h, .inr (0, [.int (iI ((0 : Nat) : Int)), .ref a1, .ref a2, .ref a3, .int (iI ((0 : Nat) : Int)), .ref a4, .ref a5, .ref a6, .null, .null, .null, .int (iI ((0 : Nat) : Int))])), (a1, .inl (d0, 5, .inl (iF iz))), (a2, .inl (d0, 30, .inl (iF iz))), (a3, .inl (d0, 30, .inl (iF iz))), (a4, .inl (d0, 12, .inl (iF iz))), (a5, .inl (d0, 12, .inl (iF iz))), (a6, .inl (d0, 64, .inl (iF iz)))] := w
  refine rp_aln E dX0_init_51 rfl (lv_at hl 0 rfl) ?_
  refine rp_bi E (v := ((8 : Nat) : Int)) dX0_init_52 (by decide) ?_
  refine rp_newa (N := 8) E w hA (by decide) (Nat.le_of_ble_eq_true rfl) (Nat.le_of_ble_eq_true rfl) dX0_init_54 (fun a7 H w => ?_)
  have w : rp_H D A s.heap H _ [(h, .inr (0, [.int (iI ((0 : Nat) : Int)), .ref a1, .ref a2, .ref a3, .int (iI ((0 : Nat) : Int)), .ref a4, .ref a5, .ref a6, .null, .null, .null, .int (iI ((0 : Nat) : Int))])), (a1, .inl (d0, 5, .inl (iF iz))), (a2, .inl (d0, 30, .inl (iF iz))), (a3, .inl (d0, 30, .inl (iF iz))), (a4, .inl (d0, 12, .inl (iF iz))), (a5, .inl (d0, 12, .inl (iF iz))), (a6, .inl (d0, 64, .inl (iF iz))), (a7, .inl (d0, 8, .inl (iF iz)))] := w
  refine rx_putF E w rfl hin 8 (by decide) rfl q43 rfl (by decide +kernel) (Nat.le_of_ble_eq_true rfl) dX0_init_56 (fun H locs w => ?_)
  have w : rp_H D A s.heap H locs [(h, .inr (0, [.int (iI ((0 : Nat) : Int)), .ref a1, .ref a2, .ref a3, .int (iI ((0 : Nat) : Int)), .ref a4, .ref a5, .ref a6, .ref a7, .null, .null, .int (iI ((0 : Nat) : Int))])), (a1, .inl (d0, 5, .inl (iF iz))), (a2, .inl (d0, 30, .inl (iF iz))), (a3, .inl (d0, 30, .inl (iF iz))), (a4, .inl (d0, 12, .inl (iF iz))), (a5, .inl (d0, 12, .inl (iF iz))), (a6, .inl (d0, 64, .inl (iF iz))), (a7, .inl (d0, 8, .inl (iF iz)))] := w
  refine rp_aln E dX0_init_59 rfl (lv_at hl 0 rfl) ?_
  refine rp_bi E (v := ((8 : Nat) : Int)) dX0_init_60 (by decide) ?_
  refine rp_newa (N := 8) E w hA (by decide) (Nat.le_of_ble_eq_true rfl) (Nat.le_of_ble_eq_true rfl) dX0_init_62 (fun a8 H w => ?_)
  have w : rp_H D A s.heap H _ [(h, .inr (0, [.int (iI ((0 : Nat) : Int)), .ref a1, .ref a2, .ref a3, .int (iI ((0 : Nat) : Int)), .ref a4, .ref a5, .ref a6, .ref a7, .null, .null, .int (iI ((0 : Nat) : Int))])), (a1, .inl (d0, 5, .inl (iF iz))), (a2, .inl (d0, 30, .inl (iF iz))), (a3, .inl (d0, 30, .inl (iF iz))), (a4, .inl (d0, 12, .inl (iF iz))), (a5, .inl (d0, 12, .inl (iF iz))), (a6, .inl (d0, 64, .inl (iF iz))), (a7, .inl (d0, 8, .inl (iF iz))), (a8, .inl (d0, 8, .inl (iF iz)))] := w
  refine rx_putF E w rfl hin 9 (by decide) rfl q44 rfl (by decide +kernel) (Nat.le_of_ble_eq_true rfl) dX0_init_64 (fun H locs w => ?_)
  have w : rp_H D A s.heap H locs [(h, .inr (0, [.int (iI ((0 : Nat) : Int)), .ref a1, .ref a2, .ref a3, .int (iI ((0 : Nat) : Int)), .ref a4, .ref a5, .ref a6, .ref a7, .ref a8, .null, .int (iI ((0 : Nat) : Int))])), (a1, .inl (d0, 5, .inl (iF iz))), (a2, .inl (d0, 30, .inl (iF iz))), (a3, .inl (d0, 30, .inl (iF iz))), (a4, .inl (d0, 12, .inl (iF iz))), (a5, .inl (d0, 12, .inl (iF iz))), (a6, .inl (d0, 64, .inl (iF iz))), (a7, .inl (d0, 8, .inl (iF iz))), (a8, .inl (d0, 8, .inl (iF iz)))] := w
  refine rp_aln E dX0_init_67 rfl (lv_at hl 0 rfl) ?_
  refine rp_bi E (v := ((8 : Nat) : Int)) dX0_init_68 (by decide) ?_
  refine rp_newa (N := 8) E w hA (by decide) (Nat.le_of_ble_eq_true rfl) (Nat.le_of_ble_eq_true rfl) dX0_init_70 (fun a9 H w => ?_)
  have w : rp_H D A s.heap H _ [(h, .inr (0, [.int (iI ((0 : Nat) : Int)), .ref a1, .ref a2, .ref a3, .int (iI ((0 : Nat) : Int)), .ref a4, .ref a5, .ref a6, .ref a7, .ref a8, .null, .int (iI ((0 : Nat) : Int))])), (a1, .inl (d0, 5, .inl (iF iz))), (a2, .inl (d0, 30, .inl (iF iz))), (a3, .inl (d0, 30, .inl (iF iz))), (a4, .inl (d0, 12, .inl (iF iz))), (a5, .inl (d0, 12, .inl (iF iz))), (a6, .inl (d0, 64, .inl (iF iz))), (a7, .inl (d0, 8, .inl (iF iz))), (a8, .inl (d0, 8, .inl (iF iz))), (a9, .inl (d0, 8, .inl (iF iz)))] := w
  refine rx_putF E w rfl hin 10 (by decide) rfl q45 rfl (by decide +kernel) (Nat.le_of_ble_eq_true rfl) dX0_init_72 (fun H locs w => ?_)
  have w : rp_H D A s.heap H locs [(h, .inr (0, [.int (iI ((0 : Nat) : Int)), .ref a1, .ref a2, .ref a3, .int (iI ((0 : Nat) : Int)), .ref a4, .ref a5, .ref a6, .ref a7, .ref a8, .ref a9, .int (iI ((0 : Nat) : Int))])), (a1, .inl (d0, 5, .inl (iF iz))), (a2, .inl (d0, 30, .inl (iF iz))), (a3, .inl (d0, 30, .inl (iF iz))), (a4, .inl (d0, 12, .inl (iF iz))), (a5, .inl (d0, 12, .inl (iF iz))), (a6, .inl (d0, 64, .inl (iF iz))), (a7, .inl (d0, 8, .inl (iF iz))), (a8, .inl (d0, 8, .inl (iF iz))), (a9, .inl (d0, 8, .inl (iF iz)))] := w
  have w : rp_H D A s.heap H locs (XW d0 (q10 h a1 a2 a3 a4 a5 a6 a7 a8 a9) tt0 iz iz iz 0) := w
  refine rp_aln E dX0_init_75 rfl (lv_at hl 0 rfl) ?_
  refine rp_ic E (v := ((0 : Nat) : Int)) dX0_init_76 rfl ?_
  refine rx_put E w 0 (by decide) rfl q35 rfl (by decide +kernel) dX0_init_77 (fun H locs w => ?_)
  have w : rp_H D A s.heap H locs (XW d0 (q10 h a1 a2 a3 a4 a5 a6 a7 a8 a9) tt0 iz iz iz 0) := w
  refine W.widen (k := 9) (n := 177) (Nat.le_of_ble_eq_true rfl) (Nat.le_of_ble_eq_true rfl) ?_
  exact W.vret B.exec B.bytes B.returns (fun t ht hW => ⟨⟨(q10 h a1 a2 a3 a4 a5 a6 a7 a8 a9), rfl, rfl, by rw [ht]; exact w.1, va_K.moved hW.alike hK, w.2.1⟩, w.2.2.F ht⟩) w.2.2.2.2 dX0_init_80 B.notSynchronized
set_option maxHeartbeats 4000000 in
set_option maxRecDepth 100000 in
/-- the constructor: arrays of zeros -/
theorem metX1_init (lc : Launch) (D : va_G) (d0 : ClassId) (h sz : Nat) : Met lc yX1_init (ws_ yX1_init cX1_init 1 none) { frames := 1, cells := 8, slots := 361, locals := 12 } (va_Pc [.ref h] (fun U => U.heap.size = sz ∧ va_P D vwCl [(h, .inr (1, MF0))] U.heap ∧ va_K D vwCl [(d0, .int)] U ∧ va_D (fun _ => True) [(h, .inr (1, MF0))])) (va_Qv (fun q : Nat → Nat => q 0 = h) (fun q t => va_P D vwCl (MW d0 q tt0 iz iz) t.heap ∧ va_K D vwCl [(d0, .int)] t ∧ va_D (va_A [(h, .inr (1, MF0))] sz) (MW d0 q tt0 iz iz)) (va_A [(h, .inr (1, MF0))] sz)) 8 361 (va_A [(h, .inr (1, MF0))] sz) := by
  refine Met.ofW (cc := cX1_init) (maxL := 1) (ret := none) (by decide) rfl ?_
  intro p e s m args below meth c s₁ B hml hv
  obtain ⟨rfl, hsz, hP, hK, hD0⟩ := hv
  have hts := atoms_spec (ws := ws_ yX1_init cX1_init 1 none) B.pre
  have hts : ∀ w ∈ lw_all, w.before _ s = true := fun w h => hts w (List.mem_cons_of_mem _ h)
  have hown : s.vm.findClass RX1 = some m.cls := findClass_of_methodNamed B.named
  have hin : meth.name = "<init>" := (name_of_methodNamed B.named B.method).1
  subst hsz
  have hD := hD0.self (sz := s.heap.size)
  generalize hAe : va_A [(h, .inr (1, MF0))] s.heap.size = A at hD ⊢
  have hA : ∀ q : Nat, s.heap.size ≤ q → A q := fun q h => by rw [← hAe]; exact Or.inr h
  have hl := lv_entry [.ref h] (n := 1) (Nat.le_of_ble_eq_true rfl)
  rw [lg_entry_eq]
  generalize (lg_sl [.ref h] ++ List.replicate (1 - (lg_sl [.ref h]).length) Slot.unset).toArray = ls at hl ⊢
  have hl : lv_has ls 1 [(0, .ref h)] := hl
  have E : rp_E p s m meth c _ RX1 cX1_init 1 D d0 := ⟨⟨B.exec, B.bytes, hml, hown, hts⟩, hK, B.notSynchronized⟩
  have w : rp_H D A s.heap s.heap [] [(h, .inr (1, MF0))] := ⟨hP, hD, va_S.rf⟩
  refine rp_aln E dX1_init_0 rfl (lv_at hl 0 rfl) ?_
  refine W.objInit B.exec B.bytes hown (hts _ q182) (hts _ q33) (hts _ q34) rfl (by rw [hml]; exact hl.1) rfl dX1_init_1 (Nat.le_of_ble_eq_true rfl) (Nat.le_of_ble_eq_true rfl) ?_
  refine W.eq (g2 := F0 m 4 ls []) rfl ?_
  refine rp_aln E dX1_init_4 rfl (lv_at hl 0 rfl) ?_
  refine rp_ic E (v := ((5 : Nat) : Int)) dX1_init_5 rfl ?_
  refine rp_newa (N := 5) E w hA (by decide) (Nat.le_of_ble_eq_true rfl) (Nat.le_of_ble_eq_true rfl) dX1_init_6 (fun a1 H w => ?_)
  have w : rp_H D A s.heap H _ [(h, .inr (1, [.int (iI ((0 : Nat) : Int)), .null, .null, .null, .int (iI ((0 : Nat) : Int)), .null, .null, .null, .null, .null])), (a1, .inl (d0, 5, .inl (iF iz)))] := w
  refine rm_putF E w rfl hin 1 (by decide) rfl q184 rfl (by decide +kernel) (Nat.le_of_ble_eq_true rfl) dX1_init_8 (fun H locs w => ?_)
  have w : rp_H D A s.heap H locs [(h, .inr (1, [.int (iI ((0 : Nat) : Int)), .ref a1, .null, .null, .int (iI ((0 : Nat) : Int)), .null, .null, .null, .null, .null])), (a1, .inl (d0, 5, .inl (iF iz)))] := w
  refine rp_aln E dX1_init_11 rfl (lv_at hl 0 rfl) ?_
  refine rp_bi E (v := ((30 : Nat) : Int)) dX1_init_12 (by decide) ?_
  refine rp_newa (N := 30) E w hA (by decide) (Nat.le_of_ble_eq_true rfl) (Nat.le_of_ble_eq_true rfl) dX1_init_14 (fun a2 H w => ?_)
  have w : rp_H D A s.heap H _ [(h, .inr (1, [.int (iI ((0 : Nat) : Int)), .ref a1, .null, .null, .int (iI ((0 : Nat) : Int)), .null, .null, .null, .null, .null])), (a1, .inl (d0, 5, .inl (iF iz))), (a2, .inl (d0, 30, .inl (iF iz)))] := w
  refine rm_putF E w rfl hin 2 (by decide) rfl q185 rfl (by decide +kernel) (Nat.le_of_ble_eq_true rfl) dX1_init_16 (fun H locs w => ?_)
  have w : rp_H D A s.heap H locs [(h, .inr (1, [.int (iI ((0 : Nat) : Int)), .ref a1, .ref a2, .null, .int (iI ((0 : Nat) : Int)), .null, .null, .null, .null, .null])), (a1, .inl (d0, 5, .inl (iF iz))), (a2, .inl (d0, 30, .inl (iF iz)))] := w
  refine rp_aln E dX1_init_19 rfl (lv_at hl 0 rfl) ?_
  refine rp_bi E (v := ((30 : Nat) : Int)) dX1_init_20 (by decide) ?_
  refine rp_newa (N := 30) E w hA (by decide) (Nat.le_of_ble_eq_true rfl) (Nat.le_of_ble_eq_true rfl) dX1_init_22 (fun a3 H w => ?_)
  have w : rp_H D A s.heap H _ [(h, .inr (1, [.int (iI ((0 : Nat) : Int)), .ref a1, .ref a2, .null, .int (iI ((0 : Nat) : Int)), .null, .null, .null, .null, .null])), (a1, .inl (d0, 5, .inl (iF iz))), (a2, .inl (d0, 30, .inl (iF iz))), (a3, .inl (d0, 30, .inl (iF iz)))] := w
  refine rm_putF E w rfl hin 3 (by decide) rfl q186 rfl (by decide +kernel) (Nat.le_of_ble_eq_true rfl) dX1_init_24 (fun H locs w => ?_)
  have w : rp_H D A s.heap H locs [(h, .inr (1, [.int (iI ((0 : Nat) : Int)), .ref a1, .ref a2, .ref a3, .int (iI ((0 : Nat) : Int)), .null, .null, .null, .null, .null])), (a1, .inl (d0, 5, .inl (iF iz))), (a2, .inl (d0, 30, .inl (iF iz))), (a3, .inl (d0, 30, .inl (iF iz)))] := w
  refine rp_aln E dX1_init_27 rfl (lv_at hl 0 rfl) ?_
  refine rp_bi E (v := ((12 : Nat) : Int)) dX1_init_28 (by decide) ?_
  refine rp_newa (N := 12) E w hA (by decide) (Nat.le_of_ble_eq_true rfl) (Nat.le_of_ble_eq_true rfl) dX1_init_30 (fun a4 H w => ?_)
  have w : rp_H D A s.heap H _ [(h, .inr (1, [.int (iI ((0 : Nat) : Int)), .ref a1, .ref a2, .ref a3, .int (iI ((0 : Nat) : Int)), .null, .null, .null, .null, .null])), (a1, .inl (d0, 5, .inl (iF iz))), (a2, .inl (d0, 30, .inl (iF iz))), (a3, .inl (d0, 30, .inl (iF iz))), (a4, .inl (d0, 12, .inl (iF iz)))] := w
  refine rm_putF E w rfl hin 5 (by decide) rfl q188 rfl (by decide +kernel) (Nat.le_of_ble_eq_true rfl) dX1_init_32 (fun H locs w => ?_)
  have w : rp_H D A s.heap H locs [(h, .inr (1, [.int (iI ((0 : Nat) : Int)), .ref a1, .ref a2, .ref a3, .int (iI ((0 : Nat) : Int)), .ref a4, .null, .null, .null, .null])), (a1, .inl (d0, 5, .inl (iF iz))), (a2, .inl (d0, 30, .inl (iF iz))), (a3, .inl (d0, 30, .inl (iF iz))), (a4, .inl (d0, 12, .inl (iF iz)))] := w
  refine rp_aln E dX1_init_35 rfl (lv_at hl 0 rfl) ?_
  refine rp_bi E (v := ((12 : Nat) : Int)) dX1_init_36 (by decide) ?_
  refine rp_newa (N := 12) E w hA (by decide) (Nat.le_of_ble_eq_true rfl) (Nat.le_of_ble_eq_true rfl) dX1_init_38 (fun a5 H w => ?_)
  have w : rp_H D A s.heap H _ [(h, .inr (1, [.int (iI ((0 : Nat) : Int)), .ref a1, .ref a2, .ref a3, .int (iI ((0 : Nat) : Int)), .ref a4, .null, .null, .null, .null])), (a1, .inl (d0, 5, .inl (iF iz))), (a2, .inl (d0, 30, .inl (iF iz))), (a3, .inl (d0, 30, .inl (iF iz))), (a4, .inl (d0, 12, .inl (iF iz))), (a5, .inl (d0, 12, .inl (iF iz)))] := w
  refine rm_putF E w rfl hin 6 (by decide) rfl q189 rfl (by decide +kernel) (Nat.le_of_ble_eq_true rfl) dX1_init_40 (fun H locs w => ?_)
  have w : rp_H D A s.heap H locs [(h, .inr (1, [.int (iI ((0 : Nat) : Int)), .ref a1, .ref a2, .ref a3, .int (iI ((0 : Nat) : Int)), .ref a4, .ref a5, .null, .null, .null])), (a1, .inl (d0, 5, .inl (iF iz))), (a2, .inl (d0, 30, .inl (iF iz))), (a3, .inl (d0, 30, .inl (iF iz))), (a4, .inl (d0, 12, .inl (iF iz))), (a5, .inl (d0, 12, .inl (iF iz)))] := w
  refine rp_aln E dX1_init_43 rfl (lv_at hl 0 rfl) ?_
  refine rp_bi E (v := ((64 : Nat) : Int)) dX1_init_44 (by decide) ?_
  refine rp_newa (N := 64) E w hA (by decide) (Nat.le_of_ble_eq_true rfl) (Nat.le_of_ble_eq_true rfl) dX1_init_46 (fun a6 H w => ?_)
  have w : rp_H D A s.heap H _ [(h, .inr (1, [.int (iI ((0 : Nat) : Int)), .ref a1, .ref a2, .ref a3, .int (iI ((0 : Nat) : Int)), .ref a4, .ref a5, .null, .null, .null])), (a1, .inl (d0, 5, .inl (iF iz))), (a2, .inl (d0, 30, .inl (iF iz))), (a3, .inl (d0, 30, .inl (iF iz))), (a4, .inl (d0, 12, .inl (iF iz))), (a5, .inl (d0, 12, .inl (iF iz))), (a6, .inl (d0, 64, .inl (iF iz)))] := w
  refine rm_putF E w rfl hin 7 (by decide) rfl q190 rfl (by decide +kernel) (Nat.le_of_ble_eq_true rfl) dX1_init_48 (fun H locs w => ?_)
  have w : rp_H D A s.heap H locs [(h, .inr (1, [.int (iI ((0 : Nat) : Int)), .ref a1, .ref a2, .ref a3, .int (iI ((0 : Nat) : Int)), .ref a4, .ref a5, .ref a6, .null, .null])), (a1, .inl (d0, 5, .inl (iF iz))), (a2, .inl (d0, 30, .inl (iF iz))), (a3, .inl (d0, 30, .inl (iF iz))), (a4, .inl (d0, 12, .inl (iF iz))), (a5, .inl (d0, 12, .inl (iF iz))), (a6, .inl (d0, 64, .inl (iF iz)))] := w
  refine rp_aln E dX1_init_51 rfl (lv_at hl 0 rfl) ?_
  refine rp_bi E (v := ((104 : Nat) : Int)) dX1_init_52 (by decide) ?_
  refine rp_newa (N := 104) E w hA (by decide) (Nat.le_of_ble_eq_true rfl) (Nat.le_of_ble_eq_true rfl) dX1_init_54 (fun a7 H w => ?_)
  have w : rp_H D A s.heap H _ [(h, .inr (1, [.int (iI ((0 : Nat) : Int)), .ref a1, .ref a2, .ref a3, .int (iI ((0 : Nat) : Int)), .ref a4, .ref a5, .ref a6, .null, .null])), (a1, .inl (d0, 5, .inl (iF iz))), (a2, .inl (d0, 30, .inl (iF iz))), (a3, .inl (d0, 30, .inl (iF iz))), (a4, .inl (d0, 12, .inl (iF iz))), (a5, .inl (d0, 12, .inl (iF iz))), (a6, .inl (d0, 64, .inl (iF iz))), (a7, .inl (d0, 104, .inl (iF iz)))] := w
  refine rm_putF E w rfl hin 8 (by decide) rfl q191 rfl (by decide +kernel) (Nat.le_of_ble_eq_true rfl) dX1_init_56 (fun H locs w => ?_)
  have w : rp_H D A s.heap H locs [(h, .inr (1, [.int (iI ((0 : Nat) : Int)), .ref a1, .ref a2, .ref a3, .int (iI ((0 : Nat) : Int)), .ref a4, .ref a5, .ref a6, .ref a7, .null])), (a1, .inl (d0, 5, .inl (iF iz))), (a2, .inl (d0, 30, .inl (iF iz))), (a3, .inl (d0, 30, .inl (iF iz))), (a4, .inl (d0, 12, .inl (iF iz))), (a5, .inl (d0, 12, .inl (iF iz))), (a6, .inl (d0, 64, .inl (iF iz))), (a7, .inl (d0, 104, .inl (iF iz)))] := w
  refine rp_aln E dX1_init_59 rfl (lv_at hl 0 rfl) ?_
  refine rp_bi E (v := ((104 : Nat) : Int)) dX1_init_60 (by decide) ?_
  refine rp_newa (N := 104) E w hA (by decide) (Nat.le_of_ble_eq_true rfl) (Nat.le_of_ble_eq_true rfl) dX1_init_62 (fun a8 H w => ?_)
  have w : rp_H D A s.heap H _ [(h, .inr (1, [.int (iI ((0 : Nat) : Int)), .ref a1, .ref a2, .ref a3, .int (iI ((0 : Nat) : Int)), .ref a4, .ref a5, .ref a6, .ref a7, .null])), (a1, .inl (d0, 5, .inl (iF iz))), (a2, .inl (d0, 30, .inl (iF iz))), (a3, .inl (d0, 30, .inl (iF iz))), (a4, .inl (d0, 12, .inl (iF iz))), (a5, .inl (d0, 12, .inl (iF iz))), (a6, .inl (d0, 64, .inl (iF iz))), (a7, .inl (d0, 104, .inl (iF iz))), (a8, .inl (d0, 104, .inl (iF iz)))] := w
  refine rm_putF E w rfl hin 9 (by decide) rfl q192 rfl (by decide +kernel) (Nat.le_of_ble_eq_true rfl) dX1_init_64 (fun H locs w => ?_)
  have w : rp_H D A s.heap H locs [(h, .inr (1, [.int (iI ((0 : Nat) : Int)), .ref a1, .ref a2, .ref a3, .int (iI ((0 : Nat) : Int)), .ref a4, .ref a5, .ref a6, .ref a7, .ref a8])), (a1, .inl (d0, 5, .inl (iF iz))), (a2, .inl (d0, 30, .inl (iF iz))), (a3, .inl (d0, 30, .inl (iF iz))), (a4, .inl (d0, 12, .inl (iF iz))), (a5, .inl (d0, 12, .inl (iF iz))), (a6, .inl (d0, 64, .inl (iF iz))), (a7, .inl (d0, 104, .inl (iF iz))), (a8, .inl (d0, 104, .inl (iF iz)))] := w
  have w : rp_H D A s.heap H locs (MW d0 (q10 h a1 a2 a3 a4 a5 a6 a7 a8 0) tt0 iz iz) := w
  refine W.widen (k := 8) (n := 361) (Nat.le_of_ble_eq_true rfl) (Nat.le_of_ble_eq_true rfl) ?_
  exact W.vret B.exec B.bytes B.returns (fun t ht hW => ⟨⟨(q10 h a1 a2 a3 a4 a5 a6 a7 a8 0), rfl, rfl, by rw [ht]; exact w.1, va_K.moved hW.alike hK, w.2.1⟩, w.2.2.F ht⟩) w.2.2.2.2 dX1_init_67 B.notSynchronized
end
section
/-! rows of the law's walk: a number of the script; a call on one of the two worlds -/
set_option maxRecDepth 100000
section RL
variable {p : Program} {l : Launch} {e : Env} {R : Room} {s : State} {m : MethodId} {args : Array Value} {below : List Frame} {meth : Method} {c : Code} {H H0 : Heap} {locs : List Loc} {cells slots : Nat} {Q : State → Prop} {own : String} {cc : ByteArray} {nL pc : Nat} {ls : Array Slot} {rest : List Value} {D : va_G} {d0 : ClassId} {A : Nat → Prop} {ws : va_W}
theorem rl_arg (E : rp_E p s m meth c args own cc nL D d0) (w : rp_H D A s.heap H locs ws) {b L i : Nat} {xs : Nat → Int32} (hX : va_X b L xs s s.heap) (hbl : b < s.heap.size) (hbA : ¬ A b) (hl0 : ls[0]? = some (.val (.ref b))) (hl3 : ls[3]? = some (.val (.int (iI ((i : Nat) : Int))))) (n : Nat) (hn : i + n < L) (hL : L ≤ 320) {nc : Int} (hnc : nc = (n : Int)) (d1 : decode cc pc = .ok (.aload_n 0, 1)) (d2 : decode cc (pc + 1) = .ok (.iload_n 3, 1)) (d3 : decode cc (pc + 2) = .ok (.iconst nc, 1)) (d4 : decode cc (pc + 3) = .ok (.iadd, 1)) (d5 : decode cc (pc + 4) = .ok (.iaload, 1)) (kk : W p l e R s m args below meth c H locs cells slots Q (F0 m (pc + 5) ls (.int (iI (xs (i + n)).toInt) :: rest))) : W p l e R s m args below meth c H locs cells slots Q (F0 m pc ls rest) := by
  refine rp_aln E d1 rfl hl0 (rp_iln E d2 rfl hl3 (rp_ic E (v := (n : Int)) d3 hnc (rp_addN E d4 ?_)))
  refine va_sld E.1.1 E.1.2.1 hX hbl hbA w.2.2 (iI_in hn (by omega)) d5 ?_
  rw [iI_clamp (by omega), iI_of (xs (i + n))]
  exact kk
set_option maxHeartbeats 4000000 in
theorem rl_call (E : rp_E p s m meth c args own cc nL D d0) (w : rp_H D A s.heap H locs ws) (hA : ∀ q, s.heap.size ≤ q → A q) {wc wr : va_W} (isC isR : List Nat) (hC0 : isC.filterMap (fun i => ws[i]?) = wc) (hC : isC.map (fun i => ws[i]?) = wc.map some) (hR : isR.map (fun i => ws[i]?) = wr.map some) (hnC : va_nd isC = true) (hnR : va_nd isR = true) (hdis : ∀ i ∈ isR, i ∉ isC) {y : MethodName} {cb : ByteArray} {nLy : Nat} {ret : Option FieldType} {rm : Room} {S : Type} {post : Int → S → Prop} {wf : S → va_W} {a : Nat} {As : List Value} (hM : rp_MI l D d0 y cb nLy ret rm (.ref a :: As) wc post wf) {C : String} {index n : Nat} (cw : CallW R s args own C index y cb nLy ret (ws_ y cb nLy ret) rm 0 0 n) (hr : ∃ cellB : Cell, H[a]? = some cellB ∧ cellB.vm.isStatics = false ∧ s.vm.findClass C = some cellB.cls) (hn : As.length = n) (hls : ls.size = nL) {st0 : List Value} (hst : st0 = As.reverse ++ .ref a :: rest) (hro : (rest.map fun v => v.category).sum ≤ 8) (hdg : decode cc pc = .ok (.invokevirtual index, 3)) (hf : cells ≤ R.cells ∧ slots ≤ R.slots)
    (kk : ∀ (v : Int) (u : S) (H1 : Heap) (locs1 : List Loc), post v u → rp_H D A s.heap H1 locs1 (wr ++ wf u) → W p l e R s m args below meth c H1 locs1 cells slots Q (F0 m (pc + 3) ls (.int (iI v) :: rest))) : W p l e R s m args below meth c H locs cells slots Q (F0 m pc ls st0) := by
  have hPc := w.1.sub isC hC0
  have hDc := w.2.1.sub isC hnC hC
  have hFc := va_free (wc := wc) w.2.1 w.2.2 hA isC hC
  refine va_calli (va_runV (As := As) (rest := rest) E.1 (hM H.size) cw ⟨fun a U g mk q => by obtain ⟨q0, q1, qP, qK, qD⟩ := q; exact ⟨q0, q1, qP, va_K.moved (u := U) (U := U.calling g mk a) (Vm.Alike.refl U.vm) qK, qD⟩, hr, fun U hU hW => ⟨rfl, by rw [hU], by rw [hU]; exact hPc, va_K.moved hW.alike E.2.1, hDc.weaken (fun _ _ _ _ => trivial)⟩⟩ rfl hn hls hst (lv_room hro) hdg hf) w.2.2 (fun q _ h => hFc q h) hFc (fun r u t H1 locs1 ht hvm hp hB hz1 hk1 hS => ?_)
  obtain ⟨rfl, hp⟩ := hp
  obtain ⟨hP1, hK1, hD1⟩ := hB
  rw [ht] at hP1
  obtain ⟨hP2, hD2⟩ := va_join (wr := wr) (w1 := wf u.2) w.1 w.2.1 isC isR hC hR hnR hdis hk1 hFc hP1 hD1
  exact kk u.1 u.2 H1 locs1 hp ⟨hP2, hD2, hS⟩
set_option maxHeartbeats 4000000 in
theorem rl_X {q q' : Nat → Nat} {t t' : TT} {ri re be oo th : Nat → Int} {b : Nat} (E : rp_E p s m meth c args own cc nL D d0) (w : rp_H D A s.heap H locs (XW d0 q t ri re be b ++ MW d0 q' t' oo th)) (hA : ∀ q, s.heap.size ≤ q → A q) {y : MethodName} {cb : ByteArray} {nLy : Nat} {ret : Option FieldType} {rm : Room} {S : Type} {post : Int → S → Prop} {wf : S → va_W} {As : List Value} (hM : rp_MI l D d0 y cb nLy ret rm (.ref (q 0) :: As) (XW d0 q t ri re be b) post wf) {index n : Nat} (cw : CallW R s args own RX0 index y cb nLy ret (ws_ y cb nLy ret) rm 0 0 n) (hn : As.length = n) (hls : ls.size = nL) {st0 : List Value} (hst : st0 = As.reverse ++ .ref (q 0) :: rest) (hro : (rest.map fun v => v.category).sum ≤ 8) (hdg : decode cc pc = .ok (.invokevirtual index, 3)) (hf : cells ≤ R.cells ∧ slots ≤ R.slots)
    (kk : ∀ (v : Int) (u : S) (H1 : Heap) (locs1 : List Loc), post v u → rp_H D A s.heap H1 locs1 (MW d0 q' t' oo th ++ wf u) → W p l e R s m args below meth c H1 locs1 cells slots Q (F0 m (pc + 3) ls (.int (iI v) :: rest))) : W p l e R s m args below meth c H locs cells slots Q (F0 m pc ls st0) :=
  rl_call E w hA [0, 1, 2, 3, 4, 5, 6, 7, 8, 9] [10, 11, 12, 13, 14, 15, 16, 17, 18] rfl rfl rfl (by decide) (by decide) (by decide) hM cw (va_recv E.2.1 w.1 (ci := 0) (q0 := 0) rfl rfl) hn hls hst hro hdg hf kk
set_option maxHeartbeats 4000000 in
theorem rl_M {q q' : Nat → Nat} {t t' : TT} {ri re be oo th : Nat → Int} {b : Nat} (E : rp_E p s m meth c args own cc nL D d0) (w : rp_H D A s.heap H locs (MW d0 q' t' oo th ++ XW d0 q t ri re be b)) (hA : ∀ q, s.heap.size ≤ q → A q) {y : MethodName} {cb : ByteArray} {nLy : Nat} {ret : Option FieldType} {rm : Room} {S : Type} {post : Int → S → Prop} {wf : S → va_W} {As : List Value} (hM : rp_MI l D d0 y cb nLy ret rm (.ref (q' 0) :: As) (MW d0 q' t' oo th) post wf) {index n : Nat} (cw : CallW R s args own RX1 index y cb nLy ret (ws_ y cb nLy ret) rm 0 0 n) (hn : As.length = n) (hls : ls.size = nL) {st0 : List Value} (hst : st0 = As.reverse ++ .ref (q' 0) :: rest) (hro : (rest.map fun v => v.category).sum ≤ 8) (hdg : decode cc pc = .ok (.invokevirtual index, 3)) (hf : cells ≤ R.cells ∧ slots ≤ R.slots)
    (kk : ∀ (v : Int) (u : S) (H1 : Heap) (locs1 : List Loc), post v u → rp_H D A s.heap H1 locs1 (XW d0 q t ri re be b ++ wf u) → W p l e R s m args below meth c H1 locs1 cells slots Q (F0 m (pc + 3) ls (.int (iI v) :: rest))) : W p l e R s m args below meth c H locs cells slots Q (F0 m pc ls st0) :=
  rl_call E w hA [0, 1, 2, 3, 4, 5, 6, 7, 8] [9, 10, 11, 12, 13, 14, 15, 16, 17, 18] rfl rfl rfl (by decide) (by decide) (by decide) hM cw (va_recv E.2.1 w.1 (ci := 1) (q0 := 0) rfl rfl) hn hls hst hro hdg hf kk
end RL
end
section
/-! the ten cases of the law's switch -/
set_option maxRecDepth 100000
def RLw : String := "RoundPlannerLaw"
set_option maxHeartbeats 4000000 in
set_option maxRecDepth 100000 in
theorem law_0 {p : Program} {l : Launch} {e : Env} {s : State} {m : MethodId} {below : List Frame} {meth : Method} {c : Code} {H : Heap} {locs : List Loc} {Q : State → Prop} {D : va_G} {d0 : ClassId} {A : Nat → Prop} {ls : Array Slot} {b L i : Nat} {xs : Nat → Int32} {q q' : Nat → Nat} {t : TT} {σ : XS} {μ : MS} (E : rp_E p s m meth c #[Value.ref b] RLw cL_law 4 D d0) (hA : ∀ z, s.heap.size ≤ z → A z) (hX : va_X b L xs s s.heap) (hbl : b < s.heap.size) (hbA : ¬ A b) (hL : L ≤ 320) (hi : i + 5 ≤ L) (ok : tOk t) (w : rp_H D A s.heap H locs (XWs d0 q t σ ++ MWs d0 q' t μ)) (hl : lv_has ls 4 [(0, .ref b), (1, .ref (q 0)), (2, .ref (q' 0)), (3, .int (iI ((i : Nat) : Int)))]) (kk : ∀ (t' : TT) (σ' : XS) (μ' : MS) (H1 : Heap) (locs1 : List Loc), tOk t' → rp_H D A s.heap H1 locs1 (XWs d0 q t' σ' ++ MWs d0 q' t' μ') → W p l e room_1 s m #[Value.ref b] below meth c H1 locs1 19 560 Q (F0 m 488 ls [])) : W p l e room_1 s m #[Value.ref b] below meth c H locs 19 560 Q (F0 m 88 ls []) := by
  refine rp_aln E dL_law_88 rfl (lv_at hl 1 rfl) ?_
  refine rl_arg E w hX hbl hbA (lv_at hl 0 rfl) (lv_at hl 3 rfl) 1 (by omega) hL rfl dL_law_89 dL_law_90 dL_law_91 dL_law_92 dL_law_93 ?_
  refine rl_X (As := [.int (iI ((xs (i + 1)).toInt))]) (rest := []) E w hA (metX0_line l D d0 q t σ.1 σ.2.1 σ.2.2.1 σ.2.2.2 ok ((xs (i + 1)).toInt) (r32_toInt _)) (cwV 1 E.1.2.2.2.2 (lw_V q73 q74 q75 q25 q76) rfl rfl rfl (by decide +kernel) ⟨Nat.le_of_ble_eq_true rfl, Nat.le_of_ble_eq_true rfl⟩) rfl hl.1 rfl (Nat.le_of_ble_eq_true rfl) dL_law_94 ⟨Nat.le_of_ble_eq_true rfl, Nat.le_of_ble_eq_true rfl⟩ (fun v u H locs hv w => ?_)
  have w : rp_H D A s.heap H locs (MWs d0 q' t μ ++ XW d0 q u σ.1 σ.2.1 σ.2.2.1 σ.2.2.2) := w
  refine rp_aln E dL_law_97 rfl (lv_at hl 2 rfl) ?_
  refine rl_arg E w hX hbl hbA (lv_at hl 0 rfl) (lv_at hl 3 rfl) 1 (by omega) hL rfl dL_law_98 dL_law_99 dL_law_100 dL_law_101 dL_law_102 ?_
  refine rl_M (As := [.int (iI ((xs (i + 1)).toInt))]) (rest := [.int (iI v)]) E w hA (metX1_line l D d0 q' t μ.1 μ.2 ok ((xs (i + 1)).toInt) (r32_toInt _)) (cwV 1 E.1.2.2.2.2 (lw_V q214 q215 q216 q26 q217) rfl rfl rfl (by decide +kernel) ⟨Nat.le_of_ble_eq_true rfl, Nat.le_of_ble_eq_true rfl⟩) rfl hl.1 rfl (Nat.le_of_ble_eq_true rfl) dL_law_103 ⟨Nat.le_of_ble_eq_true rfl, Nat.le_of_ble_eq_true rfl⟩ (fun v' u' H locs hv' w => ?_)
  have w : rp_H D A s.heap H locs (XW d0 q u σ.1 σ.2.1 σ.2.2.1 σ.2.2.2 ++ MW d0 q' u' μ.1 μ.2) := w
  obtain ⟨ev, eu⟩ := aLine_f hv hv'
  subst eu
  refine lv_icmp_eq (tgt := 488) E.1.1 E.1.2.1 dL_law_106 (by decide) (fun _ => kk u σ μ H locs (aLine_k ok hv) w) (fun h9 => absurd (by rw [ev]) h9)
set_option maxHeartbeats 4000000 in
set_option maxRecDepth 100000 in
theorem law_1 {p : Program} {l : Launch} {e : Env} {s : State} {m : MethodId} {below : List Frame} {meth : Method} {c : Code} {H : Heap} {locs : List Loc} {Q : State → Prop} {D : va_G} {d0 : ClassId} {A : Nat → Prop} {ls : Array Slot} {b L i : Nat} {xs : Nat → Int32} {q q' : Nat → Nat} {t : TT} {σ : XS} {μ : MS} (E : rp_E p s m meth c #[Value.ref b] RLw cL_law 4 D d0) (hA : ∀ z, s.heap.size ≤ z → A z) (hX : va_X b L xs s s.heap) (hbl : b < s.heap.size) (hbA : ¬ A b) (hL : L ≤ 320) (hi : i + 5 ≤ L) (ok : tOk t) (w : rp_H D A s.heap H locs (XWs d0 q t σ ++ MWs d0 q' t μ)) (hl : lv_has ls 4 [(0, .ref b), (1, .ref (q 0)), (2, .ref (q' 0)), (3, .int (iI ((i : Nat) : Int)))]) (kk : ∀ (t' : TT) (σ' : XS) (μ' : MS) (H1 : Heap) (locs1 : List Loc), tOk t' → rp_H D A s.heap H1 locs1 (XWs d0 q t' σ' ++ MWs d0 q' t' μ') → W p l e room_1 s m #[Value.ref b] below meth c H1 locs1 19 560 Q (F0 m 488 ls [])) : W p l e room_1 s m #[Value.ref b] below meth c H locs 19 560 Q (F0 m 111 ls []) := by
  refine rp_aln E dL_law_111 rfl (lv_at hl 1 rfl) ?_
  refine rl_arg E w hX hbl hbA (lv_at hl 0 rfl) (lv_at hl 3 rfl) 1 (by omega) hL rfl dL_law_112 dL_law_113 dL_law_114 dL_law_115 dL_law_116 ?_
  refine rl_arg E w hX hbl hbA (lv_at hl 0 rfl) (lv_at hl 3 rfl) 2 (by omega) hL rfl dL_law_117 dL_law_118 dL_law_119 dL_law_120 dL_law_121 ?_
  refine rl_arg E w hX hbl hbA (lv_at hl 0 rfl) (lv_at hl 3 rfl) 3 (by omega) hL rfl dL_law_122 dL_law_123 dL_law_124 dL_law_125 dL_law_126 ?_
  refine rl_X (As := [.int (iI ((xs (i + 1)).toInt)), .int (iI ((xs (i + 2)).toInt)), .int (iI ((xs (i + 3)).toInt))]) (rest := []) E w hA (metX0_extend l D d0 q t σ.1 σ.2.1 σ.2.2.1 σ.2.2.2 ok ((xs (i + 1)).toInt) ((xs (i + 2)).toInt) ((xs (i + 3)).toInt) (r32_toInt _) (r32_toInt _) (r32_toInt _)) (cwV 3 E.1.2.2.2.2 (lw_V q80 q81 q82 q25 q83) rfl rfl rfl (by decide +kernel) ⟨Nat.le_of_ble_eq_true rfl, Nat.le_of_ble_eq_true rfl⟩) rfl hl.1 rfl (Nat.le_of_ble_eq_true rfl) dL_law_127 ⟨Nat.le_of_ble_eq_true rfl, Nat.le_of_ble_eq_true rfl⟩ (fun v u H locs hv w => ?_)
  have w : rp_H D A s.heap H locs (MWs d0 q' t μ ++ XW d0 q u σ.1 σ.2.1 σ.2.2.1 σ.2.2.2) := w
  refine rp_aln E dL_law_130 rfl (lv_at hl 2 rfl) ?_
  refine rl_arg E w hX hbl hbA (lv_at hl 0 rfl) (lv_at hl 3 rfl) 1 (by omega) hL rfl dL_law_131 dL_law_132 dL_law_133 dL_law_134 dL_law_135 ?_
  refine rl_arg E w hX hbl hbA (lv_at hl 0 rfl) (lv_at hl 3 rfl) 2 (by omega) hL rfl dL_law_136 dL_law_137 dL_law_138 dL_law_139 dL_law_140 ?_
  refine rl_arg E w hX hbl hbA (lv_at hl 0 rfl) (lv_at hl 3 rfl) 3 (by omega) hL rfl dL_law_141 dL_law_142 dL_law_143 dL_law_144 dL_law_145 ?_
  refine rl_M (As := [.int (iI ((xs (i + 1)).toInt)), .int (iI ((xs (i + 2)).toInt)), .int (iI ((xs (i + 3)).toInt))]) (rest := [.int (iI v)]) E w hA (metX1_extend l D d0 q' t μ.1 μ.2 ok ((xs (i + 1)).toInt) ((xs (i + 2)).toInt) ((xs (i + 3)).toInt) (r32_toInt _) (r32_toInt _) (r32_toInt _)) (cwV 3 E.1.2.2.2.2 (lw_V q222 q223 q224 q26 q225) rfl rfl rfl (by decide +kernel) ⟨Nat.le_of_ble_eq_true rfl, Nat.le_of_ble_eq_true rfl⟩) rfl hl.1 rfl (Nat.le_of_ble_eq_true rfl) dL_law_146 ⟨Nat.le_of_ble_eq_true rfl, Nat.le_of_ble_eq_true rfl⟩ (fun v' u' H locs hv' w => ?_)
  have w : rp_H D A s.heap H locs (XW d0 q u σ.1 σ.2.1 σ.2.2.1 σ.2.2.2 ++ MW d0 q' u' μ.1 μ.2) := w
  obtain ⟨ev, eu⟩ := aExt_f hv hv'
  subst eu
  refine lv_icmp_eq (tgt := 488) E.1.1 E.1.2.1 dL_law_149 (by decide) (fun _ => kk u σ μ H locs (aExt_k ok hv) w) (fun h9 => absurd (by rw [ev]) h9)
set_option maxHeartbeats 4000000 in
set_option maxRecDepth 100000 in
theorem law_2 {p : Program} {l : Launch} {e : Env} {s : State} {m : MethodId} {below : List Frame} {meth : Method} {c : Code} {H : Heap} {locs : List Loc} {Q : State → Prop} {D : va_G} {d0 : ClassId} {A : Nat → Prop} {ls : Array Slot} {b L i : Nat} {xs : Nat → Int32} {q q' : Nat → Nat} {t : TT} {σ : XS} {μ : MS} (E : rp_E p s m meth c #[Value.ref b] RLw cL_law 4 D d0) (hA : ∀ z, s.heap.size ≤ z → A z) (hX : va_X b L xs s s.heap) (hbl : b < s.heap.size) (hbA : ¬ A b) (hL : L ≤ 320) (hi : i + 5 ≤ L) (ok : tOk t) (w : rp_H D A s.heap H locs (XWs d0 q t σ ++ MWs d0 q' t μ)) (hl : lv_has ls 4 [(0, .ref b), (1, .ref (q 0)), (2, .ref (q' 0)), (3, .int (iI ((i : Nat) : Int)))]) (kk : ∀ (t' : TT) (σ' : XS) (μ' : MS) (H1 : Heap) (locs1 : List Loc), tOk t' → rp_H D A s.heap H1 locs1 (XWs d0 q t' σ' ++ MWs d0 q' t' μ') → W p l e room_1 s m #[Value.ref b] below meth c H1 locs1 19 560 Q (F0 m 488 ls [])) : W p l e room_1 s m #[Value.ref b] below meth c H locs 19 560 Q (F0 m 154 ls []) := by
  refine rp_aln E dL_law_154 rfl (lv_at hl 1 rfl) ?_
  refine rl_arg E w hX hbl hbA (lv_at hl 0 rfl) (lv_at hl 3 rfl) 1 (by omega) hL rfl dL_law_155 dL_law_156 dL_law_157 dL_law_158 dL_law_159 ?_
  refine rl_arg E w hX hbl hbA (lv_at hl 0 rfl) (lv_at hl 3 rfl) 2 (by omega) hL rfl dL_law_160 dL_law_161 dL_law_162 dL_law_163 dL_law_164 ?_
  refine rl_X (As := [.int (iI ((xs (i + 1)).toInt)), .int (iI ((xs (i + 2)).toInt))]) (rest := []) E w hA (metX0_trip l D d0 q t σ.1 σ.2.1 σ.2.2.1 σ.2.2.2 ok ((xs (i + 1)).toInt) ((xs (i + 2)).toInt) (r32_toInt _) (r32_toInt _)) (cwV 2 E.1.2.2.2.2 (lw_V q92 q93 q94 q25 q95) rfl rfl rfl (by decide +kernel) ⟨Nat.le_of_ble_eq_true rfl, Nat.le_of_ble_eq_true rfl⟩) rfl hl.1 rfl (Nat.le_of_ble_eq_true rfl) dL_law_165 ⟨Nat.le_of_ble_eq_true rfl, Nat.le_of_ble_eq_true rfl⟩ (fun v u H locs hv w => ?_)
  have w : rp_H D A s.heap H locs (MWs d0 q' t μ ++ XW d0 q u σ.1 σ.2.1 σ.2.2.1 σ.2.2.2) := w
  refine rp_aln E dL_law_168 rfl (lv_at hl 2 rfl) ?_
  refine rl_arg E w hX hbl hbA (lv_at hl 0 rfl) (lv_at hl 3 rfl) 1 (by omega) hL rfl dL_law_169 dL_law_170 dL_law_171 dL_law_172 dL_law_173 ?_
  refine rl_arg E w hX hbl hbA (lv_at hl 0 rfl) (lv_at hl 3 rfl) 2 (by omega) hL rfl dL_law_174 dL_law_175 dL_law_176 dL_law_177 dL_law_178 ?_
  refine rl_M (As := [.int (iI ((xs (i + 1)).toInt)), .int (iI ((xs (i + 2)).toInt))]) (rest := [.int (iI v)]) E w hA (metX1_trip l D d0 q' t μ.1 μ.2 ok ((xs (i + 1)).toInt) ((xs (i + 2)).toInt) (r32_toInt _) (r32_toInt _)) (cwV 2 E.1.2.2.2.2 (lw_V q238 q239 q240 q26 q241) rfl rfl rfl (by decide +kernel) ⟨Nat.le_of_ble_eq_true rfl, Nat.le_of_ble_eq_true rfl⟩) rfl hl.1 rfl (Nat.le_of_ble_eq_true rfl) dL_law_179 ⟨Nat.le_of_ble_eq_true rfl, Nat.le_of_ble_eq_true rfl⟩ (fun v' u' H locs hv' w => ?_)
  have w : rp_H D A s.heap H locs (XW d0 q u σ.1 σ.2.1 σ.2.2.1 σ.2.2.2 ++ MW d0 q' u' μ.1 μ.2) := w
  obtain ⟨ev, eu⟩ := aTrip_f hv hv'
  subst eu
  refine lv_icmp_eq (tgt := 488) E.1.1 E.1.2.1 dL_law_182 (by decide) (fun _ => kk u σ μ H locs (aTrip_k ok hv) w) (fun h9 => absurd (by rw [ev]) h9)
set_option maxHeartbeats 4000000 in
set_option maxRecDepth 100000 in
theorem law_3 {p : Program} {l : Launch} {e : Env} {s : State} {m : MethodId} {below : List Frame} {meth : Method} {c : Code} {H : Heap} {locs : List Loc} {Q : State → Prop} {D : va_G} {d0 : ClassId} {A : Nat → Prop} {ls : Array Slot} {b L i : Nat} {xs : Nat → Int32} {q q' : Nat → Nat} {t : TT} {σ : XS} {μ : MS} (E : rp_E p s m meth c #[Value.ref b] RLw cL_law 4 D d0) (hA : ∀ z, s.heap.size ≤ z → A z) (hX : va_X b L xs s s.heap) (hbl : b < s.heap.size) (hbA : ¬ A b) (hL : L ≤ 320) (hi : i + 5 ≤ L) (ok : tOk t) (w : rp_H D A s.heap H locs (XWs d0 q t σ ++ MWs d0 q' t μ)) (hl : lv_has ls 4 [(0, .ref b), (1, .ref (q 0)), (2, .ref (q' 0)), (3, .int (iI ((i : Nat) : Int)))]) (kk : ∀ (t' : TT) (σ' : XS) (μ' : MS) (H1 : Heap) (locs1 : List Loc), tOk t' → rp_H D A s.heap H1 locs1 (XWs d0 q t' σ' ++ MWs d0 q' t' μ') → W p l e room_1 s m #[Value.ref b] below meth c H1 locs1 19 560 Q (F0 m 488 ls [])) : W p l e room_1 s m #[Value.ref b] below meth c H locs 19 560 Q (F0 m 187 ls []) := by
  refine rp_aln E dL_law_187 rfl (lv_at hl 1 rfl) ?_
  refine rl_arg E w hX hbl hbA (lv_at hl 0 rfl) (lv_at hl 3 rfl) 1 (by omega) hL rfl dL_law_188 dL_law_189 dL_law_190 dL_law_191 dL_law_192 ?_
  refine rl_arg E w hX hbl hbA (lv_at hl 0 rfl) (lv_at hl 3 rfl) 2 (by omega) hL rfl dL_law_193 dL_law_194 dL_law_195 dL_law_196 dL_law_197 ?_
  refine rl_arg E w hX hbl hbA (lv_at hl 0 rfl) (lv_at hl 3 rfl) 3 (by omega) hL rfl dL_law_198 dL_law_199 dL_law_200 dL_law_201 dL_law_202 ?_
  refine rl_X (As := [.int (iI ((xs (i + 1)).toInt)), .int (iI ((xs (i + 2)).toInt)), .int (iI ((xs (i + 3)).toInt))]) (rest := []) E w hA (metX0_footpath l D d0 q t σ.1 σ.2.1 σ.2.2.1 σ.2.2.2 ok ((xs (i + 1)).toInt) ((xs (i + 2)).toInt) ((xs (i + 3)).toInt) (r32_toInt _) (r32_toInt _) (r32_toInt _)) (cwV 3 E.1.2.2.2.2 (lw_V q96 q97 q98 q25 q99) rfl rfl rfl (by decide +kernel) ⟨Nat.le_of_ble_eq_true rfl, Nat.le_of_ble_eq_true rfl⟩) rfl hl.1 rfl (Nat.le_of_ble_eq_true rfl) dL_law_203 ⟨Nat.le_of_ble_eq_true rfl, Nat.le_of_ble_eq_true rfl⟩ (fun v u H locs hv w => ?_)
  have w : rp_H D A s.heap H locs (MWs d0 q' t μ ++ XW d0 q u σ.1 σ.2.1 σ.2.2.1 σ.2.2.2) := w
  refine rp_aln E dL_law_206 rfl (lv_at hl 2 rfl) ?_
  refine rl_arg E w hX hbl hbA (lv_at hl 0 rfl) (lv_at hl 3 rfl) 1 (by omega) hL rfl dL_law_207 dL_law_208 dL_law_209 dL_law_210 dL_law_211 ?_
  refine rl_arg E w hX hbl hbA (lv_at hl 0 rfl) (lv_at hl 3 rfl) 2 (by omega) hL rfl dL_law_212 dL_law_213 dL_law_214 dL_law_215 dL_law_216 ?_
  refine rl_arg E w hX hbl hbA (lv_at hl 0 rfl) (lv_at hl 3 rfl) 3 (by omega) hL rfl dL_law_217 dL_law_218 dL_law_219 dL_law_220 dL_law_221 ?_
  refine rl_M (As := [.int (iI ((xs (i + 1)).toInt)), .int (iI ((xs (i + 2)).toInt)), .int (iI ((xs (i + 3)).toInt))]) (rest := [.int (iI v)]) E w hA (metX1_footpath l D d0 q' t μ.1 μ.2 ok ((xs (i + 1)).toInt) ((xs (i + 2)).toInt) ((xs (i + 3)).toInt) (r32_toInt _) (r32_toInt _) (r32_toInt _)) (cwV 3 E.1.2.2.2.2 (lw_V q242 q243 q244 q26 q245) rfl rfl rfl (by decide +kernel) ⟨Nat.le_of_ble_eq_true rfl, Nat.le_of_ble_eq_true rfl⟩) rfl hl.1 rfl (Nat.le_of_ble_eq_true rfl) dL_law_222 ⟨Nat.le_of_ble_eq_true rfl, Nat.le_of_ble_eq_true rfl⟩ (fun v' u' H locs hv' w => ?_)
  have w : rp_H D A s.heap H locs (XW d0 q u σ.1 σ.2.1 σ.2.2.1 σ.2.2.2 ++ MW d0 q' u' μ.1 μ.2) := w
  obtain ⟨ev, eu⟩ := aFoot_f hv hv'
  subst eu
  refine lv_icmp_eq (tgt := 488) E.1.1 E.1.2.1 dL_law_225 (by decide) (fun _ => kk u σ μ H locs (aFoot_k ok hv) w) (fun h9 => absurd (by rw [ev]) h9)
set_option maxHeartbeats 4000000 in
set_option maxRecDepth 100000 in
theorem law_4 {p : Program} {l : Launch} {e : Env} {s : State} {m : MethodId} {below : List Frame} {meth : Method} {c : Code} {H : Heap} {locs : List Loc} {Q : State → Prop} {D : va_G} {d0 : ClassId} {A : Nat → Prop} {ls : Array Slot} {b L i : Nat} {xs : Nat → Int32} {q q' : Nat → Nat} {t : TT} {σ : XS} {μ : MS} (E : rp_E p s m meth c #[Value.ref b] RLw cL_law 4 D d0) (hA : ∀ z, s.heap.size ≤ z → A z) (hX : va_X b L xs s s.heap) (hbl : b < s.heap.size) (hbA : ¬ A b) (hL : L ≤ 320) (hi : i + 5 ≤ L) (ok : tOk t) (w : rp_H D A s.heap H locs (XWs d0 q t σ ++ MWs d0 q' t μ)) (hl : lv_has ls 4 [(0, .ref b), (1, .ref (q 0)), (2, .ref (q' 0)), (3, .int (iI ((i : Nat) : Int)))]) (kk : ∀ (t' : TT) (σ' : XS) (μ' : MS) (H1 : Heap) (locs1 : List Loc), tOk t' → rp_H D A s.heap H1 locs1 (XWs d0 q t' σ' ++ MWs d0 q' t' μ') → W p l e room_1 s m #[Value.ref b] below meth c H1 locs1 19 560 Q (F0 m 488 ls [])) : W p l e room_1 s m #[Value.ref b] below meth c H locs 19 560 Q (F0 m 230 ls []) := by
  refine rp_aln E dL_law_230 rfl (lv_at hl 1 rfl) ?_
  refine rl_arg E w hX hbl hbA (lv_at hl 0 rfl) (lv_at hl 3 rfl) 1 (by omega) hL rfl dL_law_231 dL_law_232 dL_law_233 dL_law_234 dL_law_235 ?_
  refine rl_arg E w hX hbl hbA (lv_at hl 0 rfl) (lv_at hl 3 rfl) 2 (by omega) hL rfl dL_law_236 dL_law_237 dL_law_238 dL_law_239 dL_law_240 ?_
  refine rl_X (As := [.int (iI ((xs (i + 1)).toInt)), .int (iI ((xs (i + 2)).toInt))]) (rest := []) E w hA (metX0_delay l D d0 q t σ.1 σ.2.1 σ.2.2.1 σ.2.2.2 ok ((xs (i + 1)).toInt) ((xs (i + 2)).toInt) (r32_toInt _) (r32_toInt _)) (cwV 2 E.1.2.2.2.2 (lw_V q100 q101 q102 q25 q103) rfl rfl rfl (by decide +kernel) ⟨Nat.le_of_ble_eq_true rfl, Nat.le_of_ble_eq_true rfl⟩) rfl hl.1 rfl (Nat.le_of_ble_eq_true rfl) dL_law_241 ⟨Nat.le_of_ble_eq_true rfl, Nat.le_of_ble_eq_true rfl⟩ (fun v u H locs hv w => ?_)
  have w : rp_H D A s.heap H locs (MWs d0 q' t μ ++ XW d0 q u σ.1 σ.2.1 σ.2.2.1 σ.2.2.2) := w
  refine rp_aln E dL_law_244 rfl (lv_at hl 2 rfl) ?_
  refine rl_arg E w hX hbl hbA (lv_at hl 0 rfl) (lv_at hl 3 rfl) 1 (by omega) hL rfl dL_law_245 dL_law_246 dL_law_247 dL_law_248 dL_law_249 ?_
  refine rl_arg E w hX hbl hbA (lv_at hl 0 rfl) (lv_at hl 3 rfl) 2 (by omega) hL rfl dL_law_250 dL_law_251 dL_law_252 dL_law_253 dL_law_254 ?_
  refine rl_M (As := [.int (iI ((xs (i + 1)).toInt)), .int (iI ((xs (i + 2)).toInt))]) (rest := [.int (iI v)]) E w hA (metX1_delay l D d0 q' t μ.1 μ.2 ok ((xs (i + 1)).toInt) ((xs (i + 2)).toInt) (r32_toInt _) (r32_toInt _)) (cwV 2 E.1.2.2.2.2 (lw_V q246 q247 q248 q26 q249) rfl rfl rfl (by decide +kernel) ⟨Nat.le_of_ble_eq_true rfl, Nat.le_of_ble_eq_true rfl⟩) rfl hl.1 rfl (Nat.le_of_ble_eq_true rfl) dL_law_255 ⟨Nat.le_of_ble_eq_true rfl, Nat.le_of_ble_eq_true rfl⟩ (fun v' u' H locs hv' w => ?_)
  have w : rp_H D A s.heap H locs (XW d0 q u σ.1 σ.2.1 σ.2.2.1 σ.2.2.2 ++ MW d0 q' u' μ.1 μ.2) := w
  obtain ⟨ev, eu⟩ := aDel_f hv hv'
  subst eu
  refine lv_icmp_eq (tgt := 488) E.1.1 E.1.2.1 dL_law_258 (by decide) (fun _ => kk u σ μ H locs (aDel_k ok hv) w) (fun h9 => absurd (by rw [ev]) h9)
set_option maxHeartbeats 4000000 in
set_option maxRecDepth 100000 in
theorem law_5 {p : Program} {l : Launch} {e : Env} {s : State} {m : MethodId} {below : List Frame} {meth : Method} {c : Code} {H : Heap} {locs : List Loc} {Q : State → Prop} {D : va_G} {d0 : ClassId} {A : Nat → Prop} {ls : Array Slot} {b L i : Nat} {xs : Nat → Int32} {q q' : Nat → Nat} {t : TT} {σ : XS} {μ : MS} (E : rp_E p s m meth c #[Value.ref b] RLw cL_law 4 D d0) (hA : ∀ z, s.heap.size ≤ z → A z) (hX : va_X b L xs s s.heap) (hbl : b < s.heap.size) (hbA : ¬ A b) (hL : L ≤ 320) (hi : i + 5 ≤ L) (ok : tOk t) (w : rp_H D A s.heap H locs (XWs d0 q t σ ++ MWs d0 q' t μ)) (hl : lv_has ls 4 [(0, .ref b), (1, .ref (q 0)), (2, .ref (q' 0)), (3, .int (iI ((i : Nat) : Int)))]) (kk : ∀ (t' : TT) (σ' : XS) (μ' : MS) (H1 : Heap) (locs1 : List Loc), tOk t' → rp_H D A s.heap H1 locs1 (XWs d0 q t' σ' ++ MWs d0 q' t' μ') → W p l e room_1 s m #[Value.ref b] below meth c H1 locs1 19 560 Q (F0 m 488 ls [])) : W p l e room_1 s m #[Value.ref b] below meth c H locs 19 560 Q (F0 m 263 ls []) := by
  refine rp_aln E dL_law_263 rfl (lv_at hl 1 rfl) ?_
  refine rl_arg E w hX hbl hbA (lv_at hl 0 rfl) (lv_at hl 3 rfl) 1 (by omega) hL rfl dL_law_264 dL_law_265 dL_law_266 dL_law_267 dL_law_268 ?_
  refine rl_arg E w hX hbl hbA (lv_at hl 0 rfl) (lv_at hl 3 rfl) 2 (by omega) hL rfl dL_law_269 dL_law_270 dL_law_271 dL_law_272 dL_law_273 ?_
  refine rl_arg E w hX hbl hbA (lv_at hl 0 rfl) (lv_at hl 3 rfl) 3 (by omega) hL rfl dL_law_274 dL_law_275 dL_law_276 dL_law_277 dL_law_278 ?_
  refine rl_X (As := [.int (iI ((xs (i + 1)).toInt)), .int (iI ((xs (i + 2)).toInt)), .int (iI ((xs (i + 3)).toInt))]) (rest := []) E w hA (metX0_earliest l D d0 q t σ.1 σ.2.1 σ.2.2.1 σ.2.2.2 ok ((xs (i + 1)).toInt) ((xs (i + 2)).toInt) ((xs (i + 3)).toInt) (r32_toInt _) (r32_toInt _) (r32_toInt _)) (cwV 3 E.1.2.2.2.2 (lw_V q104 q105 q106 q25 q107) rfl rfl rfl (by decide +kernel) ⟨Nat.le_of_ble_eq_true rfl, Nat.le_of_ble_eq_true rfl⟩) rfl hl.1 rfl (Nat.le_of_ble_eq_true rfl) dL_law_279 ⟨Nat.le_of_ble_eq_true rfl, Nat.le_of_ble_eq_true rfl⟩ (fun v u H locs hv w => ?_)
  have w : rp_H D A s.heap H locs (MWs d0 q' t μ ++ XWs d0 q t u) := w
  refine rp_aln E dL_law_282 rfl (lv_at hl 2 rfl) ?_
  refine rl_arg E w hX hbl hbA (lv_at hl 0 rfl) (lv_at hl 3 rfl) 1 (by omega) hL rfl dL_law_283 dL_law_284 dL_law_285 dL_law_286 dL_law_287 ?_
  refine rl_arg E w hX hbl hbA (lv_at hl 0 rfl) (lv_at hl 3 rfl) 2 (by omega) hL rfl dL_law_288 dL_law_289 dL_law_290 dL_law_291 dL_law_292 ?_
  refine rl_arg E w hX hbl hbA (lv_at hl 0 rfl) (lv_at hl 3 rfl) 3 (by omega) hL rfl dL_law_293 dL_law_294 dL_law_295 dL_law_296 dL_law_297 ?_
  refine rl_M (As := [.int (iI ((xs (i + 1)).toInt)), .int (iI ((xs (i + 2)).toInt)), .int (iI ((xs (i + 3)).toInt))]) (rest := [.int (iI v)]) E w hA (metX1_earliest l D d0 q' t μ.1 μ.2 ok ((xs (i + 1)).toInt) ((xs (i + 2)).toInt) ((xs (i + 3)).toInt) (r32_toInt _) (r32_toInt _) (r32_toInt _)) (cwV 3 E.1.2.2.2.2 (lw_V q250 q251 q252 q26 q253) rfl rfl rfl (by decide +kernel) ⟨Nat.le_of_ble_eq_true rfl, Nat.le_of_ble_eq_true rfl⟩) rfl hl.1 rfl (Nat.le_of_ble_eq_true rfl) dL_law_298 ⟨Nat.le_of_ble_eq_true rfl, Nat.le_of_ble_eq_true rfl⟩ (fun v' u' H locs hv' w => ?_)
  have w : rp_H D A s.heap H locs (XWs d0 q t u ++ MWs d0 q' t u') := w
  have ev : v = v' := ans_e (σ := σ) (u := u) (μ := μ) (w := u') (a := (xs (i + 1)).toInt) (b := (xs (i + 2)).toInt) (z := (xs (i + 3)).toInt) (n := 12) ok hv hv'
  refine lv_icmp_eq (tgt := 488) E.1.1 E.1.2.1 dL_law_301 (by decide) (fun _ => kk t u u' H locs ok w) (fun h9 => absurd (by rw [ev]) h9)
set_option maxHeartbeats 4000000 in
set_option maxRecDepth 100000 in
theorem law_6 {p : Program} {l : Launch} {e : Env} {s : State} {m : MethodId} {below : List Frame} {meth : Method} {c : Code} {H : Heap} {locs : List Loc} {Q : State → Prop} {D : va_G} {d0 : ClassId} {A : Nat → Prop} {ls : Array Slot} {b L i : Nat} {xs : Nat → Int32} {q q' : Nat → Nat} {t : TT} {σ : XS} {μ : MS} (E : rp_E p s m meth c #[Value.ref b] RLw cL_law 4 D d0) (hA : ∀ z, s.heap.size ≤ z → A z) (hX : va_X b L xs s s.heap) (hbl : b < s.heap.size) (hbA : ¬ A b) (hL : L ≤ 320) (hi : i + 5 ≤ L) (ok : tOk t) (w : rp_H D A s.heap H locs (XWs d0 q t σ ++ MWs d0 q' t μ)) (hl : lv_has ls 4 [(0, .ref b), (1, .ref (q 0)), (2, .ref (q' 0)), (3, .int (iI ((i : Nat) : Int)))]) (kk : ∀ (t' : TT) (σ' : XS) (μ' : MS) (H1 : Heap) (locs1 : List Loc), tOk t' → rp_H D A s.heap H1 locs1 (XWs d0 q t' σ' ++ MWs d0 q' t' μ') → W p l e room_1 s m #[Value.ref b] below meth c H1 locs1 19 560 Q (F0 m 488 ls [])) : W p l e room_1 s m #[Value.ref b] below meth c H locs 19 560 Q (F0 m 306 ls []) := by
  refine rp_aln E dL_law_306 rfl (lv_at hl 1 rfl) ?_
  refine rl_arg E w hX hbl hbA (lv_at hl 0 rfl) (lv_at hl 3 rfl) 1 (by omega) hL rfl dL_law_307 dL_law_308 dL_law_309 dL_law_310 dL_law_311 ?_
  refine rl_arg E w hX hbl hbA (lv_at hl 0 rfl) (lv_at hl 3 rfl) 2 (by omega) hL rfl dL_law_312 dL_law_313 dL_law_314 dL_law_315 dL_law_316 ?_
  refine rl_arg E w hX hbl hbA (lv_at hl 0 rfl) (lv_at hl 3 rfl) 3 (by omega) hL rfl dL_law_317 dL_law_318 dL_law_319 dL_law_320 dL_law_321 ?_
  refine rl_arg E w hX hbl hbA (lv_at hl 0 rfl) (lv_at hl 3 rfl) 4 (by omega) hL rfl dL_law_322 dL_law_323 dL_law_324 dL_law_325 dL_law_326 ?_
  refine rl_X (As := [.int (iI ((xs (i + 1)).toInt)), .int (iI ((xs (i + 2)).toInt)), .int (iI ((xs (i + 3)).toInt)), .int (iI ((xs (i + 4)).toInt))]) (rest := []) E w hA (metX0_earliestWith l D d0 q t σ.1 σ.2.1 σ.2.2.1 σ.2.2.2 ok ((xs (i + 1)).toInt) ((xs (i + 2)).toInt) ((xs (i + 3)).toInt) (r32_toInt _) (r32_toInt _) (r32_toInt _) ((xs (i + 4)).toInt) (r32_toInt _)) (cwV 4 E.1.2.2.2.2 (lw_V q144 q145 q146 q25 q147) rfl rfl rfl (by decide +kernel) ⟨Nat.le_of_ble_eq_true rfl, Nat.le_of_ble_eq_true rfl⟩) rfl hl.1 rfl (Nat.le_of_ble_eq_true rfl) dL_law_327 ⟨Nat.le_of_ble_eq_true rfl, Nat.le_of_ble_eq_true rfl⟩ (fun v u H locs hv w => ?_)
  have w : rp_H D A s.heap H locs (MWs d0 q' t μ ++ XWs d0 q t u) := w
  refine rp_aln E dL_law_330 rfl (lv_at hl 2 rfl) ?_
  refine rl_arg E w hX hbl hbA (lv_at hl 0 rfl) (lv_at hl 3 rfl) 1 (by omega) hL rfl dL_law_331 dL_law_332 dL_law_333 dL_law_334 dL_law_335 ?_
  refine rl_arg E w hX hbl hbA (lv_at hl 0 rfl) (lv_at hl 3 rfl) 2 (by omega) hL rfl dL_law_336 dL_law_337 dL_law_338 dL_law_339 dL_law_340 ?_
  refine rl_arg E w hX hbl hbA (lv_at hl 0 rfl) (lv_at hl 3 rfl) 3 (by omega) hL rfl dL_law_341 dL_law_342 dL_law_343 dL_law_344 dL_law_345 ?_
  refine rl_arg E w hX hbl hbA (lv_at hl 0 rfl) (lv_at hl 3 rfl) 4 (by omega) hL rfl dL_law_346 dL_law_347 dL_law_348 dL_law_349 dL_law_350 ?_
  refine rl_M (As := [.int (iI ((xs (i + 1)).toInt)), .int (iI ((xs (i + 2)).toInt)), .int (iI ((xs (i + 3)).toInt)), .int (iI ((xs (i + 4)).toInt))]) (rest := [.int (iI v)]) E w hA (metX1_earliestWith l D d0 q' t μ.1 μ.2 ok ((xs (i + 1)).toInt) ((xs (i + 2)).toInt) ((xs (i + 3)).toInt) (r32_toInt _) (r32_toInt _) (r32_toInt _) ((xs (i + 4)).toInt) (r32_toInt _)) (cwV 4 E.1.2.2.2.2 (lw_V q283 q255 q256 q26 q257) rfl rfl rfl (by decide +kernel) ⟨Nat.le_of_ble_eq_true rfl, Nat.le_of_ble_eq_true rfl⟩) rfl hl.1 rfl (Nat.le_of_ble_eq_true rfl) dL_law_351 ⟨Nat.le_of_ble_eq_true rfl, Nat.le_of_ble_eq_true rfl⟩ (fun v' u' H locs hv' w => ?_)
  have w : rp_H D A s.heap H locs (XWs d0 q t u ++ MWs d0 q' t u') := w
  have ev : v = v' := ans_e (σ := σ) (u := u) (μ := μ) (w := u') (a := (xs (i + 1)).toInt) (b := (xs (i + 2)).toInt) (z := (xs (i + 3)).toInt) (n := cl12 ((xs (i + 4)).toInt)) ok hv hv'
  refine lv_icmp_eq (tgt := 488) E.1.1 E.1.2.1 dL_law_354 (by decide) (fun _ => kk t u u' H locs ok w) (fun h9 => absurd (by rw [ev]) h9)
set_option maxHeartbeats 4000000 in
set_option maxRecDepth 100000 in
theorem law_7 {p : Program} {l : Launch} {e : Env} {s : State} {m : MethodId} {below : List Frame} {meth : Method} {c : Code} {H : Heap} {locs : List Loc} {Q : State → Prop} {D : va_G} {d0 : ClassId} {A : Nat → Prop} {ls : Array Slot} {b L i : Nat} {xs : Nat → Int32} {q q' : Nat → Nat} {t : TT} {σ : XS} {μ : MS} (E : rp_E p s m meth c #[Value.ref b] RLw cL_law 4 D d0) (hA : ∀ z, s.heap.size ≤ z → A z) (hX : va_X b L xs s s.heap) (hbl : b < s.heap.size) (hbA : ¬ A b) (hL : L ≤ 320) (hi : i + 5 ≤ L) (ok : tOk t) (w : rp_H D A s.heap H locs (XWs d0 q t σ ++ MWs d0 q' t μ)) (hl : lv_has ls 4 [(0, .ref b), (1, .ref (q 0)), (2, .ref (q' 0)), (3, .int (iI ((i : Nat) : Int)))]) (kk : ∀ (t' : TT) (σ' : XS) (μ' : MS) (H1 : Heap) (locs1 : List Loc), tOk t' → rp_H D A s.heap H1 locs1 (XWs d0 q t' σ' ++ MWs d0 q' t' μ') → W p l e room_1 s m #[Value.ref b] below meth c H1 locs1 19 560 Q (F0 m 488 ls [])) : W p l e room_1 s m #[Value.ref b] below meth c H locs 19 560 Q (F0 m 359 ls []) := by
  refine rp_aln E dL_law_359 rfl (lv_at hl 1 rfl) ?_
  refine rl_arg E w hX hbl hbA (lv_at hl 0 rfl) (lv_at hl 3 rfl) 1 (by omega) hL rfl dL_law_360 dL_law_361 dL_law_362 dL_law_363 dL_law_364 ?_
  refine rl_arg E w hX hbl hbA (lv_at hl 0 rfl) (lv_at hl 3 rfl) 2 (by omega) hL rfl dL_law_365 dL_law_366 dL_law_367 dL_law_368 dL_law_369 ?_
  refine rl_arg E w hX hbl hbA (lv_at hl 0 rfl) (lv_at hl 3 rfl) 3 (by omega) hL rfl dL_law_370 dL_law_371 dL_law_372 dL_law_373 dL_law_374 ?_
  refine rl_X (As := [.int (iI ((xs (i + 1)).toInt)), .int (iI ((xs (i + 2)).toInt)), .int (iI ((xs (i + 3)).toInt))]) (rest := []) E w hA (metX0_rides l D d0 q t σ.1 σ.2.1 σ.2.2.1 σ.2.2.2 ok ((xs (i + 1)).toInt) ((xs (i + 2)).toInt) ((xs (i + 3)).toInt) (r32_toInt _) (r32_toInt _) (r32_toInt _)) (cwV 3 E.1.2.2.2.2 (lw_V q148 q149 q150 q25 q151) rfl rfl rfl (by decide +kernel) ⟨Nat.le_of_ble_eq_true rfl, Nat.le_of_ble_eq_true rfl⟩) rfl hl.1 rfl (Nat.le_of_ble_eq_true rfl) dL_law_375 ⟨Nat.le_of_ble_eq_true rfl, Nat.le_of_ble_eq_true rfl⟩ (fun v u H locs hv w => ?_)
  have w : rp_H D A s.heap H locs (MWs d0 q' t μ ++ XWs d0 q t u) := w
  refine rp_aln E dL_law_378 rfl (lv_at hl 2 rfl) ?_
  refine rl_arg E w hX hbl hbA (lv_at hl 0 rfl) (lv_at hl 3 rfl) 1 (by omega) hL rfl dL_law_379 dL_law_380 dL_law_381 dL_law_382 dL_law_383 ?_
  refine rl_arg E w hX hbl hbA (lv_at hl 0 rfl) (lv_at hl 3 rfl) 2 (by omega) hL rfl dL_law_384 dL_law_385 dL_law_386 dL_law_387 dL_law_388 ?_
  refine rl_arg E w hX hbl hbA (lv_at hl 0 rfl) (lv_at hl 3 rfl) 3 (by omega) hL rfl dL_law_389 dL_law_390 dL_law_391 dL_law_392 dL_law_393 ?_
  refine rl_M (As := [.int (iI ((xs (i + 1)).toInt)), .int (iI ((xs (i + 2)).toInt)), .int (iI ((xs (i + 3)).toInt))]) (rest := [.int (iI v)]) E w hA (metX1_rides l D d0 q' t μ.1 μ.2 ok ((xs (i + 1)).toInt) ((xs (i + 2)).toInt) ((xs (i + 3)).toInt) (r32_toInt _) (r32_toInt _) (r32_toInt _)) (cwV 3 E.1.2.2.2.2 (lw_V q284 q285 q286 q26 q287) rfl rfl rfl (by decide +kernel) ⟨Nat.le_of_ble_eq_true rfl, Nat.le_of_ble_eq_true rfl⟩) rfl hl.1 rfl (Nat.le_of_ble_eq_true rfl) dL_law_394 ⟨Nat.le_of_ble_eq_true rfl, Nat.le_of_ble_eq_true rfl⟩ (fun v' u' H locs hv' w => ?_)
  have w : rp_H D A s.heap H locs (XWs d0 q t u ++ MWs d0 q' t u') := w
  have ev : v = v' := ans_r (σ := σ) (u := u) (μ := μ) (w := u') (a := (xs (i + 1)).toInt) (b := (xs (i + 2)).toInt) (z := (xs (i + 3)).toInt) ok hv hv'
  refine lv_icmp_eq (tgt := 488) E.1.1 E.1.2.1 dL_law_397 (by decide) (fun _ => kk t u u' H locs ok w) (fun h9 => absurd (by rw [ev]) h9)
set_option maxHeartbeats 4000000 in
set_option maxRecDepth 100000 in
theorem law_8 {p : Program} {l : Launch} {e : Env} {s : State} {m : MethodId} {below : List Frame} {meth : Method} {c : Code} {H : Heap} {locs : List Loc} {Q : State → Prop} {D : va_G} {d0 : ClassId} {A : Nat → Prop} {ls : Array Slot} {b L i : Nat} {xs : Nat → Int32} {q q' : Nat → Nat} {t : TT} {σ : XS} {μ : MS} (E : rp_E p s m meth c #[Value.ref b] RLw cL_law 4 D d0) (hA : ∀ z, s.heap.size ≤ z → A z) (hX : va_X b L xs s s.heap) (hbl : b < s.heap.size) (hbA : ¬ A b) (hL : L ≤ 320) (hi : i + 5 ≤ L) (ok : tOk t) (w : rp_H D A s.heap H locs (XWs d0 q t σ ++ MWs d0 q' t μ)) (hl : lv_has ls 4 [(0, .ref b), (1, .ref (q 0)), (2, .ref (q' 0)), (3, .int (iI ((i : Nat) : Int)))]) (kk : ∀ (t' : TT) (σ' : XS) (μ' : MS) (H1 : Heap) (locs1 : List Loc), tOk t' → rp_H D A s.heap H1 locs1 (XWs d0 q t' σ' ++ MWs d0 q' t' μ') → W p l e room_1 s m #[Value.ref b] below meth c H1 locs1 19 560 Q (F0 m 488 ls [])) : W p l e room_1 s m #[Value.ref b] below meth c H locs 19 560 Q (F0 m 402 ls []) := by
  refine rp_aln E dL_law_402 rfl (lv_at hl 1 rfl) ?_
  refine rl_arg E w hX hbl hbA (lv_at hl 0 rfl) (lv_at hl 3 rfl) 1 (by omega) hL rfl dL_law_403 dL_law_404 dL_law_405 dL_law_406 dL_law_407 ?_
  refine rl_arg E w hX hbl hbA (lv_at hl 0 rfl) (lv_at hl 3 rfl) 2 (by omega) hL rfl dL_law_408 dL_law_409 dL_law_410 dL_law_411 dL_law_412 ?_
  refine rl_arg E w hX hbl hbA (lv_at hl 0 rfl) (lv_at hl 3 rfl) 3 (by omega) hL rfl dL_law_413 dL_law_414 dL_law_415 dL_law_416 dL_law_417 ?_
  refine rl_X (As := [.int (iI ((xs (i + 1)).toInt)), .int (iI ((xs (i + 2)).toInt)), .int (iI ((xs (i + 3)).toInt))]) (rest := []) E w hA (metX0_latest l D d0 q t σ.1 σ.2.1 σ.2.2.1 σ.2.2.2 ok ((xs (i + 1)).toInt) ((xs (i + 2)).toInt) ((xs (i + 3)).toInt) (r32_toInt _) (r32_toInt _) (r32_toInt _)) (cwV 3 E.1.2.2.2.2 (lw_V q152 q153 q154 q25 q155) rfl rfl rfl (by decide +kernel) ⟨Nat.le_of_ble_eq_true rfl, Nat.le_of_ble_eq_true rfl⟩) rfl hl.1 rfl (Nat.le_of_ble_eq_true rfl) dL_law_418 ⟨Nat.le_of_ble_eq_true rfl, Nat.le_of_ble_eq_true rfl⟩ (fun v u H locs hv w => ?_)
  have w : rp_H D A s.heap H locs (MWs d0 q' t μ ++ XWs d0 q t u) := w
  refine rp_aln E dL_law_421 rfl (lv_at hl 2 rfl) ?_
  refine rl_arg E w hX hbl hbA (lv_at hl 0 rfl) (lv_at hl 3 rfl) 1 (by omega) hL rfl dL_law_422 dL_law_423 dL_law_424 dL_law_425 dL_law_426 ?_
  refine rl_arg E w hX hbl hbA (lv_at hl 0 rfl) (lv_at hl 3 rfl) 2 (by omega) hL rfl dL_law_427 dL_law_428 dL_law_429 dL_law_430 dL_law_431 ?_
  refine rl_arg E w hX hbl hbA (lv_at hl 0 rfl) (lv_at hl 3 rfl) 3 (by omega) hL rfl dL_law_432 dL_law_433 dL_law_434 dL_law_435 dL_law_436 ?_
  refine rl_M (As := [.int (iI ((xs (i + 1)).toInt)), .int (iI ((xs (i + 2)).toInt)), .int (iI ((xs (i + 3)).toInt))]) (rest := [.int (iI v)]) E w hA (metX1_latest l D d0 q' t μ.1 μ.2 ok ((xs (i + 1)).toInt) ((xs (i + 2)).toInt) ((xs (i + 3)).toInt) (r32_toInt _) (r32_toInt _) (r32_toInt _)) (cwV 3 E.1.2.2.2.2 (lw_V q289 q290 q291 q26 q292) rfl rfl rfl (by decide +kernel) ⟨Nat.le_of_ble_eq_true rfl, Nat.le_of_ble_eq_true rfl⟩) rfl hl.1 rfl (Nat.le_of_ble_eq_true rfl) dL_law_437 ⟨Nat.le_of_ble_eq_true rfl, Nat.le_of_ble_eq_true rfl⟩ (fun v' u' H locs hv' w => ?_)
  have w : rp_H D A s.heap H locs (XWs d0 q t u ++ MWs d0 q' t u') := w
  have ev : v = v' := ans_l (σ := σ) (u := u) (a := (xs (i + 1)).toInt) (b := (xs (i + 2)).toInt) (z := (xs (i + 3)).toInt) ok hv hv'
  refine lv_icmp_eq (tgt := 488) E.1.1 E.1.2.1 dL_law_440 (by decide) (fun _ => kk t u u' H locs ok w) (fun h9 => absurd (by rw [ev]) h9)
set_option maxHeartbeats 4000000 in
set_option maxRecDepth 100000 in
theorem law_9 {p : Program} {l : Launch} {e : Env} {s : State} {m : MethodId} {below : List Frame} {meth : Method} {c : Code} {H : Heap} {locs : List Loc} {Q : State → Prop} {D : va_G} {d0 : ClassId} {A : Nat → Prop} {ls : Array Slot} {b L i : Nat} {xs : Nat → Int32} {q q' : Nat → Nat} {t : TT} {σ : XS} {μ : MS} (E : rp_E p s m meth c #[Value.ref b] RLw cL_law 4 D d0) (hA : ∀ z, s.heap.size ≤ z → A z) (hX : va_X b L xs s s.heap) (hbl : b < s.heap.size) (hbA : ¬ A b) (hL : L ≤ 320) (hi : i + 5 ≤ L) (ok : tOk t) (w : rp_H D A s.heap H locs (XWs d0 q t σ ++ MWs d0 q' t μ)) (hl : lv_has ls 4 [(0, .ref b), (1, .ref (q 0)), (2, .ref (q' 0)), (3, .int (iI ((i : Nat) : Int)))]) (kk : ∀ (t' : TT) (σ' : XS) (μ' : MS) (H1 : Heap) (locs1 : List Loc), tOk t' → rp_H D A s.heap H1 locs1 (XWs d0 q t' σ' ++ MWs d0 q' t' μ') → W p l e room_1 s m #[Value.ref b] below meth c H1 locs1 19 560 Q (F0 m 488 ls [])) : W p l e room_1 s m #[Value.ref b] below meth c H locs 19 560 Q (F0 m 445 ls []) := by
  refine rp_aln E dL_law_445 rfl (lv_at hl 1 rfl) ?_
  refine rl_arg E w hX hbl hbA (lv_at hl 0 rfl) (lv_at hl 3 rfl) 1 (by omega) hL rfl dL_law_446 dL_law_447 dL_law_448 dL_law_449 dL_law_450 ?_
  refine rl_arg E w hX hbl hbA (lv_at hl 0 rfl) (lv_at hl 3 rfl) 2 (by omega) hL rfl dL_law_451 dL_law_452 dL_law_453 dL_law_454 dL_law_455 ?_
  refine rl_arg E w hX hbl hbA (lv_at hl 0 rfl) (lv_at hl 3 rfl) 3 (by omega) hL rfl dL_law_456 dL_law_457 dL_law_458 dL_law_459 dL_law_460 ?_
  refine rl_X (As := [.int (iI ((xs (i + 1)).toInt)), .int (iI ((xs (i + 2)).toInt)), .int (iI ((xs (i + 3)).toInt))]) (rest := []) E w hA (metX0_within l D d0 q t σ.1 σ.2.1 σ.2.2.1 σ.2.2.2 ok ((xs (i + 1)).toInt) ((xs (i + 2)).toInt) ((xs (i + 3)).toInt) (r32_toInt _) (r32_toInt _) (r32_toInt _)) (cwV 3 E.1.2.2.2.2 (lw_V q173 q174 q175 q25 q176) rfl rfl rfl (by decide +kernel) ⟨Nat.le_of_ble_eq_true rfl, Nat.le_of_ble_eq_true rfl⟩) rfl hl.1 rfl (Nat.le_of_ble_eq_true rfl) dL_law_461 ⟨Nat.le_of_ble_eq_true rfl, Nat.le_of_ble_eq_true rfl⟩ (fun v u H locs hv w => ?_)
  have w : rp_H D A s.heap H locs (MWs d0 q' t μ ++ XWs d0 q t u) := w
  refine rp_aln E dL_law_464 rfl (lv_at hl 2 rfl) ?_
  refine rl_arg E w hX hbl hbA (lv_at hl 0 rfl) (lv_at hl 3 rfl) 1 (by omega) hL rfl dL_law_465 dL_law_466 dL_law_467 dL_law_468 dL_law_469 ?_
  refine rl_arg E w hX hbl hbA (lv_at hl 0 rfl) (lv_at hl 3 rfl) 2 (by omega) hL rfl dL_law_470 dL_law_471 dL_law_472 dL_law_473 dL_law_474 ?_
  refine rl_arg E w hX hbl hbA (lv_at hl 0 rfl) (lv_at hl 3 rfl) 3 (by omega) hL rfl dL_law_475 dL_law_476 dL_law_477 dL_law_478 dL_law_479 ?_
  refine rl_M (As := [.int (iI ((xs (i + 1)).toInt)), .int (iI ((xs (i + 2)).toInt)), .int (iI ((xs (i + 3)).toInt))]) (rest := [.int (iI v)]) E w hA (metX1_within l D d0 q' t μ.1 μ.2 ok ((xs (i + 1)).toInt) ((xs (i + 2)).toInt) ((xs (i + 3)).toInt) (r32_toInt _) (r32_toInt _) (r32_toInt _)) (cwV 3 E.1.2.2.2.2 (lw_V q293 q294 q295 q26 q296) rfl rfl rfl (by decide +kernel) ⟨Nat.le_of_ble_eq_true rfl, Nat.le_of_ble_eq_true rfl⟩) rfl hl.1 rfl (Nat.le_of_ble_eq_true rfl) dL_law_480 ⟨Nat.le_of_ble_eq_true rfl, Nat.le_of_ble_eq_true rfl⟩ (fun v' u' H locs hv' w => ?_)
  have w : rp_H D A s.heap H locs (XWs d0 q t u ++ MWs d0 q' t u') := w
  have ev : v = v' := ans_w (σ := σ) (u := u) (μ := μ) (w := u') (a := (xs (i + 1)).toInt) (z := (xs (i + 2)).toInt) (un := (xs (i + 3)).toInt) ok hv hv'
  refine lv_icmp_eq (tgt := 488) E.1.1 E.1.2.1 dL_law_483 (by decide) (fun _ => kk t u u' H locs ok w) (fun h9 => absurd (by rw [ev]) h9)
end
section
/-! the law's loop -/
set_option maxRecDepth 100000
set_option maxHeartbeats 4000000 in
theorem law_loop {p : Program} {l : Launch} {e : Env} {s : State} {m : MethodId} {below : List Frame} {meth : Method} {c : Code} {Q : State → Prop} {D : va_G} {d0 : ClassId} {A : Nat → Prop} {b L : Nat} {xs : Nat → Int32} {q q' : Nat → Nat} (E : rp_E p s m meth c #[Value.ref b] RLw cL_law 4 D d0) (hA : ∀ z, s.heap.size ≤ z → A z) (hX : va_X b L xs s s.heap) (hbl : b < s.heap.size) (hbA : ¬ A b) (hL : L ≤ 320) (kend : ∀ (H : Heap) (locs : List Loc) (ls : Array Slot), (∀ z ∈ locs, A z.base) → W p l e room_1 s m #[Value.ref b] below meth c H locs 19 560 Q (F0 m 494 ls [])) : ∀ (n i : Nat), i ≤ L + 5 → L + 6 ≤ i + n → ∀ (t : TT) (σ : XS) (μ : MS), tOk t → ∀ (H : Heap) (locs : List Loc), rp_H D A s.heap H locs (XWs d0 q t σ ++ MWs d0 q' t μ) → ∀ ls : Array Slot, lv_has ls 4 [(0, .ref b), (1, .ref (q 0)), (2, .ref (q' 0)), (3, .int (iI ((i : Nat) : Int)))] → W p l e room_1 s m #[Value.ref b] below meth c H locs 19 560 Q (F0 m 18 ls []) := by
  intro n
  induction n with
  | zero =>
    intro i h1 h2
    exact absurd h2 (by omega)
  | succ n ih =>
    intro i h1 h2 t σ μ ok H locs w ls hl
    refine rp_iln E dL_law_18 rfl (lv_at hl 3 rfl) ?_
    refine rp_aln E dL_law_19 rfl (lv_at hl 0 rfl) ?_
    refine va_slen E.1.1 E.1.2.1 hX hbl hbA w.2.2 dL_law_20 ?_
    rw [show Int32.ofNat L = iI (L : Int) from (iI_nI L).symm]
    refine rp_ic E (v := 5) dL_law_21 rfl ?_
    refine rp_sub E dL_law_22 ?_
    refine rp_cgt (tgt := 494) E dL_law_23 (by decide) ⟨by omega, by omega⟩ ⟨by omega, by omega⟩ (fun h3 => ?_) (fun h3 => ?_)
    · exact kend H locs ls w.2.2.2.2
    · have hi : i + 5 ≤ L := by omega
      refine rp_aln E dL_law_26 rfl (lv_at hl 0 rfl) ?_
      refine rp_iln E dL_law_27 rfl (lv_at hl 3 rfl) ?_
      refine va_sld E.1.1 E.1.2.1 hX hbl hbA w.2.2 (iI_in (show i < L by omega) (by omega)) dL_law_28 ?_
      refine rp_bi E (v := 15) dL_law_29 (by decide) ?_
      refine lv_iand E.1.1 E.1.2.1 dL_law_31 ?_
      obtain ⟨sw, hsw⟩ : ∃ sw : Int32, sw = xs (iI ((i : Nat) : Int)).toNatClampNeg &&& iI 15 := ⟨_, rfl⟩
      rw [← hsw]
      have kk : ∀ (t' : TT) (σ' : XS) (μ' : MS) (H1 : Heap) (locs1 : List Loc), tOk t' → rp_H D A s.heap H1 locs1 (XWs d0 q t' σ' ++ MWs d0 q' t' μ') → W p l e room_1 s m #[Value.ref b] below meth c H1 locs1 19 560 Q (F0 m 488 ls []) := by
        intro t' σ' μ' H1 locs1 ok' w'
        refine rp_iinc (v := ((i + 5 : Nat) : Int)) (lv' := [(0, .ref b), (1, .ref (q 0)), (2, .ref (q' 0)), (3, .int (iI ((i + 5 : Nat) : Int)))]) E [1, 2, 3, 0] dL_law_488 hl (k := 3) rfl (by omega) (by decide) rfl (fun ls hl => ?_)
        refine rp_goto (tgt := 18) E dL_law_491 (by decide) ?_
        exact ih (i + 5) (by omega) (by omega) t' σ' μ' ok' H1 locs1 w' ls hl
      by_cases hd : sw.toInt < 0 ∨ 9 < sw.toInt
      · exact lv_tableOut (tgt := 488) E.1.1 E.1.2.1 dL_law_32 hd (by decide) (kk t σ μ H locs ok w)
      · rcases (show sw.toInt = 0 ∨ sw.toInt = 1 ∨ sw.toInt = 2 ∨ sw.toInt = 3 ∨ sw.toInt = 4 ∨ sw.toInt = 5 ∨ sw.toInt = 6 ∨ sw.toInt = 7 ∨ sw.toInt = 8 ∨ sw.toInt = 9 by omega) with h4 | h4 | h4 | h4 | h4 | h4 | h4 | h4 | h4 | h4
        · exact lv_tableIn (off := 56) (tgt := 88) E.1.1 E.1.2.1 dL_law_32 (by omega) (by omega) (by rw [h4]; rfl) (by decide) (law_0 E hA hX hbl hbA hL hi ok w hl kk)
        · exact lv_tableIn (off := 79) (tgt := 111) E.1.1 E.1.2.1 dL_law_32 (by omega) (by omega) (by rw [h4]; rfl) (by decide) (law_1 E hA hX hbl hbA hL hi ok w hl kk)
        · exact lv_tableIn (off := 122) (tgt := 154) E.1.1 E.1.2.1 dL_law_32 (by omega) (by omega) (by rw [h4]; rfl) (by decide) (law_2 E hA hX hbl hbA hL hi ok w hl kk)
        · exact lv_tableIn (off := 155) (tgt := 187) E.1.1 E.1.2.1 dL_law_32 (by omega) (by omega) (by rw [h4]; rfl) (by decide) (law_3 E hA hX hbl hbA hL hi ok w hl kk)
        · exact lv_tableIn (off := 198) (tgt := 230) E.1.1 E.1.2.1 dL_law_32 (by omega) (by omega) (by rw [h4]; rfl) (by decide) (law_4 E hA hX hbl hbA hL hi ok w hl kk)
        · exact lv_tableIn (off := 231) (tgt := 263) E.1.1 E.1.2.1 dL_law_32 (by omega) (by omega) (by rw [h4]; rfl) (by decide) (law_5 E hA hX hbl hbA hL hi ok w hl kk)
        · exact lv_tableIn (off := 274) (tgt := 306) E.1.1 E.1.2.1 dL_law_32 (by omega) (by omega) (by rw [h4]; rfl) (by decide) (law_6 E hA hX hbl hbA hL hi ok w hl kk)
        · exact lv_tableIn (off := 327) (tgt := 359) E.1.1 E.1.2.1 dL_law_32 (by omega) (by omega) (by rw [h4]; rfl) (by decide) (law_7 E hA hX hbl hbA hL hi ok w hl kk)
        · exact lv_tableIn (off := 370) (tgt := 402) E.1.1 E.1.2.1 dL_law_32 (by omega) (by omega) (by rw [h4]; rfl) (by decide) (law_8 E hA hX hbl hbA hL hi ok w hl kk)
        · exact lv_tableIn (off := 413) (tgt := 445) E.1.1 E.1.2.1 dL_law_32 (by omega) (by omega) (by rw [h4]; rfl) (by decide) (law_9 E hA hX hbl hbA hL hi ok w hl kk)
theorem x0_def : ∀ j, j < 12 → defaultValue (tyX0 j) = vp_V XF0 j := by
  intro j hj
  match j, hj with
  | 0, _ => exact congrArg Value.int iI_0
  | 1, _ => exact rfl
  | 2, _ => exact rfl
  | 3, _ => exact rfl
  | 4, _ => exact congrArg Value.int iI_0
  | 5, _ => exact rfl
  | 6, _ => exact rfl
  | 7, _ => exact rfl
  | 8, _ => exact rfl
  | 9, _ => exact rfl
  | 10, _ => exact rfl
  | 11, _ => exact congrArg Value.int iI_0
  | j + 12, hj => exact absurd hj (by omega)
theorem m0_def : ∀ j, j < 10 → defaultValue (tyX1 j) = vp_V MF0 j := by
  intro j hj
  match j, hj with
  | 0, _ => exact congrArg Value.int iI_0
  | 1, _ => exact rfl
  | 2, _ => exact rfl
  | 3, _ => exact rfl
  | 4, _ => exact congrArg Value.int iI_0
  | 5, _ => exact rfl
  | 6, _ => exact rfl
  | 7, _ => exact rfl
  | 8, _ => exact rfl
  | 9, _ => exact rfl
  | j + 10, hj => exact absurd hj (by omega)
end
section
/-! THE CLAIM OUT OF ONE WALK OF THE LAW'S BODY. Your part is whole_start (and what it stands on); all else here is the same for every law, but numbers. -/
def R_law : String := "RoundPlannerLaw"
def lw_P (b : Addr) (xs : List Int32) (args : Array Value) (s : State) : Prop := args = #[.ref b] ∧ s.IntsAt b xs ∧ xs.length ≤ 320 ∧ (Jvm.Cond.and given_1 narrow_1).before args s = true
def lw_Q (_ : Array Value) (s : State) (o : Outcome) (t : State) : Prop := o = .returned (some (.int 1)) ∧ Framed s o t [] 600000 7290000
def lw_Z (below : List Frame) (a : Array Value) (s : State) : State → Prop := fun t => ∃ o, t.status = .running ∧ Ended t below o ∧ lw_Q a s o t
/-- the law's own end, with 1 on the stack, nothing written that was there before, its room as the claim has it -/
theorem lw_ret {p : Program} {l : Launch} {e : Env} {s : State} {m : MethodId} {below : List Frame} {meth : Method} {c : Code} {b : Nat} (hx : p.tables.exec = Jvm.exec) (hb : c.code = code) (hr : meth.sig.returnType = ret) (hlocks : meth.locks = false) {pc : Nat} {H : Heap} {ls : Array Slot} (hdg : decode code pc = .ok (.ireturn, 1)) : W p l e room_1 s m #[Value.ref b] below meth c H [] 600000 7290000 (lw_Z below #[Value.ref b] s) (F0 m pc ls [.int 1]) := by
  intro T hT X
  obtain ⟨fs, hret, hrun, hended, hW, hframe⟩ := X.leave (v := some (.int 1)) (hlocks := hlocks) (fun h => by rw [hr] at h; cases h)
  have hmeth' : T.vm.method? m = some meth := X.method'
  refine ⟨T.setFrames fs, ?_, .returned (some (.int 1)), hrun, hended, rfl, ⟨_, rfl⟩, hW, hframe⟩
  jvm_step X.here [X.here.top, hx, hb, hdg, hmeth', hr, ret, narrow_b1]
  (try refine ⟨rfl, ?_⟩); (try refine ⟨rfl, ?_⟩)
  first | (intro acts; rw [hret _ acts rfl rfl rfl]) | rw [hret _ _ rfl rfl rfl]
  exact Steps.refl _
/-- what holds at the law's entry: the machine, the code, the tables' words (any of lw_tbl by 'hts w (by decide +kernel)'), the script of L ints xs at the cell b, what the Statement gives of the start (any of its parts by flat_of_before) -/
def lw_At (p : Program) (s : State) (m : MethodId) (meth : Method) (c : Code) (b L : Nat) (xs : Nat → Int32) : Prop :=
  p.tables.exec = Jvm.exec ∧ c.code = code ∧ meth.sig.returnType = ret ∧ c.maxLocals = 4 ∧ s.vm.findClass R_law = some m.cls ∧ (∀ w ∈ lw_tbl, w.before #[Value.ref b] s = true) ∧ va_X b L xs s s.heap ∧ b < s.heap.size ∧ meth.locks = false ∧ (Jvm.Cond.and given_1 narrow_1).before #[Value.ref b] s = true
-- ===== YOUR PART BEGINS =====
set_option maxHeartbeats 4000000 in
set_option maxRecDepth 100000 in
/-- YOUR PART: from the entry, for every script of at most 320 ints, the law comes to its end with true -/
theorem whole_start {p : Program} {e : Env} {s : State} {m : MethodId} {below : List Frame} {meth : Method} {c : Code} (l : Launch) {b L : Nat} {xs : Nat → Int32} (hL : L ≤ 320) (C0 : lw_At p s m meth c b L xs) : W p l e room_1 s m #[Value.ref b] below meth c s.heap [] 0 0 (lw_Z below #[Value.ref b] s) (entryFrame m ([Value.ref b] : List Value).toArray 4) := by
  obtain ⟨hx, hb, hr, hml, hown, hts0, hX, hbl, hlocks, hgv⟩ := id C0
  have hts : ∀ w ∈ lw_all, w.before #[Value.ref b] s = true := fun w h => hts0 w (lw_all_tbl h)
  obtain ⟨c0_, iS0, hKn0⟩ := u_known (C := RX0) (T := TX0) (N := 12) (n := 12) hts0 (fun w h => lw_all_tbl (in_X0 w h)) (hts _ q28)
  obtain ⟨c1_, iS1, hKn1⟩ := u_known (C := RX1) (T := TX1) (N := 10) (n := 10) hts0 (fun w h => lw_all_tbl (in_X1 w h)) (hts _ q178)
  obtain ⟨D, hKc⟩ : ∃ D : va_G, ∀ (k : Nat) (q : vw_C), vwCl[k]? = some q → u_Kn s q.1 q.2.1 q.2.2 (D.1 k) (D.2 k) := by
    refine ⟨(fun k => if k = 0 then c0_ else c1_, fun k => if k = 0 then iS0 else iS1), ?_⟩
    intro k q hq
    match k, hq with
    | 0, hq => cases hq; exact hKn0
    | 1, hq => cases hq; exact hKn1
    | k + 2, hq => simp [vwCl] at hq
  obtain ⟨d0, kA, comp, hd0, hkA, hkind⟩ := Cond.arrayClass_spec (hts _ q72)
  have hK : va_K D vwCl [(d0, .int)] s := by
    refine ⟨hKc, fun k q h => ?_⟩
    have hz : k < 1 := (List.getElem?_eq_some_iff.mp h).1
    rw [show k = 0 by omega] at h
    cases h
    exact ⟨fun n z => ⟨fun k h => (by cases h), kA, hkA, comp, hkind⟩, hd0⟩
  obtain ⟨A, hA, hA2⟩ : ∃ A : Nat → Prop, (∀ z, s.heap.size ≤ z → A z) ∧ ∀ z, A z → s.heap.size ≤ z := ⟨fun z => s.heap.size ≤ z, fun _ h => h, fun _ h => h⟩
  have hbA : ¬ A b := fun h => absurd (hA2 b h) (Nat.not_le.mpr hbl)
  have E : rp_E p s m meth c #[Value.ref b] RLw cL_law 4 D d0 := ⟨⟨hx, hb, hml, hown, hts⟩, hK, hlocks⟩
  have hS : va_S A s.heap s.heap [] := va_S.rf
  have hP : va_P D vwCl [] s.heap := fun k q h => by simp at h
  have hD : va_D A [] := ⟨fun i j p q h => by simp at h, fun k q h => by simp at h⟩
  have hl := lv_entry ([.ref b]) (n := 4) (Nat.le_of_ble_eq_true rfl)
  rw [lg_entry_eq]
  generalize (lg_sl ([.ref b]) ++ List.replicate (4 - (lg_sl ([.ref b])).length) Slot.unset).toArray = ls at hl ⊢
  have hl : lv_has ls 4 [(0, .ref b)] := hl
  refine va_new (D := D) (ci := 0) (fs := XF0) (C := RX0) (T := TX0) (N := 12) hx hb hts in_X0 tyX0 tyX0_ok hown (hts _ q27) (hts _ q28) (hts _ q25) hK hP hD hS hA rfl x0_def (Nat.le_of_ble_eq_true rfl) (Nat.le_of_ble_eq_true rfl) dL_law_0 (fun a H hP hD hS => ?_)
  have wa : rp_H D A s.heap H [] [(a, .inr (0, XF0))] := ⟨hP, hD, hS⟩
  refine W.widen (k := 1) (n := 12) (Nat.le_of_ble_eq_true rfl) (Nat.le_of_ble_eq_true rfl) ?_
  refine rp_dup E dL_law_3 rfl ?_
  have hFc := va_free (wc := [(a, .inr (0, XF0))]) wa.2.1 wa.2.2 hA [0] rfl
  refine va_callv (va_runI (As := []) (rest := [.ref a]) E.1 (metX0_init l D d0 a H.size) (cwI 0 hts (lw_meth q31) rfl rfl rfl (hts _ q25) (hts _ q29) (hts _ q30) rfl (by decide +kernel) ⟨Nat.le_of_ble_eq_true rfl, Nat.le_of_ble_eq_true rfl⟩) ⟨fun a U g mk q => by obtain ⟨q0, q1, qP, qK, qD⟩ := q; exact ⟨q0, q1, qP, va_K.moved (u := U) (U := U.calling g mk a) (Vm.Alike.refl U.vm) qK, qD⟩, fun U hU hW => ⟨rfl, by rw [hU], by rw [hU]; exact wa.1, va_K.moved hW.alike hK, wa.2.1.weaken (fun _ _ _ _ => trivial)⟩⟩ rfl rfl hl.1 rfl (lv_room (Nat.le_of_ble_eq_true rfl)) dL_law_4 ⟨Nat.le_of_ble_eq_true rfl, Nat.le_of_ble_eq_true rfl⟩) wa.2.2 (fun q _ h => hFc q h) hFc (fun q t H1 locs ht hvm hw hB hz1 hk1 hS => ?_)
  obtain ⟨hP1, hK1, hD1⟩ := hB
  rw [ht] at hP1
  have w : rp_H D A s.heap H1 locs (XW d0 q tt0 iz iz iz 0) := ⟨hP1, hD1.weaken (fun k z _ h => hFc z.1 h), hS⟩
  have hw : q 0 = a := hw
  subst hw
  refine W.widen (k := 10) (n := 189) (Nat.le_of_ble_eq_true rfl) (Nat.le_of_ble_eq_true rfl) ?_
  refine lv_astore_n (lv' := [(1, .ref (q 0)), (0, .ref b)]) hx hb dL_law_7 rfl hl (by decide) rfl (fun ls hl => ?_)
  refine va_new (D := D) (ci := 1) (fs := MF0) (C := RX1) (T := TX1) (N := 10) hx hb hts in_X1 tyX1 tyX1_ok hown (hts _ q177) (hts _ q178) (hts _ q26) hK w.1 w.2.1 w.2.2 hA rfl m0_def (Nat.le_of_ble_eq_true rfl) (Nat.le_of_ble_eq_true rfl) dL_law_8 (fun a H hP hD hS => ?_)
  have wb : rp_H D A s.heap H locs (XW d0 q tt0 iz iz iz 0 ++ [(a, .inr (1, MF0))]) := ⟨hP, hD, hS⟩
  refine W.widen (k := 11) (n := 199) (Nat.le_of_ble_eq_true rfl) (Nat.le_of_ble_eq_true rfl) ?_
  refine rp_dup E dL_law_11 rfl ?_
  have hPc := wb.1.sub (ws' := [(a, .inr (1, MF0))]) [10] rfl
  have hDc := wb.2.1.sub (ws' := [(a, .inr (1, MF0))]) [10] (by decide) rfl
  have hFc := va_free (wc := [(a, .inr (1, MF0))]) wb.2.1 wb.2.2 hA [10] rfl
  refine va_callv (va_runI (As := []) (rest := [.ref a]) E.1 (metX1_init l D d0 a H.size) (cwI 0 hts (lw_meth q181) rfl rfl rfl (hts _ q26) (hts _ q179) (hts _ q180) rfl (by decide +kernel) ⟨Nat.le_of_ble_eq_true rfl, Nat.le_of_ble_eq_true rfl⟩) ⟨fun a U g mk q => by obtain ⟨q0, q1, qP, qK, qD⟩ := q; exact ⟨q0, q1, qP, va_K.moved (u := U) (U := U.calling g mk a) (Vm.Alike.refl U.vm) qK, qD⟩, fun U hU hW => ⟨rfl, by rw [hU], by rw [hU]; exact hPc, va_K.moved hW.alike hK, hDc.weaken (fun _ _ _ _ => trivial)⟩⟩ rfl rfl hl.1 rfl (lv_room (Nat.le_of_ble_eq_true rfl)) dL_law_12 ⟨Nat.le_of_ble_eq_true rfl, Nat.le_of_ble_eq_true rfl⟩) wb.2.2 (fun q _ h => hFc q h) hFc (fun q' t H1 locs ht hvm hw hB hz1 hk1 hS => ?_)
  obtain ⟨hP1, hK1, hD1⟩ := hB
  rw [ht] at hP1
  obtain ⟨hP2, hD2⟩ := va_join (wr := XW d0 q tt0 iz iz iz 0) (w1 := MW d0 q' tt0 iz iz) wb.1 wb.2.1 [10] [0, 1, 2, 3, 4, 5, 6, 7, 8, 9] rfl rfl (by decide) (by decide) hk1 hFc hP1 hD1
  have w : rp_H D A s.heap H1 locs (XWs d0 q tt0 (iz, iz, iz, 0) ++ MWs d0 q' tt0 (iz, iz)) := ⟨hP2, hD2, hS⟩
  have hw : q' 0 = a := hw
  subst hw
  refine W.widen (k := 19) (n := 560) (Nat.le_of_ble_eq_true rfl) (Nat.le_of_ble_eq_true rfl) ?_
  refine lv_astore_n (lv' := [(2, .ref (q' 0)), (1, .ref (q 0)), (0, .ref b)]) hx hb dL_law_15 rfl hl (by decide) rfl (fun ls hl => ?_)
  refine rp_ic E (v := ((0 : Nat) : Int)) dL_law_16 rfl ?_
  refine rp_isn (lv' := [(0, .ref b), (1, .ref (q 0)), (2, .ref (q' 0)), (3, .int (iI ((0 : Nat) : Int)))]) E [3, 2, 1, 0] dL_law_17 rfl hl (by decide) rfl (fun ls hl => ?_)
  refine law_loop E hA hX hbl hbA hL (fun H locs ls hf => ?_) (L + 6) 0 (by omega) (by omega) tt0 (iz, iz, iz, 0) (iz, iz) tOk_tt0 _ _ w ls hl
  refine lv_iconst (v := 1) hx hb dL_law_494 (by decide) ?_
  refine va_forget (fun z hz => hA2 _ (hf z hz)) ?_
  refine W.widen (k := 600000) (n := 7290000) (Nat.le_of_ble_eq_true rfl) (Nat.le_of_ble_eq_true rfl) ?_
  exact lw_ret hx hb hr hlocks dL_law_495
-- ===== YOUR PART ENDS =====
set_option maxHeartbeats 4000000 in
theorem lw_walk (l : Launch) (b : Addr) (xs : List Int32) : MetFree l x (headSpec (Jvm.Cond.code x code maxLocals ret :: tables_1) room_1) (lw_P b xs) (fun _ _ _ _ _ => True) lw_Q := by
  refine MetFree.of_bodyS (code := code) (maxLocals := maxLocals) (ret := ret) (by decide) ?_ ?_
  · intro args s m h hn
    obtain ⟨meth, c, h1, h2, h3, h4, h5, h6, -, -⟩ := Cond.code_spec hn (atoms_spec (ws := Jvm.Cond.code x code maxLocals ret :: tables_1) h _ List.mem_cons_self)
    exact ⟨meth, c, h1, h2, h3, h4, h5, h6⟩
  · intro p e s m args below meth c s₁ B hml0 hP _
    obtain ⟨rfl, hx, hbd, hgv⟩ := hP
    obtain ⟨scr, harrAt, hlist, hof, hsmall⟩ := hx
    obtain ⟨hcb, hkn, -, -⟩ := State.arrayAt?_spec harrAt
    have hown : s.vm.findClass R_law = some m.cls := findClass_of_methodNamed B.named
    have hts0 : ∀ c ∈ (Jvm.Cond.code x code maxLocals ret :: tables_1), c.before #[Value.ref b] s = true := atoms_spec (ws := Jvm.Cond.code x code maxLocals ret :: tables_1) B.pre
    have hts : ∀ w ∈ lw_tbl, w.before #[Value.ref b] s = true := k2_hts_sels lw_privs (fun w hw => hts0 w (List.mem_cons_of_mem _ hw)) lw_privs_ok
    have hml : c.maxLocals = 4 := B.maxLocals_eq (hts0 _ List.mem_cons_self)
    have X₀ : Stand p l e room_1 s m #[Value.ref b] below meth c s₁ [] 0 0 := Stand.of_body B
    have hh0 : s₁.heap = s.heap := by rw [B.state]; rfl
    have hsz : scr.slots.size = xs.length := by rw [← Array.length_toList, hlist, List.length_map]
    have hval : ∀ j : Nat, j < xs.length → scr.slots[j]? = some (.int (xs.getD j 0)) := fun j hj => by
      rw [← Array.getElem?_toList, hlist]
      simp [hj]
    have hbl : b < s.heap.size := (Array.getElem?_eq_some_iff.mp hcb).1
    have hX : va_X b xs.length (fun j => xs.getD j 0) s s.heap := ⟨scr, hcb, hof, hkn, hsz, hval⟩
    have K : W p l e room_1 s m #[Value.ref b] below meth c s₁.heap [] 0 0 (lw_Z below #[Value.ref b] s) (entryFrame m ([Value.ref b] : List Value).toArray 4) := by
      rw [hh0]
      exact whole_start l hbd ⟨B.exec, B.bytes, B.returns, hml, hown, hts, hX, hbl, B.notSynchronized, hgv⟩
    obtain ⟨t, a1, o, b1, b2, b3⟩ := K s₁ rfl X₀
    exact ⟨t, o, a1, b1, b2, b3⟩
theorem lw_pre_spec {args : Array Value} {s : State} (h : (Jvm.Cond.and given_1 narrow_1).before args s = true) (hr : rest_1_c.before args s = true) : ∃ (b : Addr) (xs : List Int32), lw_P b xs args s := by
  have hs := flat_of_before _ h
  have hq := flat_of_before _ hr
  have hc : (Cond.count 1).before args s = true := hs _ (by decide +kernel)
  have harr : (Cond.arrayOf (.arg 0) .int).before args s = true := hs _ (by decide +kernel)
  have hle : (Cond.le (.length (.arg 0)) (.int 320)).before args s = true := hs _ (by decide +kernel)
  have hlen : (Cond.isInt (.length (.arg 0))).before args s = true := hq _ (by decide +kernel)
  have hall : (Cond.all (.arg 0) (.isInt (.elem (.arg 0) (.index 0)))).before args s = true := hq _ (by decide +kernel)
  obtain ⟨b, xs, hb, hx⟩ := State.ints_of_pre rfl harr hlen hall
  have hsm : xs.length < 2 ^ 31 := hx.choose_spec.2.2.2
  have hev : (Term.length (.arg 0)).eval args s none [] s = some (.int xs.length.toInt32) := hx.length_eval hb
  have hv := Cond.le_ints hev (show (Term.int 320).eval args s none [] s = some (.int 320) from rfl)
  have hd : xs.length.toInt32 ≤ 320 := by
    simpa [Cond.before, Cond.holds, hv] using hle
  have hN : xs.length ≤ 320 := (Int32.ofNat_le_ofNat hsm (by decide)).mp (show Int32.ofNat xs.length ≤ Int32.ofNat 320 from hd)
  exact ⟨b, xs, Cond.one_arg hc (show args[0]? = some (.ref b) from hb), hx, hN, h⟩
theorem lw_comes (l : Launch) : Comes l x (Jvm.Cond.code x code maxLocals ret :: tables_1) room_1 (fun tb e args s => Calls_1 tb e args s ∧ rest_1 tb e args s ∧ Pre_1 tb e args s)
    (fun _ _ args s o t => lw_Q args s o t) := by
  intro p e ha hc hk s m args below hf hfit hheap happ hpre
  obtain ⟨b, xs, hP⟩ := lw_pre_spec hpre.2.2 hpre.2.1
  obtain ⟨k, o, h1, h2, h3, hQ⟩ := lw_walk l b xs p e ha hc hk s m args below hf ((Spec.applies_iff_loose hf).mp happ).1 hP trivial
  exact ⟨k, o, h1, h2, h3, hQ⟩
theorem lw_frame {s t : State} {o : Outcome} {args : Array Value} (h : Framed s o t [] 600000 7290000) :
    Framed s o t (fieldLocs frame_1_writes args s ++ arrayLocs frame_1_arrays args s ++ staticLocs frame_1_statics s) 600000 7290000 := h
theorem lw_limb (L : Cond) (hL : ∀ (args : Array Value) (s t : State), L.after args s (.returned (some (.int 1))) t = true) :
    ArmFor flags0 classFile x code maxLocals ret World_1 tables_1 room_1 Calls_1 rest_1 Pre_1
      (fun tb e a s o t => postC L tb e a s o t ∧ Framed s o t (fieldLocs frame_1_writes a s ++ arrayLocs frame_1_arrays a s ++ staticLocs frame_1_statics s) 600000 7290000) := by
  intro l _ _ _ p e ha hc hk s m args below hf hfit hheap happ hpre
  obtain ⟨k, o, h1, h2, h3, rfl, hF⟩ := lw_comes l p e ha hc hk s m args below hf hfit hheap happ hpre
  exact ⟨k, _, h1, h2, h3, hL args s _, lw_frame hF⟩
theorem i_vc : Claimed_1_1 ∧ Claimed_1_2 := ⟨lw_limb limb_1_1 (fun args s t => by simp [limb_1_1, Cond.after, Cond.holds, Cond.value]), lw_limb limb_1_2 (fun args s t => Cond.after_iff.mpr (by
  first | (rw [show limb_1_2 = Cond.eq .result (.int 1) from rfl, Cond.eq_ints (x := 1) (y := 1) rfl rfl]; simp; done) | (simp [limb_1_2, Cond.value, Term.eval]; done)))⟩
end
