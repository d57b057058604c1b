section
-- ===== PART A: goes FIRST, ahead of the names: the tables' words, and 'selects' of the private methods out of them =====
/-- a private method of a class that the tables say can be made, by its rows of tables_1 -/
def lw_okq (q : MethodName × Nat) : Prop := (q.1.cls ≠ "java/lang/invoke/MethodHandle" ∧ q.1.cls ≠ "java/lang/invoke/VarHandle") ∧ Cond.instantiable q.1.cls q.2 ∈ tables_1 ∧ Cond.privateMethod q.1 ∈ tables_1 ∧ Cond.instanceMethod q.1 ∈ tables_1
set_option maxRecDepth 100000
theorem lw_t1 {w : Cond} (h : w ∈ tables_1_1) : w ∈ tables_1 := List.mem_append_left _ h
theorem lw_t2 {w : Cond} (h : w ∈ tables_1_2) : w ∈ tables_1 := List.mem_append_right _ h
theorem lw_p0 : lw_okq (⟨"RangeRules$Thresholds", "add", "(I)V"⟩, 2) := ⟨⟨by decide +kernel, by decide +kernel⟩, lw_t1 (List.mem_of_getElem? (i := 17) rfl), lw_t1 (List.mem_of_getElem? (i := 61) rfl), lw_t1 (List.mem_of_getElem? (i := 62) rfl)⟩
theorem lw_p1 : lw_okq (⟨"RangeRules", "isRange", "(II)Z"⟩, 3) := ⟨⟨by decide +kernel, by decide +kernel⟩, lw_t1 (List.mem_of_getElem? (i := 9) rfl), lw_t1 (List.mem_of_getElem? (i := 130) rfl), lw_t1 (List.mem_of_getElem? (i := 131) rfl)⟩
theorem lw_p2 : lw_okq (⟨"RangeRules$Arithmetic", "put", "(JJ)V"⟩, 5) := ⟨⟨by decide +kernel, by decide +kernel⟩, lw_t1 (List.mem_of_getElem? (i := 32) rfl), lw_t1 (List.mem_of_getElem? (i := 138) rfl), lw_t1 (List.mem_of_getElem? (i := 139) rfl)⟩
theorem lw_p3 : lw_okq (⟨"RangeRules$Arithmetic", "product", "(JJJJ)V"⟩, 5) := ⟨⟨by decide +kernel, by decide +kernel⟩, lw_t1 (List.mem_of_getElem? (i := 32) rfl), lw_t1 (List.mem_of_getElem? (i := 148) rfl), lw_t1 (List.mem_of_getElem? (i := 149) rfl)⟩
theorem lw_p4 : lw_okq (⟨"RangeRules$Arithmetic", "quotient", "(JJJJ)V"⟩, 5) := ⟨⟨by decide +kernel, by decide +kernel⟩, lw_t1 (List.mem_of_getElem? (i := 32) rfl), lw_t1 (List.mem_of_getElem? (i := 158) rfl), lw_t1 (List.mem_of_getElem? (i := 159) rfl)⟩
theorem lw_p5 : lw_okq (⟨"RangeRules$Arithmetic", "divide", "(JJJ)V"⟩, 5) := ⟨⟨by decide +kernel, by decide +kernel⟩, lw_t1 (List.mem_of_getElem? (i := 32) rfl), lw_t1 (List.mem_of_getElem? (i := 164) rfl), lw_t1 (List.mem_of_getElem? (i := 165) rfl)⟩
theorem lw_p6 : lw_okq (⟨"RangeRules$Arithmetic", "rest", "(JJJ)V"⟩, 5) := ⟨⟨by decide +kernel, by decide +kernel⟩, lw_t1 (List.mem_of_getElem? (i := 32) rfl), lw_t1 (List.mem_of_getElem? (i := 172) rfl), lw_t1 (List.mem_of_getElem? (i := 173) rfl)⟩
theorem lw_p7 : lw_okq (⟨"RangeRules$Arithmetic", "bits", "(IJJJJ)V"⟩, 5) := ⟨⟨by decide +kernel, by decide +kernel⟩, lw_t1 (List.mem_of_getElem? (i := 32) rfl), lw_t1 (List.mem_of_getElem? (i := 176) rfl), lw_t1 (List.mem_of_getElem? (i := 177) rfl)⟩
theorem lw_p8 : lw_okq (⟨"RangeRulesModel", "add", "(J)V"⟩, 5) := ⟨⟨by decide +kernel, by decide +kernel⟩, lw_t1 (List.mem_of_getElem? (i := 197) rfl), lw_t1 (List.mem_of_getElem? (i := 208) rfl), lw_t1 (List.mem_of_getElem? (i := 209) rfl)⟩
theorem lw_p9 : lw_okq (⟨"RangeRulesModel", "isRange", "(II)Z"⟩, 5) := ⟨⟨by decide +kernel, by decide +kernel⟩, lw_t1 (List.mem_of_getElem? (i := 197) rfl), lw_t2 (List.mem_of_getElem? (i := 18) rfl), lw_t2 (List.mem_of_getElem? (i := 19) rfl)⟩
theorem lw_p10 : lw_okq (⟨"RangeRulesModel", "tell", "(JJ)I"⟩, 5) := ⟨⟨by decide +kernel, by decide +kernel⟩, lw_t1 (List.mem_of_getElem? (i := 197) rfl), lw_t2 (List.mem_of_getElem? (i := 24) rfl), lw_t2 (List.mem_of_getElem? (i := 25) rfl)⟩
theorem lw_p11 : lw_okq (⟨"RangeRulesModel", "tellLeast", "(JJJJ)I"⟩, 5) := ⟨⟨by decide +kernel, by decide +kernel⟩, lw_t1 (List.mem_of_getElem? (i := 197) rfl), lw_t2 (List.mem_of_getElem? (i := 32) rfl), lw_t2 (List.mem_of_getElem? (i := 33) rfl)⟩
theorem lw_p12 : lw_okq (⟨"RangeRulesModel", "quotient", "(IIII)I"⟩, 5) := ⟨⟨by decide +kernel, by decide +kernel⟩, lw_t1 (List.mem_of_getElem? (i := 197) rfl), lw_t2 (List.mem_of_getElem? (i := 38) rfl), lw_t2 (List.mem_of_getElem? (i := 39) rfl)⟩
theorem lw_p13 : lw_okq (⟨"RangeRulesModel", "rest", "(IIJJ)I"⟩, 5) := ⟨⟨by decide +kernel, by decide +kernel⟩, lw_t1 (List.mem_of_getElem? (i := 197) rfl), lw_t2 (List.mem_of_getElem? (i := 44) rfl), lw_t2 (List.mem_of_getElem? (i := 45) rfl)⟩
theorem lw_p14 : lw_okq (⟨"RangeRulesModel", "tellAll", "()I"⟩, 5) := ⟨⟨by decide +kernel, by decide +kernel⟩, lw_t1 (List.mem_of_getElem? (i := 197) rfl), lw_t2 (List.mem_of_getElem? (i := 49) rfl), lw_t2 (List.mem_of_getElem? (i := 50) rfl)⟩
def lw_privs_1 : List (MethodName × Nat) := [(⟨"RangeRules$Thresholds", "add", "(I)V"⟩, 2), (⟨"RangeRules", "isRange", "(II)Z"⟩, 3), (⟨"RangeRules$Arithmetic", "put", "(JJ)V"⟩, 5), (⟨"RangeRules$Arithmetic", "product", "(JJJJ)V"⟩, 5), (⟨"RangeRules$Arithmetic", "quotient", "(JJJJ)V"⟩, 5), (⟨"RangeRules$Arithmetic", "divide", "(JJJ)V"⟩, 5), (⟨"RangeRules$Arithmetic", "rest", "(JJJ)V"⟩, 5), (⟨"RangeRules$Arithmetic", "bits", "(IJJJJ)V"⟩, 5), (⟨"RangeRulesModel", "add", "(J)V"⟩, 5), (⟨"RangeRulesModel", "isRange", "(II)Z"⟩, 5), (⟨"RangeRulesModel", "tell", "(JJ)I"⟩, 5), (⟨"RangeRulesModel", "tellLeast", "(JJJJ)I"⟩, 5), (⟨"RangeRulesModel", "quotient", "(IIII)I"⟩, 5), (⟨"RangeRulesModel", "rest", "(IIJJ)I"⟩, 5), (⟨"RangeRulesModel", "tellAll", "()I"⟩, 5)]
theorem lw_r1 : ∀ q ∈ lw_privs_1, lw_okq q := List.forall_mem_cons.mpr ⟨lw_p0, List.forall_mem_cons.mpr ⟨lw_p1, List.forall_mem_cons.mpr ⟨lw_p2, List.forall_mem_cons.mpr ⟨lw_p3, List.forall_mem_cons.mpr ⟨lw_p4, List.forall_mem_cons.mpr ⟨lw_p5, List.forall_mem_cons.mpr ⟨lw_p6, List.forall_mem_cons.mpr ⟨lw_p7, List.forall_mem_cons.mpr ⟨lw_p8, List.forall_mem_cons.mpr ⟨lw_p9, List.forall_mem_cons.mpr ⟨lw_p10, List.forall_mem_cons.mpr ⟨lw_p11, List.forall_mem_cons.mpr ⟨lw_p12, List.forall_mem_cons.mpr ⟨lw_p13, List.forall_mem_cons.mpr ⟨lw_p14, fun _ h => absurd h List.not_mem_nil⟩⟩⟩⟩⟩⟩⟩⟩⟩⟩⟩⟩⟩⟩⟩
def lw_privs : List (MethodName × Nat) := lw_privs_1
def lw_tbl : List Cond := k2_sels lw_privs ++ tables_1
theorem lw_privs_ok : ∀ q ∈ lw_privs, lw_okq q := lw_r1
-- ===== ONE list of words for every method: the tables' words that hold all through a run =====
def lw_all : List Cond := lw_tbl.filter goodWord
/-- a word of the tables by its place: claim/WORDS.tsv -/
theorem lw_w {w : Cond} (i : Nat) (h : lw_tbl[i]? = some w) (g : goodWord w = true) : w ∈ lw_all := List.mem_filter.mpr ⟨List.mem_of_getElem? h, g⟩
theorem lw_all_tbl {w : Cond} (h : w ∈ lw_all) : w ∈ lw_tbl := (List.mem_filter.mp h).1
theorem lw_self : GoodIn lw_all lw_all := fun w h => ⟨h, good_of_word (List.mem_filter.mp h).2⟩
/-- a class's field words, by their places -/
theorem lw_in (ws : List Cond) (ps : List Nat) (hp : ws = ps.filterMap (fun i => lw_tbl[i]?)) (hg : ws.all goodWord = true) : ∀ w ∈ ws, w ∈ lw_all := by
  intro w h
  have h1 := List.all_eq_true.mp hg w h
  rw [hp] at h
  obtain ⟨i, -, hi⟩ := List.mem_filterMap.mp h
  exact lw_w i hi h1
/-- the words of a contract for the method y with code b, L locals, answer r -/
abbrev ws_ (y : MethodName) (b : ByteArray) (L : Nat) (r : Option FieldType) : List Cond := Cond.code y b L r :: lw_all
theorem lw_meth {y : MethodName} {b : ByteArray} {L : Nat} {r : Option FieldType} (h : Cond.code y b L r ∈ lw_all) : GoodIn lw_all (ws_ y b L r) := by
  intro w hw
  rcases List.mem_cons.mp hw with e | e
  · rw [e]
    exact lw_self _ h
  · exact lw_self _ e
theorem lw_app {a c : List Cond} (ha : ∀ w ∈ a, w ∈ lw_all) (hc : GoodIn lw_all c) : GoodIn lw_all (a ++ c) := by
  intro w hw
  rcases List.mem_append.mp hw with e | e
  · exact lw_self w (ha w e)
  · exact hc w e
/-- what a call through an object asks: cwV n hts (lw_V ..) -/
theorem lw_V {own : String} {idx : Nat} {C : String} {y : MethodName} {b : ByteArray} {L : Nat} {r : Option FieldType} (h1 : Cond.methodLink own idx y ∈ lw_all) (h2 : Cond.instanceMethod y ∈ lw_all) (h3 : Cond.selects C y y ∈ lw_all) (h4 : Cond.initialized C ∈ lw_all) (h5 : Cond.code y b L r ∈ lw_all) : GoodIn lw_all (wsV own idx C y (ws_ y b L r)) := by
  refine lw_app ?_ (lw_meth h5)
  intro w hw
  simp only [List.mem_cons, List.not_mem_nil, or_false] at hw
  rcases hw with e | e | e | e
  · rw [e]; exact h1
  · rw [e]; exact h2
  · rw [e]; exact h3
  · rw [e]; exact h4
/-- what a static call asks: va_cwS n hts (lw_S ..) -/
theorem lw_S {own : String} {idx : Nat} {y : MethodName} {b : ByteArray} {L : Nat} {r : Option FieldType} (h1 : Cond.methodLink own idx y ∈ lw_all) (h2 : Cond.static y ∈ lw_all) (h3 : Cond.initialized y.cls ∈ lw_all) (h4 : Cond.code y b L r ∈ lw_all) : GoodIn lw_all (va_wsS own idx y (ws_ y b L r)) := by
  refine lw_app ?_ (lw_meth h4)
  intro w hw
  simp only [List.mem_cons, List.not_mem_nil, or_false] at hw
  rcases hw with e | e | e
  · rw [e]; exact h1
  · rw [e]; exact h2
  · rw [e]; exact h3
/-- the words of a contract for a method WITH HANDLERS (hh: its table) -/
abbrev wsW_ (y : MethodName) (b : ByteArray) (L : Nat) (r : Option FieldType) (hh : List (Nat × Nat × Nat × Nat)) : List Cond := Cond.codeWith y b L r hh :: lw_all
theorem lw_methW {y : MethodName} {b : ByteArray} {L : Nat} {r : Option FieldType} {hh : List (Nat × Nat × Nat × Nat)} (h : Cond.codeWith y b L r hh ∈ lw_all) : GoodIn lw_all (wsW_ y b L r hh) := by
  intro w hw
  rcases List.mem_cons.mp hw with e | e
  · rw [e]
    exact lw_self _ h
  · exact lw_self _ e
/-- any list of words by their places (lw_in), good -/
theorem lw_good {ws : List Cond} (h : ∀ w ∈ ws, w ∈ lw_all) : GoodIn lw_all ws := fun w hw => lw_self w (h w hw)
/-- what a call of a method with handlers asks: vx_cwVW n hts (lw_VW ..), vx_cwSW n hts (lw_SW ..) -/
theorem lw_VW {own : String} {idx : Nat} {C : String} {y : MethodName} {b : ByteArray} {L : Nat} {r : Option FieldType} {hh : List (Nat × Nat × Nat × Nat)} (h1 : Cond.methodLink own idx y ∈ lw_all) (h2 : Cond.instanceMethod y ∈ lw_all) (h3 : Cond.selects C y y ∈ lw_all) (h4 : Cond.initialized C ∈ lw_all) (h5 : Cond.codeWith y b L r hh ∈ lw_all) : GoodIn lw_all (wsV own idx C y (wsW_ y b L r hh)) := by
  refine lw_app ?_ (lw_methW h5)
  intro w hw
  simp only [List.mem_cons, List.not_mem_nil, or_false] at hw
  rcases hw with e | e | e | e
  · rw [e]; exact h1
  · rw [e]; exact h2
  · rw [e]; exact h3
  · rw [e]; exact h4
theorem lw_SW {own : String} {idx : Nat} {y : MethodName} {b : ByteArray} {L : Nat} {r : Option FieldType} {hh : List (Nat × Nat × Nat × Nat)} (h1 : Cond.methodLink own idx y ∈ lw_all) (h2 : Cond.static y ∈ lw_all) (h3 : Cond.initialized y.cls ∈ lw_all) (h4 : Cond.codeWith y b L r hh ∈ lw_all) : GoodIn lw_all (va_wsS own idx y (wsW_ y b L r hh)) := by
  refine lw_app ?_ (lw_methW h4)
  intro w hw
  simp only [List.mem_cons, List.not_mem_nil, or_false] at hw
  rcases hw with e | e | e
  · rw [e]; exact h1
  · rw [e]; exact h2
  · rw [e]; exact h3
/-- a word by its place in its run of the tables -/
theorem lw_at {r : List Cond} (hr : ∀ w ∈ r, w ∈ lw_tbl) {w : Cond} (i : Nat) (h : r[i]? = some w) : w ∈ lw_tbl := hr w (List.mem_of_getElem? h)
theorem lw_g {w : Cond} (h : w ∈ lw_tbl) (g : goodWord w = true) : w ∈ lw_all := List.mem_filter.mpr ⟨h, g⟩
theorem lw_ms : ∀ w ∈ k2_sels lw_privs, w ∈ lw_tbl := fun w h => show w ∈ k2_sels lw_privs ++ tables_1 from List.mem_append_left _ h
theorem lw_m1 : ∀ w ∈ tables_1_1, w ∈ lw_tbl := fun w h => show w ∈ k2_sels lw_privs ++ tables_1 from List.mem_append_right (k2_sels lw_privs) (show w ∈ tables_1 from List.mem_append_left _ h)
theorem lw_m2 : ∀ w ∈ tables_1_2, w ∈ lw_tbl := fun w h => show w ∈ k2_sels lw_privs ++ tables_1 from List.mem_append_right (k2_sels lw_privs) (show w ∈ tables_1 from List.mem_append_right _ h)
theorem qs0 : (Cond.selects "RangeRules$Thresholds" ⟨"RangeRules$Thresholds", "add", "(I)V"⟩ ⟨"RangeRules$Thresholds", "add", "(I)V"⟩) ∈ lw_all := lw_g (lw_at lw_ms 0 rfl) rfl
theorem qs1 : (Cond.selects "RangeRules" ⟨"RangeRules", "isRange", "(II)Z"⟩ ⟨"RangeRules", "isRange", "(II)Z"⟩) ∈ lw_all := lw_g (lw_at lw_ms 1 rfl) rfl
theorem qs2 : (Cond.selects "RangeRules$Arithmetic" ⟨"RangeRules$Arithmetic", "put", "(JJ)V"⟩ ⟨"RangeRules$Arithmetic", "put", "(JJ)V"⟩) ∈ lw_all := lw_g (lw_at lw_ms 2 rfl) rfl
theorem qs3 : (Cond.selects "RangeRules$Arithmetic" ⟨"RangeRules$Arithmetic", "product", "(JJJJ)V"⟩ ⟨"RangeRules$Arithmetic", "product", "(JJJJ)V"⟩) ∈ lw_all := lw_g (lw_at lw_ms 3 rfl) rfl
theorem qs4 : (Cond.selects "RangeRules$Arithmetic" ⟨"RangeRules$Arithmetic", "quotient", "(JJJJ)V"⟩ ⟨"RangeRules$Arithmetic", "quotient", "(JJJJ)V"⟩) ∈ lw_all := lw_g (lw_at lw_ms 4 rfl) rfl
theorem qs5 : (Cond.selects "RangeRules$Arithmetic" ⟨"RangeRules$Arithmetic", "divide", "(JJJ)V"⟩ ⟨"RangeRules$Arithmetic", "divide", "(JJJ)V"⟩) ∈ lw_all := lw_g (lw_at lw_ms 5 rfl) rfl
theorem qs6 : (Cond.selects "RangeRules$Arithmetic" ⟨"RangeRules$Arithmetic", "rest", "(JJJ)V"⟩ ⟨"RangeRules$Arithmetic", "rest", "(JJJ)V"⟩) ∈ lw_all := lw_g (lw_at lw_ms 6 rfl) rfl
theorem qs7 : (Cond.selects "RangeRules$Arithmetic" ⟨"RangeRules$Arithmetic", "bits", "(IJJJJ)V"⟩ ⟨"RangeRules$Arithmetic", "bits", "(IJJJJ)V"⟩) ∈ lw_all := lw_g (lw_at lw_ms 7 rfl) rfl
theorem qs8 : (Cond.selects "RangeRulesModel" ⟨"RangeRulesModel", "add", "(J)V"⟩ ⟨"RangeRulesModel", "add", "(J)V"⟩) ∈ lw_all := lw_g (lw_at lw_ms 8 rfl) rfl
theorem qs9 : (Cond.selects "RangeRulesModel" ⟨"RangeRulesModel", "isRange", "(II)Z"⟩ ⟨"RangeRulesModel", "isRange", "(II)Z"⟩) ∈ lw_all := lw_g (lw_at lw_ms 9 rfl) rfl
theorem qs10 : (Cond.selects "RangeRulesModel" ⟨"RangeRulesModel", "tell", "(JJ)I"⟩ ⟨"RangeRulesModel", "tell", "(JJ)I"⟩) ∈ lw_all := lw_g (lw_at lw_ms 10 rfl) rfl
theorem qs11 : (Cond.selects "RangeRulesModel" ⟨"RangeRulesModel", "tellLeast", "(JJJJ)I"⟩ ⟨"RangeRulesModel", "tellLeast", "(JJJJ)I"⟩) ∈ lw_all := lw_g (lw_at lw_ms 11 rfl) rfl
theorem qs12 : (Cond.selects "RangeRulesModel" ⟨"RangeRulesModel", "quotient", "(IIII)I"⟩ ⟨"RangeRulesModel", "quotient", "(IIII)I"⟩) ∈ lw_all := lw_g (lw_at lw_ms 12 rfl) rfl
theorem qs13 : (Cond.selects "RangeRulesModel" ⟨"RangeRulesModel", "rest", "(IIJJ)I"⟩ ⟨"RangeRulesModel", "rest", "(IIJJ)I"⟩) ∈ lw_all := lw_g (lw_at lw_ms 13 rfl) rfl
theorem qs14 : (Cond.selects "RangeRulesModel" ⟨"RangeRulesModel", "tellAll", "()I"⟩ ⟨"RangeRulesModel", "tellAll", "()I"⟩) ∈ lw_all := lw_g (lw_at lw_ms 14 rfl) rfl
end
section
/-! java/util/Arrays -/
set_option maxRecDepth 100000
def RJ0 : String := "java/util/Arrays"
abbrev cJ0_copyOf : ByteArray := prog_9_method_123_code
def yJ0_copyOf : MethodName := ⟨RJ0, "copyOf", "([II)[I"⟩
theorem dJ0_copyOf_0 : decode cJ0_copyOf 0 = .ok (.iload_n 1, 1) := by decide +kernel
theorem dJ0_copyOf_1 : decode cJ0_copyOf 1 = .ok (.aload_n 0, 1) := by decide +kernel
theorem dJ0_copyOf_2 : decode cJ0_copyOf 2 = .ok (.arraylength, 1) := by decide +kernel
theorem dJ0_copyOf_3 : decode cJ0_copyOf 3 = .ok (.if_icmp .ne 11, 3) := by decide +kernel
theorem dJ0_copyOf_6 : decode cJ0_copyOf 6 = .ok (.aload_n 0, 1) := by decide +kernel
theorem dJ0_copyOf_7 : decode cJ0_copyOf 7 = .ok (.invokevirtual 316, 3) := by decide +kernel
theorem dJ0_copyOf_10 : decode cJ0_copyOf 10 = .ok (.checkcast 317, 3) := by decide +kernel
theorem dJ0_copyOf_13 : decode cJ0_copyOf 13 = .ok (.areturn, 1) := by decide +kernel
theorem dJ0_copyOf_14 : decode cJ0_copyOf 14 = .ok (.iload_n 1, 1) := by decide +kernel
theorem dJ0_copyOf_15 : decode cJ0_copyOf 15 = .ok (.newarray .int, 2) := by decide +kernel
theorem dJ0_copyOf_17 : decode cJ0_copyOf 17 = .ok (.astore_n 2, 1) := by decide +kernel
theorem dJ0_copyOf_18 : decode cJ0_copyOf 18 = .ok (.aload_n 0, 1) := by decide +kernel
theorem dJ0_copyOf_19 : decode cJ0_copyOf 19 = .ok (.iconst 0, 1) := by decide +kernel
theorem dJ0_copyOf_20 : decode cJ0_copyOf 20 = .ok (.aload_n 2, 1) := by decide +kernel
theorem dJ0_copyOf_21 : decode cJ0_copyOf 21 = .ok (.iconst 0, 1) := by decide +kernel
theorem dJ0_copyOf_22 : decode cJ0_copyOf 22 = .ok (.aload_n 0, 1) := by decide +kernel
theorem dJ0_copyOf_23 : decode cJ0_copyOf 23 = .ok (.arraylength, 1) := by decide +kernel
theorem dJ0_copyOf_24 : decode cJ0_copyOf 24 = .ok (.iload_n 1, 1) := by decide +kernel
theorem dJ0_copyOf_25 : decode cJ0_copyOf 25 = .ok (.invokestatic 304, 3) := by decide +kernel
theorem dJ0_copyOf_28 : decode cJ0_copyOf 28 = .ok (.invokestatic 150, 3) := by decide +kernel
theorem dJ0_copyOf_31 : decode cJ0_copyOf 31 = .ok (.aload_n 2, 1) := by decide +kernel
theorem dJ0_copyOf_32 : decode cJ0_copyOf 32 = .ok (.areturn, 1) := by decide +kernel
theorem q19 : (Jvm.Cond.initialized "java/util/Arrays") ∈ lw_all := lw_g (lw_at lw_m1 4 rfl) rfl
theorem q80 : (Jvm.Cond.static ({ cls := "java/util/Arrays", name := "copyOf", desc := "([II)[I" } : Jvm.MethodName)) ∈ lw_all := lw_g (lw_at lw_m1 65 rfl) rfl
theorem q81 : (Jvm.Cond.code ({ cls := "java/util/Arrays", name := "copyOf", desc := "([II)[I" } : Jvm.MethodName) prog_9_method_123_code (3 : Nat) (Option.some (Jvm.ClassFile.FieldType.array Jvm.ClassFile.FieldType.int))) ∈ lw_all := lw_g (lw_at lw_m1 66 rfl) rfl
theorem q82 : (Jvm.Cond.methodLink "java/util/Arrays" (316 : Nat) ({ cls := "[I", name := "clone", desc := "()Ljava/lang/Object;" } : Jvm.MethodName)) ∈ lw_all := lw_g (lw_at lw_m1 67 rfl) rfl
theorem q88 : (Jvm.Cond.classLink "java/util/Arrays" (317 : Nat) "[I") ∈ lw_all := lw_g (lw_at lw_m1 73 rfl) rfl
theorem q89 : (Jvm.Cond.methodLink "java/util/Arrays" (304 : Nat) ({ cls := "java/lang/Math", name := "min", desc := "(II)I" } : Jvm.MethodName)) ∈ lw_all := lw_g (lw_at lw_m1 74 rfl) rfl
theorem q92 : (Jvm.Cond.methodLink "java/util/Arrays" (150 : Nat) ({ cls := "java/lang/System", name := "arraycopy", desc := "(Ljava/lang/Object;ILjava/lang/Object;II)V" } : Jvm.MethodName)) ∈ lw_all := lw_g (lw_at lw_m1 77 rfl) rfl
/-! java/lang/Math -/
set_option maxRecDepth 100000
def RJ1 : String := "java/lang/Math"
abbrev cJ1_min : ByteArray := prog_7_method_69_code
def yJ1_min : MethodName := ⟨RJ1, "min", "(II)I"⟩
theorem dJ1_min_0 : decode cJ1_min 0 = .ok (.iload_n 0, 1) := by decide +kernel
theorem dJ1_min_1 : decode cJ1_min 1 = .ok (.iload_n 1, 1) := by decide +kernel
theorem dJ1_min_2 : decode cJ1_min 2 = .ok (.if_icmp .gt 7, 3) := by decide +kernel
theorem dJ1_min_5 : decode cJ1_min 5 = .ok (.iload_n 0, 1) := by decide +kernel
theorem dJ1_min_6 : decode cJ1_min 6 = .ok (.goto 4, 3) := by decide +kernel
theorem dJ1_min_9 : decode cJ1_min 9 = .ok (.iload_n 1, 1) := by decide +kernel
theorem dJ1_min_10 : decode cJ1_min 10 = .ok (.ireturn, 1) := by decide +kernel
abbrev cJ1_min_2 : ByteArray := prog_7_method_70_code
def yJ1_min_2 : MethodName := ⟨RJ1, "min", "(JJ)J"⟩
theorem dJ1_min_2_0 : decode cJ1_min_2 0 = .ok (.lload_n 0, 1) := by decide +kernel
theorem dJ1_min_2_1 : decode cJ1_min_2 1 = .ok (.lload_n 2, 1) := by decide +kernel
theorem dJ1_min_2_2 : decode cJ1_min_2 2 = .ok (.lcmp, 1) := by decide +kernel
theorem dJ1_min_2_3 : decode cJ1_min_2 3 = .ok (.ifCond .gt 7, 3) := by decide +kernel
theorem dJ1_min_2_6 : decode cJ1_min_2 6 = .ok (.lload_n 0, 1) := by decide +kernel
theorem dJ1_min_2_7 : decode cJ1_min_2 7 = .ok (.goto 4, 3) := by decide +kernel
theorem dJ1_min_2_10 : decode cJ1_min_2 10 = .ok (.lload_n 2, 1) := by decide +kernel
theorem dJ1_min_2_11 : decode cJ1_min_2 11 = .ok (.lreturn, 1) := by decide +kernel
abbrev cJ1_max : ByteArray := prog_7_method_66_code
def yJ1_max : MethodName := ⟨RJ1, "max", "(JJ)J"⟩
theorem dJ1_max_0 : decode cJ1_max 0 = .ok (.lload_n 0, 1) := by decide +kernel
theorem dJ1_max_1 : decode cJ1_max 1 = .ok (.lload_n 2, 1) := by decide +kernel
theorem dJ1_max_2 : decode cJ1_max 2 = .ok (.lcmp, 1) := by decide +kernel
theorem dJ1_max_3 : decode cJ1_max 3 = .ok (.ifCond .lt 7, 3) := by decide +kernel
theorem dJ1_max_6 : decode cJ1_max 6 = .ok (.lload_n 0, 1) := by decide +kernel
theorem dJ1_max_7 : decode cJ1_max 7 = .ok (.goto 4, 3) := by decide +kernel
theorem dJ1_max_10 : decode cJ1_max 10 = .ok (.lload_n 2, 1) := by decide +kernel
theorem dJ1_max_11 : decode cJ1_max 11 = .ok (.lreturn, 1) := by decide +kernel
abbrev cJ1_abs : ByteArray := prog_7_method_61_code
def yJ1_abs : MethodName := ⟨RJ1, "abs", "(J)J"⟩
theorem dJ1_abs_0 : decode cJ1_abs 0 = .ok (.lload_n 0, 1) := by decide +kernel
theorem dJ1_abs_1 : decode cJ1_abs 1 = .ok (.lconst 0, 1) := by decide +kernel
theorem dJ1_abs_2 : decode cJ1_abs 2 = .ok (.lcmp, 1) := by decide +kernel
theorem dJ1_abs_3 : decode cJ1_abs 3 = .ok (.ifCond .ge 8, 3) := by decide +kernel
theorem dJ1_abs_6 : decode cJ1_abs 6 = .ok (.lload_n 0, 1) := by decide +kernel
theorem dJ1_abs_7 : decode cJ1_abs 7 = .ok (.lneg, 1) := by decide +kernel
theorem dJ1_abs_8 : decode cJ1_abs 8 = .ok (.goto 4, 3) := by decide +kernel
theorem dJ1_abs_11 : decode cJ1_abs 11 = .ok (.lload_n 0, 1) := by decide +kernel
theorem dJ1_abs_12 : decode cJ1_abs 12 = .ok (.lreturn, 1) := by decide +kernel
abbrev cJ1_max_2 : ByteArray := prog_7_method_65_code
def yJ1_max_2 : MethodName := ⟨RJ1, "max", "(II)I"⟩
theorem dJ1_max_2_0 : decode cJ1_max_2 0 = .ok (.iload_n 0, 1) := by decide +kernel
theorem dJ1_max_2_1 : decode cJ1_max_2 1 = .ok (.iload_n 1, 1) := by decide +kernel
theorem dJ1_max_2_2 : decode cJ1_max_2 2 = .ok (.if_icmp .lt 7, 3) := by decide +kernel
theorem dJ1_max_2_5 : decode cJ1_max_2 5 = .ok (.iload_n 0, 1) := by decide +kernel
theorem dJ1_max_2_6 : decode cJ1_max_2 6 = .ok (.goto 4, 3) := by decide +kernel
theorem dJ1_max_2_9 : decode cJ1_max_2 9 = .ok (.iload_n 1, 1) := by decide +kernel
theorem dJ1_max_2_10 : decode cJ1_max_2 10 = .ok (.ireturn, 1) := by decide +kernel
theorem q20 : (Jvm.Cond.initialized "java/lang/Math") ∈ lw_all := lw_g (lw_at lw_m1 5 rfl) rfl
theorem q90 : (Jvm.Cond.static ({ cls := "java/lang/Math", name := "min", desc := "(II)I" } : Jvm.MethodName)) ∈ lw_all := lw_g (lw_at lw_m1 75 rfl) rfl
theorem q91 : (Jvm.Cond.code ({ cls := "java/lang/Math", name := "min", desc := "(II)I" } : Jvm.MethodName) prog_7_method_69_code (2 : Nat) (Option.some Jvm.ClassFile.FieldType.int)) ∈ lw_all := lw_g (lw_at lw_m1 76 rfl) rfl
theorem q167 : (Jvm.Cond.static ({ cls := "java/lang/Math", name := "min", desc := "(JJ)J" } : Jvm.MethodName)) ∈ lw_all := lw_g (lw_at lw_m1 152 rfl) rfl
theorem q168 : (Jvm.Cond.code ({ cls := "java/lang/Math", name := "min", desc := "(JJ)J" } : Jvm.MethodName) prog_7_method_70_code (4 : Nat) (Option.some Jvm.ClassFile.FieldType.long)) ∈ lw_all := lw_g (lw_at lw_m1 153 rfl) rfl
theorem q170 : (Jvm.Cond.static ({ cls := "java/lang/Math", name := "max", desc := "(JJ)J" } : Jvm.MethodName)) ∈ lw_all := lw_g (lw_at lw_m1 155 rfl) rfl
theorem q171 : (Jvm.Cond.code ({ cls := "java/lang/Math", name := "max", desc := "(JJ)J" } : Jvm.MethodName) prog_7_method_66_code (4 : Nat) (Option.some Jvm.ClassFile.FieldType.long)) ∈ lw_all := lw_g (lw_at lw_m1 156 rfl) rfl
theorem q184 : (Jvm.Cond.static ({ cls := "java/lang/Math", name := "abs", desc := "(J)J" } : Jvm.MethodName)) ∈ lw_all := lw_g (lw_at lw_m1 169 rfl) rfl
theorem q185 : (Jvm.Cond.code ({ cls := "java/lang/Math", name := "abs", desc := "(J)J" } : Jvm.MethodName) prog_7_method_61_code (2 : Nat) (Option.some Jvm.ClassFile.FieldType.long)) ∈ lw_all := lw_g (lw_at lw_m1 170 rfl) rfl
theorem q260 : (Jvm.Cond.static ({ cls := "java/lang/Math", name := "max", desc := "(II)I" } : Jvm.MethodName)) ∈ lw_all := lw_g (lw_at lw_m2 5 rfl) rfl
theorem q261 : (Jvm.Cond.code ({ cls := "java/lang/Math", name := "max", desc := "(II)I" } : Jvm.MethodName) prog_7_method_65_code (2 : Nat) (Option.some Jvm.ClassFile.FieldType.int)) ∈ lw_all := lw_g (lw_at lw_m2 6 rfl) rfl
/-! java/lang/Object -/
set_option maxRecDepth 100000
def RJ2 : String := "java/lang/Object"
abbrev cJ2_init : ByteArray := object_method_1_code
def yJ2_init : MethodName := ⟨RJ2, "<init>", "()V"⟩
theorem dJ2_init_0 : decode cJ2_init 0 = .ok (.return_, 1) := by decide +kernel
theorem q29 : (Jvm.Cond.instanceMethod ({ cls := "java/lang/Object", name := "<init>", desc := "()V" } : Jvm.MethodName)) ∈ lw_all := lw_g (lw_at lw_m1 14 rfl) rfl
theorem q30 : (Jvm.Cond.code ({ cls := "java/lang/Object", name := "<init>", desc := "()V" } : Jvm.MethodName) object_method_1_code (1 : Nat) (Option.none : Option Jvm.ClassFile.FieldType)) ∈ lw_all := lw_g (lw_at lw_m1 15 rfl) rfl
theorem q84 : (Jvm.Cond.native ({ cls := "java/lang/Object", name := "clone", desc := "()Ljava/lang/Object;" } : Jvm.MethodName)) ∈ lw_all := lw_g (lw_at lw_m1 69 rfl) rfl
theorem q85 : (Jvm.Cond.instanceMethod ({ cls := "java/lang/Object", name := "clone", desc := "()Ljava/lang/Object;" } : Jvm.MethodName)) ∈ lw_all := lw_g (lw_at lw_m1 70 rfl) rfl
theorem q15 : (Jvm.Cond.initialized "RangeRulesLaw") ∈ lw_all := lw_g (lw_at lw_m1 0 rfl) rfl
set_option maxRecDepth 100000
theorem q23 : (Jvm.Cond.classLink "RangeRulesLaw" (7 : Nat) "RangeRules") ∈ lw_all := lw_g (lw_at lw_m1 8 rfl) rfl
theorem q25 : (Jvm.Cond.methodLink "RangeRulesLaw" (9 : Nat) ({ cls := "RangeRules", name := "<init>", desc := "()V" } : Jvm.MethodName)) ∈ lw_all := lw_g (lw_at lw_m1 10 rfl) rfl
theorem q108 : (Jvm.Cond.methodLink "RangeRulesLaw" (13 : Nat) ({ cls := "RangeRules", name := "around", desc := "(I)I" } : Jvm.MethodName)) ∈ lw_all := lw_g (lw_at lw_m1 93 rfl) rfl
theorem q116 : (Jvm.Cond.methodLink "RangeRulesLaw" (18 : Nat) ({ cls := "RangeRules", name := "clear", desc := "()V" } : Jvm.MethodName)) ∈ lw_all := lw_g (lw_at lw_m1 101 rfl) rfl
theorem q120 : (Jvm.Cond.methodLink "RangeRulesLaw" (22 : Nat) ({ cls := "RangeRules", name := "size", desc := "()I" } : Jvm.MethodName)) ∈ lw_all := lw_g (lw_at lw_m1 105 rfl) rfl
theorem q124 : (Jvm.Cond.methodLink "RangeRulesLaw" (27 : Nat) ({ cls := "RangeRules", name := "down", desc := "(I)I" } : Jvm.MethodName)) ∈ lw_all := lw_g (lw_at lw_m1 109 rfl) rfl
theorem q132 : (Jvm.Cond.methodLink "RangeRulesLaw" (31 : Nat) ({ cls := "RangeRules", name := "up", desc := "(I)I" } : Jvm.MethodName)) ∈ lw_all := lw_g (lw_at lw_m1 117 rfl) rfl
theorem q140 : (Jvm.Cond.methodLink "RangeRulesLaw" (35 : Nat) ({ cls := "RangeRules", name := "work", desc := "(IIIII)I" } : Jvm.MethodName)) ∈ lw_all := lw_g (lw_at lw_m1 125 rfl) rfl
theorem q195 : (Jvm.Cond.methodLink "RangeRulesLaw" (40 : Nat) ({ cls := "RangeRules", name := "negate", desc := "(II)Z" } : Jvm.MethodName)) ∈ lw_all := lw_g (lw_at lw_m1 180 rfl) rfl
theorem q203 : (Jvm.Cond.methodLink "RangeRulesLaw" (45 : Nat) ({ cls := "RangeRules", name := "low", desc := "()I" } : Jvm.MethodName)) ∈ lw_all := lw_g (lw_at lw_m1 188 rfl) rfl
theorem q207 : (Jvm.Cond.methodLink "RangeRulesLaw" (49 : Nat) ({ cls := "RangeRules", name := "high", desc := "()I" } : Jvm.MethodName)) ∈ lw_all := lw_g (lw_at lw_m1 192 rfl) rfl
theorem q211 : (Jvm.Cond.classLink "RangeRulesLaw" (10 : Nat) "RangeRulesModel") ∈ lw_all := lw_g (lw_at lw_m1 196 rfl) rfl
theorem q213 : (Jvm.Cond.methodLink "RangeRulesLaw" (12 : Nat) ({ cls := "RangeRulesModel", name := "<init>", desc := "()V" } : Jvm.MethodName)) ∈ lw_all := lw_g (lw_at lw_m1 198 rfl) rfl
theorem q245 : (Jvm.Cond.methodLink "RangeRulesLaw" (21 : Nat) ({ cls := "RangeRulesModel", name := "clear", desc := "()V" } : Jvm.MethodName)) ∈ lw_all := lw_g (lw_at lw_m1 230 rfl) rfl
theorem q246 : (Jvm.Cond.methodLink "RangeRulesLaw" (17 : Nat) ({ cls := "RangeRulesModel", name := "around", desc := "(I)I" } : Jvm.MethodName)) ∈ lw_all := lw_g (lw_at lw_m1 231 rfl) rfl
theorem q250 : (Jvm.Cond.methodLink "RangeRulesLaw" (26 : Nat) ({ cls := "RangeRulesModel", name := "size", desc := "()I" } : Jvm.MethodName)) ∈ lw_all := lw_g (lw_at lw_m1 235 rfl) rfl
theorem q254 : (Jvm.Cond.methodLink "RangeRulesLaw" (30 : Nat) ({ cls := "RangeRulesModel", name := "down", desc := "(I)I" } : Jvm.MethodName)) ∈ lw_all := lw_g (lw_at lw_m1 239 rfl) rfl
theorem q262 : (Jvm.Cond.methodLink "RangeRulesLaw" (34 : Nat) ({ cls := "RangeRulesModel", name := "up", desc := "(I)I" } : Jvm.MethodName)) ∈ lw_all := lw_g (lw_at lw_m2 7 rfl) rfl
theorem q268 : (Jvm.Cond.methodLink "RangeRulesLaw" (44 : Nat) ({ cls := "RangeRulesModel", name := "negate", desc := "(II)Z" } : Jvm.MethodName)) ∈ lw_all := lw_g (lw_at lw_m2 13 rfl) rfl
theorem q282 : (Jvm.Cond.methodLink "RangeRulesLaw" (39 : Nat) ({ cls := "RangeRulesModel", name := "work", desc := "(IIIII)I" } : Jvm.MethodName)) ∈ lw_all := lw_g (lw_at lw_m2 27 rfl) rfl
theorem q311 : (Jvm.Cond.methodLink "RangeRulesLaw" (48 : Nat) ({ cls := "RangeRulesModel", name := "low", desc := "()I" } : Jvm.MethodName)) ∈ lw_all := lw_g (lw_at lw_m2 56 rfl) rfl
theorem q315 : (Jvm.Cond.methodLink "RangeRulesLaw" (52 : Nat) ({ cls := "RangeRulesModel", name := "high", desc := "()I" } : Jvm.MethodName)) ∈ lw_all := lw_g (lw_at lw_m2 60 rfl) rfl
theorem q83 : (Jvm.Cond.sameMethod "[I" "java/lang/Object" "clone" "()Ljava/lang/Object;") ∈ lw_all := lw_g (lw_at lw_m1 68 rfl) rfl
set_option maxRecDepth 100000
theorem q86 : (Jvm.Cond.selects "[I" ({ cls := "[I", name := "clone", desc := "()Ljava/lang/Object;" } : Jvm.MethodName) ({ cls := "java/lang/Object", name := "clone", desc := "()Ljava/lang/Object;" } : Jvm.MethodName)) ∈ lw_all := lw_g (lw_at lw_m1 71 rfl) rfl
theorem q87 : (Jvm.Cond.castable "[I" "java/lang/Cloneable") ∈ lw_tbl := lw_at lw_m1 72 rfl
theorem q21 : (Jvm.Cond.initialized "java/lang/System") ∈ lw_all := lw_g (lw_at lw_m1 6 rfl) rfl
set_option maxRecDepth 100000
theorem q93 : (Jvm.Cond.static ({ cls := "java/lang/System", name := "arraycopy", desc := "(Ljava/lang/Object;ILjava/lang/Object;II)V" } : Jvm.MethodName)) ∈ lw_all := lw_g (lw_at lw_m1 78 rfl) rfl
theorem q94 : (Jvm.Cond.native ({ cls := "java/lang/System", name := "arraycopy", desc := "(Ljava/lang/Object;ILjava/lang/Object;II)V" } : Jvm.MethodName)) ∈ lw_all := lw_g (lw_at lw_m1 79 rfl) rfl
theorem q45 : (Jvm.Cond.arrayClass Jvm.ClassFile.FieldType.int) ∈ lw_all := lw_g (lw_at lw_m1 30 rfl) rfl
set_option maxRecDepth 100000
end
section
/-! RangeRules$Thresholds -/
set_option maxRecDepth 100000
def RX1 : String := "RangeRules$Thresholds"
def TX1 : u_T := fun k => match k with
  | 0 => ("RangeRules$Thresholds", "row", "[I", false)
  | _ => ("RangeRules$Thresholds", "size", "I", false)
def tyX1 : Nat → FieldType := fun k => match k with
  | 0 => .array .int
  | _ => .int
abbrev wsX10 : List Cond := u_ws RX1 TX1 2
theorem nmX1 : ∀ a, a < 2 → ∀ b, b < 2 → a ≠ b → (TX1 a).2.1 ≠ (TX1 b).2.1 := by decide +kernel
theorem tyX1_ok : ∀ k, k < 2 → parseFieldDescriptor (TX1 k).2.2.1 = some (tyX1 k) := by decide +kernel
abbrev cX1_init : ByteArray := prog_3_method_1_code
def yX1_init : MethodName := ⟨RX1, "<init>", "()V"⟩
theorem dX1_init_0 : decode cX1_init 0 = .ok (.aload_n 0, 1) := by decide +kernel
theorem dX1_init_1 : decode cX1_init 1 = .ok (.invokespecial 3, 3) := by decide +kernel
theorem dX1_init_4 : decode cX1_init 4 = .ok (.aload_n 0, 1) := by decide +kernel
theorem dX1_init_5 : decode cX1_init 5 = .ok (.bipush 64, 2) := by decide +kernel
theorem dX1_init_7 : decode cX1_init 7 = .ok (.newarray .int, 2) := by decide +kernel
theorem dX1_init_9 : decode cX1_init 9 = .ok (.putfield 9, 3) := by decide +kernel
theorem dX1_init_12 : decode cX1_init 12 = .ok (.return_, 1) := by decide +kernel
abbrev cX1_begin : ByteArray := prog_3_method_2_code
def yX1_begin : MethodName := ⟨RX1, "begin", "()V"⟩
theorem dX1_begin_0 : decode cX1_begin 0 = .ok (.aload_n 0, 1) := by decide +kernel
theorem dX1_begin_1 : decode cX1_begin 1 = .ok (.iconst 0, 1) := by decide +kernel
theorem dX1_begin_2 : decode cX1_begin 2 = .ok (.putfield 15, 3) := by decide +kernel
theorem dX1_begin_5 : decode cX1_begin 5 = .ok (.aload_n 0, 1) := by decide +kernel
theorem dX1_begin_6 : decode cX1_begin 6 = .ok (.ldc 19, 2) := by decide +kernel
theorem dX1_begin_8 : decode cX1_begin 8 = .ok (.invokevirtual 20, 3) := by decide +kernel
theorem dX1_begin_11 : decode cX1_begin 11 = .ok (.aload_n 0, 1) := by decide +kernel
theorem dX1_begin_12 : decode cX1_begin 12 = .ok (.ldc 24, 2) := by decide +kernel
theorem dX1_begin_14 : decode cX1_begin 14 = .ok (.invokevirtual 20, 3) := by decide +kernel
theorem dX1_begin_17 : decode cX1_begin 17 = .ok (.aload_n 0, 1) := by decide +kernel
theorem dX1_begin_18 : decode cX1_begin 18 = .ok (.iconst (-1), 1) := by decide +kernel
theorem dX1_begin_19 : decode cX1_begin 19 = .ok (.invokevirtual 20, 3) := by decide +kernel
theorem dX1_begin_22 : decode cX1_begin 22 = .ok (.aload_n 0, 1) := by decide +kernel
theorem dX1_begin_23 : decode cX1_begin 23 = .ok (.iconst 0, 1) := by decide +kernel
theorem dX1_begin_24 : decode cX1_begin 24 = .ok (.invokevirtual 20, 3) := by decide +kernel
theorem dX1_begin_27 : decode cX1_begin 27 = .ok (.aload_n 0, 1) := by decide +kernel
theorem dX1_begin_28 : decode cX1_begin 28 = .ok (.iconst 1, 1) := by decide +kernel
theorem dX1_begin_29 : decode cX1_begin 29 = .ok (.invokevirtual 20, 3) := by decide +kernel
theorem dX1_begin_32 : decode cX1_begin 32 = .ok (.aload_n 0, 1) := by decide +kernel
theorem dX1_begin_33 : decode cX1_begin 33 = .ok (.ldc 25, 2) := by decide +kernel
theorem dX1_begin_35 : decode cX1_begin 35 = .ok (.invokevirtual 20, 3) := by decide +kernel
theorem dX1_begin_38 : decode cX1_begin 38 = .ok (.aload_n 0, 1) := by decide +kernel
theorem dX1_begin_39 : decode cX1_begin 39 = .ok (.ldc 26, 2) := by decide +kernel
theorem dX1_begin_41 : decode cX1_begin 41 = .ok (.invokevirtual 20, 3) := by decide +kernel
theorem dX1_begin_44 : decode cX1_begin 44 = .ok (.return_, 1) := by decide +kernel
abbrev cX1_add : ByteArray := prog_3_method_4_code
def yX1_add : MethodName := ⟨RX1, "add", "(I)V"⟩
theorem dX1_add_0 : decode cX1_add 0 = .ok (.aload_n 0, 1) := by decide +kernel
theorem dX1_add_1 : decode cX1_add 1 = .ok (.getfield 15, 3) := by decide +kernel
theorem dX1_add_4 : decode cX1_add 4 = .ok (.istore_n 2, 1) := by decide +kernel
theorem dX1_add_5 : decode cX1_add 5 = .ok (.iload_n 2, 1) := by decide +kernel
theorem dX1_add_6 : decode cX1_add 6 = .ok (.ifCond .le 21, 3) := by decide +kernel
theorem dX1_add_9 : decode cX1_add 9 = .ok (.aload_n 0, 1) := by decide +kernel
theorem dX1_add_10 : decode cX1_add 10 = .ok (.getfield 9, 3) := by decide +kernel
theorem dX1_add_13 : decode cX1_add 13 = .ok (.iload_n 2, 1) := by decide +kernel
theorem dX1_add_14 : decode cX1_add 14 = .ok (.iconst 1, 1) := by decide +kernel
theorem dX1_add_15 : decode cX1_add 15 = .ok (.isub, 1) := by decide +kernel
theorem dX1_add_16 : decode cX1_add 16 = .ok (.iaload, 1) := by decide +kernel
theorem dX1_add_17 : decode cX1_add 17 = .ok (.iload_n 1, 1) := by decide +kernel
theorem dX1_add_18 : decode cX1_add 18 = .ok (.if_icmp .lt 9, 3) := by decide +kernel
theorem dX1_add_21 : decode cX1_add 21 = .ok (.iinc 2 (-1), 3) := by decide +kernel
theorem dX1_add_24 : decode cX1_add 24 = .ok (.goto (-19), 3) := by decide +kernel
theorem dX1_add_27 : decode cX1_add 27 = .ok (.iload_n 2, 1) := by decide +kernel
theorem dX1_add_28 : decode cX1_add 28 = .ok (.aload_n 0, 1) := by decide +kernel
theorem dX1_add_29 : decode cX1_add 29 = .ok (.getfield 15, 3) := by decide +kernel
theorem dX1_add_32 : decode cX1_add 32 = .ok (.if_icmp .ge 14, 3) := by decide +kernel
theorem dX1_add_35 : decode cX1_add 35 = .ok (.aload_n 0, 1) := by decide +kernel
theorem dX1_add_36 : decode cX1_add 36 = .ok (.getfield 9, 3) := by decide +kernel
theorem dX1_add_39 : decode cX1_add 39 = .ok (.iload_n 2, 1) := by decide +kernel
theorem dX1_add_40 : decode cX1_add 40 = .ok (.iaload, 1) := by decide +kernel
theorem dX1_add_41 : decode cX1_add 41 = .ok (.iload_n 1, 1) := by decide +kernel
theorem dX1_add_42 : decode cX1_add 42 = .ok (.if_icmp .ne 4, 3) := by decide +kernel
theorem dX1_add_45 : decode cX1_add 45 = .ok (.return_, 1) := by decide +kernel
theorem dX1_add_46 : decode cX1_add 46 = .ok (.aload_n 0, 1) := by decide +kernel
theorem dX1_add_47 : decode cX1_add 47 = .ok (.getfield 15, 3) := by decide +kernel
theorem dX1_add_50 : decode cX1_add 50 = .ok (.aload_n 0, 1) := by decide +kernel
theorem dX1_add_51 : decode cX1_add 51 = .ok (.getfield 9, 3) := by decide +kernel
theorem dX1_add_54 : decode cX1_add 54 = .ok (.arraylength, 1) := by decide +kernel
theorem dX1_add_55 : decode cX1_add 55 = .ok (.if_icmp .ne 20, 3) := by decide +kernel
theorem dX1_add_58 : decode cX1_add 58 = .ok (.aload_n 0, 1) := by decide +kernel
theorem dX1_add_59 : decode cX1_add 59 = .ok (.aload_n 0, 1) := by decide +kernel
theorem dX1_add_60 : decode cX1_add 60 = .ok (.getfield 9, 3) := by decide +kernel
theorem dX1_add_63 : decode cX1_add 63 = .ok (.iconst 2, 1) := by decide +kernel
theorem dX1_add_64 : decode cX1_add 64 = .ok (.aload_n 0, 1) := by decide +kernel
theorem dX1_add_65 : decode cX1_add 65 = .ok (.getfield 15, 3) := by decide +kernel
theorem dX1_add_68 : decode cX1_add 68 = .ok (.imul, 1) := by decide +kernel
theorem dX1_add_69 : decode cX1_add 69 = .ok (.invokestatic 27, 3) := by decide +kernel
theorem dX1_add_72 : decode cX1_add 72 = .ok (.putfield 9, 3) := by decide +kernel
theorem dX1_add_75 : decode cX1_add 75 = .ok (.aload_n 0, 1) := by decide +kernel
theorem dX1_add_76 : decode cX1_add 76 = .ok (.getfield 15, 3) := by decide +kernel
theorem dX1_add_79 : decode cX1_add 79 = .ok (.istore_n 3, 1) := by decide +kernel
theorem dX1_add_80 : decode cX1_add 80 = .ok (.iload_n 3, 1) := by decide +kernel
theorem dX1_add_81 : decode cX1_add 81 = .ok (.iload_n 2, 1) := by decide +kernel
theorem dX1_add_82 : decode cX1_add 82 = .ok (.if_icmp .le 23, 3) := by decide +kernel
theorem dX1_add_85 : decode cX1_add 85 = .ok (.aload_n 0, 1) := by decide +kernel
theorem dX1_add_86 : decode cX1_add 86 = .ok (.getfield 9, 3) := by decide +kernel
theorem dX1_add_89 : decode cX1_add 89 = .ok (.iload_n 3, 1) := by decide +kernel
theorem dX1_add_90 : decode cX1_add 90 = .ok (.aload_n 0, 1) := by decide +kernel
theorem dX1_add_91 : decode cX1_add 91 = .ok (.getfield 9, 3) := by decide +kernel
theorem dX1_add_94 : decode cX1_add 94 = .ok (.iload_n 3, 1) := by decide +kernel
theorem dX1_add_95 : decode cX1_add 95 = .ok (.iconst 1, 1) := by decide +kernel
theorem dX1_add_96 : decode cX1_add 96 = .ok (.isub, 1) := by decide +kernel
theorem dX1_add_97 : decode cX1_add 97 = .ok (.iaload, 1) := by decide +kernel
theorem dX1_add_98 : decode cX1_add 98 = .ok (.iastore, 1) := by decide +kernel
theorem dX1_add_99 : decode cX1_add 99 = .ok (.iinc 3 (-1), 3) := by decide +kernel
theorem dX1_add_102 : decode cX1_add 102 = .ok (.goto (-22), 3) := by decide +kernel
theorem dX1_add_105 : decode cX1_add 105 = .ok (.aload_n 0, 1) := by decide +kernel
theorem dX1_add_106 : decode cX1_add 106 = .ok (.getfield 9, 3) := by decide +kernel
theorem dX1_add_109 : decode cX1_add 109 = .ok (.iload_n 2, 1) := by decide +kernel
theorem dX1_add_110 : decode cX1_add 110 = .ok (.iload_n 1, 1) := by decide +kernel
theorem dX1_add_111 : decode cX1_add 111 = .ok (.iastore, 1) := by decide +kernel
theorem dX1_add_112 : decode cX1_add 112 = .ok (.aload_n 0, 1) := by decide +kernel
theorem dX1_add_113 : decode cX1_add 113 = .ok (.dup, 1) := by decide +kernel
theorem dX1_add_114 : decode cX1_add 114 = .ok (.getfield 15, 3) := by decide +kernel
theorem dX1_add_117 : decode cX1_add 117 = .ok (.iconst 1, 1) := by decide +kernel
theorem dX1_add_118 : decode cX1_add 118 = .ok (.iadd, 1) := by decide +kernel
theorem dX1_add_119 : decode cX1_add 119 = .ok (.putfield 15, 3) := by decide +kernel
theorem dX1_add_122 : decode cX1_add 122 = .ok (.return_, 1) := by decide +kernel
abbrev cX1_around : ByteArray := prog_3_method_3_code
def yX1_around : MethodName := ⟨RX1, "around", "(I)V"⟩
theorem dX1_around_0 : decode cX1_around 0 = .ok (.aload_n 0, 1) := by decide +kernel
theorem dX1_around_1 : decode cX1_around 1 = .ok (.iload_n 1, 1) := by decide +kernel
theorem dX1_around_2 : decode cX1_around 2 = .ok (.invokevirtual 20, 3) := by decide +kernel
theorem dX1_around_5 : decode cX1_around 5 = .ok (.iload_n 1, 1) := by decide +kernel
theorem dX1_around_6 : decode cX1_around 6 = .ok (.ldc 19, 2) := by decide +kernel
theorem dX1_around_8 : decode cX1_around 8 = .ok (.if_icmp .le 10, 3) := by decide +kernel
theorem dX1_around_11 : decode cX1_around 11 = .ok (.aload_n 0, 1) := by decide +kernel
theorem dX1_around_12 : decode cX1_around 12 = .ok (.iload_n 1, 1) := by decide +kernel
theorem dX1_around_13 : decode cX1_around 13 = .ok (.iconst 1, 1) := by decide +kernel
theorem dX1_around_14 : decode cX1_around 14 = .ok (.isub, 1) := by decide +kernel
theorem dX1_around_15 : decode cX1_around 15 = .ok (.invokevirtual 20, 3) := by decide +kernel
theorem dX1_around_18 : decode cX1_around 18 = .ok (.iload_n 1, 1) := by decide +kernel
theorem dX1_around_19 : decode cX1_around 19 = .ok (.ldc 26, 2) := by decide +kernel
theorem dX1_around_21 : decode cX1_around 21 = .ok (.if_icmp .ge 10, 3) := by decide +kernel
theorem dX1_around_24 : decode cX1_around 24 = .ok (.aload_n 0, 1) := by decide +kernel
theorem dX1_around_25 : decode cX1_around 25 = .ok (.iload_n 1, 1) := by decide +kernel
theorem dX1_around_26 : decode cX1_around 26 = .ok (.iconst 1, 1) := by decide +kernel
theorem dX1_around_27 : decode cX1_around 27 = .ok (.iadd, 1) := by decide +kernel
theorem dX1_around_28 : decode cX1_around 28 = .ok (.invokevirtual 20, 3) := by decide +kernel
theorem dX1_around_31 : decode cX1_around 31 = .ok (.return_, 1) := by decide +kernel
abbrev cX1_down : ByteArray := prog_3_method_5_code
def yX1_down : MethodName := ⟨RX1, "down", "(J)I"⟩
theorem dX1_down_0 : decode cX1_down 0 = .ok (.iconst 0, 1) := by decide +kernel
theorem dX1_down_1 : decode cX1_down 1 = .ok (.istore_n 3, 1) := by decide +kernel
theorem dX1_down_2 : decode cX1_down 2 = .ok (.aload_n 0, 1) := by decide +kernel
theorem dX1_down_3 : decode cX1_down 3 = .ok (.getfield 15, 3) := by decide +kernel
theorem dX1_down_6 : decode cX1_down 6 = .ok (.iconst 1, 1) := by decide +kernel
theorem dX1_down_7 : decode cX1_down 7 = .ok (.isub, 1) := by decide +kernel
theorem dX1_down_8 : decode cX1_down 8 = .ok (.istore 4, 2) := by decide +kernel
theorem dX1_down_10 : decode cX1_down 10 = .ok (.iload_n 3, 1) := by decide +kernel
theorem dX1_down_11 : decode cX1_down 11 = .ok (.iload 4, 2) := by decide +kernel
theorem dX1_down_13 : decode cX1_down 13 = .ok (.if_icmp .ge 41, 3) := by decide +kernel
theorem dX1_down_16 : decode cX1_down 16 = .ok (.iload_n 3, 1) := by decide +kernel
theorem dX1_down_17 : decode cX1_down 17 = .ok (.iload 4, 2) := by decide +kernel
theorem dX1_down_19 : decode cX1_down 19 = .ok (.iadd, 1) := by decide +kernel
theorem dX1_down_20 : decode cX1_down 20 = .ok (.iconst 1, 1) := by decide +kernel
theorem dX1_down_21 : decode cX1_down 21 = .ok (.iadd, 1) := by decide +kernel
theorem dX1_down_22 : decode cX1_down 22 = .ok (.iconst 2, 1) := by decide +kernel
theorem dX1_down_23 : decode cX1_down 23 = .ok (.idiv, 1) := by decide +kernel
theorem dX1_down_24 : decode cX1_down 24 = .ok (.istore 5, 2) := by decide +kernel
theorem dX1_down_26 : decode cX1_down 26 = .ok (.aload_n 0, 1) := by decide +kernel
theorem dX1_down_27 : decode cX1_down 27 = .ok (.getfield 9, 3) := by decide +kernel
theorem dX1_down_30 : decode cX1_down 30 = .ok (.iload 5, 2) := by decide +kernel
theorem dX1_down_32 : decode cX1_down 32 = .ok (.iaload, 1) := by decide +kernel
theorem dX1_down_33 : decode cX1_down 33 = .ok (.i2l, 1) := by decide +kernel
theorem dX1_down_34 : decode cX1_down 34 = .ok (.lload_n 1, 1) := by decide +kernel
theorem dX1_down_35 : decode cX1_down 35 = .ok (.lcmp, 1) := by decide +kernel
theorem dX1_down_36 : decode cX1_down 36 = .ok (.ifCond .gt 9, 3) := by decide +kernel
theorem dX1_down_39 : decode cX1_down 39 = .ok (.iload 5, 2) := by decide +kernel
theorem dX1_down_41 : decode cX1_down 41 = .ok (.istore_n 3, 1) := by decide +kernel
theorem dX1_down_42 : decode cX1_down 42 = .ok (.goto 9, 3) := by decide +kernel
theorem dX1_down_45 : decode cX1_down 45 = .ok (.iload 5, 2) := by decide +kernel
theorem dX1_down_47 : decode cX1_down 47 = .ok (.iconst 1, 1) := by decide +kernel
theorem dX1_down_48 : decode cX1_down 48 = .ok (.isub, 1) := by decide +kernel
theorem dX1_down_49 : decode cX1_down 49 = .ok (.istore 4, 2) := by decide +kernel
theorem dX1_down_51 : decode cX1_down 51 = .ok (.goto (-41), 3) := by decide +kernel
theorem dX1_down_54 : decode cX1_down 54 = .ok (.aload_n 0, 1) := by decide +kernel
theorem dX1_down_55 : decode cX1_down 55 = .ok (.getfield 9, 3) := by decide +kernel
theorem dX1_down_58 : decode cX1_down 58 = .ok (.iload_n 3, 1) := by decide +kernel
theorem dX1_down_59 : decode cX1_down 59 = .ok (.iaload, 1) := by decide +kernel
theorem dX1_down_60 : decode cX1_down 60 = .ok (.ireturn, 1) := by decide +kernel
abbrev cX1_up : ByteArray := prog_3_method_6_code
def yX1_up : MethodName := ⟨RX1, "up", "(J)I"⟩
theorem dX1_up_0 : decode cX1_up 0 = .ok (.iconst 0, 1) := by decide +kernel
theorem dX1_up_1 : decode cX1_up 1 = .ok (.istore_n 3, 1) := by decide +kernel
theorem dX1_up_2 : decode cX1_up 2 = .ok (.aload_n 0, 1) := by decide +kernel
theorem dX1_up_3 : decode cX1_up 3 = .ok (.getfield 15, 3) := by decide +kernel
theorem dX1_up_6 : decode cX1_up 6 = .ok (.iconst 1, 1) := by decide +kernel
theorem dX1_up_7 : decode cX1_up 7 = .ok (.isub, 1) := by decide +kernel
theorem dX1_up_8 : decode cX1_up 8 = .ok (.istore 4, 2) := by decide +kernel
theorem dX1_up_10 : decode cX1_up 10 = .ok (.iload_n 3, 1) := by decide +kernel
theorem dX1_up_11 : decode cX1_up 11 = .ok (.iload 4, 2) := by decide +kernel
theorem dX1_up_13 : decode cX1_up 13 = .ok (.if_icmp .ge 39, 3) := by decide +kernel
theorem dX1_up_16 : decode cX1_up 16 = .ok (.iload_n 3, 1) := by decide +kernel
theorem dX1_up_17 : decode cX1_up 17 = .ok (.iload 4, 2) := by decide +kernel
theorem dX1_up_19 : decode cX1_up 19 = .ok (.iadd, 1) := by decide +kernel
theorem dX1_up_20 : decode cX1_up 20 = .ok (.iconst 2, 1) := by decide +kernel
theorem dX1_up_21 : decode cX1_up 21 = .ok (.idiv, 1) := by decide +kernel
theorem dX1_up_22 : decode cX1_up 22 = .ok (.istore 5, 2) := by decide +kernel
theorem dX1_up_24 : decode cX1_up 24 = .ok (.aload_n 0, 1) := by decide +kernel
theorem dX1_up_25 : decode cX1_up 25 = .ok (.getfield 9, 3) := by decide +kernel
theorem dX1_up_28 : decode cX1_up 28 = .ok (.iload 5, 2) := by decide +kernel
theorem dX1_up_30 : decode cX1_up 30 = .ok (.iaload, 1) := by decide +kernel
theorem dX1_up_31 : decode cX1_up 31 = .ok (.i2l, 1) := by decide +kernel
theorem dX1_up_32 : decode cX1_up 32 = .ok (.lload_n 1, 1) := by decide +kernel
theorem dX1_up_33 : decode cX1_up 33 = .ok (.lcmp, 1) := by decide +kernel
theorem dX1_up_34 : decode cX1_up 34 = .ok (.ifCond .lt 10, 3) := by decide +kernel
theorem dX1_up_37 : decode cX1_up 37 = .ok (.iload 5, 2) := by decide +kernel
theorem dX1_up_39 : decode cX1_up 39 = .ok (.istore 4, 2) := by decide +kernel
theorem dX1_up_41 : decode cX1_up 41 = .ok (.goto 8, 3) := by decide +kernel
theorem dX1_up_44 : decode cX1_up 44 = .ok (.iload 5, 2) := by decide +kernel
theorem dX1_up_46 : decode cX1_up 46 = .ok (.iconst 1, 1) := by decide +kernel
theorem dX1_up_47 : decode cX1_up 47 = .ok (.iadd, 1) := by decide +kernel
theorem dX1_up_48 : decode cX1_up 48 = .ok (.istore_n 3, 1) := by decide +kernel
theorem dX1_up_49 : decode cX1_up 49 = .ok (.goto (-39), 3) := by decide +kernel
theorem dX1_up_52 : decode cX1_up 52 = .ok (.aload_n 0, 1) := by decide +kernel
theorem dX1_up_53 : decode cX1_up 53 = .ok (.getfield 9, 3) := by decide +kernel
theorem dX1_up_56 : decode cX1_up 56 = .ok (.iload_n 3, 1) := by decide +kernel
theorem dX1_up_57 : decode cX1_up 57 = .ok (.iaload, 1) := by decide +kernel
theorem dX1_up_58 : decode cX1_up 58 = .ok (.ireturn, 1) := by decide +kernel
theorem q17 : (Jvm.Cond.initialized "RangeRules$Thresholds") ∈ lw_all := lw_g (lw_at lw_m1 2 rfl) rfl
theorem q32 : (Jvm.Cond.instantiable "RangeRules$Thresholds" (2 : Nat)) ∈ lw_all := lw_g (lw_at lw_m1 17 rfl) rfl
theorem q34 : (Jvm.Cond.instanceMethod ({ cls := "RangeRules$Thresholds", name := "<init>", desc := "()V" } : Jvm.MethodName)) ∈ lw_all := lw_g (lw_at lw_m1 19 rfl) rfl
theorem q35 : (Jvm.Cond.code ({ cls := "RangeRules$Thresholds", name := "<init>", desc := "()V" } : Jvm.MethodName) prog_3_method_1_code (1 : Nat) (Option.none : Option Jvm.ClassFile.FieldType)) ∈ lw_all := lw_g (lw_at lw_m1 20 rfl) rfl
theorem q36 : (Jvm.Cond.methodLink "RangeRules$Thresholds" (3 : Nat) ({ cls := "java/lang/Object", name := "<init>", desc := "()V" } : Jvm.MethodName)) ∈ lw_all := lw_g (lw_at lw_m1 21 rfl) rfl
theorem q37 : (Jvm.Cond.fieldLink "RangeRules$Thresholds" (9 : Nat) "RangeRules$Thresholds" "row" "[I") ∈ lw_all := lw_g (lw_at lw_m1 22 rfl) rfl
theorem q38 : (Jvm.Cond.fieldLink "RangeRules$Thresholds" (15 : Nat) "RangeRules$Thresholds" "size" "I") ∈ lw_all := lw_g (lw_at lw_m1 23 rfl) rfl
theorem q40 : (Jvm.Cond.lays "RangeRules$Thresholds" "RangeRules$Thresholds" "row" "[I") ∈ lw_all := lw_g (lw_at lw_m1 25 rfl) rfl
theorem q41 : (Jvm.Cond.soleField "RangeRules$Thresholds" "row") ∈ lw_all := lw_g (lw_at lw_m1 26 rfl) rfl
theorem q42 : (Jvm.Cond.lays "RangeRules$Thresholds" "RangeRules$Thresholds" "size" "I") ∈ lw_all := lw_g (lw_at lw_m1 27 rfl) rfl
theorem q43 : (Jvm.Cond.soleField "RangeRules$Thresholds" "size") ∈ lw_all := lw_g (lw_at lw_m1 28 rfl) rfl
theorem q44 : (Jvm.Cond.superclass "RangeRules$Thresholds" "java/lang/Object") ∈ lw_all := lw_g (lw_at lw_m1 29 rfl) rfl
theorem q71 : (Jvm.Cond.instanceMethod ({ cls := "RangeRules$Thresholds", name := "begin", desc := "()V" } : Jvm.MethodName)) ∈ lw_all := lw_g (lw_at lw_m1 56 rfl) rfl
theorem q72 : (Jvm.Cond.selects "RangeRules$Thresholds" ({ cls := "RangeRules$Thresholds", name := "begin", desc := "()V" } : Jvm.MethodName) ({ cls := "RangeRules$Thresholds", name := "begin", desc := "()V" } : Jvm.MethodName)) ∈ lw_all := lw_g (lw_at lw_m1 57 rfl) rfl
theorem q73 : (Jvm.Cond.code ({ cls := "RangeRules$Thresholds", name := "begin", desc := "()V" } : Jvm.MethodName) prog_3_method_2_code (1 : Nat) (Option.none : Option Jvm.ClassFile.FieldType)) ∈ lw_all := lw_g (lw_at lw_m1 58 rfl) rfl
theorem q74 : (Jvm.Cond.constant "RangeRules$Thresholds" (19 : Nat) (-2147483648 : Int32)) ∈ lw_all := lw_g (lw_at lw_m1 59 rfl) rfl
theorem q75 : (Jvm.Cond.methodLink "RangeRules$Thresholds" (20 : Nat) ({ cls := "RangeRules$Thresholds", name := "add", desc := "(I)V" } : Jvm.MethodName)) ∈ lw_all := lw_g (lw_at lw_m1 60 rfl) rfl
theorem q76 : (Jvm.Cond.privateMethod ({ cls := "RangeRules$Thresholds", name := "add", desc := "(I)V" } : Jvm.MethodName)) ∈ lw_tbl := lw_at lw_m1 61 rfl
theorem q77 : (Jvm.Cond.instanceMethod ({ cls := "RangeRules$Thresholds", name := "add", desc := "(I)V" } : Jvm.MethodName)) ∈ lw_all := lw_g (lw_at lw_m1 62 rfl) rfl
theorem q78 : (Jvm.Cond.code ({ cls := "RangeRules$Thresholds", name := "add", desc := "(I)V" } : Jvm.MethodName) prog_3_method_4_code (4 : Nat) (Option.none : Option Jvm.ClassFile.FieldType)) ∈ lw_all := lw_g (lw_at lw_m1 63 rfl) rfl
theorem q79 : (Jvm.Cond.methodLink "RangeRules$Thresholds" (27 : Nat) ({ cls := "java/util/Arrays", name := "copyOf", desc := "([II)[I" } : Jvm.MethodName)) ∈ lw_all := lw_g (lw_at lw_m1 64 rfl) rfl
theorem q95 : (Jvm.Cond.constant "RangeRules$Thresholds" (24 : Nat) (-2147483647 : Int32)) ∈ lw_all := lw_g (lw_at lw_m1 80 rfl) rfl
theorem q96 : (Jvm.Cond.constant "RangeRules$Thresholds" (25 : Nat) (2147483646 : Int32)) ∈ lw_all := lw_g (lw_at lw_m1 81 rfl) rfl
theorem q97 : (Jvm.Cond.constant "RangeRules$Thresholds" (26 : Nat) (2147483647 : Int32)) ∈ lw_all := lw_g (lw_at lw_m1 82 rfl) rfl
theorem q113 : (Jvm.Cond.instanceMethod ({ cls := "RangeRules$Thresholds", name := "around", desc := "(I)V" } : Jvm.MethodName)) ∈ lw_all := lw_g (lw_at lw_m1 98 rfl) rfl
theorem q114 : (Jvm.Cond.selects "RangeRules$Thresholds" ({ cls := "RangeRules$Thresholds", name := "around", desc := "(I)V" } : Jvm.MethodName) ({ cls := "RangeRules$Thresholds", name := "around", desc := "(I)V" } : Jvm.MethodName)) ∈ lw_all := lw_g (lw_at lw_m1 99 rfl) rfl
theorem q115 : (Jvm.Cond.code ({ cls := "RangeRules$Thresholds", name := "around", desc := "(I)V" } : Jvm.MethodName) prog_3_method_3_code (2 : Nat) (Option.none : Option Jvm.ClassFile.FieldType)) ∈ lw_all := lw_g (lw_at lw_m1 100 rfl) rfl
theorem q129 : (Jvm.Cond.instanceMethod ({ cls := "RangeRules$Thresholds", name := "down", desc := "(J)I" } : Jvm.MethodName)) ∈ lw_all := lw_g (lw_at lw_m1 114 rfl) rfl
theorem q130 : (Jvm.Cond.selects "RangeRules$Thresholds" ({ cls := "RangeRules$Thresholds", name := "down", desc := "(J)I" } : Jvm.MethodName) ({ cls := "RangeRules$Thresholds", name := "down", desc := "(J)I" } : Jvm.MethodName)) ∈ lw_all := lw_g (lw_at lw_m1 115 rfl) rfl
theorem q131 : (Jvm.Cond.code ({ cls := "RangeRules$Thresholds", name := "down", desc := "(J)I" } : Jvm.MethodName) prog_3_method_5_code (6 : Nat) (Option.some Jvm.ClassFile.FieldType.int)) ∈ lw_all := lw_g (lw_at lw_m1 116 rfl) rfl
theorem q137 : (Jvm.Cond.instanceMethod ({ cls := "RangeRules$Thresholds", name := "up", desc := "(J)I" } : Jvm.MethodName)) ∈ lw_all := lw_g (lw_at lw_m1 122 rfl) rfl
theorem q138 : (Jvm.Cond.selects "RangeRules$Thresholds" ({ cls := "RangeRules$Thresholds", name := "up", desc := "(J)I" } : Jvm.MethodName) ({ cls := "RangeRules$Thresholds", name := "up", desc := "(J)I" } : Jvm.MethodName)) ∈ lw_all := lw_g (lw_at lw_m1 123 rfl) rfl
theorem q139 : (Jvm.Cond.code ({ cls := "RangeRules$Thresholds", name := "up", desc := "(J)I" } : Jvm.MethodName) prog_3_method_6_code (6 : Nat) (Option.some Jvm.ClassFile.FieldType.int)) ∈ lw_all := lw_g (lw_at lw_m1 124 rfl) rfl
theorem in_X1 : ∀ w ∈ wsX10, w ∈ lw_all := lw_in wsX10 [40, 42] (by decide +kernel) (by decide +kernel)
end
section
/-! RangeRules -/
set_option maxRecDepth 100000
def RX0 : String := "RangeRules"
def TX0 : u_T := fun k => match k with
  | 0 => ("RangeRules", "thresholds", "LRangeRules$Thresholds;", true)
  | 1 => ("RangeRules", "arithmetic", "LRangeRules$Arithmetic;", true)
  | _ => ("RangeRules", "added", "I", false)
def tyX0 : Nat → FieldType := fun k => match k with
  | 0 => .object "RangeRules$Thresholds"
  | 1 => .object "RangeRules$Arithmetic"
  | _ => .int
abbrev wsX00 : List Cond := u_ws RX0 TX0 3
theorem nmX0 : ∀ a, a < 3 → ∀ b, b < 3 → a ≠ b → (TX0 a).2.1 ≠ (TX0 b).2.1 := by decide +kernel
theorem tyX0_ok : ∀ k, k < 3 → parseFieldDescriptor (TX0 k).2.2.1 = some (tyX0 k) := by decide +kernel
abbrev cX0_init : ByteArray := prog_1_method_1_code
def yX0_init : MethodName := ⟨RX0, "<init>", "()V"⟩
theorem dX0_init_0 : decode cX0_init 0 = .ok (.aload_n 0, 1) := by decide +kernel
theorem dX0_init_1 : decode cX0_init 1 = .ok (.invokespecial 1, 3) := by decide +kernel
theorem dX0_init_4 : decode cX0_init 4 = .ok (.aload_n 0, 1) := by decide +kernel
theorem dX0_init_5 : decode cX0_init 5 = .ok (.new 7, 3) := by decide +kernel
theorem dX0_init_8 : decode cX0_init 8 = .ok (.dup, 1) := by decide +kernel
theorem dX0_init_9 : decode cX0_init 9 = .ok (.invokespecial 9, 3) := by decide +kernel
theorem dX0_init_12 : decode cX0_init 12 = .ok (.putfield 10, 3) := by decide +kernel
theorem dX0_init_15 : decode cX0_init 15 = .ok (.aload_n 0, 1) := by decide +kernel
theorem dX0_init_16 : decode cX0_init 16 = .ok (.new 16, 3) := by decide +kernel
theorem dX0_init_19 : decode cX0_init 19 = .ok (.dup, 1) := by decide +kernel
theorem dX0_init_20 : decode cX0_init 20 = .ok (.aload_n 0, 1) := by decide +kernel
theorem dX0_init_21 : decode cX0_init 21 = .ok (.getfield 10, 3) := by decide +kernel
theorem dX0_init_24 : decode cX0_init 24 = .ok (.invokespecial 18, 3) := by decide +kernel
theorem dX0_init_27 : decode cX0_init 27 = .ok (.putfield 21, 3) := by decide +kernel
theorem dX0_init_30 : decode cX0_init 30 = .ok (.aload_n 0, 1) := by decide +kernel
theorem dX0_init_31 : decode cX0_init 31 = .ok (.getfield 10, 3) := by decide +kernel
theorem dX0_init_34 : decode cX0_init 34 = .ok (.invokevirtual 25, 3) := by decide +kernel
theorem dX0_init_37 : decode cX0_init 37 = .ok (.return_, 1) := by decide +kernel
abbrev cX0_around : ByteArray := prog_1_method_2_code
def yX0_around : MethodName := ⟨RX0, "around", "(I)I"⟩
theorem dX0_around_0 : decode cX0_around 0 = .ok (.aload_n 0, 1) := by decide +kernel
theorem dX0_around_1 : decode cX0_around 1 = .ok (.getfield 28, 3) := by decide +kernel
theorem dX0_around_4 : decode cX0_around 4 = .ok (.bipush 60, 2) := by decide +kernel
theorem dX0_around_6 : decode cX0_around 6 = .ok (.if_icmp .ne 5, 3) := by decide +kernel
theorem dX0_around_9 : decode cX0_around 9 = .ok (.iconst (-1), 1) := by decide +kernel
theorem dX0_around_10 : decode cX0_around 10 = .ok (.ireturn, 1) := by decide +kernel
theorem dX0_around_11 : decode cX0_around 11 = .ok (.aload_n 0, 1) := by decide +kernel
theorem dX0_around_12 : decode cX0_around 12 = .ok (.dup, 1) := by decide +kernel
theorem dX0_around_13 : decode cX0_around 13 = .ok (.getfield 28, 3) := by decide +kernel
theorem dX0_around_16 : decode cX0_around 16 = .ok (.iconst 1, 1) := by decide +kernel
theorem dX0_around_17 : decode cX0_around 17 = .ok (.iadd, 1) := by decide +kernel
theorem dX0_around_18 : decode cX0_around 18 = .ok (.putfield 28, 3) := by decide +kernel
theorem dX0_around_21 : decode cX0_around 21 = .ok (.aload_n 0, 1) := by decide +kernel
theorem dX0_around_22 : decode cX0_around 22 = .ok (.getfield 10, 3) := by decide +kernel
theorem dX0_around_25 : decode cX0_around 25 = .ok (.iload_n 1, 1) := by decide +kernel
theorem dX0_around_26 : decode cX0_around 26 = .ok (.invokevirtual 32, 3) := by decide +kernel
theorem dX0_around_29 : decode cX0_around 29 = .ok (.aload_n 0, 1) := by decide +kernel
theorem dX0_around_30 : decode cX0_around 30 = .ok (.getfield 10, 3) := by decide +kernel
theorem dX0_around_33 : decode cX0_around 33 = .ok (.getfield 36, 3) := by decide +kernel
theorem dX0_around_36 : decode cX0_around 36 = .ok (.ireturn, 1) := by decide +kernel
abbrev cX0_clear : ByteArray := prog_1_method_3_code
def yX0_clear : MethodName := ⟨RX0, "clear", "()V"⟩
theorem dX0_clear_0 : decode cX0_clear 0 = .ok (.aload_n 0, 1) := by decide +kernel
theorem dX0_clear_1 : decode cX0_clear 1 = .ok (.iconst 0, 1) := by decide +kernel
theorem dX0_clear_2 : decode cX0_clear 2 = .ok (.putfield 28, 3) := by decide +kernel
theorem dX0_clear_5 : decode cX0_clear 5 = .ok (.aload_n 0, 1) := by decide +kernel
theorem dX0_clear_6 : decode cX0_clear 6 = .ok (.getfield 10, 3) := by decide +kernel
theorem dX0_clear_9 : decode cX0_clear 9 = .ok (.invokevirtual 25, 3) := by decide +kernel
theorem dX0_clear_12 : decode cX0_clear 12 = .ok (.return_, 1) := by decide +kernel
abbrev cX0_size : ByteArray := prog_1_method_4_code
def yX0_size : MethodName := ⟨RX0, "size", "()I"⟩
theorem dX0_size_0 : decode cX0_size 0 = .ok (.aload_n 0, 1) := by decide +kernel
theorem dX0_size_1 : decode cX0_size 1 = .ok (.getfield 10, 3) := by decide +kernel
theorem dX0_size_4 : decode cX0_size 4 = .ok (.getfield 36, 3) := by decide +kernel
theorem dX0_size_7 : decode cX0_size 7 = .ok (.ireturn, 1) := by decide +kernel
abbrev cX0_down : ByteArray := prog_1_method_5_code
def yX0_down : MethodName := ⟨RX0, "down", "(I)I"⟩
theorem dX0_down_0 : decode cX0_down 0 = .ok (.aload_n 0, 1) := by decide +kernel
theorem dX0_down_1 : decode cX0_down 1 = .ok (.getfield 10, 3) := by decide +kernel
theorem dX0_down_4 : decode cX0_down 4 = .ok (.iload_n 1, 1) := by decide +kernel
theorem dX0_down_5 : decode cX0_down 5 = .ok (.i2l, 1) := by decide +kernel
theorem dX0_down_6 : decode cX0_down 6 = .ok (.invokevirtual 39, 3) := by decide +kernel
theorem dX0_down_9 : decode cX0_down 9 = .ok (.ireturn, 1) := by decide +kernel
abbrev cX0_up : ByteArray := prog_1_method_6_code
def yX0_up : MethodName := ⟨RX0, "up", "(I)I"⟩
theorem dX0_up_0 : decode cX0_up 0 = .ok (.aload_n 0, 1) := by decide +kernel
theorem dX0_up_1 : decode cX0_up 1 = .ok (.getfield 10, 3) := by decide +kernel
theorem dX0_up_4 : decode cX0_up 4 = .ok (.iload_n 1, 1) := by decide +kernel
theorem dX0_up_5 : decode cX0_up 5 = .ok (.i2l, 1) := by decide +kernel
theorem dX0_up_6 : decode cX0_up 6 = .ok (.invokevirtual 43, 3) := by decide +kernel
theorem dX0_up_9 : decode cX0_up 9 = .ok (.ireturn, 1) := by decide +kernel
abbrev cX0_work : ByteArray := prog_1_method_8_code
def yX0_work : MethodName := ⟨RX0, "work", "(IIIII)I"⟩
theorem dX0_work_0 : decode cX0_work 0 = .ok (.iload_n 1, 1) := by decide +kernel
theorem dX0_work_1 : decode cX0_work 1 = .ok (.ifCond .lt 29, 3) := by decide +kernel
theorem dX0_work_4 : decode cX0_work 4 = .ok (.iload_n 1, 1) := by decide +kernel
theorem dX0_work_5 : decode cX0_work 5 = .ok (.bipush 9, 2) := by decide +kernel
theorem dX0_work_7 : decode cX0_work 7 = .ok (.if_icmp .gt 23, 3) := by decide +kernel
theorem dX0_work_10 : decode cX0_work 10 = .ok (.aload_n 0, 1) := by decide +kernel
theorem dX0_work_11 : decode cX0_work 11 = .ok (.iload_n 2, 1) := by decide +kernel
theorem dX0_work_12 : decode cX0_work 12 = .ok (.iload_n 3, 1) := by decide +kernel
theorem dX0_work_13 : decode cX0_work 13 = .ok (.invokevirtual 46, 3) := by decide +kernel
theorem dX0_work_16 : decode cX0_work 16 = .ok (.ifCond .eq 14, 3) := by decide +kernel
theorem dX0_work_19 : decode cX0_work 19 = .ok (.aload_n 0, 1) := by decide +kernel
theorem dX0_work_20 : decode cX0_work 20 = .ok (.iload 4, 2) := by decide +kernel
theorem dX0_work_22 : decode cX0_work 22 = .ok (.iload 5, 2) := by decide +kernel
theorem dX0_work_24 : decode cX0_work 24 = .ok (.invokevirtual 46, 3) := by decide +kernel
theorem dX0_work_27 : decode cX0_work 27 = .ok (.ifCond .ne 5, 3) := by decide +kernel
theorem dX0_work_30 : decode cX0_work 30 = .ok (.iconst (-1), 1) := by decide +kernel
theorem dX0_work_31 : decode cX0_work 31 = .ok (.ireturn, 1) := by decide +kernel
theorem dX0_work_32 : decode cX0_work 32 = .ok (.aload_n 0, 1) := by decide +kernel
theorem dX0_work_33 : decode cX0_work 33 = .ok (.getfield 21, 3) := by decide +kernel
theorem dX0_work_36 : decode cX0_work 36 = .ok (.iload_n 1, 1) := by decide +kernel
theorem dX0_work_37 : decode cX0_work 37 = .ok (.iload_n 2, 1) := by decide +kernel
theorem dX0_work_38 : decode cX0_work 38 = .ok (.i2l, 1) := by decide +kernel
theorem dX0_work_39 : decode cX0_work 39 = .ok (.iload_n 3, 1) := by decide +kernel
theorem dX0_work_40 : decode cX0_work 40 = .ok (.i2l, 1) := by decide +kernel
theorem dX0_work_41 : decode cX0_work 41 = .ok (.iload 4, 2) := by decide +kernel
theorem dX0_work_43 : decode cX0_work 43 = .ok (.i2l, 1) := by decide +kernel
theorem dX0_work_44 : decode cX0_work 44 = .ok (.iload 5, 2) := by decide +kernel
theorem dX0_work_46 : decode cX0_work 46 = .ok (.i2l, 1) := by decide +kernel
theorem dX0_work_47 : decode cX0_work 47 = .ok (.invokevirtual 50, 3) := by decide +kernel
theorem dX0_work_50 : decode cX0_work 50 = .ok (.ifCond .eq 7, 3) := by decide +kernel
theorem dX0_work_53 : decode cX0_work 53 = .ok (.iconst 1, 1) := by decide +kernel
theorem dX0_work_54 : decode cX0_work 54 = .ok (.goto 4, 3) := by decide +kernel
theorem dX0_work_57 : decode cX0_work 57 = .ok (.iconst 0, 1) := by decide +kernel
theorem dX0_work_58 : decode cX0_work 58 = .ok (.ireturn, 1) := by decide +kernel
abbrev cX0_isRange : ByteArray := prog_1_method_7_code
def yX0_isRange : MethodName := ⟨RX0, "isRange", "(II)Z"⟩
theorem dX0_isRange_0 : decode cX0_isRange 0 = .ok (.iload_n 1, 1) := by decide +kernel
theorem dX0_isRange_1 : decode cX0_isRange 1 = .ok (.iload_n 2, 1) := by decide +kernel
theorem dX0_isRange_2 : decode cX0_isRange 2 = .ok (.if_icmp .gt 33, 3) := by decide +kernel
theorem dX0_isRange_5 : decode cX0_isRange 5 = .ok (.aload_n 0, 1) := by decide +kernel
theorem dX0_isRange_6 : decode cX0_isRange 6 = .ok (.getfield 10, 3) := by decide +kernel
theorem dX0_isRange_9 : decode cX0_isRange 9 = .ok (.iload_n 1, 1) := by decide +kernel
theorem dX0_isRange_10 : decode cX0_isRange 10 = .ok (.i2l, 1) := by decide +kernel
theorem dX0_isRange_11 : decode cX0_isRange 11 = .ok (.invokevirtual 39, 3) := by decide +kernel
theorem dX0_isRange_14 : decode cX0_isRange 14 = .ok (.iload_n 1, 1) := by decide +kernel
theorem dX0_isRange_15 : decode cX0_isRange 15 = .ok (.if_icmp .ne 20, 3) := by decide +kernel
theorem dX0_isRange_18 : decode cX0_isRange 18 = .ok (.aload_n 0, 1) := by decide +kernel
theorem dX0_isRange_19 : decode cX0_isRange 19 = .ok (.getfield 10, 3) := by decide +kernel
theorem dX0_isRange_22 : decode cX0_isRange 22 = .ok (.iload_n 2, 1) := by decide +kernel
theorem dX0_isRange_23 : decode cX0_isRange 23 = .ok (.i2l, 1) := by decide +kernel
theorem dX0_isRange_24 : decode cX0_isRange 24 = .ok (.invokevirtual 39, 3) := by decide +kernel
theorem dX0_isRange_27 : decode cX0_isRange 27 = .ok (.iload_n 2, 1) := by decide +kernel
theorem dX0_isRange_28 : decode cX0_isRange 28 = .ok (.if_icmp .ne 7, 3) := by decide +kernel
theorem dX0_isRange_31 : decode cX0_isRange 31 = .ok (.iconst 1, 1) := by decide +kernel
theorem dX0_isRange_32 : decode cX0_isRange 32 = .ok (.goto 4, 3) := by decide +kernel
theorem dX0_isRange_35 : decode cX0_isRange 35 = .ok (.iconst 0, 1) := by decide +kernel
theorem dX0_isRange_36 : decode cX0_isRange 36 = .ok (.ireturn, 1) := by decide +kernel
abbrev cX0_negate : ByteArray := prog_1_method_9_code
def yX0_negate : MethodName := ⟨RX0, "negate", "(II)Z"⟩
theorem dX0_negate_0 : decode cX0_negate 0 = .ok (.aload_n 0, 1) := by decide +kernel
theorem dX0_negate_1 : decode cX0_negate 1 = .ok (.iload_n 1, 1) := by decide +kernel
theorem dX0_negate_2 : decode cX0_negate 2 = .ok (.iload_n 2, 1) := by decide +kernel
theorem dX0_negate_3 : decode cX0_negate 3 = .ok (.invokevirtual 46, 3) := by decide +kernel
theorem dX0_negate_6 : decode cX0_negate 6 = .ok (.ifCond .ne 5, 3) := by decide +kernel
theorem dX0_negate_9 : decode cX0_negate 9 = .ok (.iconst 0, 1) := by decide +kernel
theorem dX0_negate_10 : decode cX0_negate 10 = .ok (.ireturn, 1) := by decide +kernel
theorem dX0_negate_11 : decode cX0_negate 11 = .ok (.aload_n 0, 1) := by decide +kernel
theorem dX0_negate_12 : decode cX0_negate 12 = .ok (.getfield 21, 3) := by decide +kernel
theorem dX0_negate_15 : decode cX0_negate 15 = .ok (.iload_n 1, 1) := by decide +kernel
theorem dX0_negate_16 : decode cX0_negate 16 = .ok (.i2l, 1) := by decide +kernel
theorem dX0_negate_17 : decode cX0_negate 17 = .ok (.iload_n 2, 1) := by decide +kernel
theorem dX0_negate_18 : decode cX0_negate 18 = .ok (.i2l, 1) := by decide +kernel
theorem dX0_negate_19 : decode cX0_negate 19 = .ok (.invokevirtual 54, 3) := by decide +kernel
theorem dX0_negate_22 : decode cX0_negate 22 = .ok (.iconst 1, 1) := by decide +kernel
theorem dX0_negate_23 : decode cX0_negate 23 = .ok (.ireturn, 1) := by decide +kernel
abbrev cX0_low : ByteArray := prog_1_method_10_code
def yX0_low : MethodName := ⟨RX0, "low", "()I"⟩
theorem dX0_low_0 : decode cX0_low 0 = .ok (.aload_n 0, 1) := by decide +kernel
theorem dX0_low_1 : decode cX0_low 1 = .ok (.getfield 21, 3) := by decide +kernel
theorem dX0_low_4 : decode cX0_low 4 = .ok (.getfield 58, 3) := by decide +kernel
theorem dX0_low_7 : decode cX0_low 7 = .ok (.ireturn, 1) := by decide +kernel
abbrev cX0_high : ByteArray := prog_1_method_11_code
def yX0_high : MethodName := ⟨RX0, "high", "()I"⟩
theorem dX0_high_0 : decode cX0_high 0 = .ok (.aload_n 0, 1) := by decide +kernel
theorem dX0_high_1 : decode cX0_high 1 = .ok (.getfield 21, 3) := by decide +kernel
theorem dX0_high_4 : decode cX0_high 4 = .ok (.getfield 61, 3) := by decide +kernel
theorem dX0_high_7 : decode cX0_high 7 = .ok (.ireturn, 1) := by decide +kernel
theorem q16 : (Jvm.Cond.initialized "RangeRules") ∈ lw_all := lw_g (lw_at lw_m1 1 rfl) rfl
theorem q24 : (Jvm.Cond.instantiable "RangeRules" (3 : Nat)) ∈ lw_all := lw_g (lw_at lw_m1 9 rfl) rfl
theorem q26 : (Jvm.Cond.instanceMethod ({ cls := "RangeRules", name := "<init>", desc := "()V" } : Jvm.MethodName)) ∈ lw_all := lw_g (lw_at lw_m1 11 rfl) rfl
theorem q27 : (Jvm.Cond.code ({ cls := "RangeRules", name := "<init>", desc := "()V" } : Jvm.MethodName) prog_1_method_1_code (1 : Nat) (Option.none : Option Jvm.ClassFile.FieldType)) ∈ lw_all := lw_g (lw_at lw_m1 12 rfl) rfl
theorem q28 : (Jvm.Cond.methodLink "RangeRules" (1 : Nat) ({ cls := "java/lang/Object", name := "<init>", desc := "()V" } : Jvm.MethodName)) ∈ lw_all := lw_g (lw_at lw_m1 13 rfl) rfl
theorem q31 : (Jvm.Cond.classLink "RangeRules" (7 : Nat) "RangeRules$Thresholds") ∈ lw_all := lw_g (lw_at lw_m1 16 rfl) rfl
theorem q33 : (Jvm.Cond.methodLinkNest "RangeRules" (9 : Nat) ({ cls := "RangeRules$Thresholds", name := "<init>", desc := "()V" } : Jvm.MethodName) "RangeRules") ∈ lw_tbl := lw_at lw_m1 18 rfl
theorem q39 : (Jvm.Cond.fieldLink "RangeRules" (36 : Nat) "RangeRules$Thresholds" "size" "I") ∈ lw_all := lw_g (lw_at lw_m1 24 rfl) rfl
theorem q46 : (Jvm.Cond.classLink "RangeRules" (16 : Nat) "RangeRules$Arithmetic") ∈ lw_all := lw_g (lw_at lw_m1 31 rfl) rfl
theorem q48 : (Jvm.Cond.methodLink "RangeRules" (18 : Nat) ({ cls := "RangeRules$Arithmetic", name := "<init>", desc := "(LRangeRules$Thresholds;)V" } : Jvm.MethodName)) ∈ lw_all := lw_g (lw_at lw_m1 33 rfl) rfl
theorem q54 : (Jvm.Cond.fieldLink "RangeRules" (58 : Nat) "RangeRules$Arithmetic" "low" "I") ∈ lw_all := lw_g (lw_at lw_m1 39 rfl) rfl
theorem q56 : (Jvm.Cond.fieldLink "RangeRules" (61 : Nat) "RangeRules$Arithmetic" "high" "I") ∈ lw_all := lw_g (lw_at lw_m1 41 rfl) rfl
theorem q70 : (Jvm.Cond.methodLink "RangeRules" (25 : Nat) ({ cls := "RangeRules$Thresholds", name := "begin", desc := "()V" } : Jvm.MethodName)) ∈ lw_all := lw_g (lw_at lw_m1 55 rfl) rfl
theorem q98 : (Jvm.Cond.fieldLink "RangeRules" (10 : Nat) "RangeRules" "thresholds" "LRangeRules$Thresholds;") ∈ lw_all := lw_g (lw_at lw_m1 83 rfl) rfl
theorem q99 : (Jvm.Cond.fieldLink "RangeRules" (21 : Nat) "RangeRules" "arithmetic" "LRangeRules$Arithmetic;") ∈ lw_all := lw_g (lw_at lw_m1 84 rfl) rfl
theorem q100 : (Jvm.Cond.fieldLink "RangeRules" (28 : Nat) "RangeRules" "added" "I") ∈ lw_all := lw_g (lw_at lw_m1 85 rfl) rfl
theorem q101 : (Jvm.Cond.laysFinal "RangeRules" "RangeRules" "thresholds" "LRangeRules$Thresholds;") ∈ lw_all := lw_g (lw_at lw_m1 86 rfl) rfl
theorem q102 : (Jvm.Cond.soleField "RangeRules" "thresholds") ∈ lw_all := lw_g (lw_at lw_m1 87 rfl) rfl
theorem q103 : (Jvm.Cond.laysFinal "RangeRules" "RangeRules" "arithmetic" "LRangeRules$Arithmetic;") ∈ lw_all := lw_g (lw_at lw_m1 88 rfl) rfl
theorem q104 : (Jvm.Cond.soleField "RangeRules" "arithmetic") ∈ lw_all := lw_g (lw_at lw_m1 89 rfl) rfl
theorem q105 : (Jvm.Cond.lays "RangeRules" "RangeRules" "added" "I") ∈ lw_all := lw_g (lw_at lw_m1 90 rfl) rfl
theorem q106 : (Jvm.Cond.soleField "RangeRules" "added") ∈ lw_all := lw_g (lw_at lw_m1 91 rfl) rfl
theorem q107 : (Jvm.Cond.superclass "RangeRules" "java/lang/Object") ∈ lw_all := lw_g (lw_at lw_m1 92 rfl) rfl
theorem q109 : (Jvm.Cond.instanceMethod ({ cls := "RangeRules", name := "around", desc := "(I)I" } : Jvm.MethodName)) ∈ lw_all := lw_g (lw_at lw_m1 94 rfl) rfl
theorem q110 : (Jvm.Cond.selects "RangeRules" ({ cls := "RangeRules", name := "around", desc := "(I)I" } : Jvm.MethodName) ({ cls := "RangeRules", name := "around", desc := "(I)I" } : Jvm.MethodName)) ∈ lw_all := lw_g (lw_at lw_m1 95 rfl) rfl
theorem q111 : (Jvm.Cond.code ({ cls := "RangeRules", name := "around", desc := "(I)I" } : Jvm.MethodName) prog_1_method_2_code (2 : Nat) (Option.some Jvm.ClassFile.FieldType.int)) ∈ lw_all := lw_g (lw_at lw_m1 96 rfl) rfl
theorem q112 : (Jvm.Cond.methodLink "RangeRules" (32 : Nat) ({ cls := "RangeRules$Thresholds", name := "around", desc := "(I)V" } : Jvm.MethodName)) ∈ lw_all := lw_g (lw_at lw_m1 97 rfl) rfl
theorem q117 : (Jvm.Cond.instanceMethod ({ cls := "RangeRules", name := "clear", desc := "()V" } : Jvm.MethodName)) ∈ lw_all := lw_g (lw_at lw_m1 102 rfl) rfl
theorem q118 : (Jvm.Cond.selects "RangeRules" ({ cls := "RangeRules", name := "clear", desc := "()V" } : Jvm.MethodName) ({ cls := "RangeRules", name := "clear", desc := "()V" } : Jvm.MethodName)) ∈ lw_all := lw_g (lw_at lw_m1 103 rfl) rfl
theorem q119 : (Jvm.Cond.code ({ cls := "RangeRules", name := "clear", desc := "()V" } : Jvm.MethodName) prog_1_method_3_code (1 : Nat) (Option.none : Option Jvm.ClassFile.FieldType)) ∈ lw_all := lw_g (lw_at lw_m1 104 rfl) rfl
theorem q121 : (Jvm.Cond.instanceMethod ({ cls := "RangeRules", name := "size", desc := "()I" } : Jvm.MethodName)) ∈ lw_all := lw_g (lw_at lw_m1 106 rfl) rfl
theorem q122 : (Jvm.Cond.selects "RangeRules" ({ cls := "RangeRules", name := "size", desc := "()I" } : Jvm.MethodName) ({ cls := "RangeRules", name := "size", desc := "()I" } : Jvm.MethodName)) ∈ lw_all := lw_g (lw_at lw_m1 107 rfl) rfl
theorem q123 : (Jvm.Cond.code ({ cls := "RangeRules", name := "size", desc := "()I" } : Jvm.MethodName) prog_1_method_4_code (1 : Nat) (Option.some Jvm.ClassFile.FieldType.int)) ∈ lw_all := lw_g (lw_at lw_m1 108 rfl) rfl
theorem q125 : (Jvm.Cond.instanceMethod ({ cls := "RangeRules", name := "down", desc := "(I)I" } : Jvm.MethodName)) ∈ lw_all := lw_g (lw_at lw_m1 110 rfl) rfl
theorem q126 : (Jvm.Cond.selects "RangeRules" ({ cls := "RangeRules", name := "down", desc := "(I)I" } : Jvm.MethodName) ({ cls := "RangeRules", name := "down", desc := "(I)I" } : Jvm.MethodName)) ∈ lw_all := lw_g (lw_at lw_m1 111 rfl) rfl
theorem q127 : (Jvm.Cond.code ({ cls := "RangeRules", name := "down", desc := "(I)I" } : Jvm.MethodName) prog_1_method_5_code (2 : Nat) (Option.some Jvm.ClassFile.FieldType.int)) ∈ lw_all := lw_g (lw_at lw_m1 112 rfl) rfl
theorem q128 : (Jvm.Cond.methodLink "RangeRules" (39 : Nat) ({ cls := "RangeRules$Thresholds", name := "down", desc := "(J)I" } : Jvm.MethodName)) ∈ lw_all := lw_g (lw_at lw_m1 113 rfl) rfl
theorem q133 : (Jvm.Cond.instanceMethod ({ cls := "RangeRules", name := "up", desc := "(I)I" } : Jvm.MethodName)) ∈ lw_all := lw_g (lw_at lw_m1 118 rfl) rfl
theorem q134 : (Jvm.Cond.selects "RangeRules" ({ cls := "RangeRules", name := "up", desc := "(I)I" } : Jvm.MethodName) ({ cls := "RangeRules", name := "up", desc := "(I)I" } : Jvm.MethodName)) ∈ lw_all := lw_g (lw_at lw_m1 119 rfl) rfl
theorem q135 : (Jvm.Cond.code ({ cls := "RangeRules", name := "up", desc := "(I)I" } : Jvm.MethodName) prog_1_method_6_code (2 : Nat) (Option.some Jvm.ClassFile.FieldType.int)) ∈ lw_all := lw_g (lw_at lw_m1 120 rfl) rfl
theorem q136 : (Jvm.Cond.methodLink "RangeRules" (43 : Nat) ({ cls := "RangeRules$Thresholds", name := "up", desc := "(J)I" } : Jvm.MethodName)) ∈ lw_all := lw_g (lw_at lw_m1 121 rfl) rfl
theorem q141 : (Jvm.Cond.instanceMethod ({ cls := "RangeRules", name := "work", desc := "(IIIII)I" } : Jvm.MethodName)) ∈ lw_all := lw_g (lw_at lw_m1 126 rfl) rfl
theorem q142 : (Jvm.Cond.selects "RangeRules" ({ cls := "RangeRules", name := "work", desc := "(IIIII)I" } : Jvm.MethodName) ({ cls := "RangeRules", name := "work", desc := "(IIIII)I" } : Jvm.MethodName)) ∈ lw_all := lw_g (lw_at lw_m1 127 rfl) rfl
theorem q143 : (Jvm.Cond.code ({ cls := "RangeRules", name := "work", desc := "(IIIII)I" } : Jvm.MethodName) prog_1_method_8_code (6 : Nat) (Option.some Jvm.ClassFile.FieldType.int)) ∈ lw_all := lw_g (lw_at lw_m1 128 rfl) rfl
theorem q144 : (Jvm.Cond.methodLink "RangeRules" (46 : Nat) ({ cls := "RangeRules", name := "isRange", desc := "(II)Z" } : Jvm.MethodName)) ∈ lw_all := lw_g (lw_at lw_m1 129 rfl) rfl
theorem q145 : (Jvm.Cond.privateMethod ({ cls := "RangeRules", name := "isRange", desc := "(II)Z" } : Jvm.MethodName)) ∈ lw_tbl := lw_at lw_m1 130 rfl
theorem q146 : (Jvm.Cond.instanceMethod ({ cls := "RangeRules", name := "isRange", desc := "(II)Z" } : Jvm.MethodName)) ∈ lw_all := lw_g (lw_at lw_m1 131 rfl) rfl
theorem q147 : (Jvm.Cond.code ({ cls := "RangeRules", name := "isRange", desc := "(II)Z" } : Jvm.MethodName) prog_1_method_7_code (3 : Nat) (Option.some Jvm.ClassFile.FieldType.boolean)) ∈ lw_all := lw_g (lw_at lw_m1 132 rfl) rfl
theorem q148 : (Jvm.Cond.methodLink "RangeRules" (50 : Nat) ({ cls := "RangeRules$Arithmetic", name := "work", desc := "(IJJJJ)Z" } : Jvm.MethodName)) ∈ lw_all := lw_g (lw_at lw_m1 133 rfl) rfl
theorem q196 : (Jvm.Cond.instanceMethod ({ cls := "RangeRules", name := "negate", desc := "(II)Z" } : Jvm.MethodName)) ∈ lw_all := lw_g (lw_at lw_m1 181 rfl) rfl
theorem q197 : (Jvm.Cond.selects "RangeRules" ({ cls := "RangeRules", name := "negate", desc := "(II)Z" } : Jvm.MethodName) ({ cls := "RangeRules", name := "negate", desc := "(II)Z" } : Jvm.MethodName)) ∈ lw_all := lw_g (lw_at lw_m1 182 rfl) rfl
theorem q198 : (Jvm.Cond.code ({ cls := "RangeRules", name := "negate", desc := "(II)Z" } : Jvm.MethodName) prog_1_method_9_code (3 : Nat) (Option.some Jvm.ClassFile.FieldType.boolean)) ∈ lw_all := lw_g (lw_at lw_m1 183 rfl) rfl
theorem q199 : (Jvm.Cond.methodLink "RangeRules" (54 : Nat) ({ cls := "RangeRules$Arithmetic", name := "negate", desc := "(JJ)V" } : Jvm.MethodName)) ∈ lw_all := lw_g (lw_at lw_m1 184 rfl) rfl
theorem q204 : (Jvm.Cond.instanceMethod ({ cls := "RangeRules", name := "low", desc := "()I" } : Jvm.MethodName)) ∈ lw_all := lw_g (lw_at lw_m1 189 rfl) rfl
theorem q205 : (Jvm.Cond.selects "RangeRules" ({ cls := "RangeRules", name := "low", desc := "()I" } : Jvm.MethodName) ({ cls := "RangeRules", name := "low", desc := "()I" } : Jvm.MethodName)) ∈ lw_all := lw_g (lw_at lw_m1 190 rfl) rfl
theorem q206 : (Jvm.Cond.code ({ cls := "RangeRules", name := "low", desc := "()I" } : Jvm.MethodName) prog_1_method_10_code (1 : Nat) (Option.some Jvm.ClassFile.FieldType.int)) ∈ lw_all := lw_g (lw_at lw_m1 191 rfl) rfl
theorem q208 : (Jvm.Cond.instanceMethod ({ cls := "RangeRules", name := "high", desc := "()I" } : Jvm.MethodName)) ∈ lw_all := lw_g (lw_at lw_m1 193 rfl) rfl
theorem q209 : (Jvm.Cond.selects "RangeRules" ({ cls := "RangeRules", name := "high", desc := "()I" } : Jvm.MethodName) ({ cls := "RangeRules", name := "high", desc := "()I" } : Jvm.MethodName)) ∈ lw_all := lw_g (lw_at lw_m1 194 rfl) rfl
theorem q210 : (Jvm.Cond.code ({ cls := "RangeRules", name := "high", desc := "()I" } : Jvm.MethodName) prog_1_method_11_code (1 : Nat) (Option.some Jvm.ClassFile.FieldType.int)) ∈ lw_all := lw_g (lw_at lw_m1 195 rfl) rfl
theorem in_X0 : ∀ w ∈ wsX00, w ∈ lw_all := lw_in wsX00 [101, 103, 105] (by decide +kernel) (by decide +kernel)
end
section
/-! RangeRules$Arithmetic -/
set_option maxRecDepth 100000
def RX2 : String := "RangeRules$Arithmetic"
def TX2 : u_T := fun k => match k with
  | 0 => ("RangeRules$Arithmetic", "t", "LRangeRules$Thresholds;", true)
  | 1 => ("RangeRules$Arithmetic", "low", "I", false)
  | 2 => ("RangeRules$Arithmetic", "high", "I", false)
  | 3 => ("RangeRules$Arithmetic", "least", "J", false)
  | _ => ("RangeRules$Arithmetic", "greatest", "J", false)
def tyX2 : Nat → FieldType := fun k => match k with
  | 0 => .object "RangeRules$Thresholds"
  | 1 => .int
  | 2 => .int
  | 3 => .long
  | _ => .long
abbrev wsX20 : List Cond := u_ws RX2 TX2 5
theorem nmX2 : ∀ a, a < 5 → ∀ b, b < 5 → a ≠ b → (TX2 a).2.1 ≠ (TX2 b).2.1 := by decide +kernel
theorem tyX2_ok : ∀ k, k < 5 → parseFieldDescriptor (TX2 k).2.2.1 = some (tyX2 k) := by decide +kernel
abbrev cX2_init : ByteArray := prog_2_method_1_code
def yX2_init : MethodName := ⟨RX2, "<init>", "(LRangeRules$Thresholds;)V"⟩
theorem dX2_init_0 : decode cX2_init 0 = .ok (.aload_n 0, 1) := by decide +kernel
theorem dX2_init_1 : decode cX2_init 1 = .ok (.invokespecial 3, 3) := by decide +kernel
theorem dX2_init_4 : decode cX2_init 4 = .ok (.aload_n 0, 1) := by decide +kernel
theorem dX2_init_5 : decode cX2_init 5 = .ok (.aload_n 1, 1) := by decide +kernel
theorem dX2_init_6 : decode cX2_init 6 = .ok (.putfield 9, 3) := by decide +kernel
theorem dX2_init_9 : decode cX2_init 9 = .ok (.return_, 1) := by decide +kernel
abbrev cX2_work : ByteArray := prog_2_method_4_code
def yX2_work : MethodName := ⟨RX2, "work", "(IJJJJ)Z"⟩
theorem dX2_work_0 : decode cX2_work 0 = .ok (.iload_n 1, 1) := by decide +kernel
theorem dX2_work_1 : decode cX2_work 1 = .ok (.tableswitch 137 0 4 #[35, 50, 65, 78, 78], 35) := by decide +kernel
theorem dX2_work_36 : decode cX2_work 36 = .ok (.aload_n 0, 1) := by decide +kernel
theorem dX2_work_37 : decode cX2_work 37 = .ok (.lload_n 2, 1) := by decide +kernel
theorem dX2_work_38 : decode cX2_work 38 = .ok (.lload 6, 2) := by decide +kernel
theorem dX2_work_40 : decode cX2_work 40 = .ok (.ladd, 1) := by decide +kernel
theorem dX2_work_41 : decode cX2_work 41 = .ok (.lload 4, 2) := by decide +kernel
theorem dX2_work_43 : decode cX2_work 43 = .ok (.lload 8, 2) := by decide +kernel
theorem dX2_work_45 : decode cX2_work 45 = .ok (.ladd, 1) := by decide +kernel
theorem dX2_work_46 : decode cX2_work 46 = .ok (.invokevirtual 37, 3) := by decide +kernel
theorem dX2_work_49 : decode cX2_work 49 = .ok (.iconst 1, 1) := by decide +kernel
theorem dX2_work_50 : decode cX2_work 50 = .ok (.ireturn, 1) := by decide +kernel
theorem dX2_work_51 : decode cX2_work 51 = .ok (.aload_n 0, 1) := by decide +kernel
theorem dX2_work_52 : decode cX2_work 52 = .ok (.lload_n 2, 1) := by decide +kernel
theorem dX2_work_53 : decode cX2_work 53 = .ok (.lload 8, 2) := by decide +kernel
theorem dX2_work_55 : decode cX2_work 55 = .ok (.lsub, 1) := by decide +kernel
theorem dX2_work_56 : decode cX2_work 56 = .ok (.lload 4, 2) := by decide +kernel
theorem dX2_work_58 : decode cX2_work 58 = .ok (.lload 6, 2) := by decide +kernel
theorem dX2_work_60 : decode cX2_work 60 = .ok (.lsub, 1) := by decide +kernel
theorem dX2_work_61 : decode cX2_work 61 = .ok (.invokevirtual 37, 3) := by decide +kernel
theorem dX2_work_64 : decode cX2_work 64 = .ok (.iconst 1, 1) := by decide +kernel
theorem dX2_work_65 : decode cX2_work 65 = .ok (.ireturn, 1) := by decide +kernel
theorem dX2_work_66 : decode cX2_work 66 = .ok (.aload_n 0, 1) := by decide +kernel
theorem dX2_work_67 : decode cX2_work 67 = .ok (.lload_n 2, 1) := by decide +kernel
theorem dX2_work_68 : decode cX2_work 68 = .ok (.lload 4, 2) := by decide +kernel
theorem dX2_work_70 : decode cX2_work 70 = .ok (.lload 6, 2) := by decide +kernel
theorem dX2_work_72 : decode cX2_work 72 = .ok (.lload 8, 2) := by decide +kernel
theorem dX2_work_74 : decode cX2_work 74 = .ok (.invokevirtual 41, 3) := by decide +kernel
theorem dX2_work_77 : decode cX2_work 77 = .ok (.iconst 1, 1) := by decide +kernel
theorem dX2_work_78 : decode cX2_work 78 = .ok (.ireturn, 1) := by decide +kernel
theorem dX2_work_79 : decode cX2_work 79 = .ok (.lload 6, 2) := by decide +kernel
theorem dX2_work_81 : decode cX2_work 81 = .ok (.lconst 0, 1) := by decide +kernel
theorem dX2_work_82 : decode cX2_work 82 = .ok (.lcmp, 1) := by decide +kernel
theorem dX2_work_83 : decode cX2_work 83 = .ok (.ifCond .ne 12, 3) := by decide +kernel
theorem dX2_work_86 : decode cX2_work 86 = .ok (.lload 8, 2) := by decide +kernel
theorem dX2_work_88 : decode cX2_work 88 = .ok (.lconst 0, 1) := by decide +kernel
theorem dX2_work_89 : decode cX2_work 89 = .ok (.lcmp, 1) := by decide +kernel
theorem dX2_work_90 : decode cX2_work 90 = .ok (.ifCond .ne 5, 3) := by decide +kernel
theorem dX2_work_93 : decode cX2_work 93 = .ok (.iconst 0, 1) := by decide +kernel
theorem dX2_work_94 : decode cX2_work 94 = .ok (.ireturn, 1) := by decide +kernel
theorem dX2_work_95 : decode cX2_work 95 = .ok (.iload_n 1, 1) := by decide +kernel
theorem dX2_work_96 : decode cX2_work 96 = .ok (.iconst 3, 1) := by decide +kernel
theorem dX2_work_97 : decode cX2_work 97 = .ok (.if_icmp .ne 17, 3) := by decide +kernel
theorem dX2_work_100 : decode cX2_work 100 = .ok (.aload_n 0, 1) := by decide +kernel
theorem dX2_work_101 : decode cX2_work 101 = .ok (.lload_n 2, 1) := by decide +kernel
theorem dX2_work_102 : decode cX2_work 102 = .ok (.lload 4, 2) := by decide +kernel
theorem dX2_work_104 : decode cX2_work 104 = .ok (.lload 6, 2) := by decide +kernel
theorem dX2_work_106 : decode cX2_work 106 = .ok (.lload 8, 2) := by decide +kernel
theorem dX2_work_108 : decode cX2_work 108 = .ok (.invokevirtual 45, 3) := by decide +kernel
theorem dX2_work_111 : decode cX2_work 111 = .ok (.goto 25, 3) := by decide +kernel
theorem dX2_work_114 : decode cX2_work 114 = .ok (.aload_n 0, 1) := by decide +kernel
theorem dX2_work_115 : decode cX2_work 115 = .ok (.lload_n 2, 1) := by decide +kernel
theorem dX2_work_116 : decode cX2_work 116 = .ok (.lload 4, 2) := by decide +kernel
theorem dX2_work_118 : decode cX2_work 118 = .ok (.lload 6, 2) := by decide +kernel
theorem dX2_work_120 : decode cX2_work 120 = .ok (.invokestatic 48, 3) := by decide +kernel
theorem dX2_work_123 : decode cX2_work 123 = .ok (.lload 8, 2) := by decide +kernel
theorem dX2_work_125 : decode cX2_work 125 = .ok (.invokestatic 48, 3) := by decide +kernel
theorem dX2_work_128 : decode cX2_work 128 = .ok (.invokestatic 54, 3) := by decide +kernel
theorem dX2_work_131 : decode cX2_work 131 = .ok (.lconst 1, 1) := by decide +kernel
theorem dX2_work_132 : decode cX2_work 132 = .ok (.lsub, 1) := by decide +kernel
theorem dX2_work_133 : decode cX2_work 133 = .ok (.invokevirtual 58, 3) := by decide +kernel
theorem dX2_work_136 : decode cX2_work 136 = .ok (.iconst 1, 1) := by decide +kernel
theorem dX2_work_137 : decode cX2_work 137 = .ok (.ireturn, 1) := by decide +kernel
theorem dX2_work_138 : decode cX2_work 138 = .ok (.aload_n 0, 1) := by decide +kernel
theorem dX2_work_139 : decode cX2_work 139 = .ok (.iload_n 1, 1) := by decide +kernel
theorem dX2_work_140 : decode cX2_work 140 = .ok (.lload_n 2, 1) := by decide +kernel
theorem dX2_work_141 : decode cX2_work 141 = .ok (.lload 4, 2) := by decide +kernel
theorem dX2_work_143 : decode cX2_work 143 = .ok (.lload 6, 2) := by decide +kernel
theorem dX2_work_145 : decode cX2_work 145 = .ok (.lload 8, 2) := by decide +kernel
theorem dX2_work_147 : decode cX2_work 147 = .ok (.invokevirtual 62, 3) := by decide +kernel
theorem dX2_work_150 : decode cX2_work 150 = .ok (.iconst 1, 1) := by decide +kernel
theorem dX2_work_151 : decode cX2_work 151 = .ok (.ireturn, 1) := by decide +kernel
abbrev cX2_put : ByteArray := prog_2_method_2_code
def yX2_put : MethodName := ⟨RX2, "put", "(JJ)V"⟩
theorem dX2_put_0 : decode cX2_put 0 = .ok (.lload_n 1, 1) := by decide +kernel
theorem dX2_put_1 : decode cX2_put 1 = .ok (.ldc2_w 15, 3) := by decide +kernel
theorem dX2_put_4 : decode cX2_put 4 = .ok (.lcmp, 1) := by decide +kernel
theorem dX2_put_5 : decode cX2_put 5 = .ok (.ifCond .lt 15, 3) := by decide +kernel
theorem dX2_put_8 : decode cX2_put 8 = .ok (.lload_n 3, 1) := by decide +kernel
theorem dX2_put_9 : decode cX2_put 9 = .ok (.ldc2_w 17, 3) := by decide +kernel
theorem dX2_put_12 : decode cX2_put 12 = .ok (.lcmp, 1) := by decide +kernel
theorem dX2_put_13 : decode cX2_put 13 = .ok (.ifCond .gt 7, 3) := by decide +kernel
theorem dX2_put_16 : decode cX2_put 16 = .ok (.iconst 1, 1) := by decide +kernel
theorem dX2_put_17 : decode cX2_put 17 = .ok (.goto 4, 3) := by decide +kernel
theorem dX2_put_20 : decode cX2_put 20 = .ok (.iconst 0, 1) := by decide +kernel
theorem dX2_put_21 : decode cX2_put 21 = .ok (.istore 5, 2) := by decide +kernel
theorem dX2_put_23 : decode cX2_put 23 = .ok (.aload_n 0, 1) := by decide +kernel
theorem dX2_put_24 : decode cX2_put 24 = .ok (.iload 5, 2) := by decide +kernel
theorem dX2_put_26 : decode cX2_put 26 = .ok (.ifCond .eq 14, 3) := by decide +kernel
theorem dX2_put_29 : decode cX2_put 29 = .ok (.aload_n 0, 1) := by decide +kernel
theorem dX2_put_30 : decode cX2_put 30 = .ok (.getfield 9, 3) := by decide +kernel
theorem dX2_put_33 : decode cX2_put 33 = .ok (.lload_n 1, 1) := by decide +kernel
theorem dX2_put_34 : decode cX2_put 34 = .ok (.invokevirtual 19, 3) := by decide +kernel
theorem dX2_put_37 : decode cX2_put 37 = .ok (.goto 5, 3) := by decide +kernel
theorem dX2_put_40 : decode cX2_put 40 = .ok (.ldc 25, 2) := by decide +kernel
theorem dX2_put_42 : decode cX2_put 42 = .ok (.putfield 26, 3) := by decide +kernel
theorem dX2_put_45 : decode cX2_put 45 = .ok (.aload_n 0, 1) := by decide +kernel
theorem dX2_put_46 : decode cX2_put 46 = .ok (.iload 5, 2) := by decide +kernel
theorem dX2_put_48 : decode cX2_put 48 = .ok (.ifCond .eq 14, 3) := by decide +kernel
theorem dX2_put_51 : decode cX2_put 51 = .ok (.aload_n 0, 1) := by decide +kernel
theorem dX2_put_52 : decode cX2_put 52 = .ok (.getfield 9, 3) := by decide +kernel
theorem dX2_put_55 : decode cX2_put 55 = .ok (.lload_n 3, 1) := by decide +kernel
theorem dX2_put_56 : decode cX2_put 56 = .ok (.invokevirtual 30, 3) := by decide +kernel
theorem dX2_put_59 : decode cX2_put 59 = .ok (.goto 5, 3) := by decide +kernel
theorem dX2_put_62 : decode cX2_put 62 = .ok (.ldc 33, 2) := by decide +kernel
theorem dX2_put_64 : decode cX2_put 64 = .ok (.putfield 34, 3) := by decide +kernel
theorem dX2_put_67 : decode cX2_put 67 = .ok (.return_, 1) := by decide +kernel
abbrev cX2_product : ByteArray := prog_2_method_5_code
def yX2_product : MethodName := ⟨RX2, "product", "(JJJJ)V"⟩
theorem dX2_product_0 : decode cX2_product 0 = .ok (.aload_n 0, 1) := by decide +kernel
theorem dX2_product_1 : decode cX2_product 1 = .ok (.lload_n 1, 1) := by decide +kernel
theorem dX2_product_2 : decode cX2_product 2 = .ok (.lload 5, 2) := by decide +kernel
theorem dX2_product_4 : decode cX2_product 4 = .ok (.lmul, 1) := by decide +kernel
theorem dX2_product_5 : decode cX2_product 5 = .ok (.lload_n 1, 1) := by decide +kernel
theorem dX2_product_6 : decode cX2_product 6 = .ok (.lload 7, 2) := by decide +kernel
theorem dX2_product_8 : decode cX2_product 8 = .ok (.lmul, 1) := by decide +kernel
theorem dX2_product_9 : decode cX2_product 9 = .ok (.invokestatic 66, 3) := by decide +kernel
theorem dX2_product_12 : decode cX2_product 12 = .ok (.lload_n 3, 1) := by decide +kernel
theorem dX2_product_13 : decode cX2_product 13 = .ok (.lload 5, 2) := by decide +kernel
theorem dX2_product_15 : decode cX2_product 15 = .ok (.lmul, 1) := by decide +kernel
theorem dX2_product_16 : decode cX2_product 16 = .ok (.lload_n 3, 1) := by decide +kernel
theorem dX2_product_17 : decode cX2_product 17 = .ok (.lload 7, 2) := by decide +kernel
theorem dX2_product_19 : decode cX2_product 19 = .ok (.lmul, 1) := by decide +kernel
theorem dX2_product_20 : decode cX2_product 20 = .ok (.invokestatic 66, 3) := by decide +kernel
theorem dX2_product_23 : decode cX2_product 23 = .ok (.invokestatic 66, 3) := by decide +kernel
theorem dX2_product_26 : decode cX2_product 26 = .ok (.lload_n 1, 1) := by decide +kernel
theorem dX2_product_27 : decode cX2_product 27 = .ok (.lload 5, 2) := by decide +kernel
theorem dX2_product_29 : decode cX2_product 29 = .ok (.lmul, 1) := by decide +kernel
theorem dX2_product_30 : decode cX2_product 30 = .ok (.lload_n 1, 1) := by decide +kernel
theorem dX2_product_31 : decode cX2_product 31 = .ok (.lload 7, 2) := by decide +kernel
theorem dX2_product_33 : decode cX2_product 33 = .ok (.lmul, 1) := by decide +kernel
theorem dX2_product_34 : decode cX2_product 34 = .ok (.invokestatic 54, 3) := by decide +kernel
theorem dX2_product_37 : decode cX2_product 37 = .ok (.lload_n 3, 1) := by decide +kernel
theorem dX2_product_38 : decode cX2_product 38 = .ok (.lload 5, 2) := by decide +kernel
theorem dX2_product_40 : decode cX2_product 40 = .ok (.lmul, 1) := by decide +kernel
theorem dX2_product_41 : decode cX2_product 41 = .ok (.lload_n 3, 1) := by decide +kernel
theorem dX2_product_42 : decode cX2_product 42 = .ok (.lload 7, 2) := by decide +kernel
theorem dX2_product_44 : decode cX2_product 44 = .ok (.lmul, 1) := by decide +kernel
theorem dX2_product_45 : decode cX2_product 45 = .ok (.invokestatic 54, 3) := by decide +kernel
theorem dX2_product_48 : decode cX2_product 48 = .ok (.invokestatic 54, 3) := by decide +kernel
theorem dX2_product_51 : decode cX2_product 51 = .ok (.invokevirtual 37, 3) := by decide +kernel
theorem dX2_product_54 : decode cX2_product 54 = .ok (.return_, 1) := by decide +kernel
abbrev cX2_quotient : ByteArray := prog_2_method_7_code
def yX2_quotient : MethodName := ⟨RX2, "quotient", "(JJJJ)V"⟩
theorem dX2_quotient_0 : decode cX2_quotient 0 = .ok (.aload_n 0, 1) := by decide +kernel
theorem dX2_quotient_1 : decode cX2_quotient 1 = .ok (.ldc2_w 78, 3) := by decide +kernel
theorem dX2_quotient_4 : decode cX2_quotient 4 = .ok (.putfield 69, 3) := by decide +kernel
theorem dX2_quotient_7 : decode cX2_quotient 7 = .ok (.aload_n 0, 1) := by decide +kernel
theorem dX2_quotient_8 : decode cX2_quotient 8 = .ok (.ldc2_w 80, 3) := by decide +kernel
theorem dX2_quotient_11 : decode cX2_quotient 11 = .ok (.putfield 73, 3) := by decide +kernel
theorem dX2_quotient_14 : decode cX2_quotient 14 = .ok (.lload 5, 2) := by decide +kernel
theorem dX2_quotient_16 : decode cX2_quotient 16 = .ok (.lconst 0, 1) := by decide +kernel
theorem dX2_quotient_17 : decode cX2_quotient 17 = .ok (.lcmp, 1) := by decide +kernel
theorem dX2_quotient_18 : decode cX2_quotient 18 = .ok (.ifCond .eq 11, 3) := by decide +kernel
theorem dX2_quotient_21 : decode cX2_quotient 21 = .ok (.aload_n 0, 1) := by decide +kernel
theorem dX2_quotient_22 : decode cX2_quotient 22 = .ok (.lload_n 1, 1) := by decide +kernel
theorem dX2_quotient_23 : decode cX2_quotient 23 = .ok (.lload_n 3, 1) := by decide +kernel
theorem dX2_quotient_24 : decode cX2_quotient 24 = .ok (.lload 5, 2) := by decide +kernel
theorem dX2_quotient_26 : decode cX2_quotient 26 = .ok (.invokevirtual 82, 3) := by decide +kernel
theorem dX2_quotient_29 : decode cX2_quotient 29 = .ok (.lload 7, 2) := by decide +kernel
theorem dX2_quotient_31 : decode cX2_quotient 31 = .ok (.lconst 0, 1) := by decide +kernel
theorem dX2_quotient_32 : decode cX2_quotient 32 = .ok (.lcmp, 1) := by decide +kernel
theorem dX2_quotient_33 : decode cX2_quotient 33 = .ok (.ifCond .eq 11, 3) := by decide +kernel
theorem dX2_quotient_36 : decode cX2_quotient 36 = .ok (.aload_n 0, 1) := by decide +kernel
theorem dX2_quotient_37 : decode cX2_quotient 37 = .ok (.lload_n 1, 1) := by decide +kernel
theorem dX2_quotient_38 : decode cX2_quotient 38 = .ok (.lload_n 3, 1) := by decide +kernel
theorem dX2_quotient_39 : decode cX2_quotient 39 = .ok (.lload 7, 2) := by decide +kernel
theorem dX2_quotient_41 : decode cX2_quotient 41 = .ok (.invokevirtual 82, 3) := by decide +kernel
theorem dX2_quotient_44 : decode cX2_quotient 44 = .ok (.lload 5, 2) := by decide +kernel
theorem dX2_quotient_46 : decode cX2_quotient 46 = .ok (.ldc2_w 85, 3) := by decide +kernel
theorem dX2_quotient_49 : decode cX2_quotient 49 = .ok (.lcmp, 1) := by decide +kernel
theorem dX2_quotient_50 : decode cX2_quotient 50 = .ok (.ifCond .gt 21, 3) := by decide +kernel
theorem dX2_quotient_53 : decode cX2_quotient 53 = .ok (.lload 7, 2) := by decide +kernel
theorem dX2_quotient_55 : decode cX2_quotient 55 = .ok (.ldc2_w 85, 3) := by decide +kernel
theorem dX2_quotient_58 : decode cX2_quotient 58 = .ok (.lcmp, 1) := by decide +kernel
theorem dX2_quotient_59 : decode cX2_quotient 59 = .ok (.ifCond .lt 12, 3) := by decide +kernel
theorem dX2_quotient_62 : decode cX2_quotient 62 = .ok (.aload_n 0, 1) := by decide +kernel
theorem dX2_quotient_63 : decode cX2_quotient 63 = .ok (.lload_n 1, 1) := by decide +kernel
theorem dX2_quotient_64 : decode cX2_quotient 64 = .ok (.lload_n 3, 1) := by decide +kernel
theorem dX2_quotient_65 : decode cX2_quotient 65 = .ok (.ldc2_w 85, 3) := by decide +kernel
theorem dX2_quotient_68 : decode cX2_quotient 68 = .ok (.invokevirtual 82, 3) := by decide +kernel
theorem dX2_quotient_71 : decode cX2_quotient 71 = .ok (.lload 5, 2) := by decide +kernel
theorem dX2_quotient_73 : decode cX2_quotient 73 = .ok (.lconst 1, 1) := by decide +kernel
theorem dX2_quotient_74 : decode cX2_quotient 74 = .ok (.lcmp, 1) := by decide +kernel
theorem dX2_quotient_75 : decode cX2_quotient 75 = .ok (.ifCond .gt 17, 3) := by decide +kernel
theorem dX2_quotient_78 : decode cX2_quotient 78 = .ok (.lload 7, 2) := by decide +kernel
theorem dX2_quotient_80 : decode cX2_quotient 80 = .ok (.lconst 1, 1) := by decide +kernel
theorem dX2_quotient_81 : decode cX2_quotient 81 = .ok (.lcmp, 1) := by decide +kernel
theorem dX2_quotient_82 : decode cX2_quotient 82 = .ok (.ifCond .lt 10, 3) := by decide +kernel
theorem dX2_quotient_85 : decode cX2_quotient 85 = .ok (.aload_n 0, 1) := by decide +kernel
theorem dX2_quotient_86 : decode cX2_quotient 86 = .ok (.lload_n 1, 1) := by decide +kernel
theorem dX2_quotient_87 : decode cX2_quotient 87 = .ok (.lload_n 3, 1) := by decide +kernel
theorem dX2_quotient_88 : decode cX2_quotient 88 = .ok (.lconst 1, 1) := by decide +kernel
theorem dX2_quotient_89 : decode cX2_quotient 89 = .ok (.invokevirtual 82, 3) := by decide +kernel
theorem dX2_quotient_92 : decode cX2_quotient 92 = .ok (.aload_n 0, 1) := by decide +kernel
theorem dX2_quotient_93 : decode cX2_quotient 93 = .ok (.aload_n 0, 1) := by decide +kernel
theorem dX2_quotient_94 : decode cX2_quotient 94 = .ok (.getfield 69, 3) := by decide +kernel
theorem dX2_quotient_97 : decode cX2_quotient 97 = .ok (.aload_n 0, 1) := by decide +kernel
theorem dX2_quotient_98 : decode cX2_quotient 98 = .ok (.getfield 73, 3) := by decide +kernel
theorem dX2_quotient_101 : decode cX2_quotient 101 = .ok (.invokevirtual 37, 3) := by decide +kernel
theorem dX2_quotient_104 : decode cX2_quotient 104 = .ok (.return_, 1) := by decide +kernel
abbrev cX2_divide : ByteArray := prog_2_method_6_code
def yX2_divide : MethodName := ⟨RX2, "divide", "(JJJ)V"⟩
theorem dX2_divide_0 : decode cX2_divide 0 = .ok (.aload_n 0, 1) := by decide +kernel
theorem dX2_divide_1 : decode cX2_divide 1 = .ok (.aload_n 0, 1) := by decide +kernel
theorem dX2_divide_2 : decode cX2_divide 2 = .ok (.getfield 69, 3) := by decide +kernel
theorem dX2_divide_5 : decode cX2_divide 5 = .ok (.lload_n 1, 1) := by decide +kernel
theorem dX2_divide_6 : decode cX2_divide 6 = .ok (.lload 5, 2) := by decide +kernel
theorem dX2_divide_8 : decode cX2_divide 8 = .ok (.ldiv, 1) := by decide +kernel
theorem dX2_divide_9 : decode cX2_divide 9 = .ok (.lload_n 3, 1) := by decide +kernel
theorem dX2_divide_10 : decode cX2_divide 10 = .ok (.lload 5, 2) := by decide +kernel
theorem dX2_divide_12 : decode cX2_divide 12 = .ok (.ldiv, 1) := by decide +kernel
theorem dX2_divide_13 : decode cX2_divide 13 = .ok (.invokestatic 66, 3) := by decide +kernel
theorem dX2_divide_16 : decode cX2_divide 16 = .ok (.invokestatic 66, 3) := by decide +kernel
theorem dX2_divide_19 : decode cX2_divide 19 = .ok (.putfield 69, 3) := by decide +kernel
theorem dX2_divide_22 : decode cX2_divide 22 = .ok (.aload_n 0, 1) := by decide +kernel
theorem dX2_divide_23 : decode cX2_divide 23 = .ok (.aload_n 0, 1) := by decide +kernel
theorem dX2_divide_24 : decode cX2_divide 24 = .ok (.getfield 73, 3) := by decide +kernel
theorem dX2_divide_27 : decode cX2_divide 27 = .ok (.lload_n 1, 1) := by decide +kernel
theorem dX2_divide_28 : decode cX2_divide 28 = .ok (.lload 5, 2) := by decide +kernel
theorem dX2_divide_30 : decode cX2_divide 30 = .ok (.ldiv, 1) := by decide +kernel
theorem dX2_divide_31 : decode cX2_divide 31 = .ok (.lload_n 3, 1) := by decide +kernel
theorem dX2_divide_32 : decode cX2_divide 32 = .ok (.lload 5, 2) := by decide +kernel
theorem dX2_divide_34 : decode cX2_divide 34 = .ok (.ldiv, 1) := by decide +kernel
theorem dX2_divide_35 : decode cX2_divide 35 = .ok (.invokestatic 54, 3) := by decide +kernel
theorem dX2_divide_38 : decode cX2_divide 38 = .ok (.invokestatic 54, 3) := by decide +kernel
theorem dX2_divide_41 : decode cX2_divide 41 = .ok (.putfield 73, 3) := by decide +kernel
theorem dX2_divide_44 : decode cX2_divide 44 = .ok (.return_, 1) := by decide +kernel
abbrev cX2_rest : ByteArray := prog_2_method_8_code
def yX2_rest : MethodName := ⟨RX2, "rest", "(JJJ)V"⟩
theorem dX2_rest_0 : decode cX2_rest 0 = .ok (.lload_n 1, 1) := by decide +kernel
theorem dX2_rest_1 : decode cX2_rest 1 = .ok (.lconst 0, 1) := by decide +kernel
theorem dX2_rest_2 : decode cX2_rest 2 = .ok (.lcmp, 1) := by decide +kernel
theorem dX2_rest_3 : decode cX2_rest 3 = .ok (.ifCond .lt 17, 3) := by decide +kernel
theorem dX2_rest_6 : decode cX2_rest 6 = .ok (.aload_n 0, 1) := by decide +kernel
theorem dX2_rest_7 : decode cX2_rest 7 = .ok (.lconst 0, 1) := by decide +kernel
theorem dX2_rest_8 : decode cX2_rest 8 = .ok (.lload_n 3, 1) := by decide +kernel
theorem dX2_rest_9 : decode cX2_rest 9 = .ok (.lload 5, 2) := by decide +kernel
theorem dX2_rest_11 : decode cX2_rest 11 = .ok (.invokestatic 66, 3) := by decide +kernel
theorem dX2_rest_14 : decode cX2_rest 14 = .ok (.invokevirtual 37, 3) := by decide +kernel
theorem dX2_rest_17 : decode cX2_rest 17 = .ok (.goto 30, 3) := by decide +kernel
theorem dX2_rest_20 : decode cX2_rest 20 = .ok (.aload_n 0, 1) := by decide +kernel
theorem dX2_rest_21 : decode cX2_rest 21 = .ok (.lload_n 1, 1) := by decide +kernel
theorem dX2_rest_22 : decode cX2_rest 22 = .ok (.lload 5, 2) := by decide +kernel
theorem dX2_rest_24 : decode cX2_rest 24 = .ok (.lneg, 1) := by decide +kernel
theorem dX2_rest_25 : decode cX2_rest 25 = .ok (.invokestatic 54, 3) := by decide +kernel
theorem dX2_rest_28 : decode cX2_rest 28 = .ok (.lload_n 3, 1) := by decide +kernel
theorem dX2_rest_29 : decode cX2_rest 29 = .ok (.lconst 0, 1) := by decide +kernel
theorem dX2_rest_30 : decode cX2_rest 30 = .ok (.lcmp, 1) := by decide +kernel
theorem dX2_rest_31 : decode cX2_rest 31 = .ok (.ifCond .gt 7, 3) := by decide +kernel
theorem dX2_rest_34 : decode cX2_rest 34 = .ok (.lconst 0, 1) := by decide +kernel
theorem dX2_rest_35 : decode cX2_rest 35 = .ok (.goto 9, 3) := by decide +kernel
theorem dX2_rest_38 : decode cX2_rest 38 = .ok (.lload_n 3, 1) := by decide +kernel
theorem dX2_rest_39 : decode cX2_rest 39 = .ok (.lload 5, 2) := by decide +kernel
theorem dX2_rest_41 : decode cX2_rest 41 = .ok (.invokestatic 66, 3) := by decide +kernel
theorem dX2_rest_44 : decode cX2_rest 44 = .ok (.invokevirtual 37, 3) := by decide +kernel
theorem dX2_rest_47 : decode cX2_rest 47 = .ok (.return_, 1) := by decide +kernel
abbrev cX2_bits : ByteArray := prog_2_method_9_code
def yX2_bits : MethodName := ⟨RX2, "bits", "(IJJJJ)V"⟩
theorem dX2_bits_0 : decode cX2_bits 0 = .ok (.lload 6, 2) := by decide +kernel
theorem dX2_bits_2 : decode cX2_bits 2 = .ok (.l2i, 1) := by decide +kernel
theorem dX2_bits_3 : decode cX2_bits 3 = .ok (.bipush 31, 2) := by decide +kernel
theorem dX2_bits_5 : decode cX2_bits 5 = .ok (.iand, 1) := by decide +kernel
theorem dX2_bits_6 : decode cX2_bits 6 = .ok (.istore 10, 2) := by decide +kernel
theorem dX2_bits_8 : decode cX2_bits 8 = .ok (.iload_n 1, 1) := by decide +kernel
theorem dX2_bits_9 : decode cX2_bits 9 = .ok (.iconst 5, 1) := by decide +kernel
theorem dX2_bits_10 : decode cX2_bits 10 = .ok (.if_icmp .ne 67, 3) := by decide +kernel
theorem dX2_bits_13 : decode cX2_bits 13 = .ok (.lload_n 2, 1) := by decide +kernel
theorem dX2_bits_14 : decode cX2_bits 14 = .ok (.lconst 0, 1) := by decide +kernel
theorem dX2_bits_15 : decode cX2_bits 15 = .ok (.lcmp, 1) := by decide +kernel
theorem dX2_bits_16 : decode cX2_bits 16 = .ok (.ifCond .ge 23, 3) := by decide +kernel
theorem dX2_bits_19 : decode cX2_bits 19 = .ok (.lload 6, 2) := by decide +kernel
theorem dX2_bits_21 : decode cX2_bits 21 = .ok (.lconst 0, 1) := by decide +kernel
theorem dX2_bits_22 : decode cX2_bits 22 = .ok (.lcmp, 1) := by decide +kernel
theorem dX2_bits_23 : decode cX2_bits 23 = .ok (.ifCond .ge 16, 3) := by decide +kernel
theorem dX2_bits_26 : decode cX2_bits 26 = .ok (.aload_n 0, 1) := by decide +kernel
theorem dX2_bits_27 : decode cX2_bits 27 = .ok (.ldc2_w 15, 3) := by decide +kernel
theorem dX2_bits_30 : decode cX2_bits 30 = .ok (.ldc2_w 17, 3) := by decide +kernel
theorem dX2_bits_33 : decode cX2_bits 33 = .ok (.invokevirtual 37, 3) := by decide +kernel
theorem dX2_bits_36 : decode cX2_bits 36 = .ok (.goto 207, 3) := by decide +kernel
theorem dX2_bits_39 : decode cX2_bits 39 = .ok (.aload_n 0, 1) := by decide +kernel
theorem dX2_bits_40 : decode cX2_bits 40 = .ok (.lconst 0, 1) := by decide +kernel
theorem dX2_bits_41 : decode cX2_bits 41 = .ok (.lload_n 2, 1) := by decide +kernel
theorem dX2_bits_42 : decode cX2_bits 42 = .ok (.lconst 0, 1) := by decide +kernel
theorem dX2_bits_43 : decode cX2_bits 43 = .ok (.lcmp, 1) := by decide +kernel
theorem dX2_bits_44 : decode cX2_bits 44 = .ok (.ifCond .ge 8, 3) := by decide +kernel
theorem dX2_bits_47 : decode cX2_bits 47 = .ok (.lload 8, 2) := by decide +kernel
theorem dX2_bits_49 : decode cX2_bits 49 = .ok (.goto 22, 3) := by decide +kernel
theorem dX2_bits_52 : decode cX2_bits 52 = .ok (.lload 6, 2) := by decide +kernel
theorem dX2_bits_54 : decode cX2_bits 54 = .ok (.lconst 0, 1) := by decide +kernel
theorem dX2_bits_55 : decode cX2_bits 55 = .ok (.lcmp, 1) := by decide +kernel
theorem dX2_bits_56 : decode cX2_bits 56 = .ok (.ifCond .ge 8, 3) := by decide +kernel
theorem dX2_bits_59 : decode cX2_bits 59 = .ok (.lload 4, 2) := by decide +kernel
theorem dX2_bits_61 : decode cX2_bits 61 = .ok (.goto 10, 3) := by decide +kernel
theorem dX2_bits_64 : decode cX2_bits 64 = .ok (.lload 4, 2) := by decide +kernel
theorem dX2_bits_66 : decode cX2_bits 66 = .ok (.lload 8, 2) := by decide +kernel
theorem dX2_bits_68 : decode cX2_bits 68 = .ok (.invokestatic 66, 3) := by decide +kernel
theorem dX2_bits_71 : decode cX2_bits 71 = .ok (.invokevirtual 37, 3) := by decide +kernel
theorem dX2_bits_74 : decode cX2_bits 74 = .ok (.goto 169, 3) := by decide +kernel
theorem dX2_bits_77 : decode cX2_bits 77 = .ok (.iload_n 1, 1) := by decide +kernel
theorem dX2_bits_78 : decode cX2_bits 78 = .ok (.bipush 6, 2) := by decide +kernel
theorem dX2_bits_80 : decode cX2_bits 80 = .ok (.if_icmp .eq 9, 3) := by decide +kernel
theorem dX2_bits_83 : decode cX2_bits 83 = .ok (.iload_n 1, 1) := by decide +kernel
theorem dX2_bits_84 : decode cX2_bits 84 = .ok (.bipush 7, 2) := by decide +kernel
theorem dX2_bits_86 : decode cX2_bits 86 = .ok (.if_icmp .ne 71, 3) := by decide +kernel
theorem dX2_bits_89 : decode cX2_bits 89 = .ok (.lconst 0, 1) := by decide +kernel
theorem dX2_bits_90 : decode cX2_bits 90 = .ok (.lstore 11, 2) := by decide +kernel
theorem dX2_bits_92 : decode cX2_bits 92 = .ok (.lload 11, 2) := by decide +kernel
theorem dX2_bits_94 : decode cX2_bits 94 = .ok (.lload 4, 2) := by decide +kernel
theorem dX2_bits_96 : decode cX2_bits 96 = .ok (.lcmp, 1) := by decide +kernel
theorem dX2_bits_97 : decode cX2_bits 97 = .ok (.ifCond .lt 11, 3) := by decide +kernel
theorem dX2_bits_100 : decode cX2_bits 100 = .ok (.lload 11, 2) := by decide +kernel
theorem dX2_bits_102 : decode cX2_bits 102 = .ok (.lload 8, 2) := by decide +kernel
theorem dX2_bits_104 : decode cX2_bits 104 = .ok (.lcmp, 1) := by decide +kernel
theorem dX2_bits_105 : decode cX2_bits 105 = .ok (.ifCond .ge 16, 3) := by decide +kernel
theorem dX2_bits_108 : decode cX2_bits 108 = .ok (.ldc2_w 87, 3) := by decide +kernel
theorem dX2_bits_111 : decode cX2_bits 111 = .ok (.lload 11, 2) := by decide +kernel
theorem dX2_bits_113 : decode cX2_bits 113 = .ok (.lmul, 1) := by decide +kernel
theorem dX2_bits_114 : decode cX2_bits 114 = .ok (.lconst 1, 1) := by decide +kernel
theorem dX2_bits_115 : decode cX2_bits 115 = .ok (.ladd, 1) := by decide +kernel
theorem dX2_bits_116 : decode cX2_bits 116 = .ok (.lstore 11, 2) := by decide +kernel
theorem dX2_bits_118 : decode cX2_bits 118 = .ok (.goto (-26), 3) := by decide +kernel
theorem dX2_bits_121 : decode cX2_bits 121 = .ok (.lload_n 2, 1) := by decide +kernel
theorem dX2_bits_122 : decode cX2_bits 122 = .ok (.lconst 0, 1) := by decide +kernel
theorem dX2_bits_123 : decode cX2_bits 123 = .ok (.lcmp, 1) := by decide +kernel
theorem dX2_bits_124 : decode cX2_bits 124 = .ok (.ifCond .lt 10, 3) := by decide +kernel
theorem dX2_bits_127 : decode cX2_bits 127 = .ok (.lload 6, 2) := by decide +kernel
theorem dX2_bits_129 : decode cX2_bits 129 = .ok (.lconst 0, 1) := by decide +kernel
theorem dX2_bits_130 : decode cX2_bits 130 = .ok (.lcmp, 1) := by decide +kernel
theorem dX2_bits_131 : decode cX2_bits 131 = .ok (.ifCond .ge 16, 3) := by decide +kernel
theorem dX2_bits_134 : decode cX2_bits 134 = .ok (.aload_n 0, 1) := by decide +kernel
theorem dX2_bits_135 : decode cX2_bits 135 = .ok (.ldc2_w 15, 3) := by decide +kernel
theorem dX2_bits_138 : decode cX2_bits 138 = .ok (.ldc2_w 17, 3) := by decide +kernel
theorem dX2_bits_141 : decode cX2_bits 141 = .ok (.invokevirtual 37, 3) := by decide +kernel
theorem dX2_bits_144 : decode cX2_bits 144 = .ok (.goto 10, 3) := by decide +kernel
theorem dX2_bits_147 : decode cX2_bits 147 = .ok (.aload_n 0, 1) := by decide +kernel
theorem dX2_bits_148 : decode cX2_bits 148 = .ok (.lconst 0, 1) := by decide +kernel
theorem dX2_bits_149 : decode cX2_bits 149 = .ok (.lload 11, 2) := by decide +kernel
theorem dX2_bits_151 : decode cX2_bits 151 = .ok (.invokevirtual 37, 3) := by decide +kernel
theorem dX2_bits_154 : decode cX2_bits 154 = .ok (.goto 89, 3) := by decide +kernel
theorem dX2_bits_157 : decode cX2_bits 157 = .ok (.iload_n 1, 1) := by decide +kernel
theorem dX2_bits_158 : decode cX2_bits 158 = .ok (.bipush 8, 2) := by decide +kernel
theorem dX2_bits_160 : decode cX2_bits 160 = .ok (.if_icmp .ne 42, 3) := by decide +kernel
theorem dX2_bits_163 : decode cX2_bits 163 = .ok (.lload 6, 2) := by decide +kernel
theorem dX2_bits_165 : decode cX2_bits 165 = .ok (.lload 8, 2) := by decide +kernel
theorem dX2_bits_167 : decode cX2_bits 167 = .ok (.lcmp, 1) := by decide +kernel
theorem dX2_bits_168 : decode cX2_bits 168 = .ok (.ifCond .ne 21, 3) := by decide +kernel
theorem dX2_bits_171 : decode cX2_bits 171 = .ok (.aload_n 0, 1) := by decide +kernel
theorem dX2_bits_172 : decode cX2_bits 172 = .ok (.lload_n 2, 1) := by decide +kernel
theorem dX2_bits_173 : decode cX2_bits 173 = .ok (.lload 4, 2) := by decide +kernel
theorem dX2_bits_175 : decode cX2_bits 175 = .ok (.lconst 1, 1) := by decide +kernel
theorem dX2_bits_176 : decode cX2_bits 176 = .ok (.iload 10, 2) := by decide +kernel
theorem dX2_bits_178 : decode cX2_bits 178 = .ok (.lshl, 1) := by decide +kernel
theorem dX2_bits_179 : decode cX2_bits 179 = .ok (.lconst 1, 1) := by decide +kernel
theorem dX2_bits_180 : decode cX2_bits 180 = .ok (.iload 10, 2) := by decide +kernel
theorem dX2_bits_182 : decode cX2_bits 182 = .ok (.lshl, 1) := by decide +kernel
theorem dX2_bits_183 : decode cX2_bits 183 = .ok (.invokevirtual 41, 3) := by decide +kernel
theorem dX2_bits_186 : decode cX2_bits 186 = .ok (.goto 57, 3) := by decide +kernel
theorem dX2_bits_189 : decode cX2_bits 189 = .ok (.aload_n 0, 1) := by decide +kernel
theorem dX2_bits_190 : decode cX2_bits 190 = .ok (.ldc2_w 15, 3) := by decide +kernel
theorem dX2_bits_193 : decode cX2_bits 193 = .ok (.ldc2_w 17, 3) := by decide +kernel
theorem dX2_bits_196 : decode cX2_bits 196 = .ok (.invokevirtual 37, 3) := by decide +kernel
theorem dX2_bits_199 : decode cX2_bits 199 = .ok (.goto 44, 3) := by decide +kernel
theorem dX2_bits_202 : decode cX2_bits 202 = .ok (.lload 6, 2) := by decide +kernel
theorem dX2_bits_204 : decode cX2_bits 204 = .ok (.lload 8, 2) := by decide +kernel
theorem dX2_bits_206 : decode cX2_bits 206 = .ok (.lcmp, 1) := by decide +kernel
theorem dX2_bits_207 : decode cX2_bits 207 = .ok (.ifCond .ne 19, 3) := by decide +kernel
theorem dX2_bits_210 : decode cX2_bits 210 = .ok (.aload_n 0, 1) := by decide +kernel
theorem dX2_bits_211 : decode cX2_bits 211 = .ok (.lload_n 2, 1) := by decide +kernel
theorem dX2_bits_212 : decode cX2_bits 212 = .ok (.iload 10, 2) := by decide +kernel
theorem dX2_bits_214 : decode cX2_bits 214 = .ok (.lshr, 1) := by decide +kernel
theorem dX2_bits_215 : decode cX2_bits 215 = .ok (.lload 4, 2) := by decide +kernel
theorem dX2_bits_217 : decode cX2_bits 217 = .ok (.iload 10, 2) := by decide +kernel
theorem dX2_bits_219 : decode cX2_bits 219 = .ok (.lshr, 1) := by decide +kernel
theorem dX2_bits_220 : decode cX2_bits 220 = .ok (.invokevirtual 37, 3) := by decide +kernel
theorem dX2_bits_223 : decode cX2_bits 223 = .ok (.goto 20, 3) := by decide +kernel
theorem dX2_bits_226 : decode cX2_bits 226 = .ok (.aload_n 0, 1) := by decide +kernel
theorem dX2_bits_227 : decode cX2_bits 227 = .ok (.lload_n 2, 1) := by decide +kernel
theorem dX2_bits_228 : decode cX2_bits 228 = .ok (.lconst 0, 1) := by decide +kernel
theorem dX2_bits_229 : decode cX2_bits 229 = .ok (.invokestatic 66, 3) := by decide +kernel
theorem dX2_bits_232 : decode cX2_bits 232 = .ok (.lload 4, 2) := by decide +kernel
theorem dX2_bits_234 : decode cX2_bits 234 = .ok (.ldc2_w 85, 3) := by decide +kernel
theorem dX2_bits_237 : decode cX2_bits 237 = .ok (.invokestatic 54, 3) := by decide +kernel
theorem dX2_bits_240 : decode cX2_bits 240 = .ok (.invokevirtual 37, 3) := by decide +kernel
theorem dX2_bits_243 : decode cX2_bits 243 = .ok (.return_, 1) := by decide +kernel
abbrev cX2_negate : ByteArray := prog_2_method_3_code
def yX2_negate : MethodName := ⟨RX2, "negate", "(JJ)V"⟩
theorem dX2_negate_0 : decode cX2_negate 0 = .ok (.aload_n 0, 1) := by decide +kernel
theorem dX2_negate_1 : decode cX2_negate 1 = .ok (.lload_n 3, 1) := by decide +kernel
theorem dX2_negate_2 : decode cX2_negate 2 = .ok (.lneg, 1) := by decide +kernel
theorem dX2_negate_3 : decode cX2_negate 3 = .ok (.lload_n 1, 1) := by decide +kernel
theorem dX2_negate_4 : decode cX2_negate 4 = .ok (.lneg, 1) := by decide +kernel
theorem dX2_negate_5 : decode cX2_negate 5 = .ok (.invokevirtual 37, 3) := by decide +kernel
theorem dX2_negate_8 : decode cX2_negate 8 = .ok (.return_, 1) := by decide +kernel
theorem q18 : (Jvm.Cond.initialized "RangeRules$Arithmetic") ∈ lw_all := lw_g (lw_at lw_m1 3 rfl) rfl
theorem q47 : (Jvm.Cond.instantiable "RangeRules$Arithmetic" (5 : Nat)) ∈ lw_all := lw_g (lw_at lw_m1 32 rfl) rfl
theorem q49 : (Jvm.Cond.instanceMethod ({ cls := "RangeRules$Arithmetic", name := "<init>", desc := "(LRangeRules$Thresholds;)V" } : Jvm.MethodName)) ∈ lw_all := lw_g (lw_at lw_m1 34 rfl) rfl
theorem q50 : (Jvm.Cond.code ({ cls := "RangeRules$Arithmetic", name := "<init>", desc := "(LRangeRules$Thresholds;)V" } : Jvm.MethodName) prog_2_method_1_code (2 : Nat) (Option.none : Option Jvm.ClassFile.FieldType)) ∈ lw_all := lw_g (lw_at lw_m1 35 rfl) rfl
theorem q51 : (Jvm.Cond.methodLink "RangeRules$Arithmetic" (3 : Nat) ({ cls := "java/lang/Object", name := "<init>", desc := "()V" } : Jvm.MethodName)) ∈ lw_all := lw_g (lw_at lw_m1 36 rfl) rfl
theorem q52 : (Jvm.Cond.fieldLink "RangeRules$Arithmetic" (9 : Nat) "RangeRules$Arithmetic" "t" "LRangeRules$Thresholds;") ∈ lw_all := lw_g (lw_at lw_m1 37 rfl) rfl
theorem q53 : (Jvm.Cond.fieldLink "RangeRules$Arithmetic" (26 : Nat) "RangeRules$Arithmetic" "low" "I") ∈ lw_all := lw_g (lw_at lw_m1 38 rfl) rfl
theorem q55 : (Jvm.Cond.fieldLink "RangeRules$Arithmetic" (34 : Nat) "RangeRules$Arithmetic" "high" "I") ∈ lw_all := lw_g (lw_at lw_m1 40 rfl) rfl
theorem q57 : (Jvm.Cond.fieldLink "RangeRules$Arithmetic" (69 : Nat) "RangeRules$Arithmetic" "least" "J") ∈ lw_all := lw_g (lw_at lw_m1 42 rfl) rfl
theorem q58 : (Jvm.Cond.fieldLink "RangeRules$Arithmetic" (73 : Nat) "RangeRules$Arithmetic" "greatest" "J") ∈ lw_all := lw_g (lw_at lw_m1 43 rfl) rfl
theorem q59 : (Jvm.Cond.laysFinal "RangeRules$Arithmetic" "RangeRules$Arithmetic" "t" "LRangeRules$Thresholds;") ∈ lw_all := lw_g (lw_at lw_m1 44 rfl) rfl
theorem q60 : (Jvm.Cond.soleField "RangeRules$Arithmetic" "t") ∈ lw_all := lw_g (lw_at lw_m1 45 rfl) rfl
theorem q61 : (Jvm.Cond.lays "RangeRules$Arithmetic" "RangeRules$Arithmetic" "low" "I") ∈ lw_all := lw_g (lw_at lw_m1 46 rfl) rfl
theorem q62 : (Jvm.Cond.soleField "RangeRules$Arithmetic" "low") ∈ lw_all := lw_g (lw_at lw_m1 47 rfl) rfl
theorem q63 : (Jvm.Cond.lays "RangeRules$Arithmetic" "RangeRules$Arithmetic" "high" "I") ∈ lw_all := lw_g (lw_at lw_m1 48 rfl) rfl
theorem q64 : (Jvm.Cond.soleField "RangeRules$Arithmetic" "high") ∈ lw_all := lw_g (lw_at lw_m1 49 rfl) rfl
theorem q65 : (Jvm.Cond.lays "RangeRules$Arithmetic" "RangeRules$Arithmetic" "least" "J") ∈ lw_all := lw_g (lw_at lw_m1 50 rfl) rfl
theorem q66 : (Jvm.Cond.soleField "RangeRules$Arithmetic" "least") ∈ lw_all := lw_g (lw_at lw_m1 51 rfl) rfl
theorem q67 : (Jvm.Cond.lays "RangeRules$Arithmetic" "RangeRules$Arithmetic" "greatest" "J") ∈ lw_all := lw_g (lw_at lw_m1 52 rfl) rfl
theorem q68 : (Jvm.Cond.soleField "RangeRules$Arithmetic" "greatest") ∈ lw_all := lw_g (lw_at lw_m1 53 rfl) rfl
theorem q69 : (Jvm.Cond.superclass "RangeRules$Arithmetic" "java/lang/Object") ∈ lw_all := lw_g (lw_at lw_m1 54 rfl) rfl
theorem q149 : (Jvm.Cond.instanceMethod ({ cls := "RangeRules$Arithmetic", name := "work", desc := "(IJJJJ)Z" } : Jvm.MethodName)) ∈ lw_all := lw_g (lw_at lw_m1 134 rfl) rfl
theorem q150 : (Jvm.Cond.selects "RangeRules$Arithmetic" ({ cls := "RangeRules$Arithmetic", name := "work", desc := "(IJJJJ)Z" } : Jvm.MethodName) ({ cls := "RangeRules$Arithmetic", name := "work", desc := "(IJJJJ)Z" } : Jvm.MethodName)) ∈ lw_all := lw_g (lw_at lw_m1 135 rfl) rfl
theorem q151 : (Jvm.Cond.code ({ cls := "RangeRules$Arithmetic", name := "work", desc := "(IJJJJ)Z" } : Jvm.MethodName) prog_2_method_4_code (10 : Nat) (Option.some Jvm.ClassFile.FieldType.boolean)) ∈ lw_all := lw_g (lw_at lw_m1 136 rfl) rfl
theorem q152 : (Jvm.Cond.methodLink "RangeRules$Arithmetic" (37 : Nat) ({ cls := "RangeRules$Arithmetic", name := "put", desc := "(JJ)V" } : Jvm.MethodName)) ∈ lw_all := lw_g (lw_at lw_m1 137 rfl) rfl
theorem q153 : (Jvm.Cond.privateMethod ({ cls := "RangeRules$Arithmetic", name := "put", desc := "(JJ)V" } : Jvm.MethodName)) ∈ lw_tbl := lw_at lw_m1 138 rfl
theorem q154 : (Jvm.Cond.instanceMethod ({ cls := "RangeRules$Arithmetic", name := "put", desc := "(JJ)V" } : Jvm.MethodName)) ∈ lw_all := lw_g (lw_at lw_m1 139 rfl) rfl
theorem q155 : (Jvm.Cond.code ({ cls := "RangeRules$Arithmetic", name := "put", desc := "(JJ)V" } : Jvm.MethodName) prog_2_method_2_code (6 : Nat) (Option.none : Option Jvm.ClassFile.FieldType)) ∈ lw_all := lw_g (lw_at lw_m1 140 rfl) rfl
theorem q156 : (Jvm.Cond.constantLong "RangeRules$Arithmetic" (15 : Nat) (-2147483648 : Int64)) ∈ lw_all := lw_g (lw_at lw_m1 141 rfl) rfl
theorem q157 : (Jvm.Cond.constantLong "RangeRules$Arithmetic" (17 : Nat) (2147483647 : Int64)) ∈ lw_all := lw_g (lw_at lw_m1 142 rfl) rfl
theorem q158 : (Jvm.Cond.methodLink "RangeRules$Arithmetic" (19 : Nat) ({ cls := "RangeRules$Thresholds", name := "down", desc := "(J)I" } : Jvm.MethodName)) ∈ lw_all := lw_g (lw_at lw_m1 143 rfl) rfl
theorem q159 : (Jvm.Cond.constant "RangeRules$Arithmetic" (25 : Nat) (-2147483648 : Int32)) ∈ lw_all := lw_g (lw_at lw_m1 144 rfl) rfl
theorem q160 : (Jvm.Cond.methodLink "RangeRules$Arithmetic" (30 : Nat) ({ cls := "RangeRules$Thresholds", name := "up", desc := "(J)I" } : Jvm.MethodName)) ∈ lw_all := lw_g (lw_at lw_m1 145 rfl) rfl
theorem q161 : (Jvm.Cond.constant "RangeRules$Arithmetic" (33 : Nat) (2147483647 : Int32)) ∈ lw_all := lw_g (lw_at lw_m1 146 rfl) rfl
theorem q162 : (Jvm.Cond.methodLink "RangeRules$Arithmetic" (41 : Nat) ({ cls := "RangeRules$Arithmetic", name := "product", desc := "(JJJJ)V" } : Jvm.MethodName)) ∈ lw_all := lw_g (lw_at lw_m1 147 rfl) rfl
theorem q163 : (Jvm.Cond.privateMethod ({ cls := "RangeRules$Arithmetic", name := "product", desc := "(JJJJ)V" } : Jvm.MethodName)) ∈ lw_tbl := lw_at lw_m1 148 rfl
theorem q164 : (Jvm.Cond.instanceMethod ({ cls := "RangeRules$Arithmetic", name := "product", desc := "(JJJJ)V" } : Jvm.MethodName)) ∈ lw_all := lw_g (lw_at lw_m1 149 rfl) rfl
theorem q165 : (Jvm.Cond.code ({ cls := "RangeRules$Arithmetic", name := "product", desc := "(JJJJ)V" } : Jvm.MethodName) prog_2_method_5_code (9 : Nat) (Option.none : Option Jvm.ClassFile.FieldType)) ∈ lw_all := lw_g (lw_at lw_m1 150 rfl) rfl
theorem q166 : (Jvm.Cond.methodLink "RangeRules$Arithmetic" (66 : Nat) ({ cls := "java/lang/Math", name := "min", desc := "(JJ)J" } : Jvm.MethodName)) ∈ lw_all := lw_g (lw_at lw_m1 151 rfl) rfl
theorem q169 : (Jvm.Cond.methodLink "RangeRules$Arithmetic" (54 : Nat) ({ cls := "java/lang/Math", name := "max", desc := "(JJ)J" } : Jvm.MethodName)) ∈ lw_all := lw_g (lw_at lw_m1 154 rfl) rfl
theorem q172 : (Jvm.Cond.methodLink "RangeRules$Arithmetic" (45 : Nat) ({ cls := "RangeRules$Arithmetic", name := "quotient", desc := "(JJJJ)V" } : Jvm.MethodName)) ∈ lw_all := lw_g (lw_at lw_m1 157 rfl) rfl
theorem q173 : (Jvm.Cond.privateMethod ({ cls := "RangeRules$Arithmetic", name := "quotient", desc := "(JJJJ)V" } : Jvm.MethodName)) ∈ lw_tbl := lw_at lw_m1 158 rfl
theorem q174 : (Jvm.Cond.instanceMethod ({ cls := "RangeRules$Arithmetic", name := "quotient", desc := "(JJJJ)V" } : Jvm.MethodName)) ∈ lw_all := lw_g (lw_at lw_m1 159 rfl) rfl
theorem q175 : (Jvm.Cond.code ({ cls := "RangeRules$Arithmetic", name := "quotient", desc := "(JJJJ)V" } : Jvm.MethodName) prog_2_method_7_code (9 : Nat) (Option.none : Option Jvm.ClassFile.FieldType)) ∈ lw_all := lw_g (lw_at lw_m1 160 rfl) rfl
theorem q176 : (Jvm.Cond.constantLong "RangeRules$Arithmetic" (78 : Nat) (9223372036854775807 : Int64)) ∈ lw_all := lw_g (lw_at lw_m1 161 rfl) rfl
theorem q177 : (Jvm.Cond.constantLong "RangeRules$Arithmetic" (80 : Nat) (-9223372036854775808 : Int64)) ∈ lw_all := lw_g (lw_at lw_m1 162 rfl) rfl
theorem q178 : (Jvm.Cond.methodLink "RangeRules$Arithmetic" (82 : Nat) ({ cls := "RangeRules$Arithmetic", name := "divide", desc := "(JJJ)V" } : Jvm.MethodName)) ∈ lw_all := lw_g (lw_at lw_m1 163 rfl) rfl
theorem q179 : (Jvm.Cond.privateMethod ({ cls := "RangeRules$Arithmetic", name := "divide", desc := "(JJJ)V" } : Jvm.MethodName)) ∈ lw_tbl := lw_at lw_m1 164 rfl
theorem q180 : (Jvm.Cond.instanceMethod ({ cls := "RangeRules$Arithmetic", name := "divide", desc := "(JJJ)V" } : Jvm.MethodName)) ∈ lw_all := lw_g (lw_at lw_m1 165 rfl) rfl
theorem q181 : (Jvm.Cond.code ({ cls := "RangeRules$Arithmetic", name := "divide", desc := "(JJJ)V" } : Jvm.MethodName) prog_2_method_6_code (7 : Nat) (Option.none : Option Jvm.ClassFile.FieldType)) ∈ lw_all := lw_g (lw_at lw_m1 166 rfl) rfl
theorem q182 : (Jvm.Cond.constantLong "RangeRules$Arithmetic" (85 : Nat) (-1 : Int64)) ∈ lw_all := lw_g (lw_at lw_m1 167 rfl) rfl
theorem q183 : (Jvm.Cond.methodLink "RangeRules$Arithmetic" (48 : Nat) ({ cls := "java/lang/Math", name := "abs", desc := "(J)J" } : Jvm.MethodName)) ∈ lw_all := lw_g (lw_at lw_m1 168 rfl) rfl
theorem q186 : (Jvm.Cond.methodLink "RangeRules$Arithmetic" (58 : Nat) ({ cls := "RangeRules$Arithmetic", name := "rest", desc := "(JJJ)V" } : Jvm.MethodName)) ∈ lw_all := lw_g (lw_at lw_m1 171 rfl) rfl
theorem q187 : (Jvm.Cond.privateMethod ({ cls := "RangeRules$Arithmetic", name := "rest", desc := "(JJJ)V" } : Jvm.MethodName)) ∈ lw_tbl := lw_at lw_m1 172 rfl
theorem q188 : (Jvm.Cond.instanceMethod ({ cls := "RangeRules$Arithmetic", name := "rest", desc := "(JJJ)V" } : Jvm.MethodName)) ∈ lw_all := lw_g (lw_at lw_m1 173 rfl) rfl
theorem q189 : (Jvm.Cond.code ({ cls := "RangeRules$Arithmetic", name := "rest", desc := "(JJJ)V" } : Jvm.MethodName) prog_2_method_8_code (7 : Nat) (Option.none : Option Jvm.ClassFile.FieldType)) ∈ lw_all := lw_g (lw_at lw_m1 174 rfl) rfl
theorem q190 : (Jvm.Cond.methodLink "RangeRules$Arithmetic" (62 : Nat) ({ cls := "RangeRules$Arithmetic", name := "bits", desc := "(IJJJJ)V" } : Jvm.MethodName)) ∈ lw_all := lw_g (lw_at lw_m1 175 rfl) rfl
theorem q191 : (Jvm.Cond.privateMethod ({ cls := "RangeRules$Arithmetic", name := "bits", desc := "(IJJJJ)V" } : Jvm.MethodName)) ∈ lw_tbl := lw_at lw_m1 176 rfl
theorem q192 : (Jvm.Cond.instanceMethod ({ cls := "RangeRules$Arithmetic", name := "bits", desc := "(IJJJJ)V" } : Jvm.MethodName)) ∈ lw_all := lw_g (lw_at lw_m1 177 rfl) rfl
theorem q193 : (Jvm.Cond.code ({ cls := "RangeRules$Arithmetic", name := "bits", desc := "(IJJJJ)V" } : Jvm.MethodName) prog_2_method_9_code (13 : Nat) (Option.none : Option Jvm.ClassFile.FieldType)) ∈ lw_all := lw_g (lw_at lw_m1 178 rfl) rfl
theorem q194 : (Jvm.Cond.constantLong "RangeRules$Arithmetic" (87 : Nat) (2 : Int64)) ∈ lw_all := lw_g (lw_at lw_m1 179 rfl) rfl
theorem q200 : (Jvm.Cond.instanceMethod ({ cls := "RangeRules$Arithmetic", name := "negate", desc := "(JJ)V" } : Jvm.MethodName)) ∈ lw_all := lw_g (lw_at lw_m1 185 rfl) rfl
theorem q201 : (Jvm.Cond.selects "RangeRules$Arithmetic" ({ cls := "RangeRules$Arithmetic", name := "negate", desc := "(JJ)V" } : Jvm.MethodName) ({ cls := "RangeRules$Arithmetic", name := "negate", desc := "(JJ)V" } : Jvm.MethodName)) ∈ lw_all := lw_g (lw_at lw_m1 186 rfl) rfl
theorem q202 : (Jvm.Cond.code ({ cls := "RangeRules$Arithmetic", name := "negate", desc := "(JJ)V" } : Jvm.MethodName) prog_2_method_3_code (5 : Nat) (Option.none : Option Jvm.ClassFile.FieldType)) ∈ lw_all := lw_g (lw_at lw_m1 187 rfl) rfl
theorem in_X2 : ∀ w ∈ wsX20, w ∈ lw_all := lw_in wsX20 [59, 61, 63, 65, 67] (by decide +kernel) (by decide +kernel)
end
section
/-! RangeRulesModel -/
set_option maxRecDepth 100000
def RX3 : String := "RangeRulesModel"
def TX3 : u_T := fun k => match k with
  | 0 => ("RangeRulesModel", "threshold", "[I", true)
  | 1 => ("RangeRulesModel", "thresholds", "I", false)
  | 2 => ("RangeRulesModel", "times", "I", false)
  | 3 => ("RangeRulesModel", "low", "I", false)
  | _ => ("RangeRulesModel", "high", "I", false)
def tyX3 : Nat → FieldType := fun k => match k with
  | 0 => .array .int
  | 1 => .int
  | 2 => .int
  | 3 => .int
  | _ => .int
abbrev wsX30 : List Cond := u_ws RX3 TX3 5
theorem nmX3 : ∀ a, a < 5 → ∀ b, b < 5 → a ≠ b → (TX3 a).2.1 ≠ (TX3 b).2.1 := by decide +kernel
theorem tyX3_ok : ∀ k, k < 5 → parseFieldDescriptor (TX3 k).2.2.1 = some (tyX3 k) := by decide +kernel
abbrev cX3_init : ByteArray := prog_5_method_1_code
def yX3_init : MethodName := ⟨RX3, "<init>", "()V"⟩
theorem dX3_init_0 : decode cX3_init 0 = .ok (.aload_n 0, 1) := by decide +kernel
theorem dX3_init_1 : decode cX3_init 1 = .ok (.invokespecial 1, 3) := by decide +kernel
theorem dX3_init_4 : decode cX3_init 4 = .ok (.aload_n 0, 1) := by decide +kernel
theorem dX3_init_5 : decode cX3_init 5 = .ok (.sipush 187, 3) := by decide +kernel
theorem dX3_init_8 : decode cX3_init 8 = .ok (.newarray .int, 2) := by decide +kernel
theorem dX3_init_10 : decode cX3_init 10 = .ok (.putfield 9, 3) := by decide +kernel
theorem dX3_init_13 : decode cX3_init 13 = .ok (.aload_n 0, 1) := by decide +kernel
theorem dX3_init_14 : decode cX3_init 14 = .ok (.invokevirtual 13, 3) := by decide +kernel
theorem dX3_init_17 : decode cX3_init 17 = .ok (.return_, 1) := by decide +kernel
abbrev cX3_clear : ByteArray := prog_5_method_3_code
def yX3_clear : MethodName := ⟨RX3, "clear", "()V"⟩
theorem dX3_clear_0 : decode cX3_clear 0 = .ok (.aload_n 0, 1) := by decide +kernel
theorem dX3_clear_1 : decode cX3_clear 1 = .ok (.iconst 0, 1) := by decide +kernel
theorem dX3_clear_2 : decode cX3_clear 2 = .ok (.putfield 16, 3) := by decide +kernel
theorem dX3_clear_5 : decode cX3_clear 5 = .ok (.aload_n 0, 1) := by decide +kernel
theorem dX3_clear_6 : decode cX3_clear 6 = .ok (.iconst 0, 1) := by decide +kernel
theorem dX3_clear_7 : decode cX3_clear 7 = .ok (.putfield 20, 3) := by decide +kernel
theorem dX3_clear_10 : decode cX3_clear 10 = .ok (.aload_n 0, 1) := by decide +kernel
theorem dX3_clear_11 : decode cX3_clear 11 = .ok (.ldc2_w 23, 3) := by decide +kernel
theorem dX3_clear_14 : decode cX3_clear 14 = .ok (.invokevirtual 25, 3) := by decide +kernel
theorem dX3_clear_17 : decode cX3_clear 17 = .ok (.aload_n 0, 1) := by decide +kernel
theorem dX3_clear_18 : decode cX3_clear 18 = .ok (.ldc2_w 29, 3) := by decide +kernel
theorem dX3_clear_21 : decode cX3_clear 21 = .ok (.invokevirtual 25, 3) := by decide +kernel
theorem dX3_clear_24 : decode cX3_clear 24 = .ok (.iconst (-1), 1) := by decide +kernel
theorem dX3_clear_25 : decode cX3_clear 25 = .ok (.istore_n 1, 1) := by decide +kernel
theorem dX3_clear_26 : decode cX3_clear 26 = .ok (.iload_n 1, 1) := by decide +kernel
theorem dX3_clear_27 : decode cX3_clear 27 = .ok (.iconst 2, 1) := by decide +kernel
theorem dX3_clear_28 : decode cX3_clear 28 = .ok (.if_icmp .ge 15, 3) := by decide +kernel
theorem dX3_clear_31 : decode cX3_clear 31 = .ok (.aload_n 0, 1) := by decide +kernel
theorem dX3_clear_32 : decode cX3_clear 32 = .ok (.iload_n 1, 1) := by decide +kernel
theorem dX3_clear_33 : decode cX3_clear 33 = .ok (.i2l, 1) := by decide +kernel
theorem dX3_clear_34 : decode cX3_clear 34 = .ok (.invokevirtual 25, 3) := by decide +kernel
theorem dX3_clear_37 : decode cX3_clear 37 = .ok (.iinc 1 1, 3) := by decide +kernel
theorem dX3_clear_40 : decode cX3_clear 40 = .ok (.goto (-14), 3) := by decide +kernel
theorem dX3_clear_43 : decode cX3_clear 43 = .ok (.aload_n 0, 1) := by decide +kernel
theorem dX3_clear_44 : decode cX3_clear 44 = .ok (.ldc2_w 31, 3) := by decide +kernel
theorem dX3_clear_47 : decode cX3_clear 47 = .ok (.invokevirtual 25, 3) := by decide +kernel
theorem dX3_clear_50 : decode cX3_clear 50 = .ok (.aload_n 0, 1) := by decide +kernel
theorem dX3_clear_51 : decode cX3_clear 51 = .ok (.ldc2_w 33, 3) := by decide +kernel
theorem dX3_clear_54 : decode cX3_clear 54 = .ok (.invokevirtual 25, 3) := by decide +kernel
theorem dX3_clear_57 : decode cX3_clear 57 = .ok (.return_, 1) := by decide +kernel
abbrev cX3_add : ByteArray := prog_5_method_4_code
def yX3_add : MethodName := ⟨RX3, "add", "(J)V"⟩
theorem dX3_add_0 : decode cX3_add 0 = .ok (.lload_n 1, 1) := by decide +kernel
theorem dX3_add_1 : decode cX3_add 1 = .ok (.ldc2_w 23, 3) := by decide +kernel
theorem dX3_add_4 : decode cX3_add 4 = .ok (.lcmp, 1) := by decide +kernel
theorem dX3_add_5 : decode cX3_add 5 = .ok (.ifCond .lt 11, 3) := by decide +kernel
theorem dX3_add_8 : decode cX3_add 8 = .ok (.lload_n 1, 1) := by decide +kernel
theorem dX3_add_9 : decode cX3_add 9 = .ok (.ldc2_w 33, 3) := by decide +kernel
theorem dX3_add_12 : decode cX3_add 12 = .ok (.lcmp, 1) := by decide +kernel
theorem dX3_add_13 : decode cX3_add 13 = .ok (.ifCond .le 4, 3) := by decide +kernel
theorem dX3_add_16 : decode cX3_add 16 = .ok (.return_, 1) := by decide +kernel
theorem dX3_add_17 : decode cX3_add 17 = .ok (.iconst 0, 1) := by decide +kernel
theorem dX3_add_18 : decode cX3_add 18 = .ok (.istore_n 3, 1) := by decide +kernel
theorem dX3_add_19 : decode cX3_add 19 = .ok (.iload_n 3, 1) := by decide +kernel
theorem dX3_add_20 : decode cX3_add 20 = .ok (.aload_n 0, 1) := by decide +kernel
theorem dX3_add_21 : decode cX3_add 21 = .ok (.getfield 20, 3) := by decide +kernel
theorem dX3_add_24 : decode cX3_add 24 = .ok (.if_icmp .ge 22, 3) := by decide +kernel
theorem dX3_add_27 : decode cX3_add 27 = .ok (.aload_n 0, 1) := by decide +kernel
theorem dX3_add_28 : decode cX3_add 28 = .ok (.getfield 9, 3) := by decide +kernel
theorem dX3_add_31 : decode cX3_add 31 = .ok (.iload_n 3, 1) := by decide +kernel
theorem dX3_add_32 : decode cX3_add 32 = .ok (.iaload, 1) := by decide +kernel
theorem dX3_add_33 : decode cX3_add 33 = .ok (.i2l, 1) := by decide +kernel
theorem dX3_add_34 : decode cX3_add 34 = .ok (.lload_n 1, 1) := by decide +kernel
theorem dX3_add_35 : decode cX3_add 35 = .ok (.lcmp, 1) := by decide +kernel
theorem dX3_add_36 : decode cX3_add 36 = .ok (.ifCond .ne 4, 3) := by decide +kernel
theorem dX3_add_39 : decode cX3_add 39 = .ok (.return_, 1) := by decide +kernel
theorem dX3_add_40 : decode cX3_add 40 = .ok (.iinc 3 1, 3) := by decide +kernel
theorem dX3_add_43 : decode cX3_add 43 = .ok (.goto (-24), 3) := by decide +kernel
theorem dX3_add_46 : decode cX3_add 46 = .ok (.aload_n 0, 1) := by decide +kernel
theorem dX3_add_47 : decode cX3_add 47 = .ok (.getfield 9, 3) := by decide +kernel
theorem dX3_add_50 : decode cX3_add 50 = .ok (.aload_n 0, 1) := by decide +kernel
theorem dX3_add_51 : decode cX3_add 51 = .ok (.getfield 20, 3) := by decide +kernel
theorem dX3_add_54 : decode cX3_add 54 = .ok (.lload_n 1, 1) := by decide +kernel
theorem dX3_add_55 : decode cX3_add 55 = .ok (.l2i, 1) := by decide +kernel
theorem dX3_add_56 : decode cX3_add 56 = .ok (.iastore, 1) := by decide +kernel
theorem dX3_add_57 : decode cX3_add 57 = .ok (.aload_n 0, 1) := by decide +kernel
theorem dX3_add_58 : decode cX3_add 58 = .ok (.dup, 1) := by decide +kernel
theorem dX3_add_59 : decode cX3_add 59 = .ok (.getfield 20, 3) := by decide +kernel
theorem dX3_add_62 : decode cX3_add 62 = .ok (.iconst 1, 1) := by decide +kernel
theorem dX3_add_63 : decode cX3_add 63 = .ok (.iadd, 1) := by decide +kernel
theorem dX3_add_64 : decode cX3_add 64 = .ok (.putfield 20, 3) := by decide +kernel
theorem dX3_add_67 : decode cX3_add 67 = .ok (.return_, 1) := by decide +kernel
abbrev cX3_around : ByteArray := prog_5_method_5_code
def yX3_around : MethodName := ⟨RX3, "around", "(I)I"⟩
theorem dX3_around_0 : decode cX3_around 0 = .ok (.aload_n 0, 1) := by decide +kernel
theorem dX3_around_1 : decode cX3_around 1 = .ok (.getfield 16, 3) := by decide +kernel
theorem dX3_around_4 : decode cX3_around 4 = .ok (.bipush 60, 2) := by decide +kernel
theorem dX3_around_6 : decode cX3_around 6 = .ok (.if_icmp .ne 5, 3) := by decide +kernel
theorem dX3_around_9 : decode cX3_around 9 = .ok (.iconst (-1), 1) := by decide +kernel
theorem dX3_around_10 : decode cX3_around 10 = .ok (.ireturn, 1) := by decide +kernel
theorem dX3_around_11 : decode cX3_around 11 = .ok (.aload_n 0, 1) := by decide +kernel
theorem dX3_around_12 : decode cX3_around 12 = .ok (.dup, 1) := by decide +kernel
theorem dX3_around_13 : decode cX3_around 13 = .ok (.getfield 16, 3) := by decide +kernel
theorem dX3_around_16 : decode cX3_around 16 = .ok (.iconst 1, 1) := by decide +kernel
theorem dX3_around_17 : decode cX3_around 17 = .ok (.iadd, 1) := by decide +kernel
theorem dX3_around_18 : decode cX3_around 18 = .ok (.putfield 16, 3) := by decide +kernel
theorem dX3_around_21 : decode cX3_around 21 = .ok (.iload_n 1, 1) := by decide +kernel
theorem dX3_around_22 : decode cX3_around 22 = .ok (.i2l, 1) := by decide +kernel
theorem dX3_around_23 : decode cX3_around 23 = .ok (.lconst 1, 1) := by decide +kernel
theorem dX3_around_24 : decode cX3_around 24 = .ok (.lsub, 1) := by decide +kernel
theorem dX3_around_25 : decode cX3_around 25 = .ok (.lstore_n 2, 1) := by decide +kernel
theorem dX3_around_26 : decode cX3_around 26 = .ok (.lload_n 2, 1) := by decide +kernel
theorem dX3_around_27 : decode cX3_around 27 = .ok (.iload_n 1, 1) := by decide +kernel
theorem dX3_around_28 : decode cX3_around 28 = .ok (.i2l, 1) := by decide +kernel
theorem dX3_around_29 : decode cX3_around 29 = .ok (.lconst 1, 1) := by decide +kernel
theorem dX3_around_30 : decode cX3_around 30 = .ok (.ladd, 1) := by decide +kernel
theorem dX3_around_31 : decode cX3_around 31 = .ok (.lcmp, 1) := by decide +kernel
theorem dX3_around_32 : decode cX3_around 32 = .ok (.ifCond .gt 15, 3) := by decide +kernel
theorem dX3_around_35 : decode cX3_around 35 = .ok (.aload_n 0, 1) := by decide +kernel
theorem dX3_around_36 : decode cX3_around 36 = .ok (.lload_n 2, 1) := by decide +kernel
theorem dX3_around_37 : decode cX3_around 37 = .ok (.invokevirtual 25, 3) := by decide +kernel
theorem dX3_around_40 : decode cX3_around 40 = .ok (.lload_n 2, 1) := by decide +kernel
theorem dX3_around_41 : decode cX3_around 41 = .ok (.lconst 1, 1) := by decide +kernel
theorem dX3_around_42 : decode cX3_around 42 = .ok (.ladd, 1) := by decide +kernel
theorem dX3_around_43 : decode cX3_around 43 = .ok (.lstore_n 2, 1) := by decide +kernel
theorem dX3_around_44 : decode cX3_around 44 = .ok (.goto (-18), 3) := by decide +kernel
theorem dX3_around_47 : decode cX3_around 47 = .ok (.aload_n 0, 1) := by decide +kernel
theorem dX3_around_48 : decode cX3_around 48 = .ok (.getfield 20, 3) := by decide +kernel
theorem dX3_around_51 : decode cX3_around 51 = .ok (.ireturn, 1) := by decide +kernel
abbrev cX3_size : ByteArray := prog_5_method_6_code
def yX3_size : MethodName := ⟨RX3, "size", "()I"⟩
theorem dX3_size_0 : decode cX3_size 0 = .ok (.aload_n 0, 1) := by decide +kernel
theorem dX3_size_1 : decode cX3_size 1 = .ok (.getfield 20, 3) := by decide +kernel
theorem dX3_size_4 : decode cX3_size 4 = .ok (.ireturn, 1) := by decide +kernel
abbrev cX3_down : ByteArray := prog_5_method_7_code
def yX3_down : MethodName := ⟨RX3, "down", "(I)I"⟩
theorem dX3_down_0 : decode cX3_down 0 = .ok (.ldc 35, 2) := by decide +kernel
theorem dX3_down_2 : decode cX3_down 2 = .ok (.istore_n 2, 1) := by decide +kernel
theorem dX3_down_3 : decode cX3_down 3 = .ok (.iconst 0, 1) := by decide +kernel
theorem dX3_down_4 : decode cX3_down 4 = .ok (.istore_n 3, 1) := by decide +kernel
theorem dX3_down_5 : decode cX3_down 5 = .ok (.iload_n 3, 1) := by decide +kernel
theorem dX3_down_6 : decode cX3_down 6 = .ok (.aload_n 0, 1) := by decide +kernel
theorem dX3_down_7 : decode cX3_down 7 = .ok (.getfield 20, 3) := by decide +kernel
theorem dX3_down_10 : decode cX3_down 10 = .ok (.if_icmp .ge 30, 3) := by decide +kernel
theorem dX3_down_13 : decode cX3_down 13 = .ok (.aload_n 0, 1) := by decide +kernel
theorem dX3_down_14 : decode cX3_down 14 = .ok (.getfield 9, 3) := by decide +kernel
theorem dX3_down_17 : decode cX3_down 17 = .ok (.iload_n 3, 1) := by decide +kernel
theorem dX3_down_18 : decode cX3_down 18 = .ok (.iaload, 1) := by decide +kernel
theorem dX3_down_19 : decode cX3_down 19 = .ok (.iload_n 1, 1) := by decide +kernel
theorem dX3_down_20 : decode cX3_down 20 = .ok (.if_icmp .gt 14, 3) := by decide +kernel
theorem dX3_down_23 : decode cX3_down 23 = .ok (.iload_n 2, 1) := by decide +kernel
theorem dX3_down_24 : decode cX3_down 24 = .ok (.aload_n 0, 1) := by decide +kernel
theorem dX3_down_25 : decode cX3_down 25 = .ok (.getfield 9, 3) := by decide +kernel
theorem dX3_down_28 : decode cX3_down 28 = .ok (.iload_n 3, 1) := by decide +kernel
theorem dX3_down_29 : decode cX3_down 29 = .ok (.iaload, 1) := by decide +kernel
theorem dX3_down_30 : decode cX3_down 30 = .ok (.invokestatic 36, 3) := by decide +kernel
theorem dX3_down_33 : decode cX3_down 33 = .ok (.istore_n 2, 1) := by decide +kernel
theorem dX3_down_34 : decode cX3_down 34 = .ok (.iinc 3 1, 3) := by decide +kernel
theorem dX3_down_37 : decode cX3_down 37 = .ok (.goto (-32), 3) := by decide +kernel
theorem dX3_down_40 : decode cX3_down 40 = .ok (.iload_n 2, 1) := by decide +kernel
theorem dX3_down_41 : decode cX3_down 41 = .ok (.ireturn, 1) := by decide +kernel
abbrev cX3_up : ByteArray := prog_5_method_8_code
def yX3_up : MethodName := ⟨RX3, "up", "(I)I"⟩
theorem dX3_up_0 : decode cX3_up 0 = .ok (.ldc 42, 2) := by decide +kernel
theorem dX3_up_2 : decode cX3_up 2 = .ok (.istore_n 2, 1) := by decide +kernel
theorem dX3_up_3 : decode cX3_up 3 = .ok (.iconst 0, 1) := by decide +kernel
theorem dX3_up_4 : decode cX3_up 4 = .ok (.istore_n 3, 1) := by decide +kernel
theorem dX3_up_5 : decode cX3_up 5 = .ok (.iload_n 3, 1) := by decide +kernel
theorem dX3_up_6 : decode cX3_up 6 = .ok (.aload_n 0, 1) := by decide +kernel
theorem dX3_up_7 : decode cX3_up 7 = .ok (.getfield 20, 3) := by decide +kernel
theorem dX3_up_10 : decode cX3_up 10 = .ok (.if_icmp .ge 30, 3) := by decide +kernel
theorem dX3_up_13 : decode cX3_up 13 = .ok (.aload_n 0, 1) := by decide +kernel
theorem dX3_up_14 : decode cX3_up 14 = .ok (.getfield 9, 3) := by decide +kernel
theorem dX3_up_17 : decode cX3_up 17 = .ok (.iload_n 3, 1) := by decide +kernel
theorem dX3_up_18 : decode cX3_up 18 = .ok (.iaload, 1) := by decide +kernel
theorem dX3_up_19 : decode cX3_up 19 = .ok (.iload_n 1, 1) := by decide +kernel
theorem dX3_up_20 : decode cX3_up 20 = .ok (.if_icmp .lt 14, 3) := by decide +kernel
theorem dX3_up_23 : decode cX3_up 23 = .ok (.iload_n 2, 1) := by decide +kernel
theorem dX3_up_24 : decode cX3_up 24 = .ok (.aload_n 0, 1) := by decide +kernel
theorem dX3_up_25 : decode cX3_up 25 = .ok (.getfield 9, 3) := by decide +kernel
theorem dX3_up_28 : decode cX3_up 28 = .ok (.iload_n 3, 1) := by decide +kernel
theorem dX3_up_29 : decode cX3_up 29 = .ok (.iaload, 1) := by decide +kernel
theorem dX3_up_30 : decode cX3_up 30 = .ok (.invokestatic 43, 3) := by decide +kernel
theorem dX3_up_33 : decode cX3_up 33 = .ok (.istore_n 2, 1) := by decide +kernel
theorem dX3_up_34 : decode cX3_up 34 = .ok (.iinc 3 1, 3) := by decide +kernel
theorem dX3_up_37 : decode cX3_up 37 = .ok (.goto (-32), 3) := by decide +kernel
theorem dX3_up_40 : decode cX3_up 40 = .ok (.iload_n 2, 1) := by decide +kernel
theorem dX3_up_41 : decode cX3_up 41 = .ok (.ireturn, 1) := by decide +kernel
abbrev cX3_negate : ByteArray := prog_5_method_13_code
def yX3_negate : MethodName := ⟨RX3, "negate", "(II)Z"⟩
theorem dX3_negate_0 : decode cX3_negate 0 = .ok (.aload_n 0, 1) := by decide +kernel
theorem dX3_negate_1 : decode cX3_negate 1 = .ok (.iload_n 1, 1) := by decide +kernel
theorem dX3_negate_2 : decode cX3_negate 2 = .ok (.iload_n 2, 1) := by decide +kernel
theorem dX3_negate_3 : decode cX3_negate 3 = .ok (.invokevirtual 68, 3) := by decide +kernel
theorem dX3_negate_6 : decode cX3_negate 6 = .ok (.ifCond .ne 5, 3) := by decide +kernel
theorem dX3_negate_9 : decode cX3_negate 9 = .ok (.iconst 0, 1) := by decide +kernel
theorem dX3_negate_10 : decode cX3_negate 10 = .ok (.ireturn, 1) := by decide +kernel
theorem dX3_negate_11 : decode cX3_negate 11 = .ok (.aload_n 0, 1) := by decide +kernel
theorem dX3_negate_12 : decode cX3_negate 12 = .ok (.iload_n 2, 1) := by decide +kernel
theorem dX3_negate_13 : decode cX3_negate 13 = .ok (.i2l, 1) := by decide +kernel
theorem dX3_negate_14 : decode cX3_negate 14 = .ok (.lneg, 1) := by decide +kernel
theorem dX3_negate_15 : decode cX3_negate 15 = .ok (.iload_n 1, 1) := by decide +kernel
theorem dX3_negate_16 : decode cX3_negate 16 = .ok (.i2l, 1) := by decide +kernel
theorem dX3_negate_17 : decode cX3_negate 17 = .ok (.lneg, 1) := by decide +kernel
theorem dX3_negate_18 : decode cX3_negate 18 = .ok (.invokevirtual 59, 3) := by decide +kernel
theorem dX3_negate_21 : decode cX3_negate 21 = .ok (.istore_n 3, 1) := by decide +kernel
theorem dX3_negate_22 : decode cX3_negate 22 = .ok (.iload_n 3, 1) := by decide +kernel
theorem dX3_negate_23 : decode cX3_negate 23 = .ok (.iconst 1, 1) := by decide +kernel
theorem dX3_negate_24 : decode cX3_negate 24 = .ok (.if_icmp .ne 7, 3) := by decide +kernel
theorem dX3_negate_27 : decode cX3_negate 27 = .ok (.iconst 1, 1) := by decide +kernel
theorem dX3_negate_28 : decode cX3_negate 28 = .ok (.goto 4, 3) := by decide +kernel
theorem dX3_negate_31 : decode cX3_negate 31 = .ok (.iconst 0, 1) := by decide +kernel
theorem dX3_negate_32 : decode cX3_negate 32 = .ok (.ireturn, 1) := by decide +kernel
abbrev cX3_isRange : ByteArray := prog_5_method_9_code
def yX3_isRange : MethodName := ⟨RX3, "isRange", "(II)Z"⟩
theorem dX3_isRange_0 : decode cX3_isRange 0 = .ok (.iload_n 1, 1) := by decide +kernel
theorem dX3_isRange_1 : decode cX3_isRange 1 = .ok (.iload_n 2, 1) := by decide +kernel
theorem dX3_isRange_2 : decode cX3_isRange 2 = .ok (.if_icmp .gt 25, 3) := by decide +kernel
theorem dX3_isRange_5 : decode cX3_isRange 5 = .ok (.aload_n 0, 1) := by decide +kernel
theorem dX3_isRange_6 : decode cX3_isRange 6 = .ok (.iload_n 1, 1) := by decide +kernel
theorem dX3_isRange_7 : decode cX3_isRange 7 = .ok (.invokevirtual 46, 3) := by decide +kernel
theorem dX3_isRange_10 : decode cX3_isRange 10 = .ok (.iload_n 1, 1) := by decide +kernel
theorem dX3_isRange_11 : decode cX3_isRange 11 = .ok (.if_icmp .ne 16, 3) := by decide +kernel
theorem dX3_isRange_14 : decode cX3_isRange 14 = .ok (.aload_n 0, 1) := by decide +kernel
theorem dX3_isRange_15 : decode cX3_isRange 15 = .ok (.iload_n 2, 1) := by decide +kernel
theorem dX3_isRange_16 : decode cX3_isRange 16 = .ok (.invokevirtual 50, 3) := by decide +kernel
theorem dX3_isRange_19 : decode cX3_isRange 19 = .ok (.iload_n 2, 1) := by decide +kernel
theorem dX3_isRange_20 : decode cX3_isRange 20 = .ok (.if_icmp .ne 7, 3) := by decide +kernel
theorem dX3_isRange_23 : decode cX3_isRange 23 = .ok (.iconst 1, 1) := by decide +kernel
theorem dX3_isRange_24 : decode cX3_isRange 24 = .ok (.goto 4, 3) := by decide +kernel
theorem dX3_isRange_27 : decode cX3_isRange 27 = .ok (.iconst 0, 1) := by decide +kernel
theorem dX3_isRange_28 : decode cX3_isRange 28 = .ok (.ireturn, 1) := by decide +kernel
abbrev cX3_tell : ByteArray := prog_5_method_10_code
def yX3_tell : MethodName := ⟨RX3, "tell", "(JJ)I"⟩
theorem dX3_tell_0 : decode cX3_tell 0 = .ok (.lload_n 1, 1) := by decide +kernel
theorem dX3_tell_1 : decode cX3_tell 1 = .ok (.ldc2_w 23, 3) := by decide +kernel
theorem dX3_tell_4 : decode cX3_tell 4 = .ok (.lcmp, 1) := by decide +kernel
theorem dX3_tell_5 : decode cX3_tell 5 = .ok (.ifCond .lt 15, 3) := by decide +kernel
theorem dX3_tell_8 : decode cX3_tell 8 = .ok (.lload_n 3, 1) := by decide +kernel
theorem dX3_tell_9 : decode cX3_tell 9 = .ok (.ldc2_w 33, 3) := by decide +kernel
theorem dX3_tell_12 : decode cX3_tell 12 = .ok (.lcmp, 1) := by decide +kernel
theorem dX3_tell_13 : decode cX3_tell 13 = .ok (.ifCond .gt 7, 3) := by decide +kernel
theorem dX3_tell_16 : decode cX3_tell 16 = .ok (.iconst 1, 1) := by decide +kernel
theorem dX3_tell_17 : decode cX3_tell 17 = .ok (.goto 4, 3) := by decide +kernel
theorem dX3_tell_20 : decode cX3_tell 20 = .ok (.iconst 0, 1) := by decide +kernel
theorem dX3_tell_21 : decode cX3_tell 21 = .ok (.istore 5, 2) := by decide +kernel
theorem dX3_tell_23 : decode cX3_tell 23 = .ok (.aload_n 0, 1) := by decide +kernel
theorem dX3_tell_24 : decode cX3_tell 24 = .ok (.iload 5, 2) := by decide +kernel
theorem dX3_tell_26 : decode cX3_tell 26 = .ok (.ifCond .eq 12, 3) := by decide +kernel
theorem dX3_tell_29 : decode cX3_tell 29 = .ok (.aload_n 0, 1) := by decide +kernel
theorem dX3_tell_30 : decode cX3_tell 30 = .ok (.lload_n 1, 1) := by decide +kernel
theorem dX3_tell_31 : decode cX3_tell 31 = .ok (.l2i, 1) := by decide +kernel
theorem dX3_tell_32 : decode cX3_tell 32 = .ok (.invokevirtual 46, 3) := by decide +kernel
theorem dX3_tell_35 : decode cX3_tell 35 = .ok (.goto 5, 3) := by decide +kernel
theorem dX3_tell_38 : decode cX3_tell 38 = .ok (.ldc 35, 2) := by decide +kernel
theorem dX3_tell_40 : decode cX3_tell 40 = .ok (.putfield 53, 3) := by decide +kernel
theorem dX3_tell_43 : decode cX3_tell 43 = .ok (.aload_n 0, 1) := by decide +kernel
theorem dX3_tell_44 : decode cX3_tell 44 = .ok (.iload 5, 2) := by decide +kernel
theorem dX3_tell_46 : decode cX3_tell 46 = .ok (.ifCond .eq 12, 3) := by decide +kernel
theorem dX3_tell_49 : decode cX3_tell 49 = .ok (.aload_n 0, 1) := by decide +kernel
theorem dX3_tell_50 : decode cX3_tell 50 = .ok (.lload_n 3, 1) := by decide +kernel
theorem dX3_tell_51 : decode cX3_tell 51 = .ok (.l2i, 1) := by decide +kernel
theorem dX3_tell_52 : decode cX3_tell 52 = .ok (.invokevirtual 50, 3) := by decide +kernel
theorem dX3_tell_55 : decode cX3_tell 55 = .ok (.goto 5, 3) := by decide +kernel
theorem dX3_tell_58 : decode cX3_tell 58 = .ok (.ldc 42, 2) := by decide +kernel
theorem dX3_tell_60 : decode cX3_tell 60 = .ok (.putfield 56, 3) := by decide +kernel
theorem dX3_tell_63 : decode cX3_tell 63 = .ok (.iconst 1, 1) := by decide +kernel
theorem dX3_tell_64 : decode cX3_tell 64 = .ok (.ireturn, 1) := by decide +kernel
end
section
set_option maxRecDepth 100000
abbrev cX3_work : ByteArray := prog_5_method_14_code
def yX3_work : MethodName := ⟨RX3, "work", "(IIIII)I"⟩
theorem dX3_work_0 : decode cX3_work 0 = .ok (.iload_n 1, 1) := by decide +kernel
theorem dX3_work_1 : decode cX3_work 1 = .ok (.ifCond .lt 29, 3) := by decide +kernel
theorem dX3_work_4 : decode cX3_work 4 = .ok (.iload_n 1, 1) := by decide +kernel
theorem dX3_work_5 : decode cX3_work 5 = .ok (.bipush 9, 2) := by decide +kernel
theorem dX3_work_7 : decode cX3_work 7 = .ok (.if_icmp .gt 23, 3) := by decide +kernel
theorem dX3_work_10 : decode cX3_work 10 = .ok (.aload_n 0, 1) := by decide +kernel
theorem dX3_work_11 : decode cX3_work 11 = .ok (.iload_n 2, 1) := by decide +kernel
theorem dX3_work_12 : decode cX3_work 12 = .ok (.iload_n 3, 1) := by decide +kernel
theorem dX3_work_13 : decode cX3_work 13 = .ok (.invokevirtual 68, 3) := by decide +kernel
theorem dX3_work_16 : decode cX3_work 16 = .ok (.ifCond .eq 14, 3) := by decide +kernel
theorem dX3_work_19 : decode cX3_work 19 = .ok (.aload_n 0, 1) := by decide +kernel
theorem dX3_work_20 : decode cX3_work 20 = .ok (.iload 4, 2) := by decide +kernel
theorem dX3_work_22 : decode cX3_work 22 = .ok (.iload 5, 2) := by decide +kernel
theorem dX3_work_24 : decode cX3_work 24 = .ok (.invokevirtual 68, 3) := by decide +kernel
theorem dX3_work_27 : decode cX3_work 27 = .ok (.ifCond .ne 5, 3) := by decide +kernel
theorem dX3_work_30 : decode cX3_work 30 = .ok (.iconst (-1), 1) := by decide +kernel
theorem dX3_work_31 : decode cX3_work 31 = .ok (.ireturn, 1) := by decide +kernel
theorem dX3_work_32 : decode cX3_work 32 = .ok (.iload_n 1, 1) := by decide +kernel
theorem dX3_work_33 : decode cX3_work 33 = .ok (.tableswitch 250 0 8 #[51, 68, 85, 114, 125, 138, 185, 185, 214], 51) := by decide +kernel
theorem dX3_work_84 : decode cX3_work 84 = .ok (.aload_n 0, 1) := by decide +kernel
theorem dX3_work_85 : decode cX3_work 85 = .ok (.iload_n 2, 1) := by decide +kernel
theorem dX3_work_86 : decode cX3_work 86 = .ok (.i2l, 1) := by decide +kernel
theorem dX3_work_87 : decode cX3_work 87 = .ok (.iload 4, 2) := by decide +kernel
theorem dX3_work_89 : decode cX3_work 89 = .ok (.i2l, 1) := by decide +kernel
theorem dX3_work_90 : decode cX3_work 90 = .ok (.ladd, 1) := by decide +kernel
theorem dX3_work_91 : decode cX3_work 91 = .ok (.iload_n 3, 1) := by decide +kernel
theorem dX3_work_92 : decode cX3_work 92 = .ok (.i2l, 1) := by decide +kernel
theorem dX3_work_93 : decode cX3_work 93 = .ok (.iload 5, 2) := by decide +kernel
theorem dX3_work_95 : decode cX3_work 95 = .ok (.i2l, 1) := by decide +kernel
theorem dX3_work_96 : decode cX3_work 96 = .ok (.ladd, 1) := by decide +kernel
theorem dX3_work_97 : decode cX3_work 97 = .ok (.invokevirtual 59, 3) := by decide +kernel
theorem dX3_work_100 : decode cX3_work 100 = .ok (.ireturn, 1) := by decide +kernel
theorem dX3_work_101 : decode cX3_work 101 = .ok (.aload_n 0, 1) := by decide +kernel
theorem dX3_work_102 : decode cX3_work 102 = .ok (.iload_n 2, 1) := by decide +kernel
theorem dX3_work_103 : decode cX3_work 103 = .ok (.i2l, 1) := by decide +kernel
theorem dX3_work_104 : decode cX3_work 104 = .ok (.iload 5, 2) := by decide +kernel
theorem dX3_work_106 : decode cX3_work 106 = .ok (.i2l, 1) := by decide +kernel
theorem dX3_work_107 : decode cX3_work 107 = .ok (.lsub, 1) := by decide +kernel
theorem dX3_work_108 : decode cX3_work 108 = .ok (.iload_n 3, 1) := by decide +kernel
theorem dX3_work_109 : decode cX3_work 109 = .ok (.i2l, 1) := by decide +kernel
theorem dX3_work_110 : decode cX3_work 110 = .ok (.iload 4, 2) := by decide +kernel
theorem dX3_work_112 : decode cX3_work 112 = .ok (.i2l, 1) := by decide +kernel
theorem dX3_work_113 : decode cX3_work 113 = .ok (.lsub, 1) := by decide +kernel
theorem dX3_work_114 : decode cX3_work 114 = .ok (.invokevirtual 59, 3) := by decide +kernel
theorem dX3_work_117 : decode cX3_work 117 = .ok (.ireturn, 1) := by decide +kernel
theorem dX3_work_118 : decode cX3_work 118 = .ok (.aload_n 0, 1) := by decide +kernel
theorem dX3_work_119 : decode cX3_work 119 = .ok (.iload_n 2, 1) := by decide +kernel
theorem dX3_work_120 : decode cX3_work 120 = .ok (.i2l, 1) := by decide +kernel
theorem dX3_work_121 : decode cX3_work 121 = .ok (.iload 4, 2) := by decide +kernel
theorem dX3_work_123 : decode cX3_work 123 = .ok (.i2l, 1) := by decide +kernel
theorem dX3_work_124 : decode cX3_work 124 = .ok (.lmul, 1) := by decide +kernel
theorem dX3_work_125 : decode cX3_work 125 = .ok (.iload_n 2, 1) := by decide +kernel
theorem dX3_work_126 : decode cX3_work 126 = .ok (.i2l, 1) := by decide +kernel
theorem dX3_work_127 : decode cX3_work 127 = .ok (.iload 5, 2) := by decide +kernel
theorem dX3_work_129 : decode cX3_work 129 = .ok (.i2l, 1) := by decide +kernel
theorem dX3_work_130 : decode cX3_work 130 = .ok (.lmul, 1) := by decide +kernel
theorem dX3_work_131 : decode cX3_work 131 = .ok (.iload_n 3, 1) := by decide +kernel
theorem dX3_work_132 : decode cX3_work 132 = .ok (.i2l, 1) := by decide +kernel
theorem dX3_work_133 : decode cX3_work 133 = .ok (.iload 4, 2) := by decide +kernel
theorem dX3_work_135 : decode cX3_work 135 = .ok (.i2l, 1) := by decide +kernel
theorem dX3_work_136 : decode cX3_work 136 = .ok (.lmul, 1) := by decide +kernel
theorem dX3_work_137 : decode cX3_work 137 = .ok (.iload_n 3, 1) := by decide +kernel
theorem dX3_work_138 : decode cX3_work 138 = .ok (.i2l, 1) := by decide +kernel
theorem dX3_work_139 : decode cX3_work 139 = .ok (.iload 5, 2) := by decide +kernel
theorem dX3_work_141 : decode cX3_work 141 = .ok (.i2l, 1) := by decide +kernel
theorem dX3_work_142 : decode cX3_work 142 = .ok (.lmul, 1) := by decide +kernel
theorem dX3_work_143 : decode cX3_work 143 = .ok (.invokevirtual 72, 3) := by decide +kernel
theorem dX3_work_146 : decode cX3_work 146 = .ok (.ireturn, 1) := by decide +kernel
theorem dX3_work_147 : decode cX3_work 147 = .ok (.aload_n 0, 1) := by decide +kernel
theorem dX3_work_148 : decode cX3_work 148 = .ok (.iload_n 2, 1) := by decide +kernel
theorem dX3_work_149 : decode cX3_work 149 = .ok (.iload_n 3, 1) := by decide +kernel
theorem dX3_work_150 : decode cX3_work 150 = .ok (.iload 4, 2) := by decide +kernel
theorem dX3_work_152 : decode cX3_work 152 = .ok (.iload 5, 2) := by decide +kernel
theorem dX3_work_154 : decode cX3_work 154 = .ok (.invokevirtual 76, 3) := by decide +kernel
theorem dX3_work_157 : decode cX3_work 157 = .ok (.ireturn, 1) := by decide +kernel
theorem dX3_work_158 : decode cX3_work 158 = .ok (.aload_n 0, 1) := by decide +kernel
theorem dX3_work_159 : decode cX3_work 159 = .ok (.iload_n 2, 1) := by decide +kernel
theorem dX3_work_160 : decode cX3_work 160 = .ok (.iload_n 3, 1) := by decide +kernel
theorem dX3_work_161 : decode cX3_work 161 = .ok (.iload 4, 2) := by decide +kernel
theorem dX3_work_163 : decode cX3_work 163 = .ok (.i2l, 1) := by decide +kernel
theorem dX3_work_164 : decode cX3_work 164 = .ok (.iload 5, 2) := by decide +kernel
theorem dX3_work_166 : decode cX3_work 166 = .ok (.i2l, 1) := by decide +kernel
theorem dX3_work_167 : decode cX3_work 167 = .ok (.invokevirtual 80, 3) := by decide +kernel
theorem dX3_work_170 : decode cX3_work 170 = .ok (.ireturn, 1) := by decide +kernel
theorem dX3_work_171 : decode cX3_work 171 = .ok (.iload_n 2, 1) := by decide +kernel
theorem dX3_work_172 : decode cX3_work 172 = .ok (.ifCond .ge 13, 3) := by decide +kernel
theorem dX3_work_175 : decode cX3_work 175 = .ok (.iload 4, 2) := by decide +kernel
theorem dX3_work_177 : decode cX3_work 177 = .ok (.ifCond .ge 8, 3) := by decide +kernel
theorem dX3_work_180 : decode cX3_work 180 = .ok (.aload_n 0, 1) := by decide +kernel
theorem dX3_work_181 : decode cX3_work 181 = .ok (.invokevirtual 84, 3) := by decide +kernel
theorem dX3_work_184 : decode cX3_work 184 = .ok (.ireturn, 1) := by decide +kernel
theorem dX3_work_185 : decode cX3_work 185 = .ok (.aload_n 0, 1) := by decide +kernel
theorem dX3_work_186 : decode cX3_work 186 = .ok (.lconst 0, 1) := by decide +kernel
theorem dX3_work_187 : decode cX3_work 187 = .ok (.iload_n 2, 1) := by decide +kernel
theorem dX3_work_188 : decode cX3_work 188 = .ok (.ifCond .ge 9, 3) := by decide +kernel
theorem dX3_work_191 : decode cX3_work 191 = .ok (.iload 5, 2) := by decide +kernel
theorem dX3_work_193 : decode cX3_work 193 = .ok (.i2l, 1) := by decide +kernel
theorem dX3_work_194 : decode cX3_work 194 = .ok (.goto 20, 3) := by decide +kernel
theorem dX3_work_197 : decode cX3_work 197 = .ok (.iload 4, 2) := by decide +kernel
theorem dX3_work_199 : decode cX3_work 199 = .ok (.ifCond .ge 8, 3) := by decide +kernel
theorem dX3_work_202 : decode cX3_work 202 = .ok (.iload_n 3, 1) := by decide +kernel
theorem dX3_work_203 : decode cX3_work 203 = .ok (.i2l, 1) := by decide +kernel
theorem dX3_work_204 : decode cX3_work 204 = .ok (.goto 10, 3) := by decide +kernel
theorem dX3_work_207 : decode cX3_work 207 = .ok (.iload_n 3, 1) := by decide +kernel
theorem dX3_work_208 : decode cX3_work 208 = .ok (.iload 5, 2) := by decide +kernel
theorem dX3_work_210 : decode cX3_work 210 = .ok (.invokestatic 43, 3) := by decide +kernel
theorem dX3_work_213 : decode cX3_work 213 = .ok (.i2l, 1) := by decide +kernel
theorem dX3_work_214 : decode cX3_work 214 = .ok (.invokevirtual 59, 3) := by decide +kernel
theorem dX3_work_217 : decode cX3_work 217 = .ok (.ireturn, 1) := by decide +kernel
theorem dX3_work_218 : decode cX3_work 218 = .ok (.iload_n 2, 1) := by decide +kernel
theorem dX3_work_219 : decode cX3_work 219 = .ok (.ifCond .lt 8, 3) := by decide +kernel
theorem dX3_work_222 : decode cX3_work 222 = .ok (.iload 4, 2) := by decide +kernel
theorem dX3_work_224 : decode cX3_work 224 = .ok (.ifCond .ge 8, 3) := by decide +kernel
theorem dX3_work_227 : decode cX3_work 227 = .ok (.aload_n 0, 1) := by decide +kernel
theorem dX3_work_228 : decode cX3_work 228 = .ok (.invokevirtual 84, 3) := by decide +kernel
theorem dX3_work_231 : decode cX3_work 231 = .ok (.ireturn, 1) := by decide +kernel
theorem dX3_work_232 : decode cX3_work 232 = .ok (.aload_n 0, 1) := by decide +kernel
theorem dX3_work_233 : decode cX3_work 233 = .ok (.lconst 0, 1) := by decide +kernel
theorem dX3_work_234 : decode cX3_work 234 = .ok (.iload_n 3, 1) := by decide +kernel
theorem dX3_work_235 : decode cX3_work 235 = .ok (.iload 5, 2) := by decide +kernel
theorem dX3_work_237 : decode cX3_work 237 = .ok (.invokestatic 36, 3) := by decide +kernel
theorem dX3_work_240 : decode cX3_work 240 = .ok (.invokestatic 88, 3) := by decide +kernel
theorem dX3_work_243 : decode cX3_work 243 = .ok (.invokevirtual 59, 3) := by decide +kernel
theorem dX3_work_246 : decode cX3_work 246 = .ok (.ireturn, 1) := by decide +kernel
theorem dX3_work_247 : decode cX3_work 247 = .ok (.iload 4, 2) := by decide +kernel
theorem dX3_work_249 : decode cX3_work 249 = .ok (.iload 5, 2) := by decide +kernel
theorem dX3_work_251 : decode cX3_work 251 = .ok (.if_icmp .eq 8, 3) := by decide +kernel
theorem dX3_work_254 : decode cX3_work 254 = .ok (.aload_n 0, 1) := by decide +kernel
theorem dX3_work_255 : decode cX3_work 255 = .ok (.invokevirtual 84, 3) := by decide +kernel
theorem dX3_work_258 : decode cX3_work 258 = .ok (.ireturn, 1) := by decide +kernel
theorem dX3_work_259 : decode cX3_work 259 = .ok (.lconst 1, 1) := by decide +kernel
theorem dX3_work_260 : decode cX3_work 260 = .ok (.iload 4, 2) := by decide +kernel
theorem dX3_work_262 : decode cX3_work 262 = .ok (.bipush 31, 2) := by decide +kernel
theorem dX3_work_264 : decode cX3_work 264 = .ok (.iand, 1) := by decide +kernel
theorem dX3_work_265 : decode cX3_work 265 = .ok (.lshl, 1) := by decide +kernel
theorem dX3_work_266 : decode cX3_work 266 = .ok (.lstore 6, 2) := by decide +kernel
theorem dX3_work_268 : decode cX3_work 268 = .ok (.aload_n 0, 1) := by decide +kernel
theorem dX3_work_269 : decode cX3_work 269 = .ok (.iload_n 2, 1) := by decide +kernel
theorem dX3_work_270 : decode cX3_work 270 = .ok (.i2l, 1) := by decide +kernel
theorem dX3_work_271 : decode cX3_work 271 = .ok (.lload 6, 2) := by decide +kernel
theorem dX3_work_273 : decode cX3_work 273 = .ok (.lmul, 1) := by decide +kernel
theorem dX3_work_274 : decode cX3_work 274 = .ok (.iload_n 3, 1) := by decide +kernel
theorem dX3_work_275 : decode cX3_work 275 = .ok (.i2l, 1) := by decide +kernel
theorem dX3_work_276 : decode cX3_work 276 = .ok (.lload 6, 2) := by decide +kernel
theorem dX3_work_278 : decode cX3_work 278 = .ok (.lmul, 1) := by decide +kernel
theorem dX3_work_279 : decode cX3_work 279 = .ok (.invokevirtual 59, 3) := by decide +kernel
theorem dX3_work_282 : decode cX3_work 282 = .ok (.ireturn, 1) := by decide +kernel
theorem dX3_work_283 : decode cX3_work 283 = .ok (.iload 4, 2) := by decide +kernel
theorem dX3_work_285 : decode cX3_work 285 = .ok (.iload 5, 2) := by decide +kernel
theorem dX3_work_287 : decode cX3_work 287 = .ok (.if_icmp .ne 24, 3) := by decide +kernel
theorem dX3_work_290 : decode cX3_work 290 = .ok (.aload_n 0, 1) := by decide +kernel
theorem dX3_work_291 : decode cX3_work 291 = .ok (.iload_n 2, 1) := by decide +kernel
theorem dX3_work_292 : decode cX3_work 292 = .ok (.iload 4, 2) := by decide +kernel
theorem dX3_work_294 : decode cX3_work 294 = .ok (.bipush 31, 2) := by decide +kernel
theorem dX3_work_296 : decode cX3_work 296 = .ok (.iand, 1) := by decide +kernel
theorem dX3_work_297 : decode cX3_work 297 = .ok (.ishr, 1) := by decide +kernel
theorem dX3_work_298 : decode cX3_work 298 = .ok (.i2l, 1) := by decide +kernel
theorem dX3_work_299 : decode cX3_work 299 = .ok (.iload_n 3, 1) := by decide +kernel
theorem dX3_work_300 : decode cX3_work 300 = .ok (.iload 4, 2) := by decide +kernel
theorem dX3_work_302 : decode cX3_work 302 = .ok (.bipush 31, 2) := by decide +kernel
theorem dX3_work_304 : decode cX3_work 304 = .ok (.iand, 1) := by decide +kernel
theorem dX3_work_305 : decode cX3_work 305 = .ok (.ishr, 1) := by decide +kernel
theorem dX3_work_306 : decode cX3_work 306 = .ok (.i2l, 1) := by decide +kernel
theorem dX3_work_307 : decode cX3_work 307 = .ok (.invokevirtual 59, 3) := by decide +kernel
theorem dX3_work_310 : decode cX3_work 310 = .ok (.ireturn, 1) := by decide +kernel
theorem dX3_work_311 : decode cX3_work 311 = .ok (.aload_n 0, 1) := by decide +kernel
theorem dX3_work_312 : decode cX3_work 312 = .ok (.iload_n 2, 1) := by decide +kernel
theorem dX3_work_313 : decode cX3_work 313 = .ok (.iconst 0, 1) := by decide +kernel
theorem dX3_work_314 : decode cX3_work 314 = .ok (.invokestatic 43, 3) := by decide +kernel
theorem dX3_work_317 : decode cX3_work 317 = .ok (.i2l, 1) := by decide +kernel
theorem dX3_work_318 : decode cX3_work 318 = .ok (.iload_n 3, 1) := by decide +kernel
theorem dX3_work_319 : decode cX3_work 319 = .ok (.iconst (-1), 1) := by decide +kernel
theorem dX3_work_320 : decode cX3_work 320 = .ok (.invokestatic 36, 3) := by decide +kernel
theorem dX3_work_323 : decode cX3_work 323 = .ok (.i2l, 1) := by decide +kernel
theorem dX3_work_324 : decode cX3_work 324 = .ok (.invokevirtual 59, 3) := by decide +kernel
theorem dX3_work_327 : decode cX3_work 327 = .ok (.ireturn, 1) := by decide +kernel
abbrev cX3_tellLeast : ByteArray := prog_5_method_12_code
def yX3_tellLeast : MethodName := ⟨RX3, "tellLeast", "(JJJJ)I"⟩
theorem dX3_tellLeast_0 : decode cX3_tellLeast 0 = .ok (.aload_n 0, 1) := by decide +kernel
theorem dX3_tellLeast_1 : decode cX3_tellLeast 1 = .ok (.lload_n 1, 1) := by decide +kernel
theorem dX3_tellLeast_2 : decode cX3_tellLeast 2 = .ok (.lload_n 3, 1) := by decide +kernel
theorem dX3_tellLeast_3 : decode cX3_tellLeast 3 = .ok (.invokestatic 63, 3) := by decide +kernel
theorem dX3_tellLeast_6 : decode cX3_tellLeast 6 = .ok (.lload 5, 2) := by decide +kernel
theorem dX3_tellLeast_8 : decode cX3_tellLeast 8 = .ok (.lload 7, 2) := by decide +kernel
theorem dX3_tellLeast_10 : decode cX3_tellLeast 10 = .ok (.invokestatic 63, 3) := by decide +kernel
theorem dX3_tellLeast_13 : decode cX3_tellLeast 13 = .ok (.invokestatic 63, 3) := by decide +kernel
theorem dX3_tellLeast_16 : decode cX3_tellLeast 16 = .ok (.lload_n 1, 1) := by decide +kernel
theorem dX3_tellLeast_17 : decode cX3_tellLeast 17 = .ok (.lload_n 3, 1) := by decide +kernel
theorem dX3_tellLeast_18 : decode cX3_tellLeast 18 = .ok (.invokestatic 66, 3) := by decide +kernel
theorem dX3_tellLeast_21 : decode cX3_tellLeast 21 = .ok (.lload 5, 2) := by decide +kernel
theorem dX3_tellLeast_23 : decode cX3_tellLeast 23 = .ok (.lload 7, 2) := by decide +kernel
theorem dX3_tellLeast_25 : decode cX3_tellLeast 25 = .ok (.invokestatic 66, 3) := by decide +kernel
theorem dX3_tellLeast_28 : decode cX3_tellLeast 28 = .ok (.invokestatic 66, 3) := by decide +kernel
theorem dX3_tellLeast_31 : decode cX3_tellLeast 31 = .ok (.invokevirtual 59, 3) := by decide +kernel
theorem dX3_tellLeast_34 : decode cX3_tellLeast 34 = .ok (.ireturn, 1) := by decide +kernel
abbrev cX3_quotient : ByteArray := prog_5_method_16_code
def yX3_quotient : MethodName := ⟨RX3, "quotient", "(IIII)I"⟩
theorem dX3_quotient_0 : decode cX3_quotient 0 = .ok (.ldc2_w 96, 3) := by decide +kernel
theorem dX3_quotient_3 : decode cX3_quotient 3 = .ok (.lstore 5, 2) := by decide +kernel
theorem dX3_quotient_5 : decode cX3_quotient 5 = .ok (.ldc2_w 98, 3) := by decide +kernel
theorem dX3_quotient_8 : decode cX3_quotient 8 = .ok (.lstore 7, 2) := by decide +kernel
theorem dX3_quotient_10 : decode cX3_quotient 10 = .ok (.iconst 0, 1) := by decide +kernel
theorem dX3_quotient_11 : decode cX3_quotient 11 = .ok (.istore 9, 2) := by decide +kernel
theorem dX3_quotient_13 : decode cX3_quotient 13 = .ok (.iload 9, 2) := by decide +kernel
theorem dX3_quotient_15 : decode cX3_quotient 15 = .ok (.iconst 4, 1) := by decide +kernel
theorem dX3_quotient_16 : decode cX3_quotient 16 = .ok (.if_icmp .ge 108, 3) := by decide +kernel
theorem dX3_quotient_19 : decode cX3_quotient 19 = .ok (.iload 9, 2) := by decide +kernel
theorem dX3_quotient_21 : decode cX3_quotient 21 = .ok (.iconst 2, 1) := by decide +kernel
theorem dX3_quotient_22 : decode cX3_quotient 22 = .ok (.if_icmp .ge 13, 3) := by decide +kernel
theorem dX3_quotient_25 : decode cX3_quotient 25 = .ok (.iconst 2, 1) := by decide +kernel
theorem dX3_quotient_26 : decode cX3_quotient 26 = .ok (.iload 9, 2) := by decide +kernel
theorem dX3_quotient_28 : decode cX3_quotient 28 = .ok (.imul, 1) := by decide +kernel
theorem dX3_quotient_29 : decode cX3_quotient 29 = .ok (.iconst 1, 1) := by decide +kernel
theorem dX3_quotient_30 : decode cX3_quotient 30 = .ok (.isub, 1) := by decide +kernel
theorem dX3_quotient_31 : decode cX3_quotient 31 = .ok (.i2l, 1) := by decide +kernel
theorem dX3_quotient_32 : decode cX3_quotient 32 = .ok (.goto 17, 3) := by decide +kernel
theorem dX3_quotient_35 : decode cX3_quotient 35 = .ok (.iload 9, 2) := by decide +kernel
theorem dX3_quotient_37 : decode cX3_quotient 37 = .ok (.iconst 2, 1) := by decide +kernel
theorem dX3_quotient_38 : decode cX3_quotient 38 = .ok (.if_icmp .ne 8, 3) := by decide +kernel
theorem dX3_quotient_41 : decode cX3_quotient 41 = .ok (.iload_n 3, 1) := by decide +kernel
theorem dX3_quotient_42 : decode cX3_quotient 42 = .ok (.i2l, 1) := by decide +kernel
theorem dX3_quotient_43 : decode cX3_quotient 43 = .ok (.goto 6, 3) := by decide +kernel
theorem dX3_quotient_46 : decode cX3_quotient 46 = .ok (.iload 4, 2) := by decide +kernel
theorem dX3_quotient_48 : decode cX3_quotient 48 = .ok (.i2l, 1) := by decide +kernel
theorem dX3_quotient_49 : decode cX3_quotient 49 = .ok (.lstore 10, 2) := by decide +kernel
theorem dX3_quotient_51 : decode cX3_quotient 51 = .ok (.lload 10, 2) := by decide +kernel
theorem dX3_quotient_53 : decode cX3_quotient 53 = .ok (.lconst 0, 1) := by decide +kernel
theorem dX3_quotient_54 : decode cX3_quotient 54 = .ok (.lcmp, 1) := by decide +kernel
theorem dX3_quotient_55 : decode cX3_quotient 55 = .ok (.ifCond .eq 63, 3) := by decide +kernel
theorem dX3_quotient_58 : decode cX3_quotient 58 = .ok (.lload 10, 2) := by decide +kernel
theorem dX3_quotient_60 : decode cX3_quotient 60 = .ok (.iload_n 3, 1) := by decide +kernel
theorem dX3_quotient_61 : decode cX3_quotient 61 = .ok (.i2l, 1) := by decide +kernel
theorem dX3_quotient_62 : decode cX3_quotient 62 = .ok (.lcmp, 1) := by decide +kernel
theorem dX3_quotient_63 : decode cX3_quotient 63 = .ok (.ifCond .lt 55, 3) := by decide +kernel
theorem dX3_quotient_66 : decode cX3_quotient 66 = .ok (.lload 10, 2) := by decide +kernel
theorem dX3_quotient_68 : decode cX3_quotient 68 = .ok (.iload 4, 2) := by decide +kernel
theorem dX3_quotient_70 : decode cX3_quotient 70 = .ok (.i2l, 1) := by decide +kernel
theorem dX3_quotient_71 : decode cX3_quotient 71 = .ok (.lcmp, 1) := by decide +kernel
theorem dX3_quotient_72 : decode cX3_quotient 72 = .ok (.ifCond .le 6, 3) := by decide +kernel
theorem dX3_quotient_75 : decode cX3_quotient 75 = .ok (.goto 43, 3) := by decide +kernel
theorem dX3_quotient_78 : decode cX3_quotient 78 = .ok (.lload 5, 2) := by decide +kernel
theorem dX3_quotient_80 : decode cX3_quotient 80 = .ok (.iload_n 1, 1) := by decide +kernel
theorem dX3_quotient_81 : decode cX3_quotient 81 = .ok (.i2l, 1) := by decide +kernel
theorem dX3_quotient_82 : decode cX3_quotient 82 = .ok (.lload 10, 2) := by decide +kernel
theorem dX3_quotient_84 : decode cX3_quotient 84 = .ok (.ldiv, 1) := by decide +kernel
theorem dX3_quotient_85 : decode cX3_quotient 85 = .ok (.iload_n 2, 1) := by decide +kernel
theorem dX3_quotient_86 : decode cX3_quotient 86 = .ok (.i2l, 1) := by decide +kernel
theorem dX3_quotient_87 : decode cX3_quotient 87 = .ok (.lload 10, 2) := by decide +kernel
theorem dX3_quotient_89 : decode cX3_quotient 89 = .ok (.ldiv, 1) := by decide +kernel
theorem dX3_quotient_90 : decode cX3_quotient 90 = .ok (.invokestatic 63, 3) := by decide +kernel
theorem dX3_quotient_93 : decode cX3_quotient 93 = .ok (.invokestatic 63, 3) := by decide +kernel
theorem dX3_quotient_96 : decode cX3_quotient 96 = .ok (.lstore 5, 2) := by decide +kernel
theorem dX3_quotient_98 : decode cX3_quotient 98 = .ok (.lload 7, 2) := by decide +kernel
theorem dX3_quotient_100 : decode cX3_quotient 100 = .ok (.iload_n 1, 1) := by decide +kernel
theorem dX3_quotient_101 : decode cX3_quotient 101 = .ok (.i2l, 1) := by decide +kernel
theorem dX3_quotient_102 : decode cX3_quotient 102 = .ok (.lload 10, 2) := by decide +kernel
theorem dX3_quotient_104 : decode cX3_quotient 104 = .ok (.ldiv, 1) := by decide +kernel
theorem dX3_quotient_105 : decode cX3_quotient 105 = .ok (.iload_n 2, 1) := by decide +kernel
theorem dX3_quotient_106 : decode cX3_quotient 106 = .ok (.i2l, 1) := by decide +kernel
theorem dX3_quotient_107 : decode cX3_quotient 107 = .ok (.lload 10, 2) := by decide +kernel
theorem dX3_quotient_109 : decode cX3_quotient 109 = .ok (.ldiv, 1) := by decide +kernel
theorem dX3_quotient_110 : decode cX3_quotient 110 = .ok (.invokestatic 66, 3) := by decide +kernel
theorem dX3_quotient_113 : decode cX3_quotient 113 = .ok (.invokestatic 66, 3) := by decide +kernel
theorem dX3_quotient_116 : decode cX3_quotient 116 = .ok (.lstore 7, 2) := by decide +kernel
theorem dX3_quotient_118 : decode cX3_quotient 118 = .ok (.iinc 9 1, 3) := by decide +kernel
theorem dX3_quotient_121 : decode cX3_quotient 121 = .ok (.goto (-108), 3) := by decide +kernel
theorem dX3_quotient_124 : decode cX3_quotient 124 = .ok (.lload 5, 2) := by decide +kernel
theorem dX3_quotient_126 : decode cX3_quotient 126 = .ok (.lload 7, 2) := by decide +kernel
theorem dX3_quotient_128 : decode cX3_quotient 128 = .ok (.lcmp, 1) := by decide +kernel
theorem dX3_quotient_129 : decode cX3_quotient 129 = .ok (.ifCond .le 7, 3) := by decide +kernel
theorem dX3_quotient_132 : decode cX3_quotient 132 = .ok (.iconst 0, 1) := by decide +kernel
theorem dX3_quotient_133 : decode cX3_quotient 133 = .ok (.goto 11, 3) := by decide +kernel
theorem dX3_quotient_136 : decode cX3_quotient 136 = .ok (.aload_n 0, 1) := by decide +kernel
theorem dX3_quotient_137 : decode cX3_quotient 137 = .ok (.lload 5, 2) := by decide +kernel
theorem dX3_quotient_139 : decode cX3_quotient 139 = .ok (.lload 7, 2) := by decide +kernel
theorem dX3_quotient_141 : decode cX3_quotient 141 = .ok (.invokevirtual 59, 3) := by decide +kernel
theorem dX3_quotient_144 : decode cX3_quotient 144 = .ok (.ireturn, 1) := by decide +kernel
abbrev cX3_rest : ByteArray := prog_5_method_17_code
def yX3_rest : MethodName := ⟨RX3, "rest", "(IIJJ)I"⟩
theorem dX3_rest_0 : decode cX3_rest 0 = .ok (.lload_n 3, 1) := by decide +kernel
theorem dX3_rest_1 : decode cX3_rest 1 = .ok (.lconst 0, 1) := by decide +kernel
theorem dX3_rest_2 : decode cX3_rest 2 = .ok (.lcmp, 1) := by decide +kernel
theorem dX3_rest_3 : decode cX3_rest 3 = .ok (.ifCond .ne 12, 3) := by decide +kernel
theorem dX3_rest_6 : decode cX3_rest 6 = .ok (.lload 5, 2) := by decide +kernel
theorem dX3_rest_8 : decode cX3_rest 8 = .ok (.lconst 0, 1) := by decide +kernel
theorem dX3_rest_9 : decode cX3_rest 9 = .ok (.lcmp, 1) := by decide +kernel
theorem dX3_rest_10 : decode cX3_rest 10 = .ok (.ifCond .ne 5, 3) := by decide +kernel
theorem dX3_rest_13 : decode cX3_rest 13 = .ok (.iconst 0, 1) := by decide +kernel
theorem dX3_rest_14 : decode cX3_rest 14 = .ok (.ireturn, 1) := by decide +kernel
theorem dX3_rest_15 : decode cX3_rest 15 = .ok (.lload_n 3, 1) := by decide +kernel
theorem dX3_rest_16 : decode cX3_rest 16 = .ok (.invokestatic 100, 3) := by decide +kernel
theorem dX3_rest_19 : decode cX3_rest 19 = .ok (.lload 5, 2) := by decide +kernel
theorem dX3_rest_21 : decode cX3_rest 21 = .ok (.invokestatic 100, 3) := by decide +kernel
theorem dX3_rest_24 : decode cX3_rest 24 = .ok (.invokestatic 66, 3) := by decide +kernel
theorem dX3_rest_27 : decode cX3_rest 27 = .ok (.lconst 1, 1) := by decide +kernel
theorem dX3_rest_28 : decode cX3_rest 28 = .ok (.lsub, 1) := by decide +kernel
theorem dX3_rest_29 : decode cX3_rest 29 = .ok (.lstore 7, 2) := by decide +kernel
theorem dX3_rest_31 : decode cX3_rest 31 = .ok (.iload_n 1, 1) := by decide +kernel
theorem dX3_rest_32 : decode cX3_rest 32 = .ok (.ifCond .lt 16, 3) := by decide +kernel
theorem dX3_rest_35 : decode cX3_rest 35 = .ok (.aload_n 0, 1) := by decide +kernel
theorem dX3_rest_36 : decode cX3_rest 36 = .ok (.lconst 0, 1) := by decide +kernel
theorem dX3_rest_37 : decode cX3_rest 37 = .ok (.iload_n 2, 1) := by decide +kernel
theorem dX3_rest_38 : decode cX3_rest 38 = .ok (.i2l, 1) := by decide +kernel
theorem dX3_rest_39 : decode cX3_rest 39 = .ok (.lload 7, 2) := by decide +kernel
theorem dX3_rest_41 : decode cX3_rest 41 = .ok (.invokestatic 63, 3) := by decide +kernel
theorem dX3_rest_44 : decode cX3_rest 44 = .ok (.invokevirtual 59, 3) := by decide +kernel
theorem dX3_rest_47 : decode cX3_rest 47 = .ok (.ireturn, 1) := by decide +kernel
theorem dX3_rest_48 : decode cX3_rest 48 = .ok (.aload_n 0, 1) := by decide +kernel
theorem dX3_rest_49 : decode cX3_rest 49 = .ok (.iload_n 1, 1) := by decide +kernel
theorem dX3_rest_50 : decode cX3_rest 50 = .ok (.i2l, 1) := by decide +kernel
theorem dX3_rest_51 : decode cX3_rest 51 = .ok (.lload 7, 2) := by decide +kernel
theorem dX3_rest_53 : decode cX3_rest 53 = .ok (.lneg, 1) := by decide +kernel
theorem dX3_rest_54 : decode cX3_rest 54 = .ok (.invokestatic 66, 3) := by decide +kernel
theorem dX3_rest_57 : decode cX3_rest 57 = .ok (.iload_n 2, 1) := by decide +kernel
theorem dX3_rest_58 : decode cX3_rest 58 = .ok (.ifCond .gt 7, 3) := by decide +kernel
theorem dX3_rest_61 : decode cX3_rest 61 = .ok (.lconst 0, 1) := by decide +kernel
theorem dX3_rest_62 : decode cX3_rest 62 = .ok (.goto 10, 3) := by decide +kernel
theorem dX3_rest_65 : decode cX3_rest 65 = .ok (.iload_n 2, 1) := by decide +kernel
theorem dX3_rest_66 : decode cX3_rest 66 = .ok (.i2l, 1) := by decide +kernel
theorem dX3_rest_67 : decode cX3_rest 67 = .ok (.lload 7, 2) := by decide +kernel
theorem dX3_rest_69 : decode cX3_rest 69 = .ok (.invokestatic 63, 3) := by decide +kernel
theorem dX3_rest_72 : decode cX3_rest 72 = .ok (.invokevirtual 59, 3) := by decide +kernel
theorem dX3_rest_75 : decode cX3_rest 75 = .ok (.ireturn, 1) := by decide +kernel
abbrev cX3_tellAll : ByteArray := prog_5_method_11_code
def yX3_tellAll : MethodName := ⟨RX3, "tellAll", "()I"⟩
theorem dX3_tellAll_0 : decode cX3_tellAll 0 = .ok (.aload_n 0, 1) := by decide +kernel
theorem dX3_tellAll_1 : decode cX3_tellAll 1 = .ok (.ldc2_w 23, 3) := by decide +kernel
theorem dX3_tellAll_4 : decode cX3_tellAll 4 = .ok (.ldc2_w 33, 3) := by decide +kernel
theorem dX3_tellAll_7 : decode cX3_tellAll 7 = .ok (.invokevirtual 59, 3) := by decide +kernel
theorem dX3_tellAll_10 : decode cX3_tellAll 10 = .ok (.ireturn, 1) := by decide +kernel
abbrev cX3_ones : ByteArray := prog_5_method_15_code
def yX3_ones : MethodName := ⟨RX3, "ones", "(I)J"⟩
theorem dX3_ones_0 : decode cX3_ones 0 = .ok (.lconst 0, 1) := by decide +kernel
theorem dX3_ones_1 : decode cX3_ones 1 = .ok (.lstore_n 1, 1) := by decide +kernel
theorem dX3_ones_2 : decode cX3_ones 2 = .ok (.lload_n 1, 1) := by decide +kernel
theorem dX3_ones_3 : decode cX3_ones 3 = .ok (.iload_n 0, 1) := by decide +kernel
theorem dX3_ones_4 : decode cX3_ones 4 = .ok (.i2l, 1) := by decide +kernel
theorem dX3_ones_5 : decode cX3_ones 5 = .ok (.lcmp, 1) := by decide +kernel
theorem dX3_ones_6 : decode cX3_ones 6 = .ok (.ifCond .ge 14, 3) := by decide +kernel
theorem dX3_ones_9 : decode cX3_ones 9 = .ok (.ldc2_w 92, 3) := by decide +kernel
theorem dX3_ones_12 : decode cX3_ones 12 = .ok (.lload_n 1, 1) := by decide +kernel
theorem dX3_ones_13 : decode cX3_ones 13 = .ok (.lmul, 1) := by decide +kernel
theorem dX3_ones_14 : decode cX3_ones 14 = .ok (.lconst 1, 1) := by decide +kernel
theorem dX3_ones_15 : decode cX3_ones 15 = .ok (.ladd, 1) := by decide +kernel
theorem dX3_ones_16 : decode cX3_ones 16 = .ok (.lstore_n 1, 1) := by decide +kernel
theorem dX3_ones_17 : decode cX3_ones 17 = .ok (.goto (-15), 3) := by decide +kernel
theorem dX3_ones_20 : decode cX3_ones 20 = .ok (.lload_n 1, 1) := by decide +kernel
theorem dX3_ones_21 : decode cX3_ones 21 = .ok (.lreturn, 1) := by decide +kernel
abbrev cX3_low : ByteArray := prog_5_method_18_code
def yX3_low : MethodName := ⟨RX3, "low", "()I"⟩
theorem dX3_low_0 : decode cX3_low 0 = .ok (.aload_n 0, 1) := by decide +kernel
theorem dX3_low_1 : decode cX3_low 1 = .ok (.getfield 53, 3) := by decide +kernel
theorem dX3_low_4 : decode cX3_low 4 = .ok (.ireturn, 1) := by decide +kernel
abbrev cX3_high : ByteArray := prog_5_method_19_code
def yX3_high : MethodName := ⟨RX3, "high", "()I"⟩
theorem dX3_high_0 : decode cX3_high 0 = .ok (.aload_n 0, 1) := by decide +kernel
theorem dX3_high_1 : decode cX3_high 1 = .ok (.getfield 56, 3) := by decide +kernel
theorem dX3_high_4 : decode cX3_high 4 = .ok (.ireturn, 1) := by decide +kernel
theorem q22 : (Jvm.Cond.initialized "RangeRulesModel") ∈ lw_all := lw_g (lw_at lw_m1 7 rfl) rfl
theorem q212 : (Jvm.Cond.instantiable "RangeRulesModel" (5 : Nat)) ∈ lw_all := lw_g (lw_at lw_m1 197 rfl) rfl
theorem q214 : (Jvm.Cond.instanceMethod ({ cls := "RangeRulesModel", name := "<init>", desc := "()V" } : Jvm.MethodName)) ∈ lw_all := lw_g (lw_at lw_m1 199 rfl) rfl
theorem q215 : (Jvm.Cond.code ({ cls := "RangeRulesModel", name := "<init>", desc := "()V" } : Jvm.MethodName) prog_5_method_1_code (1 : Nat) (Option.none : Option Jvm.ClassFile.FieldType)) ∈ lw_all := lw_g (lw_at lw_m1 200 rfl) rfl
theorem q216 : (Jvm.Cond.methodLink "RangeRulesModel" (1 : Nat) ({ cls := "java/lang/Object", name := "<init>", desc := "()V" } : Jvm.MethodName)) ∈ lw_all := lw_g (lw_at lw_m1 201 rfl) rfl
theorem q217 : (Jvm.Cond.methodLink "RangeRulesModel" (13 : Nat) ({ cls := "RangeRulesModel", name := "clear", desc := "()V" } : Jvm.MethodName)) ∈ lw_all := lw_g (lw_at lw_m1 202 rfl) rfl
theorem q218 : (Jvm.Cond.instanceMethod ({ cls := "RangeRulesModel", name := "clear", desc := "()V" } : Jvm.MethodName)) ∈ lw_all := lw_g (lw_at lw_m1 203 rfl) rfl
theorem q219 : (Jvm.Cond.selects "RangeRulesModel" ({ cls := "RangeRulesModel", name := "clear", desc := "()V" } : Jvm.MethodName) ({ cls := "RangeRulesModel", name := "clear", desc := "()V" } : Jvm.MethodName)) ∈ lw_all := lw_g (lw_at lw_m1 204 rfl) rfl
theorem q220 : (Jvm.Cond.code ({ cls := "RangeRulesModel", name := "clear", desc := "()V" } : Jvm.MethodName) prog_5_method_3_code (2 : Nat) (Option.none : Option Jvm.ClassFile.FieldType)) ∈ lw_all := lw_g (lw_at lw_m1 205 rfl) rfl
theorem q221 : (Jvm.Cond.constantLong "RangeRulesModel" (23 : Nat) (-2147483648 : Int64)) ∈ lw_all := lw_g (lw_at lw_m1 206 rfl) rfl
theorem q222 : (Jvm.Cond.methodLink "RangeRulesModel" (25 : Nat) ({ cls := "RangeRulesModel", name := "add", desc := "(J)V" } : Jvm.MethodName)) ∈ lw_all := lw_g (lw_at lw_m1 207 rfl) rfl
theorem q223 : (Jvm.Cond.privateMethod ({ cls := "RangeRulesModel", name := "add", desc := "(J)V" } : Jvm.MethodName)) ∈ lw_tbl := lw_at lw_m1 208 rfl
theorem q224 : (Jvm.Cond.instanceMethod ({ cls := "RangeRulesModel", name := "add", desc := "(J)V" } : Jvm.MethodName)) ∈ lw_all := lw_g (lw_at lw_m1 209 rfl) rfl
theorem q225 : (Jvm.Cond.code ({ cls := "RangeRulesModel", name := "add", desc := "(J)V" } : Jvm.MethodName) prog_5_method_4_code (4 : Nat) (Option.none : Option Jvm.ClassFile.FieldType)) ∈ lw_all := lw_g (lw_at lw_m1 210 rfl) rfl
theorem q226 : (Jvm.Cond.constantLong "RangeRulesModel" (33 : Nat) (2147483647 : Int64)) ∈ lw_all := lw_g (lw_at lw_m1 211 rfl) rfl
theorem q227 : (Jvm.Cond.constantLong "RangeRulesModel" (29 : Nat) (-2147483647 : Int64)) ∈ lw_all := lw_g (lw_at lw_m1 212 rfl) rfl
theorem q228 : (Jvm.Cond.constantLong "RangeRulesModel" (31 : Nat) (2147483646 : Int64)) ∈ lw_all := lw_g (lw_at lw_m1 213 rfl) rfl
theorem q229 : (Jvm.Cond.fieldLink "RangeRulesModel" (9 : Nat) "RangeRulesModel" "threshold" "[I") ∈ lw_all := lw_g (lw_at lw_m1 214 rfl) rfl
theorem q230 : (Jvm.Cond.fieldLink "RangeRulesModel" (20 : Nat) "RangeRulesModel" "thresholds" "I") ∈ lw_all := lw_g (lw_at lw_m1 215 rfl) rfl
theorem q231 : (Jvm.Cond.fieldLink "RangeRulesModel" (16 : Nat) "RangeRulesModel" "times" "I") ∈ lw_all := lw_g (lw_at lw_m1 216 rfl) rfl
theorem q232 : (Jvm.Cond.fieldLink "RangeRulesModel" (53 : Nat) "RangeRulesModel" "low" "I") ∈ lw_all := lw_g (lw_at lw_m1 217 rfl) rfl
theorem q233 : (Jvm.Cond.fieldLink "RangeRulesModel" (56 : Nat) "RangeRulesModel" "high" "I") ∈ lw_all := lw_g (lw_at lw_m1 218 rfl) rfl
theorem q234 : (Jvm.Cond.laysFinal "RangeRulesModel" "RangeRulesModel" "threshold" "[I") ∈ lw_all := lw_g (lw_at lw_m1 219 rfl) rfl
theorem q235 : (Jvm.Cond.soleField "RangeRulesModel" "threshold") ∈ lw_all := lw_g (lw_at lw_m1 220 rfl) rfl
theorem q236 : (Jvm.Cond.lays "RangeRulesModel" "RangeRulesModel" "thresholds" "I") ∈ lw_all := lw_g (lw_at lw_m1 221 rfl) rfl
theorem q237 : (Jvm.Cond.soleField "RangeRulesModel" "thresholds") ∈ lw_all := lw_g (lw_at lw_m1 222 rfl) rfl
theorem q238 : (Jvm.Cond.lays "RangeRulesModel" "RangeRulesModel" "times" "I") ∈ lw_all := lw_g (lw_at lw_m1 223 rfl) rfl
theorem q239 : (Jvm.Cond.soleField "RangeRulesModel" "times") ∈ lw_all := lw_g (lw_at lw_m1 224 rfl) rfl
theorem q240 : (Jvm.Cond.lays "RangeRulesModel" "RangeRulesModel" "low" "I") ∈ lw_all := lw_g (lw_at lw_m1 225 rfl) rfl
theorem q241 : (Jvm.Cond.soleField "RangeRulesModel" "low") ∈ lw_all := lw_g (lw_at lw_m1 226 rfl) rfl
theorem q242 : (Jvm.Cond.lays "RangeRulesModel" "RangeRulesModel" "high" "I") ∈ lw_all := lw_g (lw_at lw_m1 227 rfl) rfl
theorem q243 : (Jvm.Cond.soleField "RangeRulesModel" "high") ∈ lw_all := lw_g (lw_at lw_m1 228 rfl) rfl
theorem q244 : (Jvm.Cond.superclass "RangeRulesModel" "java/lang/Object") ∈ lw_all := lw_g (lw_at lw_m1 229 rfl) rfl
theorem q247 : (Jvm.Cond.instanceMethod ({ cls := "RangeRulesModel", name := "around", desc := "(I)I" } : Jvm.MethodName)) ∈ lw_all := lw_g (lw_at lw_m1 232 rfl) rfl
theorem q248 : (Jvm.Cond.selects "RangeRulesModel" ({ cls := "RangeRulesModel", name := "around", desc := "(I)I" } : Jvm.MethodName) ({ cls := "RangeRulesModel", name := "around", desc := "(I)I" } : Jvm.MethodName)) ∈ lw_all := lw_g (lw_at lw_m1 233 rfl) rfl
theorem q249 : (Jvm.Cond.code ({ cls := "RangeRulesModel", name := "around", desc := "(I)I" } : Jvm.MethodName) prog_5_method_5_code (4 : Nat) (Option.some Jvm.ClassFile.FieldType.int)) ∈ lw_all := lw_g (lw_at lw_m1 234 rfl) rfl
theorem q251 : (Jvm.Cond.instanceMethod ({ cls := "RangeRulesModel", name := "size", desc := "()I" } : Jvm.MethodName)) ∈ lw_all := lw_g (lw_at lw_m1 236 rfl) rfl
theorem q252 : (Jvm.Cond.selects "RangeRulesModel" ({ cls := "RangeRulesModel", name := "size", desc := "()I" } : Jvm.MethodName) ({ cls := "RangeRulesModel", name := "size", desc := "()I" } : Jvm.MethodName)) ∈ lw_all := lw_g (lw_at lw_m1 237 rfl) rfl
theorem q253 : (Jvm.Cond.code ({ cls := "RangeRulesModel", name := "size", desc := "()I" } : Jvm.MethodName) prog_5_method_6_code (1 : Nat) (Option.some Jvm.ClassFile.FieldType.int)) ∈ lw_all := lw_g (lw_at lw_m1 238 rfl) rfl
theorem q255 : (Jvm.Cond.instanceMethod ({ cls := "RangeRulesModel", name := "down", desc := "(I)I" } : Jvm.MethodName)) ∈ lw_all := lw_g (lw_at lw_m2 0 rfl) rfl
theorem q256 : (Jvm.Cond.selects "RangeRulesModel" ({ cls := "RangeRulesModel", name := "down", desc := "(I)I" } : Jvm.MethodName) ({ cls := "RangeRulesModel", name := "down", desc := "(I)I" } : Jvm.MethodName)) ∈ lw_all := lw_g (lw_at lw_m2 1 rfl) rfl
theorem q257 : (Jvm.Cond.code ({ cls := "RangeRulesModel", name := "down", desc := "(I)I" } : Jvm.MethodName) prog_5_method_7_code (4 : Nat) (Option.some Jvm.ClassFile.FieldType.int)) ∈ lw_all := lw_g (lw_at lw_m2 2 rfl) rfl
theorem q258 : (Jvm.Cond.constant "RangeRulesModel" (35 : Nat) (-2147483648 : Int32)) ∈ lw_all := lw_g (lw_at lw_m2 3 rfl) rfl
theorem q259 : (Jvm.Cond.methodLink "RangeRulesModel" (36 : Nat) ({ cls := "java/lang/Math", name := "max", desc := "(II)I" } : Jvm.MethodName)) ∈ lw_all := lw_g (lw_at lw_m2 4 rfl) rfl
theorem q263 : (Jvm.Cond.instanceMethod ({ cls := "RangeRulesModel", name := "up", desc := "(I)I" } : Jvm.MethodName)) ∈ lw_all := lw_g (lw_at lw_m2 8 rfl) rfl
theorem q264 : (Jvm.Cond.selects "RangeRulesModel" ({ cls := "RangeRulesModel", name := "up", desc := "(I)I" } : Jvm.MethodName) ({ cls := "RangeRulesModel", name := "up", desc := "(I)I" } : Jvm.MethodName)) ∈ lw_all := lw_g (lw_at lw_m2 9 rfl) rfl
theorem q265 : (Jvm.Cond.code ({ cls := "RangeRulesModel", name := "up", desc := "(I)I" } : Jvm.MethodName) prog_5_method_8_code (4 : Nat) (Option.some Jvm.ClassFile.FieldType.int)) ∈ lw_all := lw_g (lw_at lw_m2 10 rfl) rfl
theorem q266 : (Jvm.Cond.constant "RangeRulesModel" (42 : Nat) (2147483647 : Int32)) ∈ lw_all := lw_g (lw_at lw_m2 11 rfl) rfl
theorem q267 : (Jvm.Cond.methodLink "RangeRulesModel" (43 : Nat) ({ cls := "java/lang/Math", name := "min", desc := "(II)I" } : Jvm.MethodName)) ∈ lw_all := lw_g (lw_at lw_m2 12 rfl) rfl
theorem q269 : (Jvm.Cond.instanceMethod ({ cls := "RangeRulesModel", name := "negate", desc := "(II)Z" } : Jvm.MethodName)) ∈ lw_all := lw_g (lw_at lw_m2 14 rfl) rfl
theorem q270 : (Jvm.Cond.selects "RangeRulesModel" ({ cls := "RangeRulesModel", name := "negate", desc := "(II)Z" } : Jvm.MethodName) ({ cls := "RangeRulesModel", name := "negate", desc := "(II)Z" } : Jvm.MethodName)) ∈ lw_all := lw_g (lw_at lw_m2 15 rfl) rfl
theorem q271 : (Jvm.Cond.code ({ cls := "RangeRulesModel", name := "negate", desc := "(II)Z" } : Jvm.MethodName) prog_5_method_13_code (4 : Nat) (Option.some Jvm.ClassFile.FieldType.boolean)) ∈ lw_all := lw_g (lw_at lw_m2 16 rfl) rfl
theorem q272 : (Jvm.Cond.methodLink "RangeRulesModel" (68 : Nat) ({ cls := "RangeRulesModel", name := "isRange", desc := "(II)Z" } : Jvm.MethodName)) ∈ lw_all := lw_g (lw_at lw_m2 17 rfl) rfl
theorem q273 : (Jvm.Cond.privateMethod ({ cls := "RangeRulesModel", name := "isRange", desc := "(II)Z" } : Jvm.MethodName)) ∈ lw_tbl := lw_at lw_m2 18 rfl
theorem q274 : (Jvm.Cond.instanceMethod ({ cls := "RangeRulesModel", name := "isRange", desc := "(II)Z" } : Jvm.MethodName)) ∈ lw_all := lw_g (lw_at lw_m2 19 rfl) rfl
theorem q275 : (Jvm.Cond.code ({ cls := "RangeRulesModel", name := "isRange", desc := "(II)Z" } : Jvm.MethodName) prog_5_method_9_code (3 : Nat) (Option.some Jvm.ClassFile.FieldType.boolean)) ∈ lw_all := lw_g (lw_at lw_m2 20 rfl) rfl
theorem q276 : (Jvm.Cond.methodLink "RangeRulesModel" (46 : Nat) ({ cls := "RangeRulesModel", name := "down", desc := "(I)I" } : Jvm.MethodName)) ∈ lw_all := lw_g (lw_at lw_m2 21 rfl) rfl
theorem q277 : (Jvm.Cond.methodLink "RangeRulesModel" (50 : Nat) ({ cls := "RangeRulesModel", name := "up", desc := "(I)I" } : Jvm.MethodName)) ∈ lw_all := lw_g (lw_at lw_m2 22 rfl) rfl
theorem q278 : (Jvm.Cond.methodLink "RangeRulesModel" (59 : Nat) ({ cls := "RangeRulesModel", name := "tell", desc := "(JJ)I" } : Jvm.MethodName)) ∈ lw_all := lw_g (lw_at lw_m2 23 rfl) rfl
theorem q279 : (Jvm.Cond.privateMethod ({ cls := "RangeRulesModel", name := "tell", desc := "(JJ)I" } : Jvm.MethodName)) ∈ lw_tbl := lw_at lw_m2 24 rfl
theorem q280 : (Jvm.Cond.instanceMethod ({ cls := "RangeRulesModel", name := "tell", desc := "(JJ)I" } : Jvm.MethodName)) ∈ lw_all := lw_g (lw_at lw_m2 25 rfl) rfl
theorem q281 : (Jvm.Cond.code ({ cls := "RangeRulesModel", name := "tell", desc := "(JJ)I" } : Jvm.MethodName) prog_5_method_10_code (6 : Nat) (Option.some Jvm.ClassFile.FieldType.int)) ∈ lw_all := lw_g (lw_at lw_m2 26 rfl) rfl
theorem q283 : (Jvm.Cond.instanceMethod ({ cls := "RangeRulesModel", name := "work", desc := "(IIIII)I" } : Jvm.MethodName)) ∈ lw_all := lw_g (lw_at lw_m2 28 rfl) rfl
theorem q284 : (Jvm.Cond.selects "RangeRulesModel" ({ cls := "RangeRulesModel", name := "work", desc := "(IIIII)I" } : Jvm.MethodName) ({ cls := "RangeRulesModel", name := "work", desc := "(IIIII)I" } : Jvm.MethodName)) ∈ lw_all := lw_g (lw_at lw_m2 29 rfl) rfl
theorem q285 : (Jvm.Cond.code ({ cls := "RangeRulesModel", name := "work", desc := "(IIIII)I" } : Jvm.MethodName) prog_5_method_14_code (8 : Nat) (Option.some Jvm.ClassFile.FieldType.int)) ∈ lw_all := lw_g (lw_at lw_m2 30 rfl) rfl
theorem q286 : (Jvm.Cond.methodLink "RangeRulesModel" (72 : Nat) ({ cls := "RangeRulesModel", name := "tellLeast", desc := "(JJJJ)I" } : Jvm.MethodName)) ∈ lw_all := lw_g (lw_at lw_m2 31 rfl) rfl
theorem q287 : (Jvm.Cond.privateMethod ({ cls := "RangeRulesModel", name := "tellLeast", desc := "(JJJJ)I" } : Jvm.MethodName)) ∈ lw_tbl := lw_at lw_m2 32 rfl
theorem q288 : (Jvm.Cond.instanceMethod ({ cls := "RangeRulesModel", name := "tellLeast", desc := "(JJJJ)I" } : Jvm.MethodName)) ∈ lw_all := lw_g (lw_at lw_m2 33 rfl) rfl
theorem q289 : (Jvm.Cond.code ({ cls := "RangeRulesModel", name := "tellLeast", desc := "(JJJJ)I" } : Jvm.MethodName) prog_5_method_12_code (9 : Nat) (Option.some Jvm.ClassFile.FieldType.int)) ∈ lw_all := lw_g (lw_at lw_m2 34 rfl) rfl
theorem q290 : (Jvm.Cond.methodLink "RangeRulesModel" (63 : Nat) ({ cls := "java/lang/Math", name := "min", desc := "(JJ)J" } : Jvm.MethodName)) ∈ lw_all := lw_g (lw_at lw_m2 35 rfl) rfl
theorem q291 : (Jvm.Cond.methodLink "RangeRulesModel" (66 : Nat) ({ cls := "java/lang/Math", name := "max", desc := "(JJ)J" } : Jvm.MethodName)) ∈ lw_all := lw_g (lw_at lw_m2 36 rfl) rfl
theorem q292 : (Jvm.Cond.methodLink "RangeRulesModel" (76 : Nat) ({ cls := "RangeRulesModel", name := "quotient", desc := "(IIII)I" } : Jvm.MethodName)) ∈ lw_all := lw_g (lw_at lw_m2 37 rfl) rfl
theorem q293 : (Jvm.Cond.privateMethod ({ cls := "RangeRulesModel", name := "quotient", desc := "(IIII)I" } : Jvm.MethodName)) ∈ lw_tbl := lw_at lw_m2 38 rfl
theorem q294 : (Jvm.Cond.instanceMethod ({ cls := "RangeRulesModel", name := "quotient", desc := "(IIII)I" } : Jvm.MethodName)) ∈ lw_all := lw_g (lw_at lw_m2 39 rfl) rfl
theorem q295 : (Jvm.Cond.code ({ cls := "RangeRulesModel", name := "quotient", desc := "(IIII)I" } : Jvm.MethodName) prog_5_method_16_code (12 : Nat) (Option.some Jvm.ClassFile.FieldType.int)) ∈ lw_all := lw_g (lw_at lw_m2 40 rfl) rfl
theorem q296 : (Jvm.Cond.constantLong "RangeRulesModel" (96 : Nat) (9223372036854775807 : Int64)) ∈ lw_all := lw_g (lw_at lw_m2 41 rfl) rfl
theorem q297 : (Jvm.Cond.constantLong "RangeRulesModel" (98 : Nat) (-9223372036854775808 : Int64)) ∈ lw_all := lw_g (lw_at lw_m2 42 rfl) rfl
theorem q298 : (Jvm.Cond.methodLink "RangeRulesModel" (80 : Nat) ({ cls := "RangeRulesModel", name := "rest", desc := "(IIJJ)I" } : Jvm.MethodName)) ∈ lw_all := lw_g (lw_at lw_m2 43 rfl) rfl
theorem q299 : (Jvm.Cond.privateMethod ({ cls := "RangeRulesModel", name := "rest", desc := "(IIJJ)I" } : Jvm.MethodName)) ∈ lw_tbl := lw_at lw_m2 44 rfl
theorem q300 : (Jvm.Cond.instanceMethod ({ cls := "RangeRulesModel", name := "rest", desc := "(IIJJ)I" } : Jvm.MethodName)) ∈ lw_all := lw_g (lw_at lw_m2 45 rfl) rfl
theorem q301 : (Jvm.Cond.code ({ cls := "RangeRulesModel", name := "rest", desc := "(IIJJ)I" } : Jvm.MethodName) prog_5_method_17_code (9 : Nat) (Option.some Jvm.ClassFile.FieldType.int)) ∈ lw_all := lw_g (lw_at lw_m2 46 rfl) rfl
theorem q302 : (Jvm.Cond.methodLink "RangeRulesModel" (100 : Nat) ({ cls := "java/lang/Math", name := "abs", desc := "(J)J" } : Jvm.MethodName)) ∈ lw_all := lw_g (lw_at lw_m2 47 rfl) rfl
theorem q303 : (Jvm.Cond.methodLink "RangeRulesModel" (84 : Nat) ({ cls := "RangeRulesModel", name := "tellAll", desc := "()I" } : Jvm.MethodName)) ∈ lw_all := lw_g (lw_at lw_m2 48 rfl) rfl
theorem q304 : (Jvm.Cond.privateMethod ({ cls := "RangeRulesModel", name := "tellAll", desc := "()I" } : Jvm.MethodName)) ∈ lw_tbl := lw_at lw_m2 49 rfl
theorem q305 : (Jvm.Cond.instanceMethod ({ cls := "RangeRulesModel", name := "tellAll", desc := "()I" } : Jvm.MethodName)) ∈ lw_all := lw_g (lw_at lw_m2 50 rfl) rfl
theorem q306 : (Jvm.Cond.code ({ cls := "RangeRulesModel", name := "tellAll", desc := "()I" } : Jvm.MethodName) prog_5_method_11_code (1 : Nat) (Option.some Jvm.ClassFile.FieldType.int)) ∈ lw_all := lw_g (lw_at lw_m2 51 rfl) rfl
theorem q307 : (Jvm.Cond.methodLink "RangeRulesModel" (88 : Nat) ({ cls := "RangeRulesModel", name := "ones", desc := "(I)J" } : Jvm.MethodName)) ∈ lw_all := lw_g (lw_at lw_m2 52 rfl) rfl
theorem q308 : (Jvm.Cond.static ({ cls := "RangeRulesModel", name := "ones", desc := "(I)J" } : Jvm.MethodName)) ∈ lw_all := lw_g (lw_at lw_m2 53 rfl) rfl
theorem q309 : (Jvm.Cond.code ({ cls := "RangeRulesModel", name := "ones", desc := "(I)J" } : Jvm.MethodName) prog_5_method_15_code (3 : Nat) (Option.some Jvm.ClassFile.FieldType.long)) ∈ lw_all := lw_g (lw_at lw_m2 54 rfl) rfl
theorem q310 : (Jvm.Cond.constantLong "RangeRulesModel" (92 : Nat) (2 : Int64)) ∈ lw_all := lw_g (lw_at lw_m2 55 rfl) rfl
theorem q312 : (Jvm.Cond.instanceMethod ({ cls := "RangeRulesModel", name := "low", desc := "()I" } : Jvm.MethodName)) ∈ lw_all := lw_g (lw_at lw_m2 57 rfl) rfl
theorem q313 : (Jvm.Cond.selects "RangeRulesModel" ({ cls := "RangeRulesModel", name := "low", desc := "()I" } : Jvm.MethodName) ({ cls := "RangeRulesModel", name := "low", desc := "()I" } : Jvm.MethodName)) ∈ lw_all := lw_g (lw_at lw_m2 58 rfl) rfl
theorem q314 : (Jvm.Cond.code ({ cls := "RangeRulesModel", name := "low", desc := "()I" } : Jvm.MethodName) prog_5_method_18_code (1 : Nat) (Option.some Jvm.ClassFile.FieldType.int)) ∈ lw_all := lw_g (lw_at lw_m2 59 rfl) rfl
theorem q316 : (Jvm.Cond.instanceMethod ({ cls := "RangeRulesModel", name := "high", desc := "()I" } : Jvm.MethodName)) ∈ lw_all := lw_g (lw_at lw_m2 61 rfl) rfl
theorem q317 : (Jvm.Cond.selects "RangeRulesModel" ({ cls := "RangeRulesModel", name := "high", desc := "()I" } : Jvm.MethodName) ({ cls := "RangeRulesModel", name := "high", desc := "()I" } : Jvm.MethodName)) ∈ lw_all := lw_g (lw_at lw_m2 62 rfl) rfl
theorem q318 : (Jvm.Cond.code ({ cls := "RangeRulesModel", name := "high", desc := "()I" } : Jvm.MethodName) prog_5_method_19_code (1 : Nat) (Option.some Jvm.ClassFile.FieldType.int)) ∈ lw_all := lw_g (lw_at lw_m2 63 rfl) rfl
theorem in_X3 : ∀ w ∈ wsX30, w ∈ lw_all := lw_in wsX30 [234, 236, 238, 240, 242] (by decide +kernel) (by decide +kernel)
end
section
/-! the law's own entry -/
set_option maxRecDepth 100000
abbrev cL_law : ByteArray := code
theorem dL_law_0 : decode cL_law 0 = .ok (.new 7, 3) := by decide +kernel
theorem dL_law_3 : decode cL_law 3 = .ok (.dup, 1) := by decide +kernel
theorem dL_law_4 : decode cL_law 4 = .ok (.invokespecial 9, 3) := by decide +kernel
theorem dL_law_7 : decode cL_law 7 = .ok (.astore_n 1, 1) := by decide +kernel
theorem dL_law_8 : decode cL_law 8 = .ok (.new 10, 3) := by decide +kernel
theorem dL_law_11 : decode cL_law 11 = .ok (.dup, 1) := by decide +kernel
theorem dL_law_12 : decode cL_law 12 = .ok (.invokespecial 12, 3) := by decide +kernel
theorem dL_law_15 : decode cL_law 15 = .ok (.astore_n 2, 1) := by decide +kernel
theorem dL_law_16 : decode cL_law 16 = .ok (.iconst 0, 1) := by decide +kernel
theorem dL_law_17 : decode cL_law 17 = .ok (.istore_n 3, 1) := by decide +kernel
theorem dL_law_18 : decode cL_law 18 = .ok (.iload_n 3, 1) := by decide +kernel
theorem dL_law_19 : decode cL_law 19 = .ok (.aload_n 0, 1) := by decide +kernel
theorem dL_law_20 : decode cL_law 20 = .ok (.arraylength, 1) := by decide +kernel
theorem dL_law_21 : decode cL_law 21 = .ok (.bipush 6, 2) := by decide +kernel
theorem dL_law_23 : decode cL_law 23 = .ok (.isub, 1) := by decide +kernel
theorem dL_law_24 : decode cL_law 24 = .ok (.if_icmp .gt 281, 3) := by decide +kernel
theorem dL_law_27 : decode cL_law 27 = .ok (.aload_n 0, 1) := by decide +kernel
theorem dL_law_28 : decode cL_law 28 = .ok (.iload_n 3, 1) := by decide +kernel
theorem dL_law_29 : decode cL_law 29 = .ok (.iaload, 1) := by decide +kernel
theorem dL_law_30 : decode cL_law 30 = .ok (.bipush 15, 2) := by decide +kernel
theorem dL_law_32 : decode cL_law 32 = .ok (.iand, 1) := by decide +kernel
theorem dL_law_33 : decode cL_law 33 = .ok (.tableswitch 266 0 8 #[51, 74, 85, 98, 121, 144, 207, 240, 253], 51) := by decide +kernel
theorem dL_law_84 : decode cL_law 84 = .ok (.aload_n 1, 1) := by decide +kernel
theorem dL_law_85 : decode cL_law 85 = .ok (.aload_n 0, 1) := by decide +kernel
theorem dL_law_86 : decode cL_law 86 = .ok (.iload_n 3, 1) := by decide +kernel
theorem dL_law_87 : decode cL_law 87 = .ok (.iconst 1, 1) := by decide +kernel
theorem dL_law_88 : decode cL_law 88 = .ok (.iadd, 1) := by decide +kernel
theorem dL_law_89 : decode cL_law 89 = .ok (.iaload, 1) := by decide +kernel
theorem dL_law_90 : decode cL_law 90 = .ok (.invokevirtual 13, 3) := by decide +kernel
theorem dL_law_93 : decode cL_law 93 = .ok (.aload_n 2, 1) := by decide +kernel
theorem dL_law_94 : decode cL_law 94 = .ok (.aload_n 0, 1) := by decide +kernel
theorem dL_law_95 : decode cL_law 95 = .ok (.iload_n 3, 1) := by decide +kernel
theorem dL_law_96 : decode cL_law 96 = .ok (.iconst 1, 1) := by decide +kernel
theorem dL_law_97 : decode cL_law 97 = .ok (.iadd, 1) := by decide +kernel
theorem dL_law_98 : decode cL_law 98 = .ok (.iaload, 1) := by decide +kernel
theorem dL_law_99 : decode cL_law 99 = .ok (.invokevirtual 17, 3) := by decide +kernel
theorem dL_law_102 : decode cL_law 102 = .ok (.if_icmp .eq 197, 3) := by decide +kernel
theorem dL_law_105 : decode cL_law 105 = .ok (.iconst 0, 1) := by decide +kernel
theorem dL_law_106 : decode cL_law 106 = .ok (.ireturn, 1) := by decide +kernel
theorem dL_law_107 : decode cL_law 107 = .ok (.aload_n 1, 1) := by decide +kernel
theorem dL_law_108 : decode cL_law 108 = .ok (.invokevirtual 18, 3) := by decide +kernel
theorem dL_law_111 : decode cL_law 111 = .ok (.aload_n 2, 1) := by decide +kernel
theorem dL_law_112 : decode cL_law 112 = .ok (.invokevirtual 21, 3) := by decide +kernel
theorem dL_law_115 : decode cL_law 115 = .ok (.goto 184, 3) := by decide +kernel
theorem dL_law_118 : decode cL_law 118 = .ok (.aload_n 1, 1) := by decide +kernel
theorem dL_law_119 : decode cL_law 119 = .ok (.invokevirtual 22, 3) := by decide +kernel
theorem dL_law_122 : decode cL_law 122 = .ok (.aload_n 2, 1) := by decide +kernel
theorem dL_law_123 : decode cL_law 123 = .ok (.invokevirtual 26, 3) := by decide +kernel
theorem dL_law_126 : decode cL_law 126 = .ok (.if_icmp .eq 173, 3) := by decide +kernel
theorem dL_law_129 : decode cL_law 129 = .ok (.iconst 0, 1) := by decide +kernel
theorem dL_law_130 : decode cL_law 130 = .ok (.ireturn, 1) := by decide +kernel
theorem dL_law_131 : decode cL_law 131 = .ok (.aload_n 1, 1) := by decide +kernel
theorem dL_law_132 : decode cL_law 132 = .ok (.aload_n 0, 1) := by decide +kernel
theorem dL_law_133 : decode cL_law 133 = .ok (.iload_n 3, 1) := by decide +kernel
theorem dL_law_134 : decode cL_law 134 = .ok (.iconst 1, 1) := by decide +kernel
theorem dL_law_135 : decode cL_law 135 = .ok (.iadd, 1) := by decide +kernel
theorem dL_law_136 : decode cL_law 136 = .ok (.iaload, 1) := by decide +kernel
theorem dL_law_137 : decode cL_law 137 = .ok (.invokevirtual 27, 3) := by decide +kernel
theorem dL_law_140 : decode cL_law 140 = .ok (.aload_n 2, 1) := by decide +kernel
theorem dL_law_141 : decode cL_law 141 = .ok (.aload_n 0, 1) := by decide +kernel
theorem dL_law_142 : decode cL_law 142 = .ok (.iload_n 3, 1) := by decide +kernel
theorem dL_law_143 : decode cL_law 143 = .ok (.iconst 1, 1) := by decide +kernel
theorem dL_law_144 : decode cL_law 144 = .ok (.iadd, 1) := by decide +kernel
theorem dL_law_145 : decode cL_law 145 = .ok (.iaload, 1) := by decide +kernel
theorem dL_law_146 : decode cL_law 146 = .ok (.invokevirtual 30, 3) := by decide +kernel
theorem dL_law_149 : decode cL_law 149 = .ok (.if_icmp .eq 150, 3) := by decide +kernel
theorem dL_law_152 : decode cL_law 152 = .ok (.iconst 0, 1) := by decide +kernel
theorem dL_law_153 : decode cL_law 153 = .ok (.ireturn, 1) := by decide +kernel
theorem dL_law_154 : decode cL_law 154 = .ok (.aload_n 1, 1) := by decide +kernel
theorem dL_law_155 : decode cL_law 155 = .ok (.aload_n 0, 1) := by decide +kernel
theorem dL_law_156 : decode cL_law 156 = .ok (.iload_n 3, 1) := by decide +kernel
theorem dL_law_157 : decode cL_law 157 = .ok (.iconst 1, 1) := by decide +kernel
theorem dL_law_158 : decode cL_law 158 = .ok (.iadd, 1) := by decide +kernel
theorem dL_law_159 : decode cL_law 159 = .ok (.iaload, 1) := by decide +kernel
theorem dL_law_160 : decode cL_law 160 = .ok (.invokevirtual 31, 3) := by decide +kernel
theorem dL_law_163 : decode cL_law 163 = .ok (.aload_n 2, 1) := by decide +kernel
theorem dL_law_164 : decode cL_law 164 = .ok (.aload_n 0, 1) := by decide +kernel
theorem dL_law_165 : decode cL_law 165 = .ok (.iload_n 3, 1) := by decide +kernel
theorem dL_law_166 : decode cL_law 166 = .ok (.iconst 1, 1) := by decide +kernel
theorem dL_law_167 : decode cL_law 167 = .ok (.iadd, 1) := by decide +kernel
theorem dL_law_168 : decode cL_law 168 = .ok (.iaload, 1) := by decide +kernel
theorem dL_law_169 : decode cL_law 169 = .ok (.invokevirtual 34, 3) := by decide +kernel
theorem dL_law_172 : decode cL_law 172 = .ok (.if_icmp .eq 127, 3) := by decide +kernel
theorem dL_law_175 : decode cL_law 175 = .ok (.iconst 0, 1) := by decide +kernel
theorem dL_law_176 : decode cL_law 176 = .ok (.ireturn, 1) := by decide +kernel
theorem dL_law_177 : decode cL_law 177 = .ok (.aload_n 1, 1) := by decide +kernel
theorem dL_law_178 : decode cL_law 178 = .ok (.aload_n 0, 1) := by decide +kernel
theorem dL_law_179 : decode cL_law 179 = .ok (.iload_n 3, 1) := by decide +kernel
theorem dL_law_180 : decode cL_law 180 = .ok (.iconst 1, 1) := by decide +kernel
theorem dL_law_181 : decode cL_law 181 = .ok (.iadd, 1) := by decide +kernel
theorem dL_law_182 : decode cL_law 182 = .ok (.iaload, 1) := by decide +kernel
theorem dL_law_183 : decode cL_law 183 = .ok (.aload_n 0, 1) := by decide +kernel
theorem dL_law_184 : decode cL_law 184 = .ok (.iload_n 3, 1) := by decide +kernel
theorem dL_law_185 : decode cL_law 185 = .ok (.iconst 2, 1) := by decide +kernel
theorem dL_law_186 : decode cL_law 186 = .ok (.iadd, 1) := by decide +kernel
theorem dL_law_187 : decode cL_law 187 = .ok (.iaload, 1) := by decide +kernel
theorem dL_law_188 : decode cL_law 188 = .ok (.aload_n 0, 1) := by decide +kernel
theorem dL_law_189 : decode cL_law 189 = .ok (.iload_n 3, 1) := by decide +kernel
theorem dL_law_190 : decode cL_law 190 = .ok (.iconst 3, 1) := by decide +kernel
theorem dL_law_191 : decode cL_law 191 = .ok (.iadd, 1) := by decide +kernel
theorem dL_law_192 : decode cL_law 192 = .ok (.iaload, 1) := by decide +kernel
theorem dL_law_193 : decode cL_law 193 = .ok (.aload_n 0, 1) := by decide +kernel
theorem dL_law_194 : decode cL_law 194 = .ok (.iload_n 3, 1) := by decide +kernel
theorem dL_law_195 : decode cL_law 195 = .ok (.iconst 4, 1) := by decide +kernel
theorem dL_law_196 : decode cL_law 196 = .ok (.iadd, 1) := by decide +kernel
theorem dL_law_197 : decode cL_law 197 = .ok (.iaload, 1) := by decide +kernel
theorem dL_law_198 : decode cL_law 198 = .ok (.aload_n 0, 1) := by decide +kernel
theorem dL_law_199 : decode cL_law 199 = .ok (.iload_n 3, 1) := by decide +kernel
theorem dL_law_200 : decode cL_law 200 = .ok (.iconst 5, 1) := by decide +kernel
theorem dL_law_201 : decode cL_law 201 = .ok (.iadd, 1) := by decide +kernel
theorem dL_law_202 : decode cL_law 202 = .ok (.iaload, 1) := by decide +kernel
theorem dL_law_203 : decode cL_law 203 = .ok (.invokevirtual 35, 3) := by decide +kernel
theorem dL_law_206 : decode cL_law 206 = .ok (.aload_n 2, 1) := by decide +kernel
theorem dL_law_207 : decode cL_law 207 = .ok (.aload_n 0, 1) := by decide +kernel
theorem dL_law_208 : decode cL_law 208 = .ok (.iload_n 3, 1) := by decide +kernel
theorem dL_law_209 : decode cL_law 209 = .ok (.iconst 1, 1) := by decide +kernel
theorem dL_law_210 : decode cL_law 210 = .ok (.iadd, 1) := by decide +kernel
theorem dL_law_211 : decode cL_law 211 = .ok (.iaload, 1) := by decide +kernel
theorem dL_law_212 : decode cL_law 212 = .ok (.aload_n 0, 1) := by decide +kernel
theorem dL_law_213 : decode cL_law 213 = .ok (.iload_n 3, 1) := by decide +kernel
theorem dL_law_214 : decode cL_law 214 = .ok (.iconst 2, 1) := by decide +kernel
theorem dL_law_215 : decode cL_law 215 = .ok (.iadd, 1) := by decide +kernel
theorem dL_law_216 : decode cL_law 216 = .ok (.iaload, 1) := by decide +kernel
theorem dL_law_217 : decode cL_law 217 = .ok (.aload_n 0, 1) := by decide +kernel
theorem dL_law_218 : decode cL_law 218 = .ok (.iload_n 3, 1) := by decide +kernel
theorem dL_law_219 : decode cL_law 219 = .ok (.iconst 3, 1) := by decide +kernel
theorem dL_law_220 : decode cL_law 220 = .ok (.iadd, 1) := by decide +kernel
theorem dL_law_221 : decode cL_law 221 = .ok (.iaload, 1) := by decide +kernel
theorem dL_law_222 : decode cL_law 222 = .ok (.aload_n 0, 1) := by decide +kernel
theorem dL_law_223 : decode cL_law 223 = .ok (.iload_n 3, 1) := by decide +kernel
theorem dL_law_224 : decode cL_law 224 = .ok (.iconst 4, 1) := by decide +kernel
theorem dL_law_225 : decode cL_law 225 = .ok (.iadd, 1) := by decide +kernel
theorem dL_law_226 : decode cL_law 226 = .ok (.iaload, 1) := by decide +kernel
theorem dL_law_227 : decode cL_law 227 = .ok (.aload_n 0, 1) := by decide +kernel
theorem dL_law_228 : decode cL_law 228 = .ok (.iload_n 3, 1) := by decide +kernel
theorem dL_law_229 : decode cL_law 229 = .ok (.iconst 5, 1) := by decide +kernel
theorem dL_law_230 : decode cL_law 230 = .ok (.iadd, 1) := by decide +kernel
theorem dL_law_231 : decode cL_law 231 = .ok (.iaload, 1) := by decide +kernel
theorem dL_law_232 : decode cL_law 232 = .ok (.invokevirtual 39, 3) := by decide +kernel
theorem dL_law_235 : decode cL_law 235 = .ok (.if_icmp .eq 64, 3) := by decide +kernel
theorem dL_law_238 : decode cL_law 238 = .ok (.iconst 0, 1) := by decide +kernel
theorem dL_law_239 : decode cL_law 239 = .ok (.ireturn, 1) := by decide +kernel
theorem dL_law_240 : decode cL_law 240 = .ok (.aload_n 1, 1) := by decide +kernel
theorem dL_law_241 : decode cL_law 241 = .ok (.aload_n 0, 1) := by decide +kernel
theorem dL_law_242 : decode cL_law 242 = .ok (.iload_n 3, 1) := by decide +kernel
theorem dL_law_243 : decode cL_law 243 = .ok (.iconst 1, 1) := by decide +kernel
theorem dL_law_244 : decode cL_law 244 = .ok (.iadd, 1) := by decide +kernel
theorem dL_law_245 : decode cL_law 245 = .ok (.iaload, 1) := by decide +kernel
theorem dL_law_246 : decode cL_law 246 = .ok (.aload_n 0, 1) := by decide +kernel
theorem dL_law_247 : decode cL_law 247 = .ok (.iload_n 3, 1) := by decide +kernel
theorem dL_law_248 : decode cL_law 248 = .ok (.iconst 2, 1) := by decide +kernel
theorem dL_law_249 : decode cL_law 249 = .ok (.iadd, 1) := by decide +kernel
theorem dL_law_250 : decode cL_law 250 = .ok (.iaload, 1) := by decide +kernel
theorem dL_law_251 : decode cL_law 251 = .ok (.invokevirtual 40, 3) := by decide +kernel
theorem dL_law_254 : decode cL_law 254 = .ok (.aload_n 2, 1) := by decide +kernel
theorem dL_law_255 : decode cL_law 255 = .ok (.aload_n 0, 1) := by decide +kernel
theorem dL_law_256 : decode cL_law 256 = .ok (.iload_n 3, 1) := by decide +kernel
theorem dL_law_257 : decode cL_law 257 = .ok (.iconst 1, 1) := by decide +kernel
theorem dL_law_258 : decode cL_law 258 = .ok (.iadd, 1) := by decide +kernel
theorem dL_law_259 : decode cL_law 259 = .ok (.iaload, 1) := by decide +kernel
theorem dL_law_260 : decode cL_law 260 = .ok (.aload_n 0, 1) := by decide +kernel
theorem dL_law_261 : decode cL_law 261 = .ok (.iload_n 3, 1) := by decide +kernel
theorem dL_law_262 : decode cL_law 262 = .ok (.iconst 2, 1) := by decide +kernel
theorem dL_law_263 : decode cL_law 263 = .ok (.iadd, 1) := by decide +kernel
theorem dL_law_264 : decode cL_law 264 = .ok (.iaload, 1) := by decide +kernel
theorem dL_law_265 : decode cL_law 265 = .ok (.invokevirtual 44, 3) := by decide +kernel
theorem dL_law_268 : decode cL_law 268 = .ok (.if_icmp .eq 31, 3) := by decide +kernel
theorem dL_law_271 : decode cL_law 271 = .ok (.iconst 0, 1) := by decide +kernel
theorem dL_law_272 : decode cL_law 272 = .ok (.ireturn, 1) := by decide +kernel
theorem dL_law_273 : decode cL_law 273 = .ok (.aload_n 1, 1) := by decide +kernel
theorem dL_law_274 : decode cL_law 274 = .ok (.invokevirtual 45, 3) := by decide +kernel
theorem dL_law_277 : decode cL_law 277 = .ok (.aload_n 2, 1) := by decide +kernel
theorem dL_law_278 : decode cL_law 278 = .ok (.invokevirtual 48, 3) := by decide +kernel
theorem dL_law_281 : decode cL_law 281 = .ok (.if_icmp .eq 18, 3) := by decide +kernel
theorem dL_law_284 : decode cL_law 284 = .ok (.iconst 0, 1) := by decide +kernel
theorem dL_law_285 : decode cL_law 285 = .ok (.ireturn, 1) := by decide +kernel
theorem dL_law_286 : decode cL_law 286 = .ok (.aload_n 1, 1) := by decide +kernel
theorem dL_law_287 : decode cL_law 287 = .ok (.invokevirtual 49, 3) := by decide +kernel
theorem dL_law_290 : decode cL_law 290 = .ok (.aload_n 2, 1) := by decide +kernel
theorem dL_law_291 : decode cL_law 291 = .ok (.invokevirtual 52, 3) := by decide +kernel
theorem dL_law_294 : decode cL_law 294 = .ok (.if_icmp .eq 5, 3) := by decide +kernel
theorem dL_law_297 : decode cL_law 297 = .ok (.iconst 0, 1) := by decide +kernel
theorem dL_law_298 : decode cL_law 298 = .ok (.ireturn, 1) := by decide +kernel
theorem dL_law_299 : decode cL_law 299 = .ok (.iinc 3 6, 3) := by decide +kernel
theorem dL_law_302 : decode cL_law 302 = .ok (.goto (-284), 3) := by decide +kernel
theorem dL_law_305 : decode cL_law 305 = .ok (.iconst 1, 1) := by decide +kernel
theorem dL_law_306 : decode cL_law 306 = .ok (.ireturn, 1) := by decide +kernel
end
section
/-! OWN ROWS: the classes of the claim, contracts in one shape, calls with the frame rule, a few instruction rows -/
abbrev vwCl : List vw_C := [(RX0, TX0, 3), (RX1, TX1, 2), (RX2, TX2, 5), (RX3, TX3, 5)]
/-- the start of a method that writes: the cells ws, all its own -/
def rr_ctr (D : va_G) (tys : List (ClassId × FieldType)) (ws : va_W) (sz : Nat) (U : State) : Prop := U.heap.size = sz ∧ va_P D vwCl ws U.heap ∧ va_K D vwCl tys U ∧ va_D (fun _ => True) ws
/-- the start of a method that only reads -/
def rr_ro (D : va_G) (tys : List (ClassId × FieldType)) (ws : va_W) (sz : Nat) (U : State) : Prop := U.heap.size = sz ∧ va_P D vwCl ws U.heap ∧ va_K D vwCl tys U
/-- the world behind a method that writes -/
def rr_fin (D : va_G) (tys : List (ClassId × FieldType)) (ws : va_W) (A : Nat → Prop) (t : State) : Prop := va_P D vwCl ws t.heap ∧ va_K D vwCl tys t ∧ va_D A ws
abbrev rr_qV (D : va_G) {S : Type} (post : S → Prop) (ty1 : S → List (ClassId × FieldType)) (w1 : S → va_W) (A : Nat → Prop) : Array Value → State → Outcome → State → Prop := va_Qv post (fun u t => rr_fin D (ty1 u) (w1 u) A t) A
abbrev rr_qI (D : va_G) {S : Type} (post : Int32 → S → Prop) (ty1 : S → List (ClassId × FieldType)) (w1 : S → va_W) (A : Nat → Prop) : Array Value → State → Outcome → State → Prop := va_Qi post (fun u t => rr_fin D (ty1 u) (w1 u) A t) A
abbrev rr_qR (D : va_G) {S : Type} (post : S → Prop) (ty1 : S → List (ClassId × FieldType)) (w1 : S → Nat → va_W) (A : Nat → Prop) : Array Value → State → Outcome → State → Prop := va_Qr post (fun u ra t => rr_fin D (ty1 u) (w1 u ra) A t) A
abbrev rr_qO (post : Int32 → Prop) (A : Nat → Prop) : Array Value → State → Outcome → State → Prop := va_Qi (fun (r : Int32) (_ : Unit) => post r) (fun _ _ => True) A
abbrev rr_qL (post : Int64 → Prop) (A : Nat → Prop) : Array Value → State → Outcome → State → Prop := va_Ql (fun (r : Int64) (_ : Unit) => post r) (fun _ _ => True) A
/-- contracts: void, int, reference, int read-only, long read-only -/
abbrev rr_CV (l : Launch) (D : va_G) (y : MethodName) (wy : List Cond) (rm : Room) (av : List Value) (tys : List (ClassId × FieldType)) (wc : va_W) (sz : Nat) {S : Type} (post : S → Prop) (ty1 : S → List (ClassId × FieldType)) (w1 : S → va_W) (mc ms : Nat) : Prop := Met l y wy rm (va_Pc av (rr_ctr D tys wc sz)) (rr_qV D post ty1 w1 (va_A wc sz)) mc ms (va_A wc sz)
abbrev rr_CI (l : Launch) (D : va_G) (y : MethodName) (wy : List Cond) (rm : Room) (av : List Value) (tys : List (ClassId × FieldType)) (wc : va_W) (sz : Nat) {S : Type} (post : Int32 → S → Prop) (ty1 : S → List (ClassId × FieldType)) (w1 : S → va_W) (mc ms : Nat) : Prop := Met l y wy rm (va_Pc av (rr_ctr D tys wc sz)) (rr_qI D post ty1 w1 (va_A wc sz)) mc ms (va_A wc sz)
abbrev rr_CR (l : Launch) (D : va_G) (y : MethodName) (wy : List Cond) (rm : Room) (av : List Value) (tys : List (ClassId × FieldType)) (wc : va_W) (sz : Nat) {S : Type} (post : S → Prop) (ty1 : S → List (ClassId × FieldType)) (w1 : S → Nat → va_W) (mc ms : Nat) : Prop := Met l y wy rm (va_Pc av (rr_ctr D tys wc sz)) (rr_qR D post ty1 w1 (va_A wc sz)) mc ms (va_A wc sz)
abbrev rr_RI (l : Launch) (D : va_G) (y : MethodName) (wy : List Cond) (rm : Room) (av : List Value) (tys : List (ClassId × FieldType)) (ws : va_W) (sz : Nat) (post : Int32 → Prop) : Prop := Met l y wy rm (va_Pc av (rr_ro D tys ws sz)) (rr_qO post (va_A [] sz)) 0 0 (va_A [] sz)
abbrev rr_RL (l : Launch) (D : va_G) (y : MethodName) (wy : List Cond) (rm : Room) (av : List Value) (tys : List (ClassId × FieldType)) (ws : va_W) (sz : Nat) (post : Int64 → Prop) : Prop := Met l y wy rm (va_Pc av (rr_ro D tys ws sz)) (rr_qL post (va_A [] sz)) 0 0 (va_A [] sz)
theorem rr_blind {av : List Value} {D : va_G} {tys : List (ClassId × FieldType)} {ws : va_W} {sz : Nat} : FrameBlind (va_Pc av (rr_ctr D tys ws sz)) := by
  intro a U g mk q
  obtain ⟨q0, q1, qP, qK, qD⟩ := q
  exact ⟨q0, q1, qP, va_K.moved (u := U) (U := U.calling g mk a) (Vm.Alike.refl U.vm) qK, qD⟩
theorem rr_blindO {av : List Value} {D : va_G} {tys : List (ClassId × FieldType)} {ws : va_W} {sz : Nat} : FrameBlind (va_Pc av (rr_ro D tys ws sz)) := by
  intro a U g mk q
  obtain ⟨q0, q1, qP, qK⟩ := q
  exact ⟨q0, q1, qP, va_K.moved (u := U) (U := U.calling g mk a) (Vm.Alike.refl U.vm) qK⟩
theorem rr_pre {av : List Value} {D : va_G} {tys : List (ClassId × FieldType)} {ws : va_W} {s : State} {H : Heap} {A : Nat → Prop} (hP : va_P D vwCl ws H) (hK : va_K D vwCl tys s) (hD : va_D A ws) : ∀ U : State, U.heap = H → s.WarmedH U.vm → va_Pc av (rr_ctr D tys ws H.size) av.toArray U :=
  fun U hU hW => ⟨rfl, by rw [hU], by rw [hU]; exact hP, va_K.moved hW.alike hK, hD.weaken (fun _ _ _ _ => trivial)⟩
theorem rr_preO {av : List Value} {D : va_G} {tys : List (ClassId × FieldType)} {ws : va_W} {s : State} {H : Heap} (hP : va_P D vwCl ws H) (hK : va_K D vwCl tys s) : ∀ U : State, U.heap = H → s.WarmedH U.vm → va_Pc av (rr_ro D tys ws H.size) av.toArray U :=
  fun U hU hW => ⟨rfl, by rw [hU], by rw [hU]; exact hP, va_K.moved hW.alike hK⟩
theorem rr_endv {D : va_G} {S : Type} {post : S → Prop} {ty1 : S → List (ClassId × FieldType)} {w1 : S → va_W} {A : Nat → Prop} {s : State} {H : Heap} {locs : List Loc} {args : Array Value} (u : S) (hp : post u) (hP : va_P D vwCl (w1 u) H) (hK : va_K D vwCl (ty1 u) s) (hD : va_D A (w1 u)) (hS : va_S A s.heap H locs) : ∀ t : State, t.heap = H → s.WarmedH t.vm → rr_qV D post ty1 w1 A args s (.returned none) t :=
  fun t ht hW => ⟨⟨u, rfl, hp, by rw [ht]; exact hP, va_K.moved hW.alike hK, hD⟩, hS.F ht⟩
theorem rr_endi {D : va_G} {S : Type} {post : Int32 → S → Prop} {ty1 : S → List (ClassId × FieldType)} {w1 : S → va_W} {A : Nat → Prop} {s : State} {H : Heap} {locs : List Loc} {args : Array Value} {r : Int32} (u : S) (hp : post r u) (hP : va_P D vwCl (w1 u) H) (hK : va_K D vwCl (ty1 u) s) (hD : va_D A (w1 u)) (hS : va_S A s.heap H locs) : ∀ t : State, t.heap = H → s.WarmedH t.vm → rr_qI D post ty1 w1 A args s (.returned (some (.int r))) t :=
  fun t ht hW => ⟨⟨r, u, rfl, hp, by rw [ht]; exact hP, va_K.moved hW.alike hK, hD⟩, hS.F ht⟩
theorem rr_endr {D : va_G} {S : Type} {post : S → Prop} {ty1 : S → List (ClassId × FieldType)} {w1 : S → Nat → va_W} {A : Nat → Prop} {s : State} {H : Heap} {locs : List Loc} {args : Array Value} {ra : Nat} (u : S) (hp : post u) (hP : va_P D vwCl (w1 u ra) H) (hK : va_K D vwCl (ty1 u) s) (hD : va_D A (w1 u ra)) (hS : va_S A s.heap H locs) : ∀ t : State, t.heap = H → s.WarmedH t.vm → rr_qR D post ty1 w1 A args s (.returned (some (.ref ra))) t :=
  fun t ht hW => ⟨⟨u, ra, rfl, hp, by rw [ht]; exact hP, va_K.moved hW.alike hK, hD⟩, hS.F ht⟩
theorem rr_endo {post : Int32 → Prop} {A : Nat → Prop} {s : State} {H : Heap} {locs : List Loc} {args : Array Value} {r : Int32} (hp : post r) (hS : va_S A s.heap H locs) : ∀ t : State, t.heap = H → s.WarmedH t.vm → rr_qO post A args s (.returned (some (.int r))) t :=
  fun t ht _ => ⟨⟨r, (), rfl, hp, trivial⟩, hS.F ht⟩
theorem rr_endl {post : Int64 → Prop} {A : Nat → Prop} {s : State} {H : Heap} {locs : List Loc} {args : Array Value} {r : Int64} (hp : post r) (hS : va_S A s.heap H locs) : ∀ t : State, t.heap = H → s.WarmedH t.vm → rr_qL post A args s (.returned (some (.long r))) t :=
  fun t ht _ => ⟨⟨r, (), rfl, hp, trivial⟩, hS.F ht⟩
theorem rr_freeO {A : Nat → Prop} {H0 H : Heap} {locs : List Loc} (hS : va_S A H0 H locs) (hA : ∀ q : Nat, H0.size ≤ q → A q) : ∀ q, va_A [] H.size q → A q := by
  intro q h
  rcases h with ⟨k, e, h⟩ | h
  · simp at h
  · exact hA q (Nat.le_trans hS.1 h)
theorem rr_keepO {D : va_G} {ws : va_W} {H H1 : Heap} (hP : va_P D vwCl ws H) (hk : ∀ q : Nat, q < H.size → ¬ va_A [] H.size q → H1[q]? = H[q]?) : va_P D vwCl ws H1 := by
  refine hP.kept (fun k q hq => hk q.1 (hP k q hq).lt ?_)
  rintro (⟨j, e, h⟩ | h)
  · simp at h
  · exact absurd (hP k q hq).lt (Nat.not_lt.mpr h)
section RRCALL
variable {p : Program} {l : Launch} {e : Env} {R : Room} {s : State} {m : MethodId} {args : Array Value} {below : List Frame} {meth : Method} {c : Code} {H : Heap} {locs : List Loc} {cells slots : Nat} {Q : State → Prop}
variable {pc : Nat} {ls : Array Slot} {rest st0 : List Value} {a : Array Value} {A : Nat → Prop} {H0 : Heap} {mc ms : Nat} {D : va_G} {tys : List (ClassId × FieldType)} {ws wc wr : va_W}
theorem rr_callv {S : Type} {post : S → Prop} {ty1 : S → List (ClassId × FieldType)} {w1 : S → va_W} (hr : va_Run p l e R s m args below meth c H locs cells slots mc ms (F0 m pc ls st0) rest (rr_qV D post ty1 w1 (va_A wc H.size) a) (va_A wc H.size)) (hK : va_K D vwCl tys s) (hP : va_P D vwCl ws H) (hD : va_D A ws) (hS : va_S A H0 H locs) (hA : ∀ q : Nat, H0.size ≤ q → A q) (isC isR : List Nat) (hC : isC.map (fun i => ws[i]?) = wc.map some) (hR : isR.map (fun i => ws[i]?) = wr.map some) (hn : va_nd isR = true) (hdis : ∀ i ∈ isR, i ∉ isC)
    (kk : ∀ (u : S) (H1 : Heap) (locs1 : List Loc), post u → va_P D vwCl (wr ++ w1 u) H1 → va_D A (wr ++ w1 u) → va_K D vwCl (tys ++ ty1 u) s → va_S A H0 H1 locs1 → W p l e R s m args below meth c H1 locs1 (cells + mc) (slots + ms) Q (F0 m (pc + 3) ls rest)) : W p l e R s m args below meth c H locs cells slots Q (F0 m pc ls st0) := by
  have hFc := va_free (wc := wc) hD hS hA isC hC
  refine va_callv hr hS (fun q _ h => hFc q h) hFc (fun u t H1 locs1 ht hvm hw hB hz1 hk1 hS1 => ?_)
  obtain ⟨hP1, hK1, hD1⟩ := hB
  rw [ht] at hP1
  obtain ⟨hP2, hD2⟩ := va_join (wr := wr) hP hD isC isR hC hR hn hdis hk1 hFc hP1 hD1
  exact kk u H1 locs1 hw hP2 hD2 (hK.app (va_K.moved hvm.symm hK1)) hS1
theorem rr_calli {S : Type} {post : Int32 → S → Prop} {ty1 : S → List (ClassId × FieldType)} {w1 : S → va_W} (hr : va_Run p l e R s m args below meth c H locs cells slots mc ms (F0 m pc ls st0) rest (rr_qI D post ty1 w1 (va_A wc H.size) a) (va_A wc H.size)) (hK : va_K D vwCl tys s) (hP : va_P D vwCl ws H) (hD : va_D A ws) (hS : va_S A H0 H locs) (hA : ∀ q : Nat, H0.size ≤ q → A q) (isC isR : List Nat) (hC : isC.map (fun i => ws[i]?) = wc.map some) (hR : isR.map (fun i => ws[i]?) = wr.map some) (hn : va_nd isR = true) (hdis : ∀ i ∈ isR, i ∉ isC)
    (kk : ∀ (r : Int32) (u : S) (H1 : Heap) (locs1 : List Loc), post r u → va_P D vwCl (wr ++ w1 u) H1 → va_D A (wr ++ w1 u) → va_K D vwCl (tys ++ ty1 u) s → va_S A H0 H1 locs1 → W p l e R s m args below meth c H1 locs1 (cells + mc) (slots + ms) Q (F0 m (pc + 3) ls (.int r :: rest))) : W p l e R s m args below meth c H locs cells slots Q (F0 m pc ls st0) := by
  have hFc := va_free (wc := wc) hD hS hA isC hC
  refine va_calli hr hS (fun q _ h => hFc q h) hFc (fun r u t H1 locs1 ht hvm hw hB hz1 hk1 hS1 => ?_)
  obtain ⟨hP1, hK1, hD1⟩ := hB
  rw [ht] at hP1
  obtain ⟨hP2, hD2⟩ := va_join (wr := wr) hP hD isC isR hC hR hn hdis hk1 hFc hP1 hD1
  exact kk r u H1 locs1 hw hP2 hD2 (hK.app (va_K.moved hvm.symm hK1)) hS1
theorem rr_callr {S : Type} {post : S → Prop} {ty1 : S → List (ClassId × FieldType)} {w1 : S → Nat → va_W} (hr : va_Run p l e R s m args below meth c H locs cells slots mc ms (F0 m pc ls st0) rest (rr_qR D post ty1 w1 (va_A wc H.size) a) (va_A wc H.size)) (hK : va_K D vwCl tys s) (hP : va_P D vwCl ws H) (hD : va_D A ws) (hS : va_S A H0 H locs) (hA : ∀ q : Nat, H0.size ≤ q → A q) (isC isR : List Nat) (hC : isC.map (fun i => ws[i]?) = wc.map some) (hR : isR.map (fun i => ws[i]?) = wr.map some) (hn : va_nd isR = true) (hdis : ∀ i ∈ isR, i ∉ isC)
    (kk : ∀ (u : S) (ra : Nat) (H1 : Heap) (locs1 : List Loc), post u → va_P D vwCl (wr ++ w1 u ra) H1 → va_D A (wr ++ w1 u ra) → va_K D vwCl (tys ++ ty1 u) s → va_S A H0 H1 locs1 → W p l e R s m args below meth c H1 locs1 (cells + mc) (slots + ms) Q (F0 m (pc + 3) ls (.ref ra :: rest))) : W p l e R s m args below meth c H locs cells slots Q (F0 m pc ls st0) := by
  have hFc := va_free (wc := wc) hD hS hA isC hC
  refine va_callr hr hS (fun q _ h => hFc q h) hFc (fun u ra t H1 locs1 ht hvm hw hB hz1 hk1 hS1 => ?_)
  obtain ⟨hP1, hK1, hD1⟩ := hB
  rw [ht] at hP1
  obtain ⟨hP2, hD2⟩ := va_join (wr := wr) hP hD isC isR hC hR hn hdis hk1 hFc hP1 hD1
  exact kk u ra H1 locs1 hw hP2 hD2 (hK.app (va_K.moved hvm.symm hK1)) hS1
theorem rr_callo {post : Int32 → Prop} (hr : va_Run p l e R s m args below meth c H locs cells slots 0 0 (F0 m pc ls st0) rest (rr_qO post (va_A [] H.size) a) (va_A [] H.size)) (hP : va_P D vwCl ws H) (hS : va_S A H0 H locs) (hA : ∀ q : Nat, H0.size ≤ q → A q)
    (kk : ∀ (r : Int32) (H1 : Heap) (locs1 : List Loc), post r → va_P D vwCl ws H1 → va_S A H0 H1 locs1 → W p l e R s m args below meth c H1 locs1 cells slots Q (F0 m (pc + 3) ls (.int r :: rest))) : W p l e R s m args below meth c H locs cells slots Q (F0 m pc ls st0) := by
  have hFc := rr_freeO hS hA
  exact va_calli hr hS (fun q _ h => hFc q h) hFc (fun r u t H1 locs1 ht hvm hw hB hz1 hk1 hS1 => kk r H1 locs1 hw (rr_keepO hP hk1) hS1)
theorem rr_calll {post : Int64 → Prop} (hr : va_Run p l e R s m args below meth c H locs cells slots 0 0 (F0 m pc ls st0) rest (rr_qL post (va_A [] H.size) a) (va_A [] H.size)) (hP : va_P D vwCl ws H) (hS : va_S A H0 H locs) (hA : ∀ q : Nat, H0.size ≤ q → A q)
    (kk : ∀ (r : Int64) (H1 : Heap) (locs1 : List Loc), post r → va_P D vwCl ws H1 → va_S A H0 H1 locs1 → W p l e R s m args below meth c H1 locs1 cells slots Q (F0 m (pc + 3) ls (.long r :: rest))) : W p l e R s m args below meth c H locs cells slots Q (F0 m pc ls st0) := by
  have hFc := rr_freeO hS hA
  exact va_calll hr hS (fun q _ h => hFc q h) hFc (fun r u t H1 locs1 ht hvm hw hB hz1 hk1 hS1 => kk r H1 locs1 hw (rr_keepO hP hk1) hS1)
theorem rr_reti {x y : Int32} (h : x = y) (k : W p l e R s m args below meth c H locs cells slots Q (F0 m pc ls (.int y :: rest))) : W p l e R s m args below meth c H locs cells slots Q (F0 m pc ls (.int x :: rest)) := by
  subst h; exact k
theorem rr_retl {x y : Int64} (h : x = y) (k : W p l e R s m args below meth c H locs cells slots Q (F0 m pc ls (.long y :: rest))) : W p l e R s m args below meth c H locs cells slots Q (F0 m pc ls (.long x :: rest)) := by
  subst h; exact k
variable {cc : ByteArray}
-- lcmp with the branch behind it
theorem lc_lt (hexec : p.tables.exec = Jvm.exec) (hb : c.code = cc) {x y : Int64} {off : Int} {tgt : Nat} (hd1 : decode cc pc = .ok (.lcmp, 1)) (hd2 : decode cc (pc + 1) = .ok (.ifCond .lt off, 3)) (ht : ((pc + 1 : Nat) : Int) + off = (tgt : Int))
    (kt : x < y → W p l e R s m args below meth c H locs cells slots Q (F0 m tgt ls rest)) (kf : ¬ x < y → W p l e R s m args below meth c H locs cells slots Q (F0 m (pc + 1 + 3) ls rest)) : W p l e R s m args below meth c H locs cells slots Q (F0 m pc ls (.long y :: .long x :: rest)) :=
  W.lcmp hexec hb hd1 (lv_if_lt hexec hb hd2 ht (fun h => kt ((lg_cmp_lt x y).mp h)) (fun h => kf (fun q => h ((lg_cmp_lt x y).mpr q))))
theorem lc_ge (hexec : p.tables.exec = Jvm.exec) (hb : c.code = cc) {x y : Int64} {off : Int} {tgt : Nat} (hd1 : decode cc pc = .ok (.lcmp, 1)) (hd2 : decode cc (pc + 1) = .ok (.ifCond .ge off, 3)) (ht : ((pc + 1 : Nat) : Int) + off = (tgt : Int))
    (kt : y ≤ x → W p l e R s m args below meth c H locs cells slots Q (F0 m tgt ls rest)) (kf : ¬ y ≤ x → W p l e R s m args below meth c H locs cells slots Q (F0 m (pc + 1 + 3) ls rest)) : W p l e R s m args below meth c H locs cells slots Q (F0 m pc ls (.long y :: .long x :: rest)) :=
  W.lcmp hexec hb hd1 (lv_if_ge hexec hb hd2 ht (fun h => kt ((lg_cmp_ge x y).mp h)) (fun h => kf (fun q => h ((lg_cmp_ge x y).mpr q))))
theorem lc_gt (hexec : p.tables.exec = Jvm.exec) (hb : c.code = cc) {x y : Int64} {off : Int} {tgt : Nat} (hd1 : decode cc pc = .ok (.lcmp, 1)) (hd2 : decode cc (pc + 1) = .ok (.ifCond .gt off, 3)) (ht : ((pc + 1 : Nat) : Int) + off = (tgt : Int))
    (kt : y < x → W p l e R s m args below meth c H locs cells slots Q (F0 m tgt ls rest)) (kf : ¬ y < x → W p l e R s m args below meth c H locs cells slots Q (F0 m (pc + 1 + 3) ls rest)) : W p l e R s m args below meth c H locs cells slots Q (F0 m pc ls (.long y :: .long x :: rest)) :=
  W.lcmp hexec hb hd1 (lv_if_gt hexec hb hd2 ht (fun h => kt ((lg_cmp_gt x y).mp h)) (fun h => kf (fun q => h ((lg_cmp_gt x y).mpr q))))
theorem lc_le (hexec : p.tables.exec = Jvm.exec) (hb : c.code = cc) {x y : Int64} {off : Int} {tgt : Nat} (hd1 : decode cc pc = .ok (.lcmp, 1)) (hd2 : decode cc (pc + 1) = .ok (.ifCond .le off, 3)) (ht : ((pc + 1 : Nat) : Int) + off = (tgt : Int))
    (kt : x ≤ y → W p l e R s m args below meth c H locs cells slots Q (F0 m tgt ls rest)) (kf : ¬ x ≤ y → W p l e R s m args below meth c H locs cells slots Q (F0 m (pc + 1 + 3) ls rest)) : W p l e R s m args below meth c H locs cells slots Q (F0 m pc ls (.long y :: .long x :: rest)) :=
  W.lcmp hexec hb hd1 (lv_if_le hexec hb hd2 ht (fun h => kt ((lg_cmp_le x y).mp h)) (fun h => kf (fun q => h ((lg_cmp_le x y).mpr q))))
theorem lc_eq (hexec : p.tables.exec = Jvm.exec) (hb : c.code = cc) {x y : Int64} {off : Int} {tgt : Nat} (hd1 : decode cc pc = .ok (.lcmp, 1)) (hd2 : decode cc (pc + 1) = .ok (.ifCond .eq off, 3)) (ht : ((pc + 1 : Nat) : Int) + off = (tgt : Int))
    (kt : x = y → W p l e R s m args below meth c H locs cells slots Q (F0 m tgt ls rest)) (kf : ¬ x = y → W p l e R s m args below meth c H locs cells slots Q (F0 m (pc + 1 + 3) ls rest)) : W p l e R s m args below meth c H locs cells slots Q (F0 m pc ls (.long y :: .long x :: rest)) :=
  W.lcmp hexec hb hd1 (lv_if_eq hexec hb hd2 ht (fun h => kt ((lg_cmp_eq x y).mp h)) (fun h => kf (fun q => h ((lg_cmp_eq x y).mpr q))))
theorem lc_ne (hexec : p.tables.exec = Jvm.exec) (hb : c.code = cc) {x y : Int64} {off : Int} {tgt : Nat} (hd1 : decode cc pc = .ok (.lcmp, 1)) (hd2 : decode cc (pc + 1) = .ok (.ifCond .ne off, 3)) (ht : ((pc + 1 : Nat) : Int) + off = (tgt : Int))
    (kt : ¬ x = y → W p l e R s m args below meth c H locs cells slots Q (F0 m tgt ls rest)) (kf : x = y → W p l e R s m args below meth c H locs cells slots Q (F0 m (pc + 1 + 3) ls rest)) : W p l e R s m args below meth c H locs cells slots Q (F0 m pc ls (.long y :: .long x :: rest)) :=
  W.lcmp hexec hb hd1 (lv_if_ne hexec hb hd2 ht (fun h => kt (fun q => h ((lg_cmp_eq x y).mpr q))) (fun h => kf ((lg_cmp_eq x y).mp h)))
-- compares of two small numbers
theorem nn_ge (hexec : p.tables.exec = Jvm.exec) (hb : c.code = cc) {x y : Nat} {off : Int} {tgt : Nat} (hdg : decode cc pc = .ok (.if_icmp .ge off, 3)) (ht : (pc : Int) + off = (tgt : Int)) (hx : x < 2 ^ 31) (hy : y < 2 ^ 31)
    (kt : y ≤ x → W p l e R s m args below meth c H locs cells slots Q (F0 m tgt ls rest)) (kf : x < y → W p l e R s m args below meth c H locs cells slots Q (F0 m (pc + 3) ls rest)) : W p l e R s m args below meth c H locs cells slots Q (F0 m pc ls (.int (nI y) :: .int (nI x) :: rest)) :=
  lv_icmp_ge hexec hb hdg ht (fun h => kt ((nI_leI hy hx).mp h)) (fun h => kf (Nat.not_le.mp (fun q => h ((nI_leI hy hx).mpr q))))
theorem nn_le (hexec : p.tables.exec = Jvm.exec) (hb : c.code = cc) {x y : Nat} {off : Int} {tgt : Nat} (hdg : decode cc pc = .ok (.if_icmp .le off, 3)) (ht : (pc : Int) + off = (tgt : Int)) (hx : x < 2 ^ 31) (hy : y < 2 ^ 31)
    (kt : x ≤ y → W p l e R s m args below meth c H locs cells slots Q (F0 m tgt ls rest)) (kf : y < x → W p l e R s m args below meth c H locs cells slots Q (F0 m (pc + 3) ls rest)) : W p l e R s m args below meth c H locs cells slots Q (F0 m pc ls (.int (nI y) :: .int (nI x) :: rest)) :=
  lv_icmp_le hexec hb hdg ht (fun h => kt ((nI_leI hx hy).mp h)) (fun h => kf (Nat.not_le.mp (fun q => h ((nI_leI hx hy).mpr q))))
theorem nn_ne (hexec : p.tables.exec = Jvm.exec) (hb : c.code = cc) {x y : Nat} {off : Int} {tgt : Nat} (hdg : decode cc pc = .ok (.if_icmp .ne off, 3)) (ht : (pc : Int) + off = (tgt : Int)) (hx : x < 2 ^ 31) (hy : y < 2 ^ 31)
    (kt : x ≠ y → W p l e R s m args below meth c H locs cells slots Q (F0 m tgt ls rest)) (kf : x = y → W p l e R s m args below meth c H locs cells slots Q (F0 m (pc + 3) ls rest)) : W p l e R s m args below meth c H locs cells slots Q (F0 m pc ls (.int (nI y) :: .int (nI x) :: rest)) :=
  lv_icmp_ne hexec hb hdg ht (fun h => kt (fun q => h ((nI_eq hx hy).mpr q))) (fun h => kf ((nI_eq hx hy).mp h))
theorem nn_ifle (hexec : p.tables.exec = Jvm.exec) (hb : c.code = cc) {x : Nat} {off : Int} {tgt : Nat} (hdg : decode cc pc = .ok (.ifCond .le off, 3)) (ht : (pc : Int) + off = (tgt : Int)) (hx : x < 2 ^ 31)
    (kt : x = 0 → W p l e R s m args below meth c H locs cells slots Q (F0 m tgt ls rest)) (kf : 0 < x → W p l e R s m args below meth c H locs cells slots Q (F0 m (pc + 3) ls rest)) : W p l e R s m args below meth c H locs cells slots Q (F0 m pc ls (.int (nI x) :: rest)) :=
  lv_if_le hexec hb hdg ht (fun h => kt (Nat.le_zero.mp (Nat.not_lt.mp (fun q => nI_nle q hx h)))) (fun h => kf (Nat.pos_of_ne_zero (fun q => h (by rw [q]; decide))))
-- arrays at a small place
theorem nn_iald (hexec : p.tables.exec = Jvm.exec) (hb : c.code = cc) (hK : va_K D vwCl tys s) (hP : va_P D vwCl ws H) (q0 t0 : Nat) {ad : Nat} {cA : ClassId} {n : Nat} {f : Nat → Int32} (ha : ws[q0]? = some (ad, .inl (cA, n, .inl f))) (ht : tys[t0]? = some (cA, .int)) {i : Nat} (hi : i < n) (hn : n < 2 ^ 31) (hdg : decode cc pc = .ok (.iaload, 1))
    (kk : W p l e R s m args below meth c H locs cells slots Q (F0 m (pc + 1) ls (.int (f i) :: rest))) : W p l e R s m args below meth c H locs cells slots Q (F0 m pc ls (.int (nI i) :: .ref ad :: rest)) := by
  refine va_iald hexec hb hK hP q0 t0 ha ht (vp_in_nI hi hn) hdg ?_
  rw [nI_clamp (Nat.lt_trans hi hn)]
  exact kk
theorem nn_iast (hexec : p.tables.exec = Jvm.exec) (hb : c.code = cc) (hK : va_K D vwCl tys s) (hP : va_P D vwCl ws H) (hD : va_D A ws) (hS : va_S A H0 H locs) (q0 t0 : Nat) {ad : Nat} {cA : ClassId} {n : Nat} {f : Nat → Int32} (ha : ws[q0]? = some (ad, .inl (cA, n, .inl f))) (ht : tys[t0]? = some (cA, .int)) {i : Nat} {x : Int32} (hi : i < n) (hn : n < 2 ^ 31) (hdg : decode cc pc = .ok (.iastore, 1))
    (kk : ∀ (H1 : Heap) (locs1 : List Loc), va_P D vwCl (ws.set q0 (ad, .inl (cA, n, .inl (upd f i x)))) H1 → va_D A (ws.set q0 (ad, .inl (cA, n, .inl (upd f i x)))) → va_S A H0 H1 locs1 → W p l e R s m args below meth c H1 locs1 cells slots Q (F0 m (pc + 1) ls rest)) : W p l e R s m args below meth c H locs cells slots Q (F0 m pc ls (.int x :: .int (nI i) :: .ref ad :: rest)) := by
  refine va_iast hexec hb hK hP hD hS q0 t0 ha ht (vp_in_nI hi hn) hdg ?_
  rw [nI_clamp (Nat.lt_trans hi hn)]
  exact kk
end RRCALL
def mnL (x y : Int64) : Int64 := if y < x then y else x
def mxL (x y : Int64) : Int64 := if y < x then x else y
def abL (x : Int64) : Int64 := if 0 < x then x else -x
def mnI (x y : Int32) : Int32 := if y < x then y else x
def mxI (x y : Int32) : Int32 := if x < y then y else x
section RRMATH
variable {p : Program} {l : Launch} {e : Env} {R : Room} {s : State} {m : MethodId} {args : Array Value} {below : List Frame} {meth : Method} {c : Code} {H : Heap} {locs : List Loc} {cells slots : Nat} {Q : State → Prop}
variable {pc nL : Nat} {ls : Array Slot} {rest : List Value} {cc : ByteArray} {own : String} {idx : Nat}
theorem rr_minL (hexec : p.tables.exec = Jvm.exec) (hb : c.code = cc) (hml : c.maxLocals = nL) (hl : ls.size = nL) (hown : s.vm.findClass own = some m.cls) (hts : ∀ w ∈ lw_all, w.before args s = true) (hq : Cond.methodLink own idx yJ1_min_2 ∈ lw_all) (hf : 1 ≤ R.frames) (hlo : (rest.map fun v => v.category).sum + 15 ≤ R.locals) (hc : cells ≤ R.cells) (hs : slots ≤ R.slots) {x y : Int64} (hdg : decode cc pc = .ok (.invokestatic idx, 3))
    (kk : W p l e R s m args below meth c H locs cells slots Q (F0 m (pc + 3) ls (.long (mnL x y) :: rest))) : W p l e R s m args below meth c H locs cells slots Q (F0 m pc ls (.long y :: .long x :: rest)) :=
  va_mmin_long hexec hb (by rw [hml, hl]) hown (hts _ hq) (hts _ q167) (hts _ q20) (hts _ q168) hf hlo hc hs hdg kk
theorem rr_maxL (hexec : p.tables.exec = Jvm.exec) (hb : c.code = cc) (hml : c.maxLocals = nL) (hl : ls.size = nL) (hown : s.vm.findClass own = some m.cls) (hts : ∀ w ∈ lw_all, w.before args s = true) (hq : Cond.methodLink own idx yJ1_max ∈ lw_all) (hf : 1 ≤ R.frames) (hlo : (rest.map fun v => v.category).sum + 15 ≤ R.locals) (hc : cells ≤ R.cells) (hs : slots ≤ R.slots) {x y : Int64} (hdg : decode cc pc = .ok (.invokestatic idx, 3))
    (kk : W p l e R s m args below meth c H locs cells slots Q (F0 m (pc + 3) ls (.long (mxL x y) :: rest))) : W p l e R s m args below meth c H locs cells slots Q (F0 m pc ls (.long y :: .long x :: rest)) :=
  va_mmax_long hexec hb (by rw [hml, hl]) hown (hts _ hq) (hts _ q170) (hts _ q20) (hts _ q171) hf hlo hc hs hdg kk
theorem rr_absL (hexec : p.tables.exec = Jvm.exec) (hb : c.code = cc) (hml : c.maxLocals = nL) (hl : ls.size = nL) (hown : s.vm.findClass own = some m.cls) (hts : ∀ w ∈ lw_all, w.before args s = true) (hq : Cond.methodLink own idx yJ1_abs ∈ lw_all) (hf : 1 ≤ R.frames) (hlo : (rest.map fun v => v.category).sum + 13 ≤ R.locals) (hc : cells ≤ R.cells) (hs : slots ≤ R.slots) {x : Int64} (hdg : decode cc pc = .ok (.invokestatic idx, 3))
    (kk : W p l e R s m args below meth c H locs cells slots Q (F0 m (pc + 3) ls (.long (abL x) :: rest))) : W p l e R s m args below meth c H locs cells slots Q (F0 m pc ls (.long x :: rest)) :=
  va_mabs_long hexec hb (by rw [hml, hl]) hown (hts _ hq) (hts _ q184) (hts _ q20) (hts _ q185) hf hlo hc hs hdg kk
theorem rr_minI (hexec : p.tables.exec = Jvm.exec) (hb : c.code = cc) (hml : c.maxLocals = nL) (hl : ls.size = nL) (hown : s.vm.findClass own = some m.cls) (hts : ∀ w ∈ lw_all, w.before args s = true) (hq : Cond.methodLink own idx yJ1_min ∈ lw_all) (hf : 1 ≤ R.frames) (hlo : (rest.map fun v => v.category).sum + 13 ≤ R.locals) (hc : cells ≤ R.cells) (hs : slots ≤ R.slots) {x y : Int32} (hdg : decode cc pc = .ok (.invokestatic idx, 3))
    (kk : W p l e R s m args below meth c H locs cells slots Q (F0 m (pc + 3) ls (.int (mnI x y) :: rest))) : W p l e R s m args below meth c H locs cells slots Q (F0 m pc ls (.int y :: .int x :: rest)) :=
  va_mmin hexec hb (by rw [hml, hl]) hown (hts _ hq) (hts _ q90) (hts _ q20) (hts _ q91) hf hlo hc hs hdg kk
theorem rr_maxI (hexec : p.tables.exec = Jvm.exec) (hb : c.code = cc) (hml : c.maxLocals = nL) (hl : ls.size = nL) (hown : s.vm.findClass own = some m.cls) (hts : ∀ w ∈ lw_all, w.before args s = true) (hq : Cond.methodLink own idx yJ1_max_2 ∈ lw_all) (hf : 1 ≤ R.frames) (hlo : (rest.map fun v => v.category).sum + 13 ≤ R.locals) (hc : cells ≤ R.cells) (hs : slots ≤ R.slots) {x y : Int32} (hdg : decode cc pc = .ok (.invokestatic idx, 3))
    (kk : W p l e R s m args below meth c H locs cells slots Q (F0 m (pc + 3) ls (.int (mxI x y) :: rest))) : W p l e R s m args below meth c H locs cells slots Q (F0 m pc ls (.int y :: .int x :: rest)) :=
  va_mmax hexec hb (by rw [hml, hl]) hown (hts _ hq) (hts _ q260) (hts _ q20) (hts _ q261) hf hlo hc hs hdg kk
end RRMATH
end
section
/-! OWN ROWS: the set of thresholds S as a plain predicate; T_ok: a sorted row holds it; M_ok: a row in any order holds it; IsDn, IsUp: what down and up answer -/
def sAdd (S : Int32 → Bool) (v : Int32) : Int32 → Bool := fun w => S w || decide (w = v)
def sCnt (S : Int32 → Bool) (v : Int32) : Nat := if S v = true then 0 else 1
theorem sAdd_iff {S : Int32 → Bool} {v w : Int32} : sAdd S v w = true ↔ S w = true ∨ w = v := by simp [sAdd]
theorem sAdd_of {S : Int32 → Bool} {v : Int32} (h : S v = true) : sAdd S v = S := by
  funext w
  by_cases e : w = v
  · subst e; simp [sAdd, h]
  · simp [sAdd, e]
theorem sCnt_of {S : Int32 → Bool} {v : Int32} (h : S v = true) : sCnt S v = 0 := by simp [sCnt, h]
theorem sCnt_no {S : Int32 → Bool} {v : Int32} (h : ¬ S v = true) : sCnt S v = 1 := by simp [sCnt, h]
theorem sCnt_le (S : Int32 → Bool) (v : Int32) : sCnt S v ≤ 1 := by
  unfold sCnt
  split <;> omega
def T_ok (S : Int32 → Bool) (n : Nat) (a : Nat → Int32) : Prop := (∀ i j, i < j → j < n → (a i).toInt < (a j).toInt) ∧ ∀ w, S w = true ↔ ∃ i, i < n ∧ a i = w
def M_ok (S : Int32 → Bool) (n : Nat) (b : Nat → Int32) : Prop := ∀ w, S w = true ↔ ∃ i, i < n ∧ b i = w
def IsDn (S : Int32 → Bool) (z : Int) (r : Int32) : Prop := S r = true ∧ r.toInt ≤ z ∧ ∀ w, S w = true → w.toInt ≤ z → w.toInt ≤ r.toInt
def IsUp (S : Int32 → Bool) (z : Int) (r : Int32) : Prop := S r = true ∧ z ≤ r.toInt ∧ ∀ w, S w = true → z ≤ w.toInt → r.toInt ≤ w.toInt
theorem IsDn.uniq {S : Int32 → Bool} {z : Int} {r q : Int32} (h1 : IsDn S z r) (h2 : IsDn S z q) : r = q := by
  have e1 := h1.2.2 q h2.1 h2.2.1
  have e2 := h2.2.2 r h1.1 h1.2.1
  exact Int32.toInt_inj.mp (by omega)
theorem IsUp.uniq {S : Int32 → Bool} {z : Int} {r q : Int32} (h1 : IsUp S z r) (h2 : IsUp S z q) : r = q := by
  have e1 := h1.2.2 q h2.1 h2.2.1
  have e2 := h2.2.2 r h1.1 h1.2.1
  exact Int32.toInt_inj.mp (by omega)
/-- an int is a threshold just if down (up) leaves it -/
theorem IsDn.self {S : Int32 → Bool} {v r : Int32} (h : IsDn S v.toInt r) : r = v ↔ S v = true := by
  constructor
  · intro e; rw [← e]; exact h.1
  · intro e
    have e1 := h.2.2 v e (Int.le_refl _)
    have e2 := h.2.1
    exact Int32.toInt_inj.mp (by omega)
theorem IsUp.self {S : Int32 → Bool} {v r : Int32} (h : IsUp S v.toInt r) : r = v ↔ S v = true := by
  constructor
  · intro e; rw [← e]; exact h.1
  · intro e
    have e1 := h.2.2 v e (Int.le_refl _)
    have e2 := h.2.1
    exact Int32.toInt_inj.mp (by omega)
theorem T_le {S : Int32 → Bool} {n : Nat} {a : Nat → Int32} (h : T_ok S n a) {i j : Nat} (hij : i ≤ j) (hj : j < n) : (a i).toInt ≤ (a j).toInt := by
  rcases Nat.lt_or_eq_of_le hij with q | q
  · exact Int.le_of_lt (h.1 i j q hj)
  · subst q; exact Int.le_refl _
theorem T_congr {S : Int32 → Bool} {n : Nat} {a b : Nat → Int32} (h : T_ok S n a) (e : ∀ i, i < n → b i = a i) : T_ok S n b := by
  refine ⟨fun i j hij hj => ?_, fun w => ?_⟩
  · rw [e i (by omega), e j hj]; exact h.1 i j hij hj
  · rw [h.2 w]
    constructor
    · rintro ⟨i, hi, q⟩; exact ⟨i, hi, by rw [e i hi]; exact q⟩
    · rintro ⟨i, hi, q⟩; exact ⟨i, hi, by rw [← e i hi]; exact q⟩
theorem T_not {S : Int32 → Bool} {n k : Nat} {a : Nat → Int32} {v : Int32} (h : T_ok S n a) (hk : k ≤ n) (hge : ∀ j, k ≤ j → j < n → v.toInt ≤ (a j).toInt) (h0 : k = 0 ∨ (a (k - 1)).toInt < v.toInt) (hne : ¬ (k < n ∧ a k = v)) :
    ¬ S v = true ∧ (∀ j, k ≤ j → j < n → v.toInt < (a j).toInt) ∧ ∀ j, j < k → (a j).toInt < v.toInt := by
  have hlo : ∀ j, j < k → (a j).toInt < v.toInt := by
    intro j hj
    rcases h0 with q | q
    · omega
    · have := T_le h (i := j) (j := k - 1) (by omega) (by omega)
      omega
  have hhi : ∀ j, k ≤ j → j < n → v.toInt < (a j).toInt := by
    intro j hj hjn
    have h1 := hge j hj hjn
    by_cases e : j = k
    · subst e
      have h2 : (a j).toInt ≠ v.toInt := fun q => hne ⟨hjn, Int32.toInt_inj.mp q⟩
      omega
    · have h2 := hge k (Nat.le_refl _) (by omega)
      have h3 := h.1 k j (by omega) hjn
      omega
  refine ⟨fun hs => ?_, hhi, hlo⟩
  obtain ⟨i, hi, e⟩ := (h.2 v).mp hs
  rcases Nat.lt_or_ge i k with q | q
  · have := hlo i q; rw [e] at this; omega
  · have := hhi i q hi; rw [e] at this; omega
theorem T_ins {S : Int32 → Bool} {n k : Nat} {a b : Nat → Int32} {v : Int32} (h : T_ok S n a) (hk : k ≤ n) (hhi : ∀ j, k ≤ j → j < n → v.toInt < (a j).toInt) (hlo : ∀ j, j < k → (a j).toInt < v.toInt) (hb : ∀ i, i ≤ n → b i = if i = k then v else if k < i then a (i - 1) else a i) : T_ok (sAdd S v) (n + 1) b := by
  have v1 : ∀ i, i < k → b i = a i := fun i q => by rw [hb i (by omega), if_neg (by omega), if_neg (by omega)]
  have v2 : b k = v := by rw [hb k hk, if_pos rfl]
  have v3 : ∀ i, k < i → i ≤ n → b i = a (i - 1) := fun i q q2 => by rw [hb i q2, if_neg (by omega), if_pos q]
  refine ⟨fun i j hij hj => ?_, fun w => ?_⟩
  · rcases Nat.lt_trichotomy i k with qi | qi | qi <;> rcases Nat.lt_trichotomy j k with qj | qj | qj
    · rw [v1 i qi, v1 j qj]; exact h.1 i j hij (by omega)
    · rw [v1 i qi, qj, v2]; exact hlo i qi
    · rw [v1 i qi, v3 j qj (by omega)]; exact h.1 i (j - 1) (by omega) (by omega)
    · omega
    · omega
    · rw [qi, v2, v3 j qj (by omega)]; exact hhi (j - 1) (by omega) (by omega)
    · omega
    · omega
    · rw [v3 i qi (by omega), v3 j qj (by omega)]; exact h.1 (i - 1) (j - 1) (by omega) (by omega)
  · rw [sAdd_iff, h.2 w]
    constructor
    · rintro (⟨i, hi, e⟩ | e)
      · by_cases q : i < k
        · exact ⟨i, by omega, by rw [v1 i q]; exact e⟩
        · exact ⟨i + 1, by omega, by rw [v3 (i + 1) (by omega) (by omega), Nat.add_sub_cancel]; exact e⟩
      · exact ⟨k, by omega, by rw [v2, e]⟩
    · rintro ⟨i, hi, e⟩
      rcases Nat.lt_trichotomy i k with q | q | q
      · exact Or.inl ⟨i, by omega, by rw [← v1 i q]; exact e⟩
      · rw [q, v2] at e; exact Or.inr e.symm
      · exact Or.inl ⟨i - 1, by omega, by rw [← v3 i q (by omega)]; exact e⟩
theorem T_min32 : (-2147483648 : Int32).toInt = -2147483648 := by decide
theorem T_max32 : (2147483647 : Int32).toInt = 2147483647 := by decide
theorem T_dn0 {S : Int32 → Bool} {n : Nat} {a : Nat → Int32} {z : Int} (h : T_ok S n a) (hm : S (-2147483648) = true) (hz : -2147483648 ≤ z) : 0 < n ∧ (a 0).toInt ≤ z := by
  obtain ⟨i, hi, e⟩ := (h.2 _).mp hm
  have h1 := T_le h (Nat.zero_le i) hi
  rw [e, T_min32] at h1
  exact ⟨by omega, by omega⟩
theorem T_up0 {S : Int32 → Bool} {n : Nat} {a : Nat → Int32} {z : Int} (h : T_ok S n a) (hm : S 2147483647 = true) (hz : z ≤ 2147483647) : 0 < n ∧ z ≤ (a (n - 1)).toInt := by
  obtain ⟨i, hi, e⟩ := (h.2 _).mp hm
  have h1 := T_le h (i := i) (j := n - 1) (by omega) (by omega)
  rw [e, T_max32] at h1
  exact ⟨by omega, by omega⟩
theorem T_dnE {S : Int32 → Bool} {n lo : Nat} {a : Nat → Int32} {z : Int} (h : T_ok S n a) (hlo : lo < n) (h1 : (a lo).toInt ≤ z) (h2 : ∀ i, lo < i → i < n → z < (a i).toInt) : IsDn S z (a lo) := by
  refine ⟨(h.2 _).mpr ⟨lo, hlo, rfl⟩, h1, fun w hw hz => ?_⟩
  obtain ⟨i, hi, e⟩ := (h.2 w).mp hw
  subst e
  rcases Nat.lt_or_ge lo i with q | q
  · have := h2 i q hi; omega
  · exact T_le h q hlo
theorem T_upE {S : Int32 → Bool} {n lo : Nat} {a : Nat → Int32} {z : Int} (h : T_ok S n a) (hlo : lo < n) (h1 : z ≤ (a lo).toInt) (h2 : ∀ i, i < lo → (a i).toInt < z) : IsUp S z (a lo) := by
  refine ⟨(h.2 _).mpr ⟨lo, hlo, rfl⟩, h1, fun w hw hz => ?_⟩
  obtain ⟨i, hi, e⟩ := (h.2 w).mp hw
  subst e
  rcases Nat.lt_or_ge i lo with q | q
  · have := h2 i q; omega
  · exact T_le h q hi
theorem M_push {S : Int32 → Bool} {n : Nat} {b : Nat → Int32} {v : Int32} (h : M_ok S n b) : M_ok (sAdd S v) (n + 1) (upd b n v) := by
  intro w
  rw [sAdd_iff, h w]
  constructor
  · rintro (⟨i, hi, e⟩ | e)
    · exact ⟨i, by omega, by rw [pk_un (by omega)]; exact e⟩
    · exact ⟨n, by omega, by rw [pk_us, e]⟩
  · rintro ⟨i, hi, e⟩
    by_cases q : i = n
    · subst q; rw [pk_us] at e; exact Or.inr e.symm
    · rw [pk_un q] at e; exact Or.inl ⟨i, by omega, e⟩
theorem M_not {S : Int32 → Bool} {n : Nat} {b : Nat → Int32} {v : Int32} (h : M_ok S n b) (hn : ∀ i, i < n → b i ≠ v) : ¬ S v = true := by
  intro q
  obtain ⟨i, hi, e⟩ := (h v).mp q
  exact hn i hi e
theorem M_dnE {S : Int32 → Bool} {n : Nat} {b : Nat → Int32} {z : Int} {r : Int32} (h : M_ok S n b) (h1 : S r = true) (h2 : r.toInt ≤ z) (h3 : ∀ i, i < n → (b i).toInt ≤ z → (b i).toInt ≤ r.toInt) : IsDn S z r := by
  refine ⟨h1, h2, fun w hw hz => ?_⟩
  obtain ⟨i, hi, e⟩ := (h w).mp hw
  subst e
  exact h3 i hi hz
theorem M_upE {S : Int32 → Bool} {n : Nat} {b : Nat → Int32} {z : Int} {r : Int32} (h : M_ok S n b) (h1 : S r = true) (h2 : z ≤ r.toInt) (h3 : ∀ i, i < n → z ≤ (b i).toInt → r.toInt ≤ (b i).toInt) : IsUp S z r := by
  refine ⟨h1, h2, fun w hw hz => ?_⟩
  obtain ⟨i, hi, e⟩ := (h w).mp hw
  subst e
  exact h3 i hi hz
/-- the range that 'put' (and 'tell') lays for l and h -/
def PutR (S : Int32 → Bool) (l h : Int64) (lo hi : Int32) : Prop := if (-2147483648 ≤ l ∧ h ≤ 2147483647) then (IsDn S l.toInt lo ∧ IsUp S h.toInt hi) else (lo = -2147483648 ∧ hi = 2147483647)
theorem PutR.uniq {S : Int32 → Bool} {l h : Int64} {lo hi lo2 hi2 : Int32} (h1 : PutR S l h lo hi) (h2 : PutR S l h lo2 hi2) : lo = lo2 ∧ hi = hi2 := by
  unfold PutR at h1 h2
  split at h1
  · rename_i q
    rw [if_pos q] at h2
    exact ⟨h1.1.uniq h2.1, h1.2.uniq h2.2⟩
  · rename_i q
    rw [if_neg q] at h2
    exact ⟨by rw [h1.1, h2.1], by rw [h1.2, h2.2]⟩
/-- as 'tell' computes it, by ints -/
def TellR (S : Int32 → Bool) (l h : Int64) (lo hi : Int32) : Prop := if (-2147483648 ≤ l ∧ h ≤ 2147483647) then (IsDn S l.toInt32.toInt lo ∧ IsUp S h.toInt32.toInt hi) else (lo = -2147483648 ∧ hi = 2147483647)
theorem w_min64 : (-2147483648 : Int64).toInt = -2147483648 := by decide
theorem w_max64 : (2147483647 : Int64).toInt = 2147483647 := by decide
theorem w_toInt32 {x : Int64} (h1 : -2147483648 ≤ x.toInt) (h2 : x.toInt ≤ 2147483647) : x.toInt32.toInt = x.toInt := by
  rw [Int64.toInt_toInt32]
  exact Int.bmod_eq_of_le (by omega) (by omega)
theorem TellR.put {S : Int32 → Bool} {l h : Int64} {lo hi : Int32} (hlh : l ≤ h) (t : TellR S l h lo hi) : PutR S l h lo hi := by
  unfold TellR at t
  unfold PutR
  rw [Int64.le_iff_toInt_le] at hlh
  split at t
  · rename_i q
    rw [if_pos q]
    have q1 := Int64.le_iff_toInt_le.mp q.1
    have q2 := Int64.le_iff_toInt_le.mp q.2
    rw [w_min64] at q1
    rw [w_max64] at q2
    rw [w_toInt32 (by omega) (by omega), w_toInt32 (by omega) (by omega)] at t
    exact t
  · rename_i q
    rw [if_neg q]
    exact t
/-- l .. h are ends of a range -/
def rng (S : Int32 → Bool) (l h : Int32) : Bool := decide (l ≤ h) && S l && S h
theorem rng_iff {S : Int32 → Bool} {l h : Int32} : rng S l h = true ↔ l ≤ h ∧ S l = true ∧ S h = true := by simp [rng, and_assoc]
end
section
/-! OWN ROWS: what 'work' computes, of the system (sysOp, by longs) and of the reference (mdlOp, by ints), in plain Lean -/
theorem PutR_in {S : Int32 → Bool} {x y : Int64} {lo hi : Int32} (h1 : ¬ x < -2147483648) (h2 : ¬ 2147483647 < y) (hd : IsDn S x.toInt lo) (hu : IsUp S y.toInt hi) : PutR S x y lo hi := by
  unfold PutR
  rw [Int64.lt_iff_toInt_lt] at h1 h2
  rw [if_pos ⟨Int64.le_iff_toInt_le.mpr (by omega), Int64.le_iff_toInt_le.mpr (by omega)⟩]
  exact ⟨hd, hu⟩
theorem PutR_lo {S : Int32 → Bool} {x y : Int64} (h : x < -2147483648) : PutR S x y (-2147483648) 2147483647 := by
  unfold PutR
  rw [Int64.lt_iff_toInt_lt] at h
  rw [if_neg (fun q => by have q1 := Int64.le_iff_toInt_le.mp q.1; omega)]
  exact ⟨rfl, rfl⟩
theorem PutR_hi {S : Int32 → Bool} {x y : Int64} (h : 2147483647 < y) : PutR S x y (-2147483648) 2147483647 := by
  unfold PutR
  rw [Int64.lt_iff_toInt_lt] at h
  rw [if_neg (fun q => by have q1 := Int64.le_iff_toInt_le.mp q.2; omega)]
  exact ⟨rfl, rfl⟩
theorem TellR_in {S : Int32 → Bool} {x y : Int64} {lo hi : Int32} (h1 : ¬ x < -2147483648) (h2 : ¬ 2147483647 < y) (hd : IsDn S x.toInt32.toInt lo) (hu : IsUp S y.toInt32.toInt hi) : TellR S x y lo hi := by
  unfold TellR
  rw [Int64.lt_iff_toInt_lt] at h1 h2
  rw [if_pos ⟨Int64.le_iff_toInt_le.mpr (by omega), Int64.le_iff_toInt_le.mpr (by omega)⟩]
  exact ⟨hd, hu⟩
theorem TellR_lo {S : Int32 → Bool} {x y : Int64} (h : x < -2147483648) : TellR S x y (-2147483648) 2147483647 := by
  unfold TellR
  rw [Int64.lt_iff_toInt_lt] at h
  rw [if_neg (fun q => by have q1 := Int64.le_iff_toInt_le.mp q.1; omega)]
  exact ⟨rfl, rfl⟩
theorem TellR_hi {S : Int32 → Bool} {x y : Int64} (h : 2147483647 < y) : TellR S x y (-2147483648) 2147483647 := by
  unfold TellR
  rw [Int64.lt_iff_toInt_lt] at h
  rw [if_neg (fun q => by have q1 := Int64.le_iff_toInt_le.mp q.2; omega)]
  exact ⟨rfl, rfl⟩
theorem w_ge {x : Int64} (h : ¬ x < -2147483648) : -2147483648 ≤ x.toInt := by
  rw [Int64.lt_iff_toInt_lt, w_min64] at h
  omega
theorem w_le {x : Int64} (h : ¬ 2147483647 < x) : x.toInt ≤ 2147483647 := by
  rw [Int64.lt_iff_toInt_lt, w_max64] at h
  omega
/-- the least and greatest of the four products -/
def prLo (l h m n : Int64) : Int64 := mnL (mnL (l * m) (l * n)) (mnL (h * m) (h * n))
def prHi (l h m n : Int64) : Int64 := mxL (mxL (l * m) (l * n)) (mxL (h * m) (h * n))
/-- one divisor taken, if b -/
def qst (l h : Int64) (b : Bool) (d : Int64) (q : Int64 × Int64) : Int64 × Int64 := if b = true then (mnL q.1 (mnL (l / d) (h / d)), mxL q.2 (mxL (l / d) (h / d))) else q
theorem qst_t {l h d : Int64} {b : Bool} {q : Int64 × Int64} (hb : b = true) : qst l h b d q = (mnL q.1 (mnL (l / d) (h / d)), mxL q.2 (mxL (l / d) (h / d))) := by
  unfold qst; rw [if_pos hb]
theorem qst_f {l h d : Int64} {b : Bool} {q : Int64 × Int64} (hb : b = false) : qst l h b d q = q := by
  unfold qst; rw [if_neg (by rw [hb]; decide)]
def q00 : Int64 × Int64 := (9223372036854775807, -9223372036854775808)
def sysQ (l h m n : Int64) : Int64 × Int64 := qst l h (decide (m ≤ 1 ∧ 1 ≤ n)) 1 (qst l h (decide (m ≤ -1 ∧ -1 ≤ n)) (-1) (qst l h (decide (n ≠ 0)) n (qst l h (decide (m ≠ 0)) m q00)))
/-- a divisor of the reference: it counts if it isn't 0 and lies in m .. n -/
def mdB (m n d : Int64) : Bool := decide (d ≠ 0 ∧ ¬ d < m ∧ ¬ n < d)
def mdlQ (l h m n : Int64) : Int64 × Int64 := qst l h (mdB m n n) n (qst l h (mdB m n m) m (qst l h (mdB m n 1) 1 (qst l h (mdB m n (-1)) (-1) q00)))
def rsLo (l mo : Int64) : Int64 := if l < 0 then mxL l (-mo) else 0
def rsHi (l h mo : Int64) : Int64 := if l < 0 then (if 0 < h then mnL h mo else 0) else mnL h mo
/-- the loop that makes 2^k - 1 -/
def on1 : Nat → Int64 → Int64 → Int64 → Int64
  | 0, mo, _, _ => mo
  | f + 1, mo, h, n => if mo < h ∨ mo < n then on1 f (2 * mo + 1) h n else mo
def shB (m : Int32) : Int64 := 1 <<< ((m &&& 31).toInt64 &&& 63)
def allQ : Int64 × Int64 := (-2147483648, 2147483647)
def sysOp (j : Nat) (l h m n : Int64) : Option (Int64 × Int64) := match j with
  | 0 => some (l + m, h + n)
  | 1 => some (l - n, h - m)
  | 2 => some (prLo l h m n, prHi l h m n)
  | 3 => if m = 0 ∧ n = 0 then none else some (sysQ l h m n)
  | 4 => if m = 0 ∧ n = 0 then none else some (rsLo l (mxL (abL m) (abL n) - 1), rsHi l h (mxL (abL m) (abL n) - 1))
  | 5 => some (if l < 0 ∧ m < 0 then allQ else (0, if l < 0 then n else if m < 0 then h else mnL h n))
  | 6 => some (if l < 0 ∨ m < 0 then allQ else (0, on1 33 0 h n))
  | 7 => some (if l < 0 ∨ m < 0 then allQ else (0, on1 33 0 h n))
  | 8 => some (if m = n then (prLo l h (shB m.toInt32) (shB m.toInt32), prHi l h (shB m.toInt32) (shB m.toInt32)) else allQ)
  | _ => some (if m = n then (l >>> ((m.toInt32 &&& 31).toInt64 &&& 63), h >>> ((m.toInt32 &&& 31).toInt64 &&& 63)) else (mnL l 0, mxL h (-1)))
def mdlOp (j : Nat) (l h m n : Int32) : Option (Int64 × Int64) := match j with
  | 0 => some (l.toInt64 + m.toInt64, h.toInt64 + n.toInt64)
  | 1 => some (l.toInt64 - n.toInt64, h.toInt64 - m.toInt64)
  | 2 => some (prLo l.toInt64 h.toInt64 m.toInt64 n.toInt64, prHi l.toInt64 h.toInt64 m.toInt64 n.toInt64)
  | 3 => if (mdlQ l.toInt64 h.toInt64 m.toInt64 n.toInt64).1 ≤ (mdlQ l.toInt64 h.toInt64 m.toInt64 n.toInt64).2 then some (mdlQ l.toInt64 h.toInt64 m.toInt64 n.toInt64) else none
  | 4 => if m.toInt64 = 0 ∧ n.toInt64 = 0 then none else some (if l < 0 then (mxL l.toInt64 (-(mxL (abL m.toInt64) (abL n.toInt64) - 1)), if 0 < h then mnL h.toInt64 (mxL (abL m.toInt64) (abL n.toInt64) - 1) else 0) else (0, mnL h.toInt64 (mxL (abL m.toInt64) (abL n.toInt64) - 1)))
  | 5 => some (if l < 0 ∧ m < 0 then allQ else (0, if l < 0 then n.toInt64 else if m < 0 then h.toInt64 else (mnI h n).toInt64))
  | 6 => some (if l < 0 ∨ m < 0 then allQ else (0, on1 33 0 (mxI h n).toInt64 (mxI h n).toInt64))
  | 7 => some (if l < 0 ∨ m < 0 then allQ else (0, on1 33 0 (mxI h n).toInt64 (mxI h n).toInt64))
  | 8 => some (if m = n then (l.toInt64 * shB m, h.toInt64 * shB m) else allQ)
  | _ => some (if m = n then ((l >>> ((m &&& 31) &&& 31)).toInt64, (h >>> ((m &&& 31) &&& 31)).toInt64) else ((mnI l 0).toInt64, (mxI h (-1)).toInt64))
/-- the answer and the new range, by what is to be put -/
def WorkR (P : Int64 → Int64 → Int32 → Int32 → Prop) (o : Option (Int64 × Int64)) (lo hi r lo2 hi2 : Int32) : Prop := match o with
  | none => r = 0 ∧ lo2 = lo ∧ hi2 = hi
  | some q => r = 1 ∧ P q.1 q.2 lo2 hi2
end
section
set_option maxHeartbeats 4000000 in
set_option maxRecDepth 100000 in
theorem X1_down_loop {p : Program} {l : Launch} {e : Env} {R : Room} {s : State} {m : MethodId} {args : Array Value} {below : List Frame} {meth : Method} {c : Code} {H : Heap} {locs : List Loc} {cells slots : Nat} {Q : State → Prop} (hx : p.tables.exec = Jvm.exec) (hb : c.code = cX1_down) (hts : ∀ w ∈ lw_all, w.before args s = true) (hown : s.vm.findClass RX1 = some m.cls) {D : va_G} {hT hR N n : Nat} {d : ClassId} {a : Nat → Int32} {v : Int64} {S : Int32 → Bool} (hok : T_ok S n a) (hnN : n ≤ N) (hN : N ≤ 512) (hK : va_K D vwCl [(d, .int)] s) (hP : va_P D vwCl [(hT, .inr (1, [.ref hR, .int (nI n)])), (hR, .inl (d, N, .inl a))] H)
    (kk : ∀ (r : Nat) (ls : Array Slot), r < n → (a r).toInt ≤ v.toInt → (∀ i, r < i → i < n → v.toInt < (a i).toInt) → lv_has ls 6 [(0, .ref hT), (1, .long v), (3, .int (nI r))] → W p l e R s m args below meth c H locs cells slots Q (F0 m 54 ls [])) :
    ∀ (f lo hi : Nat) (ls : Array Slot), hi - lo < f → lo ≤ hi → hi < n → (a lo).toInt ≤ v.toInt → (∀ i, hi < i → i < n → v.toInt < (a i).toInt) → lv_has ls 6 [(0, .ref hT), (1, .long v), (3, .int (nI lo)), (4, .int (nI hi))] → W p l e R s m args below meth c H locs cells slots Q (F0 m 10 ls []) := by
  intro f
  induction f with
  | zero => intro lo hi ls h; omega
  | succ f ih =>
    intro lo hi ls hf hlh hhi h1 h2 hl
    refine lv_iload_n hx hb dX1_down_10 rfl (lv_at hl 2 rfl) ?_
    refine lv_iload hx hb dX1_down_11 (lv_at hl 3 rfl) ?_
    refine nn_ge (tgt := 54) hx hb dX1_down_13 (by decide) (by omega) (by omega) (fun c_13 => ?_) (fun c_13 => ?_)
    · obtain rfl : lo = hi := by omega
      exact kk lo ls (by omega) h1 (fun i q1 q2 => h2 i q1 q2) (lv_sub hl [0, 1, 2] rfl)
    · refine lv_iload_n hx hb dX1_down_16 rfl (lv_at hl 2 rfl) ?_
      refine lv_iload hx hb dX1_down_17 (lv_at hl 3 rfl) ?_
      refine lv_iadd hx hb dX1_down_19 ?_
      refine rr_reti (y := (nI (lo + hi))) (nI_add _ _) ?_
      refine lv_iconst (v := 1) hx hb dX1_down_20 (by decide) ?_
      refine lv_iadd hx hb dX1_down_21 ?_
      refine rr_reti (y := (nI (lo + hi + 1))) (nI_1 _) ?_
      refine lv_iconst (v := 2) hx hb dX1_down_22 (by decide) ?_
      refine lv_idiv hx hb dX1_down_23 (by decide) ?_
      refine rr_reti (y := (nI ((lo + hi + 1) / 2))) (pk_div (d := 2) (by omega) (by decide) (by decide)) ?_
      refine lv_istore (lv' := [(5, .int (nI ((lo + hi + 1) / 2))), (0, .ref hT), (1, .long v), (3, .int (nI lo)), (4, .int (nI hi))]) hx hb dX1_down_24 hl (by decide) rfl (fun ls hl => ?_)
      refine lv_aload_n hx hb dX1_down_26 rfl (lv_at hl 1 rfl) ?_
      refine va_get (D := D) (ci := 1) (v := .ref hR) (C := RX1) (T := TX1) (N := 2) hx hb hts in_X1 hown hK hP 0 rfl rfl 0 (by decide) (hts _ q37) (fun _ h9 => h9) rfl dX1_down_27 ?_
      refine lv_iload hx hb dX1_down_30 (lv_at hl 0 rfl) ?_
      refine nn_iald hx hb hK hP 1 0 rfl rfl (by omega) (by omega) dX1_down_32 ?_
      refine lv_i2l hx hb dX1_down_33 rfl ?_
      refine lv_lload_n hx hb dX1_down_34 rfl (lv_at hl 2 rfl) ?_
      refine lc_gt (tgt := 45) hx hb dX1_down_35 dX1_down_36 (by decide) (fun c_35 => ?_) (fun c_35 => ?_)
      · refine lv_iload hx hb dX1_down_45 (lv_at hl 0 rfl) ?_
        refine lv_iconst (v := 1) hx hb dX1_down_47 (by decide) ?_
        refine lv_isub hx hb dX1_down_48 ?_
        refine rr_reti (y := (nI ((lo + hi + 1) / 2 - 1))) (pk_sub (b := 1) (by omega)) ?_
        refine lv_istore (lv' := [(4, .int (nI ((lo + hi + 1) / 2 - 1))), (5, .int (nI ((lo + hi + 1) / 2))), (0, .ref hT), (1, .long v), (3, .int (nI lo))]) hx hb dX1_down_49 hl (by decide) rfl (fun ls hl => ?_)
        refine lv_goto (tgt := 10) hx hb dX1_down_51 (by decide) ?_
        exact ih lo (((lo + hi + 1) / 2) - 1) ls (by omega) (by omega) (by omega) h1 (fun i q1 q2 => by have q := c_35; rw [Int64.lt_iff_toInt_lt, Int32.toInt_toInt64] at q; have q3 := T_le hok (i := ((lo + hi + 1) / 2)) (j := i) (by omega) q2; omega) (lv_sub hl [2, 3, 4, 0] rfl)
      · refine lv_iload hx hb dX1_down_39 (lv_at hl 0 rfl) ?_
        refine lv_istore_n (lv' := [(3, .int (nI ((lo + hi + 1) / 2))), (5, .int (nI ((lo + hi + 1) / 2))), (0, .ref hT), (1, .long v), (4, .int (nI hi))]) hx hb dX1_down_41 rfl hl (by decide) rfl (fun ls hl => ?_)
        refine lv_goto (tgt := 51) hx hb dX1_down_42 (by decide) ?_
        refine lv_goto (tgt := 10) hx hb dX1_down_51 (by decide) ?_
        exact ih ((lo + hi + 1) / 2) hi ls (by omega) (by omega) (by omega) (by have q := c_35; rw [Int64.lt_iff_toInt_lt, Int32.toInt_toInt64] at q; omega) h2 (lv_sub hl [2, 3, 0, 4] rfl)
abbrev wsX1_down : List Cond := ws_ yX1_down cX1_down 6 (some .int)
set_option maxHeartbeats 4000000 in
set_option maxRecDepth 100000 in
theorem met_X1_down (l : Launch) (D : va_G) (hT hR : Nat) (d : ClassId) (N n : Nat) (a : Nat → Int32) (sz : Nat) (v : Int64) {S : Int32 → Bool} (hok : T_ok S n a) (hnN : n ≤ N) (hN : N ≤ 512) (hm : S (-2147483648) = true) (hv : -2147483648 ≤ v.toInt) : rr_RI l D yX1_down wsX1_down ({ frames := 0, cells := 0, slots := 0, locals := 0 }) [.ref hT, .long v] [(d, .int)] [(hT, .inr (1, [.ref hR, .int (nI n)])), (hR, .inl (d, N, .inl a))] sz (fun r => IsDn S v.toInt r) := by
  have h0 := T_dn0 hok hm hv
  refine Met.ofW (cc := cX1_down) (maxL := 6) (ret := (some .int)) (by decide) rfl ?_
  intro p e s m args below meth c s₁ B hml hv
  obtain ⟨rfl, hsz, hP, hK⟩ := hv
  have hx := B.exec
  have hb := B.bytes
  have hr := B.returns
  have hts := atoms_spec (ws := wsX1_down) B.pre
  have hts : ∀ w ∈ lw_all, w.before _ s = true := fun w h => hts w (List.mem_cons_of_mem _ h)
  have hown : s.vm.findClass RX1 = some m.cls := findClass_of_methodNamed B.named
  have hlocks := B.notSynchronized
  subst hsz
  generalize hAe : va_A [] s.heap.size = A
  have hA : ∀ q : Nat, s.heap.size ≤ q → A q := fun q h => by rw [← hAe]; exact Or.inr h
  have hS : va_S A s.heap s.heap [] := va_S.rf
  have hP : va_P D vwCl [(hT, .inr (1, [.ref hR, .int (nI n)])), (hR, .inl (d, N, .inl a))] s.heap := hP
  have hK : va_K D vwCl [(d, .int)] s := hK
  have hl := lv_entry ([.ref hT, .long v]) (n := 6) (Nat.le_of_ble_eq_true rfl)
  rw [lg_entry_eq]
  generalize (lg_sl ([.ref hT, .long v]) ++ List.replicate (6 - (lg_sl ([.ref hT, .long v])).length) Slot.unset).toArray = ls at hl ⊢
  have hl : lv_has ls 6 [(0, .ref hT), (1, .long v)] := hl
  refine lv_iconst (v := 0) hx hb dX1_down_0 (by decide) ?_
  refine rr_reti (y := (nI 0)) (rfl) ?_
  refine lv_istore_n (lv' := [(3, .int (nI 0)), (0, .ref hT), (1, .long v)]) hx hb dX1_down_1 rfl hl (by decide) rfl (fun ls hl => ?_)
  refine lv_aload_n hx hb dX1_down_2 rfl (lv_at hl 1 rfl) ?_
  refine va_get (D := D) (ci := 1) (v := .int (nI n)) (C := RX1) (T := TX1) (N := 2) hx hb hts in_X1 hown hK hP 0 rfl rfl 1 (by decide) (hts _ q38) (fun _ h9 => h9) rfl dX1_down_3 ?_
  refine lv_iconst (v := 1) hx hb dX1_down_6 (by decide) ?_
  refine lv_isub hx hb dX1_down_7 ?_
  refine rr_reti (y := (nI (n - 1))) (pk_sub (b := 1) (by omega)) ?_
  refine lv_istore (lv' := [(4, .int (nI (n - 1))), (3, .int (nI 0)), (0, .ref hT), (1, .long v)]) hx hb dX1_down_8 hl (by decide) rfl (fun ls hl => ?_)
  refine X1_down_loop hx hb hts hown hok hnN hN hK hP (fun r ls hrn hr1 hr2 hl => ?_) (n + 1) 0 (n - 1) ls (by omega) (by omega) (by omega) h0.2 (fun i q1 q2 => absurd q2 (by omega)) (lv_sub hl [2, 3, 1, 0] rfl)
  refine lv_aload_n hx hb dX1_down_54 rfl (lv_at hl 0 rfl) ?_
  refine va_get (D := D) (ci := 1) (v := .ref hR) (C := RX1) (T := TX1) (N := 2) hx hb hts in_X1 hown hK hP 0 rfl rfl 0 (by decide) (hts _ q37) (fun _ h9 => h9) rfl dX1_down_55 ?_
  refine lv_iload_n hx hb dX1_down_58 rfl (lv_at hl 2 rfl) ?_
  refine nn_iald hx hb hK hP 1 0 rfl rfl (by omega) (by omega) dX1_down_59 ?_
  exact W.iret (v := a r) hx hb hr (rr_endo (T_dnE hok hrn hr1 hr2) hS) hS.2.2 dX1_down_60
set_option maxHeartbeats 4000000 in
set_option maxRecDepth 100000 in
theorem X1_up_loop {p : Program} {l : Launch} {e : Env} {R : Room} {s : State} {m : MethodId} {args : Array Value} {below : List Frame} {meth : Method} {c : Code} {H : Heap} {locs : List Loc} {cells slots : Nat} {Q : State → Prop} (hx : p.tables.exec = Jvm.exec) (hb : c.code = cX1_up) (hts : ∀ w ∈ lw_all, w.before args s = true) (hown : s.vm.findClass RX1 = some m.cls) {D : va_G} {hT hR N n : Nat} {d : ClassId} {a : Nat → Int32} {v : Int64} {S : Int32 → Bool} (hok : T_ok S n a) (hnN : n ≤ N) (hN : N ≤ 512) (hK : va_K D vwCl [(d, .int)] s) (hP : va_P D vwCl [(hT, .inr (1, [.ref hR, .int (nI n)])), (hR, .inl (d, N, .inl a))] H)
    (kk : ∀ (r : Nat) (ls : Array Slot), r < n → v.toInt ≤ (a r).toInt → (∀ i, i < r → (a i).toInt < v.toInt) → lv_has ls 6 [(0, .ref hT), (1, .long v), (3, .int (nI r))] → W p l e R s m args below meth c H locs cells slots Q (F0 m 52 ls [])) :
    ∀ (f lo hi : Nat) (ls : Array Slot), hi - lo < f → lo ≤ hi → hi < n → v.toInt ≤ (a hi).toInt → (∀ i, i < lo → (a i).toInt < v.toInt) → lv_has ls 6 [(0, .ref hT), (1, .long v), (3, .int (nI lo)), (4, .int (nI hi))] → W p l e R s m args below meth c H locs cells slots Q (F0 m 10 ls []) := by
  intro f
  induction f with
  | zero => intro lo hi ls h; omega
  | succ f ih =>
    intro lo hi ls hf hlh hhi h1 h2 hl
    refine lv_iload_n hx hb dX1_up_10 rfl (lv_at hl 2 rfl) ?_
    refine lv_iload hx hb dX1_up_11 (lv_at hl 3 rfl) ?_
    refine nn_ge (tgt := 52) hx hb dX1_up_13 (by decide) (by omega) (by omega) (fun c_13 => ?_) (fun c_13 => ?_)
    · obtain rfl : lo = hi := by omega
      exact kk lo ls (by omega) h1 h2 (lv_sub hl [0, 1, 2] rfl)
    · refine lv_iload_n hx hb dX1_up_16 rfl (lv_at hl 2 rfl) ?_
      refine lv_iload hx hb dX1_up_17 (lv_at hl 3 rfl) ?_
      refine lv_iadd hx hb dX1_up_19 ?_
      refine rr_reti (y := (nI (lo + hi))) (nI_add _ _) ?_
      refine lv_iconst (v := 2) hx hb dX1_up_20 (by decide) ?_
      refine lv_idiv hx hb dX1_up_21 (by decide) ?_
      refine rr_reti (y := (nI ((lo + hi) / 2))) (pk_div (d := 2) (by omega) (by decide) (by decide)) ?_
      refine lv_istore (lv' := [(5, .int (nI ((lo + hi) / 2))), (0, .ref hT), (1, .long v), (3, .int (nI lo)), (4, .int (nI hi))]) hx hb dX1_up_22 hl (by decide) rfl (fun ls hl => ?_)
      refine lv_aload_n hx hb dX1_up_24 rfl (lv_at hl 1 rfl) ?_
      refine va_get (D := D) (ci := 1) (v := .ref hR) (C := RX1) (T := TX1) (N := 2) hx hb hts in_X1 hown hK hP 0 rfl rfl 0 (by decide) (hts _ q37) (fun _ h9 => h9) rfl dX1_up_25 ?_
      refine lv_iload hx hb dX1_up_28 (lv_at hl 0 rfl) ?_
      refine nn_iald hx hb hK hP 1 0 rfl rfl (by omega) (by omega) dX1_up_30 ?_
      refine lv_i2l hx hb dX1_up_31 rfl ?_
      refine lv_lload_n hx hb dX1_up_32 rfl (lv_at hl 2 rfl) ?_
      refine lc_lt (tgt := 44) hx hb dX1_up_33 dX1_up_34 (by decide) (fun c_33 => ?_) (fun c_33 => ?_)
      · refine lv_iload hx hb dX1_up_44 (lv_at hl 0 rfl) ?_
        refine lv_iconst (v := 1) hx hb dX1_up_46 (by decide) ?_
        refine lv_iadd hx hb dX1_up_47 ?_
        refine rr_reti (y := (nI ((lo + hi) / 2 + 1))) (nI_1 _) ?_
        refine lv_istore_n (lv' := [(3, .int (nI ((lo + hi) / 2 + 1))), (5, .int (nI ((lo + hi) / 2))), (0, .ref hT), (1, .long v), (4, .int (nI hi))]) hx hb dX1_up_48 rfl hl (by decide) rfl (fun ls hl => ?_)
        refine lv_goto (tgt := 10) hx hb dX1_up_49 (by decide) ?_
        exact ih (((lo + hi) / 2) + 1) hi ls (by omega) (by omega) (by omega) h1 (fun i q1 => by have q := c_33; rw [Int64.lt_iff_toInt_lt, Int32.toInt_toInt64] at q; have q3 := T_le hok (i := i) (j := ((lo + hi) / 2)) (by omega) (by omega); omega) (lv_sub hl [2, 3, 0, 4] rfl)
      · refine lv_iload hx hb dX1_up_37 (lv_at hl 0 rfl) ?_
        refine lv_istore (lv' := [(4, .int (nI ((lo + hi) / 2))), (5, .int (nI ((lo + hi) / 2))), (0, .ref hT), (1, .long v), (3, .int (nI lo))]) hx hb dX1_up_39 hl (by decide) rfl (fun ls hl => ?_)
        refine lv_goto (tgt := 49) hx hb dX1_up_41 (by decide) ?_
        refine lv_goto (tgt := 10) hx hb dX1_up_49 (by decide) ?_
        exact ih lo ((lo + hi) / 2) ls (by omega) (by omega) (by omega) (by have q := c_33; rw [Int64.lt_iff_toInt_lt, Int32.toInt_toInt64] at q; omega) h2 (lv_sub hl [2, 3, 4, 0] rfl)
abbrev wsX1_up : List Cond := ws_ yX1_up cX1_up 6 (some .int)
set_option maxHeartbeats 4000000 in
set_option maxRecDepth 100000 in
theorem met_X1_up (l : Launch) (D : va_G) (hT hR : Nat) (d : ClassId) (N n : Nat) (a : Nat → Int32) (sz : Nat) (v : Int64) {S : Int32 → Bool} (hok : T_ok S n a) (hnN : n ≤ N) (hN : N ≤ 512) (hm : S 2147483647 = true) (hv : v.toInt ≤ 2147483647) : rr_RI l D yX1_up wsX1_up ({ frames := 0, cells := 0, slots := 0, locals := 0 }) [.ref hT, .long v] [(d, .int)] [(hT, .inr (1, [.ref hR, .int (nI n)])), (hR, .inl (d, N, .inl a))] sz (fun r => IsUp S v.toInt r) := by
  have h0 := T_up0 hok hm hv
  refine Met.ofW (cc := cX1_up) (maxL := 6) (ret := (some .int)) (by decide) rfl ?_
  intro p e s m args below meth c s₁ B hml hv
  obtain ⟨rfl, hsz, hP, hK⟩ := hv
  have hx := B.exec
  have hb := B.bytes
  have hr := B.returns
  have hts := atoms_spec (ws := wsX1_up) B.pre
  have hts : ∀ w ∈ lw_all, w.before _ s = true := fun w h => hts w (List.mem_cons_of_mem _ h)
  have hown : s.vm.findClass RX1 = some m.cls := findClass_of_methodNamed B.named
  have hlocks := B.notSynchronized
  subst hsz
  generalize hAe : va_A [] s.heap.size = A
  have hA : ∀ q : Nat, s.heap.size ≤ q → A q := fun q h => by rw [← hAe]; exact Or.inr h
  have hS : va_S A s.heap s.heap [] := va_S.rf
  have hP : va_P D vwCl [(hT, .inr (1, [.ref hR, .int (nI n)])), (hR, .inl (d, N, .inl a))] s.heap := hP
  have hK : va_K D vwCl [(d, .int)] s := hK
  have hl := lv_entry ([.ref hT, .long v]) (n := 6) (Nat.le_of_ble_eq_true rfl)
  rw [lg_entry_eq]
  generalize (lg_sl ([.ref hT, .long v]) ++ List.replicate (6 - (lg_sl ([.ref hT, .long v])).length) Slot.unset).toArray = ls at hl ⊢
  have hl : lv_has ls 6 [(0, .ref hT), (1, .long v)] := hl
  refine lv_iconst (v := 0) hx hb dX1_up_0 (by decide) ?_
  refine rr_reti (y := (nI 0)) (rfl) ?_
  refine lv_istore_n (lv' := [(3, .int (nI 0)), (0, .ref hT), (1, .long v)]) hx hb dX1_up_1 rfl hl (by decide) rfl (fun ls hl => ?_)
  refine lv_aload_n hx hb dX1_up_2 rfl (lv_at hl 1 rfl) ?_
  refine va_get (D := D) (ci := 1) (v := .int (nI n)) (C := RX1) (T := TX1) (N := 2) hx hb hts in_X1 hown hK hP 0 rfl rfl 1 (by decide) (hts _ q38) (fun _ h9 => h9) rfl dX1_up_3 ?_
  refine lv_iconst (v := 1) hx hb dX1_up_6 (by decide) ?_
  refine lv_isub hx hb dX1_up_7 ?_
  refine rr_reti (y := (nI (n - 1))) (pk_sub (b := 1) (by omega)) ?_
  refine lv_istore (lv' := [(4, .int (nI (n - 1))), (3, .int (nI 0)), (0, .ref hT), (1, .long v)]) hx hb dX1_up_8 hl (by decide) rfl (fun ls hl => ?_)
  refine X1_up_loop hx hb hts hown hok hnN hN hK hP (fun r ls hrn hr1 hr2 hl => ?_) (n + 1) 0 (n - 1) ls (by omega) (by omega) (by omega) h0.2 (fun i q1 => absurd q1 (by omega)) (lv_sub hl [2, 3, 1, 0] rfl)
  refine lv_aload_n hx hb dX1_up_52 rfl (lv_at hl 0 rfl) ?_
  refine va_get (D := D) (ci := 1) (v := .ref hR) (C := RX1) (T := TX1) (N := 2) hx hb hts in_X1 hown hK hP 0 rfl rfl 0 (by decide) (hts _ q37) (fun _ h9 => h9) rfl dX1_up_53 ?_
  refine lv_iload_n hx hb dX1_up_56 rfl (lv_at hl 2 rfl) ?_
  refine nn_iald hx hb hK hP 1 0 rfl rfl (by omega) (by omega) dX1_up_57 ?_
  exact W.iret (v := a r) hx hb hr (rr_endo (T_upE hok hrn hr1 hr2) hS) hS.2.2 dX1_up_58
end
section
abbrev wsJ0_copyOf : List Cond := ws_ yJ0_copyOf cJ0_copyOf 3 (some (.array .int))
set_option maxHeartbeats 4000000 in
set_option maxRecDepth 100000 in
theorem met_J0_copyOf (l : Launch) (D : va_G) (hR : Nat) (d : ClassId) (N K : Nat) (a : Nat → Int32) (sz : Nat) (hNK : N < K) (hK5 : K ≤ 512) : rr_CR l D yJ0_copyOf wsJ0_copyOf ({ frames := 1, cells := 1, slots := 512, locals := 60 }) [.ref hR, .int (nI K)] [(d, .int)] [(hR, .inl (d, N, .inl a))] sz (fun u : ClassId × (Nat → Int32) => ∀ i, i < N → u.2 i = a i) (fun u => [(d, .int), (u.1, .int)]) (fun u ra => [(hR, .inl (d, N, .inl a)), (ra, .inl (u.1, K, .inl u.2))]) 1 512 := by
  refine Met.ofW (cc := cJ0_copyOf) (maxL := 3) (ret := (some (.array .int))) (by decide) rfl ?_
  intro p e s m args below meth c s₁ B hml hv
  obtain ⟨rfl, hsz, hP, hK, hD0⟩ := hv
  have hx := B.exec
  have hb := B.bytes
  have hr := B.returns
  have hts := atoms_spec (ws := wsJ0_copyOf) B.pre
  have hts : ∀ w ∈ lw_all, w.before _ s = true := fun w h => hts w (List.mem_cons_of_mem _ h)
  have hown : s.vm.findClass RJ0 = some m.cls := findClass_of_methodNamed B.named
  have hlocks := B.notSynchronized
  subst hsz
  have hD := hD0.self (sz := s.heap.size)
  generalize hAe : va_A [(hR, .inl (d, N, .inl a))] s.heap.size = A at hD ⊢
  have hA : ∀ q : Nat, s.heap.size ≤ q → A q := fun q h => by rw [← hAe]; exact Or.inr h
  have hS : va_S A s.heap s.heap [] := va_S.rf
  have hP : va_P D vwCl [(hR, .inl (d, N, .inl a))] s.heap := hP
  have hK : va_K D vwCl [(d, .int)] s := hK
  have hl := lv_entry ([.ref hR, .int (nI K)]) (n := 3) (Nat.le_of_ble_eq_true rfl)
  rw [lg_entry_eq]
  generalize (lg_sl ([.ref hR, .int (nI K)]) ++ List.replicate (3 - (lg_sl ([.ref hR, .int (nI K)])).length) Slot.unset).toArray = ls at hl ⊢
  have hl : lv_has ls 3 [(0, .ref hR), (1, .int (nI K))] := hl
  refine lv_iload_n hx hb dJ0_copyOf_0 rfl (lv_at hl 1 rfl) ?_
  refine lv_aload_n hx hb dJ0_copyOf_1 rfl (lv_at hl 0 rfl) ?_
  refine va_alen (v := nI N) hx hb hK hP 0 0 rfl rfl rfl dJ0_copyOf_2 ?_
  refine nn_ne (tgt := 14) hx hb dJ0_copyOf_3 (by decide) (by omega) (by omega) (fun c_3 => ?_) (fun c_3 => absurd c_3 (by omega))
  refine lv_iload_n hx hb dJ0_copyOf_14 rfl (lv_at hl 1 rfl) ?_
  refine va_newa (atype := .int) (N' := K) (a0 := (K, .inl (fun _ => 0))) (ty := .int) hx hb (hts _ q45) rfl hK hP hD hS hA (fun _ => rfl) (nI_pos (by omega)) (nI_clamp (by omega)) (by show K * 4 ≤ 536870912; omega) (Nat.le_of_ble_eq_true rfl) (by show 0 + K ≤ 512; omega) dJ0_copyOf_15 (fun q1 d1 H hK hP hD hS => ?_)
  have hP : va_P D vwCl [(hR, .inl (d, N, .inl a)), (q1, .inl (d1, K, .inl (fun _ => 0)))] H := hP
  have hD : va_D A [(hR, .inl (d, N, .inl a)), (q1, .inl (d1, K, .inl (fun _ => 0)))] := hD
  have hK : va_K D vwCl [(d, .int), (d1, .int)] s := hK
  refine W.widen (k := 1) (n := 512) (Nat.le_of_ble_eq_true rfl) (by omega) ?_
  refine lv_astore_n (lv' := [(2, .ref q1), (0, .ref hR), (1, .int (nI K))]) hx hb dJ0_copyOf_17 rfl hl (by decide) rfl (fun ls hl => ?_)
  refine lv_aload_n hx hb dJ0_copyOf_18 rfl (lv_at hl 1 rfl) ?_
  refine lv_iconst (v := 0) hx hb dJ0_copyOf_19 (by decide) ?_
  refine lv_aload_n hx hb dJ0_copyOf_20 rfl (lv_at hl 0 rfl) ?_
  refine lv_iconst (v := 0) hx hb dJ0_copyOf_21 (by decide) ?_
  refine lv_aload_n hx hb dJ0_copyOf_22 rfl (lv_at hl 1 rfl) ?_
  refine va_alen (v := nI N) hx hb hK hP 0 0 rfl rfl rfl dJ0_copyOf_23 ?_
  refine lv_iload_n hx hb dJ0_copyOf_24 rfl (lv_at hl 2 rfl) ?_
  refine rr_minI hx hb hml hl.1 hown hts q89 (Nat.le_of_ble_eq_true rfl) (Nat.le_of_ble_eq_true rfl) (Nat.le_of_ble_eq_true rfl) (Nat.le_of_ble_eq_true rfl) dJ0_copyOf_25 ?_
  refine rr_reti (y := (nI N)) (by unfold mnI; rw [if_neg (nI_nlt (by omega) (by omega))]) ?_
  refine va_copyi hx hb (by rw [hml, hl.1]) hown (hts _ q92) (hts _ q94) (hts _ q93) (hts _ q21) hK hP hD hS 0 1 0 1 rfl rfl rfl rfl rfl (by decide) (by decide) (nI_pos (by omega)) (by rw [sb_cl0, nI_clamp (by omega)]; omega) (by rw [sb_cl0, nI_clamp (by omega)]; omega) (fun _ _ => rfl) (Nat.le_of_ble_eq_true rfl) (Nat.le_of_ble_eq_true rfl) dJ0_copyOf_28 (fun H locs hP hD hS => ?_)
  have hP : va_P D vwCl [(hR, .inl (d, N, .inl a)), (q1, .inl (d1, K, .inl (va_cpy a (fun _ => 0) (0 : Int32).toNatClampNeg (0 : Int32).toNatClampNeg (nI N).toNatClampNeg)))] H := hP
  have hD : va_D A [(hR, .inl (d, N, .inl a)), (q1, .inl (d1, K, .inl (va_cpy a (fun _ => 0) (0 : Int32).toNatClampNeg (0 : Int32).toNatClampNeg (nI N).toNatClampNeg)))] := hD
  refine lv_aload_n hx hb dJ0_copyOf_31 rfl (lv_at hl 0 rfl) ?_
  exact W.aret hx hb hr (Or.inr ⟨_, rfl⟩) (Or.inr ⟨_, rfl⟩) (rr_endr (ra := q1) (d1, va_cpy a (fun _ => 0) (0 : Int32).toNatClampNeg (0 : Int32).toNatClampNeg (nI N).toNatClampNeg) (fun i hi => by dsimp only; rw [sb_cl0, nI_clamp (by omega), pk_cpy_in (Nat.zero_le _) (by omega)]; simp) hP hK hD hS) hS.2.2 dJ0_copyOf_32
end
section
set_option maxHeartbeats 4000000 in
set_option maxRecDepth 100000 in
theorem X1_add_loop1 {p : Program} {l : Launch} {e : Env} {R : Room} {s : State} {m : MethodId} {args : Array Value} {below : List Frame} {meth : Method} {c : Code} {H : Heap} {locs : List Loc} {cells slots : Nat} {Q : State → Prop} (hx : p.tables.exec = Jvm.exec) (hb : c.code = cX1_add) (hts : ∀ w ∈ lw_all, w.before args s = true) (hown : s.vm.findClass RX1 = some m.cls) {D : va_G} {hT hR N n : Nat} {d : ClassId} {a : Nat → Int32} {v : Int32} (hnN : n ≤ N) (hN : N ≤ 512) (hK : va_K D vwCl [(d, .int)] s) (hP : va_P D vwCl [(hT, .inr (1, [.ref hR, .int (nI n)])), (hR, .inl (d, N, .inl a))] H)
    (kk : ∀ (k : Nat) (ls : Array Slot), k ≤ n → (∀ j, k ≤ j → j < n → v.toInt ≤ (a j).toInt) → (k = 0 ∨ (a (k - 1)).toInt < v.toInt) → lv_has ls 4 [(0, .ref hT), (1, .int v), (2, .int (nI k))] → W p l e R s m args below meth c H locs cells slots Q (F0 m 27 ls [])) :
    ∀ (f k : Nat) (ls : Array Slot), k < f → k ≤ n → (∀ j, k ≤ j → j < n → v.toInt ≤ (a j).toInt) → lv_has ls 4 [(0, .ref hT), (1, .int v), (2, .int (nI k))] → W p l e R s m args below meth c H locs cells slots Q (F0 m 5 ls []) := by
  intro f
  induction f with
  | zero => intro k ls h; omega
  | succ f ih =>
    intro k ls hf hk hge hl
    refine lv_iload_n hx hb dX1_add_5 rfl (lv_at hl 2 rfl) ?_
    refine nn_ifle (tgt := 27) hx hb dX1_add_6 (by decide) (by omega) (fun c_6 => ?_) (fun c_6 => ?_)
    · exact kk k ls hk hge (Or.inl c_6) (lv_sub hl [0, 1, 2] rfl)
    · refine lv_aload_n hx hb dX1_add_9 rfl (lv_at hl 0 rfl) ?_
      refine va_get (D := D) (ci := 1) (v := .ref hR) (C := RX1) (T := TX1) (N := 2) hx hb hts in_X1 hown hK hP 0 rfl rfl 0 (by decide) (hts _ q37) (fun _ h9 => h9) rfl dX1_add_10 ?_
      refine lv_iload_n hx hb dX1_add_13 rfl (lv_at hl 2 rfl) ?_
      refine lv_iconst (v := 1) hx hb dX1_add_14 (by decide) ?_
      refine lv_isub hx hb dX1_add_15 ?_
      refine rr_reti (y := (nI (k - 1))) (pk_sub (b := 1) (by omega)) ?_
      refine nn_iald hx hb hK hP 1 0 rfl rfl (by omega) (by omega) dX1_add_16 ?_
      refine lv_iload_n hx hb dX1_add_17 rfl (lv_at hl 1 rfl) ?_
      refine lv_icmp_lt (tgt := 27) hx hb dX1_add_18 (by decide) (fun c_18 => ?_) (fun c_18 => ?_)
      · exact kk k ls hk hge (Or.inr (Int32.lt_iff_toInt_lt.mp c_18)) (lv_sub hl [0, 1, 2] rfl)
      · refine lv_iinc (v := (nI (k - 1))) (lv' := [(2, .int (nI (k - 1))), (0, .ref hT), (1, .int v)]) hx hb dX1_add_21 hl (k := 2) rfl (by rw [show Int32.ofInt (-1) = (-1 : Int32) from by decide]; exact sb_m1 (by omega)) (by decide) rfl (fun ls hl => ?_)
        refine lv_goto (tgt := 5) hx hb dX1_add_24 (by decide) ?_
        exact ih (k - 1) ls (by omega) (by omega) (fun j q1 q2 => by
          by_cases e : j = k - 1
          · subst e; rw [Int32.lt_iff_toInt_lt] at c_18; omega
          · exact hge j (by omega) q2) (lv_sub hl [1, 2, 0] rfl)
/-- b is a with the places from j on shifted by one, up to n -/
def sh_ok (a : Nat → Int32) (n j : Nat) (b : Nat → Int32) : Prop := ∀ i, b i = if j < i ∧ i ≤ n then a (i - 1) else a i
theorem sh_step {a b : Nat → Int32} {n j : Nat} (h : sh_ok a n j b) (h0 : 0 < j) (hj : j ≤ n) : sh_ok a n (j - 1) (upd b j (b (j - 1))) := by
  intro i
  by_cases e : i = j
  · subst e
    rw [pk_us, h (i - 1), if_neg (by omega), if_pos (by omega)]
  · rw [pk_un e, h i]
    by_cases q : j < i ∧ i ≤ n
    · rw [if_pos q, if_pos (by omega)]
    · rw [if_neg q, if_neg (by omega)]
set_option maxHeartbeats 4000000 in
set_option maxRecDepth 100000 in
theorem X1_add_loop2 {p : Program} {l : Launch} {e : Env} {R : Room} {s : State} {m : MethodId} {args : Array Value} {below : List Frame} {meth : Method} {c : Code} {cells slots : Nat} {Q : State → Prop} (hx : p.tables.exec = Jvm.exec) (hb : c.code = cX1_add) (hts : ∀ w ∈ lw_all, w.before args s = true) (hown : s.vm.findClass RX1 = some m.cls) {D : va_G} {hT hR N n k : Nat} {d : ClassId} {a : Nat → Int32} {v : Int32} {A : Nat → Prop} {H0 : Heap} (hnN : n < N) (hN : N ≤ 512) (hkn : k ≤ n) (hK : va_K D vwCl [(d, .int)] s)
    (kk : ∀ (b : Nat → Int32) (H : Heap) (locs : List Loc) (ls : Array Slot), sh_ok a n k b → va_P D vwCl [(hT, .inr (1, [.ref hR, .int (nI n)])), (hR, .inl (d, N, .inl b))] H → va_D A [(hT, .inr (1, [.ref hR, .int (nI n)])), (hR, .inl (d, N, .inl b))] → va_S A H0 H locs → lv_has ls 4 [(0, .ref hT), (1, .int v), (2, .int (nI k))] → W p l e R s m args below meth c H locs cells slots Q (F0 m 105 ls [])) :
    ∀ (f j : Nat) (b : Nat → Int32) (H : Heap) (locs : List Loc) (ls : Array Slot), j - k < f → k ≤ j → j ≤ n → sh_ok a n j b → va_P D vwCl [(hT, .inr (1, [.ref hR, .int (nI n)])), (hR, .inl (d, N, .inl b))] H → va_D A [(hT, .inr (1, [.ref hR, .int (nI n)])), (hR, .inl (d, N, .inl b))] → va_S A H0 H locs → lv_has ls 4 [(0, .ref hT), (1, .int v), (2, .int (nI k)), (3, .int (nI j))] → W p l e R s m args below meth c H locs cells slots Q (F0 m 80 ls []) := by
  intro f
  induction f with
  | zero => intro j b H locs ls h; omega
  | succ f ih =>
    intro j b H locs ls hf hkj hjn hb2 hP hD hS hl
    refine lv_iload_n hx hb dX1_add_80 rfl (lv_at hl 3 rfl) ?_
    refine lv_iload_n hx hb dX1_add_81 rfl (lv_at hl 2 rfl) ?_
    refine nn_le (tgt := 105) hx hb dX1_add_82 (by decide) (by omega) (by omega) (fun c_82 => ?_) (fun c_82 => ?_)
    · obtain rfl : j = k := by omega
      exact kk b H locs ls hb2 hP hD hS (lv_sub hl [0, 1, 2] rfl)
    · refine lv_aload_n hx hb dX1_add_85 rfl (lv_at hl 0 rfl) ?_
      refine va_get (D := D) (ci := 1) (v := .ref hR) (C := RX1) (T := TX1) (N := 2) hx hb hts in_X1 hown hK hP 0 rfl rfl 0 (by decide) (hts _ q37) (fun _ h9 => h9) rfl dX1_add_86 ?_
      refine lv_iload_n hx hb dX1_add_89 rfl (lv_at hl 3 rfl) ?_
      refine lv_aload_n hx hb dX1_add_90 rfl (lv_at hl 0 rfl) ?_
      refine va_get (D := D) (ci := 1) (v := .ref hR) (C := RX1) (T := TX1) (N := 2) hx hb hts in_X1 hown hK hP 0 rfl rfl 0 (by decide) (hts _ q37) (fun _ h9 => h9) rfl dX1_add_91 ?_
      refine lv_iload_n hx hb dX1_add_94 rfl (lv_at hl 3 rfl) ?_
      refine lv_iconst (v := 1) hx hb dX1_add_95 (by decide) ?_
      refine lv_isub hx hb dX1_add_96 ?_
      refine rr_reti (y := (nI (j - 1))) (pk_sub (b := 1) (by omega)) ?_
      refine nn_iald hx hb hK hP 1 0 rfl rfl (by omega) (by omega) dX1_add_97 ?_
      refine nn_iast hx hb hK hP hD hS 1 0 rfl rfl (by omega) (by omega) dX1_add_98 (fun H locs hP hD hS => ?_)
      have hP : va_P D vwCl [(hT, .inr (1, [.ref hR, .int (nI n)])), (hR, .inl (d, N, .inl (upd b j (b (j - 1)))))] H := hP
      have hD : va_D A [(hT, .inr (1, [.ref hR, .int (nI n)])), (hR, .inl (d, N, .inl (upd b j (b (j - 1)))))] := hD
      refine lv_iinc (v := (nI (j - 1))) (lv' := [(3, .int (nI (j - 1))), (0, .ref hT), (1, .int v), (2, .int (nI k))]) hx hb dX1_add_99 hl (k := 3) rfl (by rw [show Int32.ofInt (-1) = (-1 : Int32) from by decide]; exact sb_m1 (by omega)) (by decide) rfl (fun ls hl => ?_)
      refine lv_goto (tgt := 80) hx hb dX1_add_102 (by decide) ?_
      exact ih (j - 1) (upd b j (b (j - 1))) H locs ls (by omega) (by omega) (by omega) (sh_step hb2 (by omega) (by omega)) hP hD hS (lv_sub hl [1, 2, 3, 0] rfl)
set_option maxHeartbeats 4000000 in
set_option maxRecDepth 100000 in
theorem X1_add_75 {p : Program} {l : Launch} {e : Env} {R : Room} {s : State} {m : MethodId} {args : Array Value} {below : List Frame} {meth : Method} {c : Code} {H : Heap} {locs : List Loc} {cells slots : Nat} {Q : State → Prop} (hx : p.tables.exec = Jvm.exec) (hb : c.code = cX1_add) (hts : ∀ w ∈ lw_all, w.before args s = true) (hown : s.vm.findClass RX1 = some m.cls) {D : va_G} {hT hR N n k : Nat} {d : ClassId} {a : Nat → Int32} {v : Int32} {A : Nat → Prop} {H0 : Heap} {S : Int32 → Bool} (hok : T_ok S n a) (hnN : n < N) (hN : N ≤ 512) (hkn : k ≤ n) (hhi : ∀ j, k ≤ j → j < n → v.toInt < (a j).toInt) (hlo : ∀ j, j < k → (a j).toInt < v.toInt) (hK : va_K D vwCl [(d, .int)] s) (hP : va_P D vwCl [(hT, .inr (1, [.ref hR, .int (nI n)])), (hR, .inl (d, N, .inl a))] H) (hD : va_D A [(hT, .inr (1, [.ref hR, .int (nI n)])), (hR, .inl (d, N, .inl a))]) (hS : va_S A H0 H locs) {ls : Array Slot} (hl : lv_has ls 4 [(0, .ref hT), (1, .int v), (2, .int (nI k))])
    (kk : ∀ (b : Nat → Int32) (H : Heap) (locs : List Loc) (ls : Array Slot), T_ok (sAdd S v) (n + 1) b → va_P D vwCl [(hT, .inr (1, [.ref hR, .int (nI (n + 1))])), (hR, .inl (d, N, .inl b))] H → va_D A [(hT, .inr (1, [.ref hR, .int (nI (n + 1))])), (hR, .inl (d, N, .inl b))] → va_S A H0 H locs → W p l e R s m args below meth c H locs cells slots Q (F0 m 122 ls [])) : W p l e R s m args below meth c H locs cells slots Q (F0 m 75 ls []) := by
  refine lv_aload_n hx hb dX1_add_75 rfl (lv_at hl 0 rfl) ?_
  refine va_get (D := D) (ci := 1) (v := .int (nI n)) (C := RX1) (T := TX1) (N := 2) hx hb hts in_X1 hown hK hP 0 rfl rfl 1 (by decide) (hts _ q38) (fun _ h9 => h9) rfl dX1_add_76 ?_
  refine lv_istore_n (lv' := [(3, .int (nI n)), (0, .ref hT), (1, .int v), (2, .int (nI k))]) hx hb dX1_add_79 rfl hl (by decide) rfl (fun ls hl => ?_)
  refine X1_add_loop2 hx hb hts hown (a := a) hnN hN hkn hK (fun b H locs ls hb2 hP hD hS hl => ?_) (n + 1) n a H locs ls (by omega) hkn (by omega) (fun i => by rw [if_neg (by omega)]) hP hD hS (lv_sub hl [1, 2, 3, 0] rfl)
  refine lv_aload_n hx hb dX1_add_105 rfl (lv_at hl 0 rfl) ?_
  refine va_get (D := D) (ci := 1) (v := .ref hR) (C := RX1) (T := TX1) (N := 2) hx hb hts in_X1 hown hK hP 0 rfl rfl 0 (by decide) (hts _ q37) (fun _ h9 => h9) rfl dX1_add_106 ?_
  refine lv_iload_n hx hb dX1_add_109 rfl (lv_at hl 2 rfl) ?_
  refine lv_iload_n hx hb dX1_add_110 rfl (lv_at hl 1 rfl) ?_
  refine nn_iast hx hb hK hP hD hS 1 0 rfl rfl (by omega) (by omega) dX1_add_111 (fun H locs hP hD hS => ?_)
  have hP : va_P D vwCl [(hT, .inr (1, [.ref hR, .int (nI n)])), (hR, .inl (d, N, .inl (upd b k v)))] H := hP
  have hD : va_D A [(hT, .inr (1, [.ref hR, .int (nI n)])), (hR, .inl (d, N, .inl (upd b k v)))] := hD
  refine lv_aload_n hx hb dX1_add_112 rfl (lv_at hl 0 rfl) ?_
  refine lv_dup hx hb dX1_add_113 rfl ?_
  refine va_get (D := D) (ci := 1) (v := .int (nI n)) (C := RX1) (T := TX1) (N := 2) hx hb hts in_X1 hown hK hP 0 rfl rfl 1 (by decide) (hts _ q38) (fun _ h9 => h9) rfl dX1_add_114 ?_
  refine lv_iconst (v := 1) hx hb dX1_add_117 (by decide) ?_
  refine lv_iadd hx hb dX1_add_118 ?_
  refine rr_reti (y := (nI (n + 1))) (nI_1 _) ?_
  refine va_put (D := D) (ci := 1) (v := .int (nI (n + 1))) (ty := .int) (C := RX1) (T := TX1) (N := 2) hx hb hts in_X1 tyX1 tyX1_ok nmX1 hown hK hP hD hS 0 rfl rfl 1 (by decide) (hts _ q38) (fun _ h9 => h9) rfl (by decide +kernel) rfl rfl (Nat.le_of_ble_eq_true rfl) dX1_add_119 (fun H locs hP hD hS => ?_)
  have hP : va_P D vwCl [(hT, .inr (1, [.ref hR, .int (nI (n + 1))])), (hR, .inl (d, N, .inl (upd b k v)))] H := hP
  have hD : va_D A [(hT, .inr (1, [.ref hR, .int (nI (n + 1))])), (hR, .inl (d, N, .inl (upd b k v)))] := hD
  exact kk (upd b k v) H locs ls (T_ins hok hkn hhi hlo (fun i hi => by
    by_cases e : i = k
    · subst e; rw [pk_us, if_pos rfl]
    · rw [pk_un e, if_neg e, hb2 i]
      by_cases q : k < i
      · rw [if_pos ⟨q, hi⟩, if_pos q]
      · rw [if_neg (fun z => q z.1), if_neg q])) hP hD hS
end
section
abbrev wsX1_add : List Cond := ws_ yX1_add cX1_add 4 none
set_option maxHeartbeats 4000000 in
set_option maxRecDepth 100000 in
theorem met_X1_add (l : Launch) (D : va_G) (hT hR : Nat) (d : ClassId) (N n : Nat) (a : Nat → Int32) (sz : Nat) (v : Int32) {S : Int32 → Bool} (hok : T_ok S n a) (hnN : n ≤ N) (hN : N ≤ 512) (h1N : 1 ≤ N) (hn2 : n ≤ 200) : rr_CV l D yX1_add wsX1_add ({ frames := 2, cells := 1, slots := 512, locals := 85 }) [.ref hT, .int v] [(d, .int)] [(hT, .inr (1, [.ref hR, .int (nI n)])), (hR, .inl (d, N, .inl a))] sz (fun u : Nat × ClassId × Nat × Nat × (Nat → Int32) => T_ok (sAdd S v) u.2.2.2.1 u.2.2.2.2 ∧ u.2.2.2.1 = n + sCnt S v ∧ u.2.2.2.1 ≤ u.2.2.1 ∧ u.2.2.1 ≤ 512 ∧ 1 ≤ u.2.2.1) (fun u => [(u.2.1, .int)]) (fun u => [(hT, .inr (1, [.ref u.1, .int (nI u.2.2.2.1)])), (u.1, .inl (u.2.1, u.2.2.1, .inl u.2.2.2.2))]) 1 512 := by
  refine Met.ofW (cc := cX1_add) (maxL := 4) (ret := none) (by decide) rfl ?_
  intro p e s m args below meth c s₁ B hml hv
  obtain ⟨rfl, hsz, hP, hK, hD0⟩ := hv
  have hx := B.exec
  have hb := B.bytes
  have hr := B.returns
  have hts := atoms_spec (ws := wsX1_add) B.pre
  have hts : ∀ w ∈ lw_all, w.before _ s = true := fun w h => hts w (List.mem_cons_of_mem _ h)
  have hown : s.vm.findClass RX1 = some m.cls := findClass_of_methodNamed B.named
  have hlocks := B.notSynchronized
  subst hsz
  have hD := hD0.self (sz := s.heap.size)
  generalize hAe : va_A [(hT, .inr (1, [.ref hR, .int (nI n)])), (hR, .inl (d, N, .inl a))] s.heap.size = A at hD ⊢
  have hA : ∀ q : Nat, s.heap.size ≤ q → A q := fun q h => by rw [← hAe]; exact Or.inr h
  have hS : va_S A s.heap s.heap [] := va_S.rf
  have hP : va_P D vwCl [(hT, .inr (1, [.ref hR, .int (nI n)])), (hR, .inl (d, N, .inl a))] s.heap := hP
  have hK : va_K D vwCl [(d, .int)] s := hK
  have hl := lv_entry ([.ref hT, .int v]) (n := 4) (Nat.le_of_ble_eq_true rfl)
  rw [lg_entry_eq]
  generalize (lg_sl ([.ref hT, .int v]) ++ List.replicate (4 - (lg_sl ([.ref hT, .int v])).length) Slot.unset).toArray = ls at hl ⊢
  have hl : lv_has ls 4 [(0, .ref hT), (1, .int v)] := hl
  refine lv_aload_n hx hb dX1_add_0 rfl (lv_at hl 0 rfl) ?_
  refine va_get (D := D) (ci := 1) (v := .int (nI n)) (C := RX1) (T := TX1) (N := 2) hx hb hts in_X1 hown hK hP 0 rfl rfl 1 (by decide) (hts _ q38) (fun _ h9 => h9) rfl dX1_add_1 ?_
  refine lv_istore_n (lv' := [(2, .int (nI n)), (0, .ref hT), (1, .int v)]) hx hb dX1_add_4 rfl hl (by decide) rfl (fun ls hl => ?_)
  refine X1_add_loop1 hx hb hts hown hnN hN hK hP (fun k ls hk hge h0 hl => ?_) (n + 1) n ls (by omega) (by omega) (fun j q1 q2 => absurd q2 (by omega)) (lv_sub hl [1, 2, 0] rfl)
  refine lv_iload_n hx hb dX1_add_27 rfl (lv_at hl 2 rfl) ?_
  refine lv_aload_n hx hb dX1_add_28 rfl (lv_at hl 0 rfl) ?_
  refine va_get (D := D) (ci := 1) (v := .int (nI n)) (C := RX1) (T := TX1) (N := 2) hx hb hts in_X1 hown hK hP 0 rfl rfl 1 (by decide) (hts _ q38) (fun _ h9 => h9) rfl dX1_add_29 ?_
  refine nn_ge (tgt := 46) hx hb dX1_add_32 (by decide) (by omega) (by omega) (fun c_32 => ?_) (fun c_32 => ?_)
  · obtain ⟨hnS, hhi, hlo⟩ := T_not hok hk hge h0 (fun z => absurd z.1 (by omega))
    refine lv_aload_n hx hb dX1_add_46 rfl (lv_at hl 0 rfl) ?_
    refine va_get (D := D) (ci := 1) (v := .int (nI n)) (C := RX1) (T := TX1) (N := 2) hx hb hts in_X1 hown hK hP 0 rfl rfl 1 (by decide) (hts _ q38) (fun _ h9 => h9) rfl dX1_add_47 ?_
    refine lv_aload_n hx hb dX1_add_50 rfl (lv_at hl 0 rfl) ?_
    refine va_get (D := D) (ci := 1) (v := .ref hR) (C := RX1) (T := TX1) (N := 2) hx hb hts in_X1 hown hK hP 0 rfl rfl 0 (by decide) (hts _ q37) (fun _ h9 => h9) rfl dX1_add_51 ?_
    refine va_alen (v := nI N) hx hb hK hP 1 0 rfl rfl rfl dX1_add_54 ?_
    refine nn_ne (tgt := 75) hx hb dX1_add_55 (by decide) (by omega) (by omega) (fun c_55 => ?_) (fun c_55 => ?_)
    · refine X1_add_75 hx hb hts hown hok (by omega) (by omega) hk hhi hlo (hK.sub (tys' := [(d, .int)]) [0] rfl) (hP.sub (ws' := [(hT, .inr (1, [.ref hR, .int (nI n)])), (hR, .inl (d, N, .inl a))]) [0, 1] rfl) (hD.sub (ws' := [(hT, .inr (1, [.ref hR, .int (nI n)])), (hR, .inl (d, N, .inl a))]) [0, 1] (by decide) rfl) hS (lv_sub hl [0, 1, 2] rfl) (fun b H locs ls hT2 hP hD hS => ?_)
      have hK : va_K D vwCl [(d, .int)] s := hK.sub (tys' := [(d, .int)]) [0] rfl
      refine W.widen (k := 1) (n := 512) (Nat.le_of_ble_eq_true rfl) (Nat.le_of_ble_eq_true rfl) ?_
      exact W.vret hx hb hr (rr_endv (hR, d, N, n + 1, b) ⟨hT2, by rw [sCnt_no hnS], by dsimp only; omega, by dsimp only; omega, by dsimp only; omega⟩ hP hK hD hS) hS.2.2 dX1_add_122
    · refine lv_aload_n hx hb dX1_add_58 rfl (lv_at hl 0 rfl) ?_
      refine lv_aload_n hx hb dX1_add_59 rfl (lv_at hl 0 rfl) ?_
      refine va_get (D := D) (ci := 1) (v := .ref hR) (C := RX1) (T := TX1) (N := 2) hx hb hts in_X1 hown hK hP 0 rfl rfl 0 (by decide) (hts _ q37) (fun _ h9 => h9) rfl dX1_add_60 ?_
      refine lv_iconst (v := 2) hx hb dX1_add_63 (by decide) ?_
      refine lv_aload_n hx hb dX1_add_64 rfl (lv_at hl 0 rfl) ?_
      refine va_get (D := D) (ci := 1) (v := .int (nI n)) (C := RX1) (T := TX1) (N := 2) hx hb hts in_X1 hown hK hP 0 rfl rfl 1 (by decide) (hts _ q38) (fun _ h9 => h9) rfl dX1_add_65 ?_
      refine lv_imul hx hb dX1_add_68 ?_
      refine rr_reti (y := (nI (2 * n))) (pk_mul 2 n) ?_
      refine rr_callr (wc := [(hR, .inl (d, N, .inl a))]) (wr := [(hT, .inr (1, [.ref hR, .int (nI n)]))]) (va_runS (As := [.ref hR, .int (nI (2 * n))]) (rest := [.ref hT]) ⟨hx, hb, hml, hown, hts⟩ (met_J0_copyOf l D hR d N (2 * n) a s.heap.size (by omega) (by omega)) (va_cwS 2 hts (lw_S q79 q80 q19 q81) rfl rfl rfl (by decide +kernel) ⟨Nat.le_of_ble_eq_true rfl, Nat.le_of_ble_eq_true rfl⟩) ⟨rr_blind, rr_pre (hP.sub (ws' := [(hR, .inl (d, N, .inl a))]) [1] rfl) (hK.sub (tys' := [(d, .int)]) [0] rfl) (hD.sub (ws' := [(hR, .inl (d, N, .inl a))]) [1] (by decide) rfl)⟩ rfl rfl hl.1 rfl (lv_room (Nat.le_of_ble_eq_true rfl)) dX1_add_69 ⟨Nat.le_of_ble_eq_true rfl, Nat.le_of_ble_eq_true rfl⟩) hK hP hD hS hA [1] [0] rfl rfl (by decide) (by decide) (fun u_1 q2 H locs hcp hP hD hK hS => ?_)
      obtain ⟨d2, b2⟩ := u_1
      have hP : va_P D vwCl [(hT, .inr (1, [.ref hR, .int (nI n)])), (hR, .inl (d, N, .inl a)), (q2, .inl (d2, (2 * n), .inl b2))] H := hP
      have hD : va_D A [(hT, .inr (1, [.ref hR, .int (nI n)])), (hR, .inl (d, N, .inl a)), (q2, .inl (d2, (2 * n), .inl b2))] := hD
      have hK : va_K D vwCl [(d, .int), (d2, .int)] s := hK.sub (tys' := [(d, .int), (d2, .int)]) [0, 2] rfl
      have hcp : ∀ i, i < N → b2 i = a i := hcp
      refine va_put (D := D) (ci := 1) (v := .ref q2) (ty := .array .int) (C := RX1) (T := TX1) (N := 2) hx hb hts in_X1 tyX1 tyX1_ok nmX1 hown hK hP hD hS 0 rfl rfl 0 (by decide) (hts _ q37) (fun _ h9 => h9) rfl (by decide +kernel) rfl rfl (Nat.le_of_ble_eq_true rfl) dX1_add_72 (fun H locs hP hD hS => ?_)
      have hP : va_P D vwCl [(hT, .inr (1, [.ref q2, .int (nI n)])), (hR, .inl (d, N, .inl a)), (q2, .inl (d2, (2 * n), .inl b2))] H := hP
      have hD : va_D A [(hT, .inr (1, [.ref q2, .int (nI n)])), (hR, .inl (d, N, .inl a)), (q2, .inl (d2, (2 * n), .inl b2))] := hD
      refine X1_add_75 hx hb hts hown (T_congr hok (fun i hi => hcp i (by omega))) (by omega) (by omega) hk (fun j q1 q2 => by rw [hcp j (by omega)]; exact hhi j q1 q2) (fun j q1 => by rw [hcp j (by omega)]; exact hlo j q1) (hK.sub (tys' := [(d2, .int)]) [1] rfl) (hP.sub (ws' := [(hT, .inr (1, [.ref q2, .int (nI n)])), (q2, .inl (d2, (2 * n), .inl b2))]) [0, 2] rfl) (hD.sub (ws' := [(hT, .inr (1, [.ref q2, .int (nI n)])), (q2, .inl (d2, (2 * n), .inl b2))]) [0, 2] (by decide) rfl) hS (lv_sub hl [0, 1, 2] rfl) (fun b H locs ls hT2 hP hD hS => ?_)
      have hK : va_K D vwCl [(d2, .int)] s := hK.sub (tys' := [(d2, .int)]) [1] rfl
      refine W.widen (k := 1) (n := 512) (Nat.le_of_ble_eq_true rfl) (Nat.le_of_ble_eq_true rfl) ?_
      exact W.vret hx hb hr (rr_endv (q2, d2, (2 * n), n + 1, b) ⟨hT2, by rw [sCnt_no hnS], by dsimp only; omega, by dsimp only; omega, by dsimp only; omega⟩ hP hK hD hS) hS.2.2 dX1_add_122
  · refine lv_aload_n hx hb dX1_add_35 rfl (lv_at hl 0 rfl) ?_
    refine va_get (D := D) (ci := 1) (v := .ref hR) (C := RX1) (T := TX1) (N := 2) hx hb hts in_X1 hown hK hP 0 rfl rfl 0 (by decide) (hts _ q37) (fun _ h9 => h9) rfl dX1_add_36 ?_
    refine lv_iload_n hx hb dX1_add_39 rfl (lv_at hl 2 rfl) ?_
    refine nn_iald hx hb hK hP 1 0 rfl rfl (by omega) (by omega) dX1_add_40 ?_
    refine lv_iload_n hx hb dX1_add_41 rfl (lv_at hl 1 rfl) ?_
    refine lv_icmp_ne (tgt := 46) hx hb dX1_add_42 (by decide) (fun c_42 => ?_) (fun c_42 => ?_)
    · obtain ⟨hnS, hhi, hlo⟩ := T_not hok hk hge h0 (fun z => c_42 z.2)
      refine lv_aload_n hx hb dX1_add_46 rfl (lv_at hl 0 rfl) ?_
      refine va_get (D := D) (ci := 1) (v := .int (nI n)) (C := RX1) (T := TX1) (N := 2) hx hb hts in_X1 hown hK hP 0 rfl rfl 1 (by decide) (hts _ q38) (fun _ h9 => h9) rfl dX1_add_47 ?_
      refine lv_aload_n hx hb dX1_add_50 rfl (lv_at hl 0 rfl) ?_
      refine va_get (D := D) (ci := 1) (v := .ref hR) (C := RX1) (T := TX1) (N := 2) hx hb hts in_X1 hown hK hP 0 rfl rfl 0 (by decide) (hts _ q37) (fun _ h9 => h9) rfl dX1_add_51 ?_
      refine va_alen (v := nI N) hx hb hK hP 1 0 rfl rfl rfl dX1_add_54 ?_
      refine nn_ne (tgt := 75) hx hb dX1_add_55 (by decide) (by omega) (by omega) (fun c_55 => ?_) (fun c_55 => ?_)
      · refine X1_add_75 hx hb hts hown hok (by omega) (by omega) hk hhi hlo (hK.sub (tys' := [(d, .int)]) [0] rfl) (hP.sub (ws' := [(hT, .inr (1, [.ref hR, .int (nI n)])), (hR, .inl (d, N, .inl a))]) [0, 1] rfl) (hD.sub (ws' := [(hT, .inr (1, [.ref hR, .int (nI n)])), (hR, .inl (d, N, .inl a))]) [0, 1] (by decide) rfl) hS (lv_sub hl [0, 1, 2] rfl) (fun b H locs ls hT2 hP hD hS => ?_)
        have hK : va_K D vwCl [(d, .int)] s := hK.sub (tys' := [(d, .int)]) [0] rfl
        refine W.widen (k := 1) (n := 512) (Nat.le_of_ble_eq_true rfl) (Nat.le_of_ble_eq_true rfl) ?_
        exact W.vret hx hb hr (rr_endv (hR, d, N, n + 1, b) ⟨hT2, by rw [sCnt_no hnS], by dsimp only; omega, by dsimp only; omega, by dsimp only; omega⟩ hP hK hD hS) hS.2.2 dX1_add_122
      · refine lv_aload_n hx hb dX1_add_58 rfl (lv_at hl 0 rfl) ?_
        refine lv_aload_n hx hb dX1_add_59 rfl (lv_at hl 0 rfl) ?_
        refine va_get (D := D) (ci := 1) (v := .ref hR) (C := RX1) (T := TX1) (N := 2) hx hb hts in_X1 hown hK hP 0 rfl rfl 0 (by decide) (hts _ q37) (fun _ h9 => h9) rfl dX1_add_60 ?_
        refine lv_iconst (v := 2) hx hb dX1_add_63 (by decide) ?_
        refine lv_aload_n hx hb dX1_add_64 rfl (lv_at hl 0 rfl) ?_
        refine va_get (D := D) (ci := 1) (v := .int (nI n)) (C := RX1) (T := TX1) (N := 2) hx hb hts in_X1 hown hK hP 0 rfl rfl 1 (by decide) (hts _ q38) (fun _ h9 => h9) rfl dX1_add_65 ?_
        refine lv_imul hx hb dX1_add_68 ?_
        refine rr_reti (y := (nI (2 * n))) (pk_mul 2 n) ?_
        refine rr_callr (wc := [(hR, .inl (d, N, .inl a))]) (wr := [(hT, .inr (1, [.ref hR, .int (nI n)]))]) (va_runS (As := [.ref hR, .int (nI (2 * n))]) (rest := [.ref hT]) ⟨hx, hb, hml, hown, hts⟩ (met_J0_copyOf l D hR d N (2 * n) a s.heap.size (by omega) (by omega)) (va_cwS 2 hts (lw_S q79 q80 q19 q81) rfl rfl rfl (by decide +kernel) ⟨Nat.le_of_ble_eq_true rfl, Nat.le_of_ble_eq_true rfl⟩) ⟨rr_blind, rr_pre (hP.sub (ws' := [(hR, .inl (d, N, .inl a))]) [1] rfl) (hK.sub (tys' := [(d, .int)]) [0] rfl) (hD.sub (ws' := [(hR, .inl (d, N, .inl a))]) [1] (by decide) rfl)⟩ rfl rfl hl.1 rfl (lv_room (Nat.le_of_ble_eq_true rfl)) dX1_add_69 ⟨Nat.le_of_ble_eq_true rfl, Nat.le_of_ble_eq_true rfl⟩) hK hP hD hS hA [1] [0] rfl rfl (by decide) (by decide) (fun u_2 q2 H locs hcp hP hD hK hS => ?_)
        obtain ⟨d2, b2⟩ := u_2
        have hP : va_P D vwCl [(hT, .inr (1, [.ref hR, .int (nI n)])), (hR, .inl (d, N, .inl a)), (q2, .inl (d2, (2 * n), .inl b2))] H := hP
        have hD : va_D A [(hT, .inr (1, [.ref hR, .int (nI n)])), (hR, .inl (d, N, .inl a)), (q2, .inl (d2, (2 * n), .inl b2))] := hD
        have hK : va_K D vwCl [(d, .int), (d2, .int)] s := hK.sub (tys' := [(d, .int), (d2, .int)]) [0, 2] rfl
        have hcp : ∀ i, i < N → b2 i = a i := hcp
        refine va_put (D := D) (ci := 1) (v := .ref q2) (ty := .array .int) (C := RX1) (T := TX1) (N := 2) hx hb hts in_X1 tyX1 tyX1_ok nmX1 hown hK hP hD hS 0 rfl rfl 0 (by decide) (hts _ q37) (fun _ h9 => h9) rfl (by decide +kernel) rfl rfl (Nat.le_of_ble_eq_true rfl) dX1_add_72 (fun H locs hP hD hS => ?_)
        have hP : va_P D vwCl [(hT, .inr (1, [.ref q2, .int (nI n)])), (hR, .inl (d, N, .inl a)), (q2, .inl (d2, (2 * n), .inl b2))] H := hP
        have hD : va_D A [(hT, .inr (1, [.ref q2, .int (nI n)])), (hR, .inl (d, N, .inl a)), (q2, .inl (d2, (2 * n), .inl b2))] := hD
        refine X1_add_75 hx hb hts hown (T_congr hok (fun i hi => hcp i (by omega))) (by omega) (by omega) hk (fun j q1 q2 => by rw [hcp j (by omega)]; exact hhi j q1 q2) (fun j q1 => by rw [hcp j (by omega)]; exact hlo j q1) (hK.sub (tys' := [(d2, .int)]) [1] rfl) (hP.sub (ws' := [(hT, .inr (1, [.ref q2, .int (nI n)])), (q2, .inl (d2, (2 * n), .inl b2))]) [0, 2] rfl) (hD.sub (ws' := [(hT, .inr (1, [.ref q2, .int (nI n)])), (q2, .inl (d2, (2 * n), .inl b2))]) [0, 2] (by decide) rfl) hS (lv_sub hl [0, 1, 2] rfl) (fun b H locs ls hT2 hP hD hS => ?_)
        have hK : va_K D vwCl [(d2, .int)] s := hK.sub (tys' := [(d2, .int)]) [1] rfl
        refine W.widen (k := 1) (n := 512) (Nat.le_of_ble_eq_true rfl) (Nat.le_of_ble_eq_true rfl) ?_
        exact W.vret hx hb hr (rr_endv (q2, d2, (2 * n), n + 1, b) ⟨hT2, by rw [sCnt_no hnS], by dsimp only; omega, by dsimp only; omega, by dsimp only; omega⟩ hP hK hD hS) hS.2.2 dX1_add_122
    · have c_42q : a k = v := c_42
      have hSv : S v = true := (hok.2 v).mpr ⟨k, c_32, c_42q⟩
      refine W.widen (k := 1) (n := 512) (Nat.le_of_ble_eq_true rfl) (Nat.le_of_ble_eq_true rfl) ?_
      exact W.vret hx hb hr (rr_endv (hR, d, N, n, a) ⟨by rw [sAdd_of hSv]; exact hok, by rw [sCnt_of hSv]; rfl, hnN, hN, h1N⟩ hP hK hD hS) hS.2.2 dX1_add_45
end
section
def sB0 : Int32 → Bool := fun _ => false
def sB1 : Int32 → Bool := sAdd sB0 (-2147483648)
theorem sB_c1 : sCnt sB0 (-2147483648) = 1 := by decide
def sB2 : Int32 → Bool := sAdd sB1 (-2147483647)
theorem sB_c2 : sCnt sB1 (-2147483647) = 1 := by decide
def sB3 : Int32 → Bool := sAdd sB2 (-1)
theorem sB_c3 : sCnt sB2 (-1) = 1 := by decide
def sB4 : Int32 → Bool := sAdd sB3 0
theorem sB_c4 : sCnt sB3 0 = 1 := by decide
def sB5 : Int32 → Bool := sAdd sB4 1
theorem sB_c5 : sCnt sB4 1 = 1 := by decide
def sB6 : Int32 → Bool := sAdd sB5 2147483646
theorem sB_c6 : sCnt sB5 2147483646 = 1 := by decide
def sB7 : Int32 → Bool := sAdd sB6 2147483647
theorem sB_c7 : sCnt sB6 2147483647 = 1 := by decide
theorem sB_min : sB7 (-2147483648) = true := by decide
theorem sB_max : sB7 2147483647 = true := by decide
theorem T_nil (a : Nat → Int32) : T_ok sB0 0 a := ⟨fun _ _ _ h => absurd h (Nat.not_lt_zero _), fun w => ⟨fun h => Bool.noConfusion (show false = true from h), fun ⟨_, h, _⟩ => absurd h (Nat.not_lt_zero _)⟩⟩
theorem M_nil (a : Nat → Int32) : M_ok sB0 0 a := fun w => ⟨fun h => Bool.noConfusion (show false = true from h), fun ⟨_, h, _⟩ => absurd h (Nat.not_lt_zero _)⟩
/-- around: a number with its neighbours -/
def sA2 (S : Int32 → Bool) (v : Int32) : Int32 → Bool := if v ≤ -2147483648 then sAdd S v else sAdd (sAdd S v) (v - 1)
def sA3 (S : Int32 → Bool) (v : Int32) : Int32 → Bool := if 2147483647 ≤ v then sA2 S v else sAdd (sA2 S v) (v + 1)
def cA3 (S : Int32 → Bool) (v : Int32) : Nat := sCnt S v + (if v ≤ -2147483648 then 0 else sCnt (sAdd S v) (v - 1)) + (if 2147483647 ≤ v then 0 else sCnt (sA2 S v) (v + 1))
abbrev wsX1_init : List Cond := ws_ yX1_init cX1_init 1 none
set_option maxHeartbeats 4000000 in
set_option maxRecDepth 100000 in
theorem met_X1_init (l : Launch) (D : va_G) (hT : Nat) (sz : Nat) : rr_CV l D yX1_init wsX1_init ({ frames := 1, cells := 1, slots := 64, locals := 14 }) [.ref hT] [] [(hT, .inr (1, [.null, .int 0]))] sz (fun _ : Nat × ClassId => True) (fun u => [(u.2, .int)]) (fun u => [(hT, .inr (1, [.ref u.1, .int 0])), (u.1, .inl (u.2, 64, .inl (fun _ => 0)))]) 1 64 := by
  refine Met.ofW (cc := cX1_init) (maxL := 1) (ret := none) (by decide) rfl ?_
  intro p e s m args below meth c s₁ B hml hv
  obtain ⟨rfl, hsz, hP, hK, hD0⟩ := hv
  have hx := B.exec
  have hb := B.bytes
  have hr := B.returns
  have hts := atoms_spec (ws := wsX1_init) B.pre
  have hts : ∀ w ∈ lw_all, w.before _ s = true := fun w h => hts w (List.mem_cons_of_mem _ h)
  have hown : s.vm.findClass RX1 = some m.cls := findClass_of_methodNamed B.named
  have hlocks := B.notSynchronized
  have hin : meth.name = "<init>" := (name_of_methodNamed B.named B.method).1
  subst hsz
  have hD := hD0.self (sz := s.heap.size)
  generalize hAe : va_A [(hT, .inr (1, [.null, .int 0]))] s.heap.size = A at hD ⊢
  have hA : ∀ q : Nat, s.heap.size ≤ q → A q := fun q h => by rw [← hAe]; exact Or.inr h
  have hS : va_S A s.heap s.heap [] := va_S.rf
  have hP : va_P D vwCl [(hT, .inr (1, [.null, .int 0]))] s.heap := hP
  have hK : va_K D vwCl [] s := hK
  have hl := lv_entry ([.ref hT]) (n := 1) (Nat.le_of_ble_eq_true rfl)
  rw [lg_entry_eq]
  generalize (lg_sl ([.ref hT]) ++ List.replicate (1 - (lg_sl ([.ref hT])).length) Slot.unset).toArray = ls at hl ⊢
  have hl : lv_has ls 1 [(0, .ref hT)] := hl
  refine lv_aload_n hx hb dX1_init_0 rfl (lv_at hl 0 rfl) ?_
  refine W.objInit hx hb hown (hts _ q36) (hts _ q29) (hts _ q30) rfl (by rw [hml]; exact hl.1) rfl dX1_init_1 (Nat.le_of_ble_eq_true rfl) (Nat.le_of_ble_eq_true rfl) ?_
  refine W.eq (g2 := F0 m 4 ls []) rfl ?_
  refine lv_aload_n hx hb dX1_init_4 rfl (lv_at hl 0 rfl) ?_
  refine lv_bipush (v := 64) hx hb dX1_init_5 (by decide) ?_
  refine va_newa (atype := .int) (N' := 64) (a0 := (64, .inl (fun _ => 0))) (ty := .int) hx hb (hts _ q45) rfl hK hP hD hS hA (fun _ => rfl) (by decide) (by decide) (by decide) (Nat.le_of_ble_eq_true rfl) (Nat.le_of_ble_eq_true rfl) dX1_init_7 (fun qa_1 da_2 H hK hP hD hS => ?_)
  have hP : va_P D vwCl [(hT, .inr (1, [.null, .int 0])), (qa_1, .inl (da_2, 64, .inl (fun _ => 0)))] H := hP
  have hD : va_D A [(hT, .inr (1, [.null, .int 0])), (qa_1, .inl (da_2, 64, .inl (fun _ => 0)))] := hD
  have hK : va_K D vwCl [(da_2, .int)] s := hK
  refine va_put (D := D) (ci := 1) (v := .ref qa_1) (ty := .array .int) (C := RX1) (T := TX1) (N := 2) hx hb hts in_X1 tyX1 tyX1_ok nmX1 hown hK hP hD hS 0 rfl rfl 0 (by decide) (hts _ q37) (fun _ h9 => h9) rfl (by decide +kernel) rfl rfl (Nat.le_of_ble_eq_true rfl) dX1_init_9 (fun H locs hP hD hS => ?_)
  have hP : va_P D vwCl [(hT, .inr (1, [.ref qa_1, .int 0])), (qa_1, .inl (da_2, 64, .inl (fun _ => 0)))] H := hP
  have hD : va_D A [(hT, .inr (1, [.ref qa_1, .int 0])), (qa_1, .inl (da_2, 64, .inl (fun _ => 0)))] := hD
  exact W.vret hx hb hr (rr_endv (qa_1, da_2) trivial hP hK hD hS) hS.2.2 dX1_init_12
abbrev wsX1_begin : List Cond := ws_ yX1_begin cX1_begin 1 none
set_option maxHeartbeats 4000000 in
set_option maxRecDepth 100000 in
theorem met_X1_begin (l : Launch) (D : va_G) (hT hR : Nat) (d : ClassId) (N : Nat) (a : Nat → Int32) (z : Int32) (sz : Nat) (hN : N ≤ 512) (h1N : 1 ≤ N) : rr_CV l D yX1_begin wsX1_begin ({ frames := 3, cells := 7, slots := 3584, locals := 108 }) [.ref hT] [(d, .int)] [(hT, .inr (1, [.ref hR, .int z])), (hR, .inl (d, N, .inl a))] sz (fun u : Nat × ClassId × Nat × (Nat → Int32) => T_ok sB7 7 u.2.2.2 ∧ 7 ≤ u.2.2.1 ∧ u.2.2.1 ≤ 512) (fun u => [(u.2.1, .int)]) (fun u => [(hT, .inr (1, [.ref u.1, .int (nI 7)])), (u.1, .inl (u.2.1, u.2.2.1, .inl u.2.2.2))]) 7 3584 := by
  refine Met.ofW (cc := cX1_begin) (maxL := 1) (ret := none) (by decide) rfl ?_
  intro p e s m args below meth c s₁ B hml hv
  obtain ⟨rfl, hsz, hP, hK, hD0⟩ := hv
  have hx := B.exec
  have hb := B.bytes
  have hr := B.returns
  have hts := atoms_spec (ws := wsX1_begin) B.pre
  have hts : ∀ w ∈ lw_all, w.before _ s = true := fun w h => hts w (List.mem_cons_of_mem _ h)
  have hown : s.vm.findClass RX1 = some m.cls := findClass_of_methodNamed B.named
  have hlocks := B.notSynchronized
  subst hsz
  have hD := hD0.self (sz := s.heap.size)
  generalize hAe : va_A [(hT, .inr (1, [.ref hR, .int z])), (hR, .inl (d, N, .inl a))] s.heap.size = A at hD ⊢
  have hA : ∀ q : Nat, s.heap.size ≤ q → A q := fun q h => by rw [← hAe]; exact Or.inr h
  have hS : va_S A s.heap s.heap [] := va_S.rf
  have hP : va_P D vwCl [(hT, .inr (1, [.ref hR, .int z])), (hR, .inl (d, N, .inl a))] s.heap := hP
  have hK : va_K D vwCl [(d, .int)] s := hK
  have hl := lv_entry ([.ref hT]) (n := 1) (Nat.le_of_ble_eq_true rfl)
  rw [lg_entry_eq]
  generalize (lg_sl ([.ref hT]) ++ List.replicate (1 - (lg_sl ([.ref hT])).length) Slot.unset).toArray = ls at hl ⊢
  have hl : lv_has ls 1 [(0, .ref hT)] := hl
  refine lv_aload_n hx hb dX1_begin_0 rfl (lv_at hl 0 rfl) ?_
  refine lv_iconst (v := 0) hx hb dX1_begin_1 (by decide) ?_
  refine rr_reti (y := (nI 0)) (rfl) ?_
  refine va_put (D := D) (ci := 1) (v := .int (nI 0)) (ty := .int) (C := RX1) (T := TX1) (N := 2) hx hb hts in_X1 tyX1 tyX1_ok nmX1 hown hK hP hD hS 0 rfl rfl 1 (by decide) (hts _ q38) (fun _ h9 => h9) rfl (by decide +kernel) rfl rfl (Nat.le_of_ble_eq_true rfl) dX1_begin_2 (fun H locs hP hD hS => ?_)
  have hP : va_P D vwCl [(hT, .inr (1, [.ref hR, .int (nI 0)])), (hR, .inl (d, N, .inl a))] H := hP
  have hD : va_D A [(hT, .inr (1, [.ref hR, .int (nI 0)])), (hR, .inl (d, N, .inl a))] := hD
  refine lv_aload_n hx hb dX1_begin_5 rfl (lv_at hl 0 rfl) ?_
  refine lv_ldc (v := (-2147483648)) hx hb hown (hts _ q74) dX1_begin_6 ?_
  refine rr_callv (wc := [(hT, .inr (1, [.ref hR, .int (nI 0)])), (hR, .inl (d, N, .inl a))]) (wr := []) (va_runV (As := [.int (-2147483648)]) (rest := []) ⟨hx, hb, hml, hown, hts⟩ (met_X1_add l D hT hR d N 0 a H.size (-2147483648) (S := sB0) (T_nil a) (Nat.zero_le _) hN h1N (by omega)) (cwV 1 hts (lw_V q75 q77 qs0 q17 q78) rfl rfl rfl (by decide +kernel) ⟨Nat.le_of_ble_eq_true rfl, Nat.le_of_ble_eq_true rfl⟩) ⟨rr_blind, va_recv hK hP (ci := 1) (q0 := 0) rfl rfl, rr_pre (hP.sub (ws' := [(hT, .inr (1, [.ref hR, .int (nI 0)])), (hR, .inl (d, N, .inl a))]) [0, 1] rfl) (hK.sub (tys' := [(d, .int)]) [0] rfl) (hD.sub (ws' := [(hT, .inr (1, [.ref hR, .int (nI 0)])), (hR, .inl (d, N, .inl a))]) [0, 1] (by decide) rfl)⟩ rfl rfl hl.1 rfl (lv_room (Nat.le_of_ble_eq_true rfl)) dX1_begin_8 ⟨Nat.le_of_ble_eq_true rfl, Nat.le_of_ble_eq_true rfl⟩) hK hP hD hS hA [0, 1] [] rfl rfl (by decide) (by decide) (fun u_3 H locs hw1 hP hD hK hS => ?_)
  obtain ⟨hR1, d1, N1, n1, a1⟩ := u_3
  have hP : va_P D vwCl [(hT, .inr (1, [.ref hR1, .int (nI n1)])), (hR1, .inl (d1, N1, .inl a1))] H := hP
  have hD : va_D A [(hT, .inr (1, [.ref hR1, .int (nI n1)])), (hR1, .inl (d1, N1, .inl a1))] := hD
  have hK : va_K D vwCl [(d, .int), (d1, .int)] s := hK.sub (tys' := [(d, .int), (d1, .int)]) [0, 1] rfl
  obtain ⟨hok1, hn1, hnN1, hN1, h1N1⟩ := hw1
  have hok1 : T_ok sB1 n1 a1 := hok1
  have hn1 : n1 = 0 + sCnt sB0 (-2147483648) := hn1
  have hnN1 : n1 ≤ N1 := hnN1
  have hN1 : N1 ≤ 512 := hN1
  have h1N1 : 1 ≤ N1 := h1N1
  have hcl1 := sCnt_le sB0 (-2147483648)
  refine lv_aload_n hx hb dX1_begin_11 rfl (lv_at hl 0 rfl) ?_
  refine lv_ldc (v := (-2147483647)) hx hb hown (hts _ q95) dX1_begin_12 ?_
  refine rr_callv (wc := [(hT, .inr (1, [.ref hR1, .int (nI n1)])), (hR1, .inl (d1, N1, .inl a1))]) (wr := []) (va_runV (As := [.int (-2147483647)]) (rest := []) ⟨hx, hb, hml, hown, hts⟩ (met_X1_add l D hT hR1 d1 N1 n1 a1 H.size (-2147483647) (S := sB1) hok1 hnN1 hN1 h1N1 (by omega)) (cwV 1 hts (lw_V q75 q77 qs0 q17 q78) rfl rfl rfl (by decide +kernel) ⟨Nat.le_of_ble_eq_true rfl, Nat.le_of_ble_eq_true rfl⟩) ⟨rr_blind, va_recv hK hP (ci := 1) (q0 := 0) rfl rfl, rr_pre (hP.sub (ws' := [(hT, .inr (1, [.ref hR1, .int (nI n1)])), (hR1, .inl (d1, N1, .inl a1))]) [0, 1] rfl) (hK.sub (tys' := [(d1, .int)]) [1] rfl) (hD.sub (ws' := [(hT, .inr (1, [.ref hR1, .int (nI n1)])), (hR1, .inl (d1, N1, .inl a1))]) [0, 1] (by decide) rfl)⟩ rfl rfl hl.1 rfl (lv_room (Nat.le_of_ble_eq_true rfl)) dX1_begin_14 ⟨Nat.le_of_ble_eq_true rfl, Nat.le_of_ble_eq_true rfl⟩) hK hP hD hS hA [0, 1] [] rfl rfl (by decide) (by decide) (fun u_4 H locs hw2 hP hD hK hS => ?_)
  obtain ⟨hR2, d2, N2, n2, a2⟩ := u_4
  have hP : va_P D vwCl [(hT, .inr (1, [.ref hR2, .int (nI n2)])), (hR2, .inl (d2, N2, .inl a2))] H := hP
  have hD : va_D A [(hT, .inr (1, [.ref hR2, .int (nI n2)])), (hR2, .inl (d2, N2, .inl a2))] := hD
  have hK : va_K D vwCl [(d, .int), (d1, .int), (d2, .int)] s := hK.sub (tys' := [(d, .int), (d1, .int), (d2, .int)]) [0, 1, 2] rfl
  obtain ⟨hok2, hn2, hnN2, hN2, h1N2⟩ := hw2
  have hok2 : T_ok sB2 n2 a2 := hok2
  have hn2 : n2 = n1 + sCnt sB1 (-2147483647) := hn2
  have hnN2 : n2 ≤ N2 := hnN2
  have hN2 : N2 ≤ 512 := hN2
  have h1N2 : 1 ≤ N2 := h1N2
  have hcl2 := sCnt_le sB1 (-2147483647)
  refine lv_aload_n hx hb dX1_begin_17 rfl (lv_at hl 0 rfl) ?_
  refine lv_iconst (v := (-1)) hx hb dX1_begin_18 (by decide) ?_
  refine rr_callv (wc := [(hT, .inr (1, [.ref hR2, .int (nI n2)])), (hR2, .inl (d2, N2, .inl a2))]) (wr := []) (va_runV (As := [.int (-1)]) (rest := []) ⟨hx, hb, hml, hown, hts⟩ (met_X1_add l D hT hR2 d2 N2 n2 a2 H.size (-1) (S := sB2) hok2 hnN2 hN2 h1N2 (by omega)) (cwV 1 hts (lw_V q75 q77 qs0 q17 q78) rfl rfl rfl (by decide +kernel) ⟨Nat.le_of_ble_eq_true rfl, Nat.le_of_ble_eq_true rfl⟩) ⟨rr_blind, va_recv hK hP (ci := 1) (q0 := 0) rfl rfl, rr_pre (hP.sub (ws' := [(hT, .inr (1, [.ref hR2, .int (nI n2)])), (hR2, .inl (d2, N2, .inl a2))]) [0, 1] rfl) (hK.sub (tys' := [(d2, .int)]) [2] rfl) (hD.sub (ws' := [(hT, .inr (1, [.ref hR2, .int (nI n2)])), (hR2, .inl (d2, N2, .inl a2))]) [0, 1] (by decide) rfl)⟩ rfl rfl hl.1 rfl (lv_room (Nat.le_of_ble_eq_true rfl)) dX1_begin_19 ⟨Nat.le_of_ble_eq_true rfl, Nat.le_of_ble_eq_true rfl⟩) hK hP hD hS hA [0, 1] [] rfl rfl (by decide) (by decide) (fun u_5 H locs hw3 hP hD hK hS => ?_)
  obtain ⟨hR3, d3, N3, n3, a3⟩ := u_5
  have hP : va_P D vwCl [(hT, .inr (1, [.ref hR3, .int (nI n3)])), (hR3, .inl (d3, N3, .inl a3))] H := hP
  have hD : va_D A [(hT, .inr (1, [.ref hR3, .int (nI n3)])), (hR3, .inl (d3, N3, .inl a3))] := hD
  have hK : va_K D vwCl [(d, .int), (d1, .int), (d2, .int), (d3, .int)] s := hK.sub (tys' := [(d, .int), (d1, .int), (d2, .int), (d3, .int)]) [0, 1, 2, 3] rfl
  obtain ⟨hok3, hn3, hnN3, hN3, h1N3⟩ := hw3
  have hok3 : T_ok sB3 n3 a3 := hok3
  have hn3 : n3 = n2 + sCnt sB2 (-1) := hn3
  have hnN3 : n3 ≤ N3 := hnN3
  have hN3 : N3 ≤ 512 := hN3
  have h1N3 : 1 ≤ N3 := h1N3
  have hcl3 := sCnt_le sB2 (-1)
  refine lv_aload_n hx hb dX1_begin_22 rfl (lv_at hl 0 rfl) ?_
  refine lv_iconst (v := 0) hx hb dX1_begin_23 (by decide) ?_
  refine rr_callv (wc := [(hT, .inr (1, [.ref hR3, .int (nI n3)])), (hR3, .inl (d3, N3, .inl a3))]) (wr := []) (va_runV (As := [.int 0]) (rest := []) ⟨hx, hb, hml, hown, hts⟩ (met_X1_add l D hT hR3 d3 N3 n3 a3 H.size 0 (S := sB3) hok3 hnN3 hN3 h1N3 (by omega)) (cwV 1 hts (lw_V q75 q77 qs0 q17 q78) rfl rfl rfl (by decide +kernel) ⟨Nat.le_of_ble_eq_true rfl, Nat.le_of_ble_eq_true rfl⟩) ⟨rr_blind, va_recv hK hP (ci := 1) (q0 := 0) rfl rfl, rr_pre (hP.sub (ws' := [(hT, .inr (1, [.ref hR3, .int (nI n3)])), (hR3, .inl (d3, N3, .inl a3))]) [0, 1] rfl) (hK.sub (tys' := [(d3, .int)]) [3] rfl) (hD.sub (ws' := [(hT, .inr (1, [.ref hR3, .int (nI n3)])), (hR3, .inl (d3, N3, .inl a3))]) [0, 1] (by decide) rfl)⟩ rfl rfl hl.1 rfl (lv_room (Nat.le_of_ble_eq_true rfl)) dX1_begin_24 ⟨Nat.le_of_ble_eq_true rfl, Nat.le_of_ble_eq_true rfl⟩) hK hP hD hS hA [0, 1] [] rfl rfl (by decide) (by decide) (fun u_6 H locs hw4 hP hD hK hS => ?_)
  obtain ⟨hR4, d4, N4, n4, a4⟩ := u_6
  have hP : va_P D vwCl [(hT, .inr (1, [.ref hR4, .int (nI n4)])), (hR4, .inl (d4, N4, .inl a4))] H := hP
  have hD : va_D A [(hT, .inr (1, [.ref hR4, .int (nI n4)])), (hR4, .inl (d4, N4, .inl a4))] := hD
  have hK : va_K D vwCl [(d, .int), (d1, .int), (d2, .int), (d3, .int), (d4, .int)] s := hK.sub (tys' := [(d, .int), (d1, .int), (d2, .int), (d3, .int), (d4, .int)]) [0, 1, 2, 3, 4] rfl
  obtain ⟨hok4, hn4, hnN4, hN4, h1N4⟩ := hw4
  have hok4 : T_ok sB4 n4 a4 := hok4
  have hn4 : n4 = n3 + sCnt sB3 0 := hn4
  have hnN4 : n4 ≤ N4 := hnN4
  have hN4 : N4 ≤ 512 := hN4
  have h1N4 : 1 ≤ N4 := h1N4
  have hcl4 := sCnt_le sB3 0
  refine lv_aload_n hx hb dX1_begin_27 rfl (lv_at hl 0 rfl) ?_
  refine lv_iconst (v := 1) hx hb dX1_begin_28 (by decide) ?_
  refine rr_callv (wc := [(hT, .inr (1, [.ref hR4, .int (nI n4)])), (hR4, .inl (d4, N4, .inl a4))]) (wr := []) (va_runV (As := [.int 1]) (rest := []) ⟨hx, hb, hml, hown, hts⟩ (met_X1_add l D hT hR4 d4 N4 n4 a4 H.size 1 (S := sB4) hok4 hnN4 hN4 h1N4 (by omega)) (cwV 1 hts (lw_V q75 q77 qs0 q17 q78) rfl rfl rfl (by decide +kernel) ⟨Nat.le_of_ble_eq_true rfl, Nat.le_of_ble_eq_true rfl⟩) ⟨rr_blind, va_recv hK hP (ci := 1) (q0 := 0) rfl rfl, rr_pre (hP.sub (ws' := [(hT, .inr (1, [.ref hR4, .int (nI n4)])), (hR4, .inl (d4, N4, .inl a4))]) [0, 1] rfl) (hK.sub (tys' := [(d4, .int)]) [4] rfl) (hD.sub (ws' := [(hT, .inr (1, [.ref hR4, .int (nI n4)])), (hR4, .inl (d4, N4, .inl a4))]) [0, 1] (by decide) rfl)⟩ rfl rfl hl.1 rfl (lv_room (Nat.le_of_ble_eq_true rfl)) dX1_begin_29 ⟨Nat.le_of_ble_eq_true rfl, Nat.le_of_ble_eq_true rfl⟩) hK hP hD hS hA [0, 1] [] rfl rfl (by decide) (by decide) (fun u_7 H locs hw5 hP hD hK hS => ?_)
  obtain ⟨hR5, d5, N5, n5, a5⟩ := u_7
  have hP : va_P D vwCl [(hT, .inr (1, [.ref hR5, .int (nI n5)])), (hR5, .inl (d5, N5, .inl a5))] H := hP
  have hD : va_D A [(hT, .inr (1, [.ref hR5, .int (nI n5)])), (hR5, .inl (d5, N5, .inl a5))] := hD
  have hK : va_K D vwCl [(d, .int), (d1, .int), (d2, .int), (d3, .int), (d4, .int), (d5, .int)] s := hK.sub (tys' := [(d, .int), (d1, .int), (d2, .int), (d3, .int), (d4, .int), (d5, .int)]) [0, 1, 2, 3, 4, 5] rfl
  obtain ⟨hok5, hn5, hnN5, hN5, h1N5⟩ := hw5
  have hok5 : T_ok sB5 n5 a5 := hok5
  have hn5 : n5 = n4 + sCnt sB4 1 := hn5
  have hnN5 : n5 ≤ N5 := hnN5
  have hN5 : N5 ≤ 512 := hN5
  have h1N5 : 1 ≤ N5 := h1N5
  have hcl5 := sCnt_le sB4 1
  refine lv_aload_n hx hb dX1_begin_32 rfl (lv_at hl 0 rfl) ?_
  refine lv_ldc (v := 2147483646) hx hb hown (hts _ q96) dX1_begin_33 ?_
  refine rr_callv (wc := [(hT, .inr (1, [.ref hR5, .int (nI n5)])), (hR5, .inl (d5, N5, .inl a5))]) (wr := []) (va_runV (As := [.int 2147483646]) (rest := []) ⟨hx, hb, hml, hown, hts⟩ (met_X1_add l D hT hR5 d5 N5 n5 a5 H.size 2147483646 (S := sB5) hok5 hnN5 hN5 h1N5 (by omega)) (cwV 1 hts (lw_V q75 q77 qs0 q17 q78) rfl rfl rfl (by decide +kernel) ⟨Nat.le_of_ble_eq_true rfl, Nat.le_of_ble_eq_true rfl⟩) ⟨rr_blind, va_recv hK hP (ci := 1) (q0 := 0) rfl rfl, rr_pre (hP.sub (ws' := [(hT, .inr (1, [.ref hR5, .int (nI n5)])), (hR5, .inl (d5, N5, .inl a5))]) [0, 1] rfl) (hK.sub (tys' := [(d5, .int)]) [5] rfl) (hD.sub (ws' := [(hT, .inr (1, [.ref hR5, .int (nI n5)])), (hR5, .inl (d5, N5, .inl a5))]) [0, 1] (by decide) rfl)⟩ rfl rfl hl.1 rfl (lv_room (Nat.le_of_ble_eq_true rfl)) dX1_begin_35 ⟨Nat.le_of_ble_eq_true rfl, Nat.le_of_ble_eq_true rfl⟩) hK hP hD hS hA [0, 1] [] rfl rfl (by decide) (by decide) (fun u_8 H locs hw6 hP hD hK hS => ?_)
  obtain ⟨hR6, d6, N6, n6, a6⟩ := u_8
  have hP : va_P D vwCl [(hT, .inr (1, [.ref hR6, .int (nI n6)])), (hR6, .inl (d6, N6, .inl a6))] H := hP
  have hD : va_D A [(hT, .inr (1, [.ref hR6, .int (nI n6)])), (hR6, .inl (d6, N6, .inl a6))] := hD
  have hK : va_K D vwCl [(d, .int), (d1, .int), (d2, .int), (d3, .int), (d4, .int), (d5, .int), (d6, .int)] s := hK.sub (tys' := [(d, .int), (d1, .int), (d2, .int), (d3, .int), (d4, .int), (d5, .int), (d6, .int)]) [0, 1, 2, 3, 4, 5, 6] rfl
  obtain ⟨hok6, hn6, hnN6, hN6, h1N6⟩ := hw6
  have hok6 : T_ok sB6 n6 a6 := hok6
  have hn6 : n6 = n5 + sCnt sB5 2147483646 := hn6
  have hnN6 : n6 ≤ N6 := hnN6
  have hN6 : N6 ≤ 512 := hN6
  have h1N6 : 1 ≤ N6 := h1N6
  have hcl6 := sCnt_le sB5 2147483646
  refine lv_aload_n hx hb dX1_begin_38 rfl (lv_at hl 0 rfl) ?_
  refine lv_ldc (v := 2147483647) hx hb hown (hts _ q97) dX1_begin_39 ?_
  refine rr_callv (wc := [(hT, .inr (1, [.ref hR6, .int (nI n6)])), (hR6, .inl (d6, N6, .inl a6))]) (wr := []) (va_runV (As := [.int 2147483647]) (rest := []) ⟨hx, hb, hml, hown, hts⟩ (met_X1_add l D hT hR6 d6 N6 n6 a6 H.size 2147483647 (S := sB6) hok6 hnN6 hN6 h1N6 (by omega)) (cwV 1 hts (lw_V q75 q77 qs0 q17 q78) rfl rfl rfl (by decide +kernel) ⟨Nat.le_of_ble_eq_true rfl, Nat.le_of_ble_eq_true rfl⟩) ⟨rr_blind, va_recv hK hP (ci := 1) (q0 := 0) rfl rfl, rr_pre (hP.sub (ws' := [(hT, .inr (1, [.ref hR6, .int (nI n6)])), (hR6, .inl (d6, N6, .inl a6))]) [0, 1] rfl) (hK.sub (tys' := [(d6, .int)]) [6] rfl) (hD.sub (ws' := [(hT, .inr (1, [.ref hR6, .int (nI n6)])), (hR6, .inl (d6, N6, .inl a6))]) [0, 1] (by decide) rfl)⟩ rfl rfl hl.1 rfl (lv_room (Nat.le_of_ble_eq_true rfl)) dX1_begin_41 ⟨Nat.le_of_ble_eq_true rfl, Nat.le_of_ble_eq_true rfl⟩) hK hP hD hS hA [0, 1] [] rfl rfl (by decide) (by decide) (fun u_9 H locs hw7 hP hD hK hS => ?_)
  obtain ⟨hR7, d7, N7, n7, a7⟩ := u_9
  have hP : va_P D vwCl [(hT, .inr (1, [.ref hR7, .int (nI n7)])), (hR7, .inl (d7, N7, .inl a7))] H := hP
  have hD : va_D A [(hT, .inr (1, [.ref hR7, .int (nI n7)])), (hR7, .inl (d7, N7, .inl a7))] := hD
  have hK : va_K D vwCl [(d, .int), (d1, .int), (d2, .int), (d3, .int), (d4, .int), (d5, .int), (d6, .int), (d7, .int)] s := hK.sub (tys' := [(d, .int), (d1, .int), (d2, .int), (d3, .int), (d4, .int), (d5, .int), (d6, .int), (d7, .int)]) [0, 1, 2, 3, 4, 5, 6, 7] rfl
  obtain ⟨hok7, hn7, hnN7, hN7, h1N7⟩ := hw7
  have hok7 : T_ok sB7 n7 a7 := hok7
  have hn7 : n7 = n6 + sCnt sB6 2147483647 := hn7
  have hnN7 : n7 ≤ N7 := hnN7
  have hN7 : N7 ≤ 512 := hN7
  have h1N7 : 1 ≤ N7 := h1N7
  have hcl7 := sCnt_le sB6 2147483647
  have hq1 := sB_c1
  have hq2 := sB_c2
  have hq3 := sB_c3
  have hq4 := sB_c4
  have hq5 := sB_c5
  have hq6 := sB_c6
  have hq7 := sB_c7
  obtain rfl : n7 = 7 := by omega
  exact W.vret hx hb hr (rr_endv (hR7, d7, N7, a7) ⟨hok7, hnN7, hN7⟩ (hP.sub (ws' := [(hT, .inr (1, [.ref hR7, .int (nI 7)])), (hR7, .inl (d7, N7, .inl a7))]) [0, 1] rfl) (hK.sub (tys' := [(d7, .int)]) [7] rfl) (hD.sub (ws' := [(hT, .inr (1, [.ref hR7, .int (nI 7)])), (hR7, .inl (d7, N7, .inl a7))]) [0, 1] (by decide) rfl) hS) hS.2.2 dX1_begin_44
abbrev wsX1_around : List Cond := ws_ yX1_around cX1_around 2 none
set_option maxHeartbeats 4000000 in
set_option maxRecDepth 100000 in
theorem met_X1_around (l : Launch) (D : va_G) (hT hR : Nat) (d : ClassId) (N n : Nat) (a : Nat → Int32) (sz : Nat) (v : Int32) {S : Int32 → Bool} (hok : T_ok S n a) (hnN : n ≤ N) (hN : N ≤ 512) (h1N : 1 ≤ N) (hn2 : n ≤ 190) : rr_CV l D yX1_around wsX1_around ({ frames := 3, cells := 3, slots := 1536, locals := 108 }) [.ref hT, .int v] [(d, .int)] [(hT, .inr (1, [.ref hR, .int (nI n)])), (hR, .inl (d, N, .inl a))] sz (fun u : Nat × ClassId × Nat × Nat × (Nat → Int32) => T_ok (sA3 S v) u.2.2.2.1 u.2.2.2.2 ∧ u.2.2.2.1 = n + cA3 S v ∧ u.2.2.2.1 ≤ u.2.2.1 ∧ u.2.2.1 ≤ 512 ∧ 1 ≤ u.2.2.1) (fun u => [(u.2.1, .int)]) (fun u => [(hT, .inr (1, [.ref u.1, .int (nI u.2.2.2.1)])), (u.1, .inl (u.2.1, u.2.2.1, .inl u.2.2.2.2))]) 3 1536 := by
  refine Met.ofW (cc := cX1_around) (maxL := 2) (ret := none) (by decide) rfl ?_
  intro p e s m args below meth c s₁ B hml hv
  obtain ⟨rfl, hsz, hP, hK, hD0⟩ := hv
  have hx := B.exec
  have hb := B.bytes
  have hr := B.returns
  have hts := atoms_spec (ws := wsX1_around) B.pre
  have hts : ∀ w ∈ lw_all, w.before _ s = true := fun w h => hts w (List.mem_cons_of_mem _ h)
  have hown : s.vm.findClass RX1 = some m.cls := findClass_of_methodNamed B.named
  have hlocks := B.notSynchronized
  subst hsz
  have hD := hD0.self (sz := s.heap.size)
  generalize hAe : va_A [(hT, .inr (1, [.ref hR, .int (nI n)])), (hR, .inl (d, N, .inl a))] s.heap.size = A at hD ⊢
  have hA : ∀ q : Nat, s.heap.size ≤ q → A q := fun q h => by rw [← hAe]; exact Or.inr h
  have hS : va_S A s.heap s.heap [] := va_S.rf
  have hP : va_P D vwCl [(hT, .inr (1, [.ref hR, .int (nI n)])), (hR, .inl (d, N, .inl a))] s.heap := hP
  have hK : va_K D vwCl [(d, .int)] s := hK
  have hl := lv_entry ([.ref hT, .int v]) (n := 2) (Nat.le_of_ble_eq_true rfl)
  rw [lg_entry_eq]
  generalize (lg_sl ([.ref hT, .int v]) ++ List.replicate (2 - (lg_sl ([.ref hT, .int v])).length) Slot.unset).toArray = ls at hl ⊢
  have hl : lv_has ls 2 [(0, .ref hT), (1, .int v)] := hl
  refine lv_aload_n hx hb dX1_around_0 rfl (lv_at hl 0 rfl) ?_
  refine lv_iload_n hx hb dX1_around_1 rfl (lv_at hl 1 rfl) ?_
  refine rr_callv (wc := [(hT, .inr (1, [.ref hR, .int (nI n)])), (hR, .inl (d, N, .inl a))]) (wr := []) (va_runV (As := [.int v]) (rest := []) ⟨hx, hb, hml, hown, hts⟩ (met_X1_add l D hT hR d N n a s.heap.size v (S := S) hok hnN hN h1N (by omega)) (cwV 1 hts (lw_V q75 q77 qs0 q17 q78) rfl rfl rfl (by decide +kernel) ⟨Nat.le_of_ble_eq_true rfl, Nat.le_of_ble_eq_true rfl⟩) ⟨rr_blind, va_recv hK hP (ci := 1) (q0 := 0) rfl rfl, rr_pre (hP.sub (ws' := [(hT, .inr (1, [.ref hR, .int (nI n)])), (hR, .inl (d, N, .inl a))]) [0, 1] rfl) (hK.sub (tys' := [(d, .int)]) [0] rfl) (hD.sub (ws' := [(hT, .inr (1, [.ref hR, .int (nI n)])), (hR, .inl (d, N, .inl a))]) [0, 1] (by decide) rfl)⟩ rfl rfl hl.1 rfl (lv_room (Nat.le_of_ble_eq_true rfl)) dX1_around_2 ⟨Nat.le_of_ble_eq_true rfl, Nat.le_of_ble_eq_true rfl⟩) hK hP hD hS hA [0, 1] [] rfl rfl (by decide) (by decide) (fun u_10 H locs hw1 hP hD hK hS => ?_)
  obtain ⟨hR1, d1, N1, n1, a1⟩ := u_10
  have hP : va_P D vwCl [(hT, .inr (1, [.ref hR1, .int (nI n1)])), (hR1, .inl (d1, N1, .inl a1))] H := hP
  have hD : va_D A [(hT, .inr (1, [.ref hR1, .int (nI n1)])), (hR1, .inl (d1, N1, .inl a1))] := hD
  have hK : va_K D vwCl [(d, .int), (d1, .int)] s := hK.sub (tys' := [(d, .int), (d1, .int)]) [0, 1] rfl
  obtain ⟨hok1, hn1, hnN1, hN1, h1N1⟩ := hw1
  have hok1 : T_ok (sAdd S v) n1 a1 := hok1
  have hn1 : n1 = n + sCnt S v := hn1
  have hnN1 : n1 ≤ N1 := hnN1
  have hN1 : N1 ≤ 512 := hN1
  have h1N1 : 1 ≤ N1 := h1N1
  have hcl1 := sCnt_le S v
  refine lv_iload_n hx hb dX1_around_5 rfl (lv_at hl 1 rfl) ?_
  refine lv_ldc (v := (-2147483648)) hx hb hown (hts _ q74) dX1_around_6 ?_
  refine lv_icmp_le (tgt := 18) hx hb dX1_around_8 (by decide) (fun c_8 => ?_) (fun c_8 => ?_)
  · refine lv_iload_n hx hb dX1_around_18 rfl (lv_at hl 1 rfl) ?_
    refine lv_ldc (v := 2147483647) hx hb hown (hts _ q97) dX1_around_19 ?_
    refine lv_icmp_ge (tgt := 31) hx hb dX1_around_21 (by decide) (fun c_21 => ?_) (fun c_21 => ?_)
    · have e2 : sA2 S v = sAdd S v := by unfold sA2; rw [if_pos c_8]
      have e3 : sA3 S v = sAdd S v := by unfold sA3; rw [if_pos c_21, e2]
      have e4 : n1 = n + cA3 S v := by unfold cA3; rw [if_pos c_8, if_pos c_21]; omega
      refine W.widen (k := 3) (n := 1536) (Nat.le_of_ble_eq_true rfl) (Nat.le_of_ble_eq_true rfl) ?_
      exact W.vret hx hb hr (rr_endv (hR1, d1, N1, n1, a1) ⟨by rw [e3]; exact hok1, e4, hnN1, hN1, h1N1⟩ (hP.sub (ws' := [(hT, .inr (1, [.ref hR1, .int (nI n1)])), (hR1, .inl (d1, N1, .inl a1))]) [0, 1] rfl) (hK.sub (tys' := [(d1, .int)]) [1] rfl) (hD.sub (ws' := [(hT, .inr (1, [.ref hR1, .int (nI n1)])), (hR1, .inl (d1, N1, .inl a1))]) [0, 1] (by decide) rfl) hS) hS.2.2 dX1_around_31
    · refine lv_aload_n hx hb dX1_around_24 rfl (lv_at hl 0 rfl) ?_
      refine lv_iload_n hx hb dX1_around_25 rfl (lv_at hl 1 rfl) ?_
      refine lv_iconst (v := 1) hx hb dX1_around_26 (by decide) ?_
      refine lv_iadd hx hb dX1_around_27 ?_
      refine rr_callv (wc := [(hT, .inr (1, [.ref hR1, .int (nI n1)])), (hR1, .inl (d1, N1, .inl a1))]) (wr := []) (va_runV (As := [.int (v + 1)]) (rest := []) ⟨hx, hb, hml, hown, hts⟩ (met_X1_add l D hT hR1 d1 N1 n1 a1 H.size (v + 1) (S := (sAdd S v)) hok1 hnN1 hN1 h1N1 (by omega)) (cwV 1 hts (lw_V q75 q77 qs0 q17 q78) rfl rfl rfl (by decide +kernel) ⟨Nat.le_of_ble_eq_true rfl, Nat.le_of_ble_eq_true rfl⟩) ⟨rr_blind, va_recv hK hP (ci := 1) (q0 := 0) rfl rfl, rr_pre (hP.sub (ws' := [(hT, .inr (1, [.ref hR1, .int (nI n1)])), (hR1, .inl (d1, N1, .inl a1))]) [0, 1] rfl) (hK.sub (tys' := [(d1, .int)]) [1] rfl) (hD.sub (ws' := [(hT, .inr (1, [.ref hR1, .int (nI n1)])), (hR1, .inl (d1, N1, .inl a1))]) [0, 1] (by decide) rfl)⟩ rfl rfl hl.1 rfl (lv_room (Nat.le_of_ble_eq_true rfl)) dX1_around_28 ⟨Nat.le_of_ble_eq_true rfl, Nat.le_of_ble_eq_true rfl⟩) hK hP hD hS hA [0, 1] [] rfl rfl (by decide) (by decide) (fun u_11 H locs hw2 hP hD hK hS => ?_)
      obtain ⟨hR2, d2, N2, n2, a2⟩ := u_11
      have hP : va_P D vwCl [(hT, .inr (1, [.ref hR2, .int (nI n2)])), (hR2, .inl (d2, N2, .inl a2))] H := hP
      have hD : va_D A [(hT, .inr (1, [.ref hR2, .int (nI n2)])), (hR2, .inl (d2, N2, .inl a2))] := hD
      have hK : va_K D vwCl [(d, .int), (d1, .int), (d2, .int)] s := hK.sub (tys' := [(d, .int), (d1, .int), (d2, .int)]) [0, 1, 2] rfl
      obtain ⟨hok2, hn2, hnN2, hN2, h1N2⟩ := hw2
      have hok2 : T_ok (sAdd (sAdd S v) (v + 1)) n2 a2 := hok2
      have hn2 : n2 = n1 + sCnt (sAdd S v) (v + 1) := hn2
      have hnN2 : n2 ≤ N2 := hnN2
      have hN2 : N2 ≤ 512 := hN2
      have h1N2 : 1 ≤ N2 := h1N2
      have hcl2 := sCnt_le (sAdd S v) (v + 1)
      have e2 : sA2 S v = sAdd S v := by unfold sA2; rw [if_pos c_8]
      have e3 : sA3 S v = sAdd (sAdd S v) (v + 1) := by unfold sA3; rw [if_neg c_21, e2]
      have e4 : n2 = n + cA3 S v := by unfold cA3; rw [if_pos c_8, if_neg c_21, e2]; omega
      refine W.widen (k := 3) (n := 1536) (Nat.le_of_ble_eq_true rfl) (Nat.le_of_ble_eq_true rfl) ?_
      exact W.vret hx hb hr (rr_endv (hR2, d2, N2, n2, a2) ⟨by rw [e3]; exact hok2, e4, hnN2, hN2, h1N2⟩ (hP.sub (ws' := [(hT, .inr (1, [.ref hR2, .int (nI n2)])), (hR2, .inl (d2, N2, .inl a2))]) [0, 1] rfl) (hK.sub (tys' := [(d2, .int)]) [2] rfl) (hD.sub (ws' := [(hT, .inr (1, [.ref hR2, .int (nI n2)])), (hR2, .inl (d2, N2, .inl a2))]) [0, 1] (by decide) rfl) hS) hS.2.2 dX1_around_31
  · refine lv_aload_n hx hb dX1_around_11 rfl (lv_at hl 0 rfl) ?_
    refine lv_iload_n hx hb dX1_around_12 rfl (lv_at hl 1 rfl) ?_
    refine lv_iconst (v := 1) hx hb dX1_around_13 (by decide) ?_
    refine lv_isub hx hb dX1_around_14 ?_
    refine rr_callv (wc := [(hT, .inr (1, [.ref hR1, .int (nI n1)])), (hR1, .inl (d1, N1, .inl a1))]) (wr := []) (va_runV (As := [.int (v - 1)]) (rest := []) ⟨hx, hb, hml, hown, hts⟩ (met_X1_add l D hT hR1 d1 N1 n1 a1 H.size (v - 1) (S := (sAdd S v)) hok1 hnN1 hN1 h1N1 (by omega)) (cwV 1 hts (lw_V q75 q77 qs0 q17 q78) rfl rfl rfl (by decide +kernel) ⟨Nat.le_of_ble_eq_true rfl, Nat.le_of_ble_eq_true rfl⟩) ⟨rr_blind, va_recv hK hP (ci := 1) (q0 := 0) rfl rfl, rr_pre (hP.sub (ws' := [(hT, .inr (1, [.ref hR1, .int (nI n1)])), (hR1, .inl (d1, N1, .inl a1))]) [0, 1] rfl) (hK.sub (tys' := [(d1, .int)]) [1] rfl) (hD.sub (ws' := [(hT, .inr (1, [.ref hR1, .int (nI n1)])), (hR1, .inl (d1, N1, .inl a1))]) [0, 1] (by decide) rfl)⟩ rfl rfl hl.1 rfl (lv_room (Nat.le_of_ble_eq_true rfl)) dX1_around_15 ⟨Nat.le_of_ble_eq_true rfl, Nat.le_of_ble_eq_true rfl⟩) hK hP hD hS hA [0, 1] [] rfl rfl (by decide) (by decide) (fun u_12 H locs hw2 hP hD hK hS => ?_)
    obtain ⟨hR2, d2, N2, n2, a2⟩ := u_12
    have hP : va_P D vwCl [(hT, .inr (1, [.ref hR2, .int (nI n2)])), (hR2, .inl (d2, N2, .inl a2))] H := hP
    have hD : va_D A [(hT, .inr (1, [.ref hR2, .int (nI n2)])), (hR2, .inl (d2, N2, .inl a2))] := hD
    have hK : va_K D vwCl [(d, .int), (d1, .int), (d2, .int)] s := hK.sub (tys' := [(d, .int), (d1, .int), (d2, .int)]) [0, 1, 2] rfl
    obtain ⟨hok2, hn2, hnN2, hN2, h1N2⟩ := hw2
    have hok2 : T_ok (sAdd (sAdd S v) (v - 1)) n2 a2 := hok2
    have hn2 : n2 = n1 + sCnt (sAdd S v) (v - 1) := hn2
    have hnN2 : n2 ≤ N2 := hnN2
    have hN2 : N2 ≤ 512 := hN2
    have h1N2 : 1 ≤ N2 := h1N2
    have hcl2 := sCnt_le (sAdd S v) (v - 1)
    refine lv_iload_n hx hb dX1_around_18 rfl (lv_at hl 1 rfl) ?_
    refine lv_ldc (v := 2147483647) hx hb hown (hts _ q97) dX1_around_19 ?_
    refine lv_icmp_ge (tgt := 31) hx hb dX1_around_21 (by decide) (fun c_21 => ?_) (fun c_21 => ?_)
    · have e2 : sA2 S v = sAdd (sAdd S v) (v - 1) := by unfold sA2; rw [if_neg c_8]
      have e3 : sA3 S v = sAdd (sAdd S v) (v - 1) := by unfold sA3; rw [if_pos c_21, e2]
      have e4 : n2 = n + cA3 S v := by unfold cA3; rw [if_neg c_8, if_pos c_21]; omega
      refine W.widen (k := 3) (n := 1536) (Nat.le_of_ble_eq_true rfl) (Nat.le_of_ble_eq_true rfl) ?_
      exact W.vret hx hb hr (rr_endv (hR2, d2, N2, n2, a2) ⟨by rw [e3]; exact hok2, e4, hnN2, hN2, h1N2⟩ (hP.sub (ws' := [(hT, .inr (1, [.ref hR2, .int (nI n2)])), (hR2, .inl (d2, N2, .inl a2))]) [0, 1] rfl) (hK.sub (tys' := [(d2, .int)]) [2] rfl) (hD.sub (ws' := [(hT, .inr (1, [.ref hR2, .int (nI n2)])), (hR2, .inl (d2, N2, .inl a2))]) [0, 1] (by decide) rfl) hS) hS.2.2 dX1_around_31
    · refine lv_aload_n hx hb dX1_around_24 rfl (lv_at hl 0 rfl) ?_
      refine lv_iload_n hx hb dX1_around_25 rfl (lv_at hl 1 rfl) ?_
      refine lv_iconst (v := 1) hx hb dX1_around_26 (by decide) ?_
      refine lv_iadd hx hb dX1_around_27 ?_
      refine rr_callv (wc := [(hT, .inr (1, [.ref hR2, .int (nI n2)])), (hR2, .inl (d2, N2, .inl a2))]) (wr := []) (va_runV (As := [.int (v + 1)]) (rest := []) ⟨hx, hb, hml, hown, hts⟩ (met_X1_add l D hT hR2 d2 N2 n2 a2 H.size (v + 1) (S := (sAdd (sAdd S v) (v - 1))) hok2 hnN2 hN2 h1N2 (by omega)) (cwV 1 hts (lw_V q75 q77 qs0 q17 q78) rfl rfl rfl (by decide +kernel) ⟨Nat.le_of_ble_eq_true rfl, Nat.le_of_ble_eq_true rfl⟩) ⟨rr_blind, va_recv hK hP (ci := 1) (q0 := 0) rfl rfl, rr_pre (hP.sub (ws' := [(hT, .inr (1, [.ref hR2, .int (nI n2)])), (hR2, .inl (d2, N2, .inl a2))]) [0, 1] rfl) (hK.sub (tys' := [(d2, .int)]) [2] rfl) (hD.sub (ws' := [(hT, .inr (1, [.ref hR2, .int (nI n2)])), (hR2, .inl (d2, N2, .inl a2))]) [0, 1] (by decide) rfl)⟩ rfl rfl hl.1 rfl (lv_room (Nat.le_of_ble_eq_true rfl)) dX1_around_28 ⟨Nat.le_of_ble_eq_true rfl, Nat.le_of_ble_eq_true rfl⟩) hK hP hD hS hA [0, 1] [] rfl rfl (by decide) (by decide) (fun u_13 H locs hw3 hP hD hK hS => ?_)
      obtain ⟨hR3, d3, N3, n3, a3⟩ := u_13
      have hP : va_P D vwCl [(hT, .inr (1, [.ref hR3, .int (nI n3)])), (hR3, .inl (d3, N3, .inl a3))] H := hP
      have hD : va_D A [(hT, .inr (1, [.ref hR3, .int (nI n3)])), (hR3, .inl (d3, N3, .inl a3))] := hD
      have hK : va_K D vwCl [(d, .int), (d1, .int), (d2, .int), (d3, .int)] s := hK.sub (tys' := [(d, .int), (d1, .int), (d2, .int), (d3, .int)]) [0, 1, 2, 3] rfl
      obtain ⟨hok3, hn3, hnN3, hN3, h1N3⟩ := hw3
      have hok3 : T_ok (sAdd (sAdd (sAdd S v) (v - 1)) (v + 1)) n3 a3 := hok3
      have hn3 : n3 = n2 + sCnt (sAdd (sAdd S v) (v - 1)) (v + 1) := hn3
      have hnN3 : n3 ≤ N3 := hnN3
      have hN3 : N3 ≤ 512 := hN3
      have h1N3 : 1 ≤ N3 := h1N3
      have hcl3 := sCnt_le (sAdd (sAdd S v) (v - 1)) (v + 1)
      have e2 : sA2 S v = sAdd (sAdd S v) (v - 1) := by unfold sA2; rw [if_neg c_8]
      have e3 : sA3 S v = sAdd (sAdd (sAdd S v) (v - 1)) (v + 1) := by unfold sA3; rw [if_neg c_21, e2]
      have e4 : n3 = n + cA3 S v := by unfold cA3; rw [if_neg c_8, if_neg c_21, e2]; omega
      refine W.widen (k := 3) (n := 1536) (Nat.le_of_ble_eq_true rfl) (Nat.le_of_ble_eq_true rfl) ?_
      exact W.vret hx hb hr (rr_endv (hR3, d3, N3, n3, a3) ⟨by rw [e3]; exact hok3, e4, hnN3, hN3, h1N3⟩ (hP.sub (ws' := [(hT, .inr (1, [.ref hR3, .int (nI n3)])), (hR3, .inl (d3, N3, .inl a3))]) [0, 1] rfl) (hK.sub (tys' := [(d3, .int)]) [3] rfl) (hD.sub (ws' := [(hT, .inr (1, [.ref hR3, .int (nI n3)])), (hR3, .inl (d3, N3, .inl a3))]) [0, 1] (by decide) rfl) hS) hS.2.2 dX1_around_31
end
section
abbrev wsX2_init : List Cond := ws_ yX2_init cX2_init 2 none
set_option maxHeartbeats 4000000 in
set_option maxRecDepth 100000 in
theorem met_X2_init (l : Launch) (D : va_G) (pA hT : Nat) (sz : Nat) : rr_CV l D yX2_init wsX2_init ({ frames := 1, cells := 0, slots := 0, locals := 14 }) [.ref pA, .ref hT] [] [(pA, .inr (2, [.null, .int 0, .int 0, .long 0, .long 0]))] sz (fun _ : Unit => True) (fun _ => []) (fun _ => [(pA, .inr (2, [.ref hT, .int 0, .int 0, .long 0, .long 0]))]) 0 0 := by
  refine Met.ofW (cc := cX2_init) (maxL := 2) (ret := none) (by decide) rfl ?_
  intro p e s m args below meth c s₁ B hml hv
  obtain ⟨rfl, hsz, hP, hK, hD0⟩ := hv
  have hx := B.exec
  have hb := B.bytes
  have hr := B.returns
  have hts := atoms_spec (ws := wsX2_init) B.pre
  have hts : ∀ w ∈ lw_all, w.before _ s = true := fun w h => hts w (List.mem_cons_of_mem _ h)
  have hown : s.vm.findClass RX2 = some m.cls := findClass_of_methodNamed B.named
  have hlocks := B.notSynchronized
  have hin : meth.name = "<init>" := (name_of_methodNamed B.named B.method).1
  subst hsz
  have hD := hD0.self (sz := s.heap.size)
  generalize hAe : va_A [(pA, .inr (2, [.null, .int 0, .int 0, .long 0, .long 0]))] s.heap.size = A at hD ⊢
  have hA : ∀ q : Nat, s.heap.size ≤ q → A q := fun q h => by rw [← hAe]; exact Or.inr h
  have hS : va_S A s.heap s.heap [] := va_S.rf
  have hP : va_P D vwCl [(pA, .inr (2, [.null, .int 0, .int 0, .long 0, .long 0]))] s.heap := hP
  have hK : va_K D vwCl [] s := hK
  have hl := lv_entry ([.ref pA, .ref hT]) (n := 2) (Nat.le_of_ble_eq_true rfl)
  rw [lg_entry_eq]
  generalize (lg_sl ([.ref pA, .ref hT]) ++ List.replicate (2 - (lg_sl ([.ref pA, .ref hT])).length) Slot.unset).toArray = ls at hl ⊢
  have hl : lv_has ls 2 [(0, .ref pA), (1, .ref hT)] := hl
  refine lv_aload_n hx hb dX2_init_0 rfl (lv_at hl 0 rfl) ?_
  refine W.objInit hx hb hown (hts _ q51) (hts _ q29) (hts _ q30) rfl (by rw [hml]; exact hl.1) rfl dX2_init_1 (Nat.le_of_ble_eq_true rfl) (Nat.le_of_ble_eq_true rfl) ?_
  refine W.eq (g2 := F0 m 4 ls []) rfl ?_
  refine lv_aload_n hx hb dX2_init_4 rfl (lv_at hl 0 rfl) ?_
  refine lv_aload_n hx hb dX2_init_5 rfl (lv_at hl 1 rfl) ?_
  refine va_putF (D := D) (ci := 2) (v := .ref hT) (ty := .object "RangeRules$Thresholds") (C := RX2) (T := TX2) (N := 5) hx hb hts in_X2 tyX2 tyX2_ok nmX2 hown hK hP hD hS 0 rfl rfl 0 (by decide) (hts _ q52) (fun _ h9 => h9) rfl hin rfl (by decide +kernel) rfl rfl (Nat.le_of_ble_eq_true rfl) dX2_init_6 (fun H locs hP hD hS => ?_)
  have hP : va_P D vwCl [(pA, .inr (2, [.ref hT, .int 0, .int 0, .long 0, .long 0]))] H := hP
  have hD : va_D A [(pA, .inr (2, [.ref hT, .int 0, .int 0, .long 0, .long 0]))] := hD
  exact W.vret hx hb hr (rr_endv () trivial hP hK hD hS) hS.2.2 dX2_init_9
abbrev wsX2_put : List Cond := ws_ yX2_put cX2_put 6 none
set_option maxHeartbeats 4000000 in
set_option maxRecDepth 100000 in
theorem met_X2_put (l : Launch) (D : va_G) (pA : Nat) (lo hi : Int32) (le gr : Int64) (hT hR : Nat) (d : ClassId) (N n : Nat) (a : Nat → Int32) (sz : Nat) (x y : Int64) {S : Int32 → Bool} (hok : T_ok S n a) (hnN : n ≤ N) (hN : N ≤ 512) (hmi : S (-2147483648) = true) (hma : S 2147483647 = true) : rr_CV l D yX2_put wsX2_put ({ frames := 1, cells := 0, slots := 0, locals := 25 }) [.ref pA, .long x, .long y] [(d, .int)] [(pA, .inr (2, [.ref hT, .int lo, .int hi, .long le, .long gr])), (hT, .inr (1, [.ref hR, .int (nI n)])), (hR, .inl (d, N, .inl a))] sz (fun u : Int32 × Int32 => PutR S x y u.1 u.2) (fun _ => [(d, .int)]) (fun u => [(pA, .inr (2, [.ref hT, .int u.1, .int u.2, .long le, .long gr])), (hT, .inr (1, [.ref hR, .int (nI n)])), (hR, .inl (d, N, .inl a))]) 0 0 := by
  refine Met.ofW (cc := cX2_put) (maxL := 6) (ret := none) (by decide) rfl ?_
  intro p e s m args below meth c s₁ B hml hv
  obtain ⟨rfl, hsz, hP, hK, hD0⟩ := hv
  have hx := B.exec
  have hb := B.bytes
  have hr := B.returns
  have hts := atoms_spec (ws := wsX2_put) B.pre
  have hts : ∀ w ∈ lw_all, w.before _ s = true := fun w h => hts w (List.mem_cons_of_mem _ h)
  have hown : s.vm.findClass RX2 = some m.cls := findClass_of_methodNamed B.named
  have hlocks := B.notSynchronized
  subst hsz
  have hD := hD0.self (sz := s.heap.size)
  generalize hAe : va_A [(pA, .inr (2, [.ref hT, .int lo, .int hi, .long le, .long gr])), (hT, .inr (1, [.ref hR, .int (nI n)])), (hR, .inl (d, N, .inl a))] s.heap.size = A at hD ⊢
  have hA : ∀ q : Nat, s.heap.size ≤ q → A q := fun q h => by rw [← hAe]; exact Or.inr h
  have hS : va_S A s.heap s.heap [] := va_S.rf
  have hP : va_P D vwCl [(pA, .inr (2, [.ref hT, .int lo, .int hi, .long le, .long gr])), (hT, .inr (1, [.ref hR, .int (nI n)])), (hR, .inl (d, N, .inl a))] s.heap := hP
  have hK : va_K D vwCl [(d, .int)] s := hK
  have hl := lv_entry ([.ref pA, .long x, .long y]) (n := 6) (Nat.le_of_ble_eq_true rfl)
  rw [lg_entry_eq]
  generalize (lg_sl ([.ref pA, .long x, .long y]) ++ List.replicate (6 - (lg_sl ([.ref pA, .long x, .long y])).length) Slot.unset).toArray = ls at hl ⊢
  have hl : lv_has ls 6 [(0, .ref pA), (1, .long x), (3, .long y)] := hl
  refine lv_lload_n hx hb dX2_put_0 rfl (lv_at hl 1 rfl) ?_
  refine lv_ldc2 (v := (-2147483648)) hx hb hown (hts _ q156) dX2_put_1 ?_
  refine lc_lt (tgt := 20) hx hb dX2_put_4 dX2_put_5 (by decide) (fun c_4 => ?_) (fun c_4 => ?_)
  · refine lv_iconst (v := 0) hx hb dX2_put_20 (by decide) ?_
    refine lv_istore (lv' := [(5, .int 0), (0, .ref pA), (1, .long x), (3, .long y)]) hx hb dX2_put_21 hl (by decide) rfl (fun ls hl => ?_)
    refine lv_aload_n hx hb dX2_put_23 rfl (lv_at hl 1 rfl) ?_
    refine lv_iload hx hb dX2_put_24 (lv_at hl 0 rfl) ?_
    refine lv_if_eq (tgt := 40) hx hb dX2_put_26 (by decide) (fun c_26 => ?_) (fun c_26 => absurd rfl c_26)
    refine lv_ldc (v := (-2147483648)) hx hb hown (hts _ q159) dX2_put_40 ?_
    refine va_put (D := D) (ci := 2) (v := .int (-2147483648)) (ty := .int) (C := RX2) (T := TX2) (N := 5) hx hb hts in_X2 tyX2 tyX2_ok nmX2 hown hK hP hD hS 0 rfl rfl 1 (by decide) (hts _ q53) (fun _ h9 => h9) rfl (by decide +kernel) rfl rfl (Nat.le_of_ble_eq_true rfl) dX2_put_42 (fun H locs hP hD hS => ?_)
    have hP : va_P D vwCl [(pA, .inr (2, [.ref hT, .int (-2147483648), .int hi, .long le, .long gr])), (hT, .inr (1, [.ref hR, .int (nI n)])), (hR, .inl (d, N, .inl a))] H := hP
    have hD : va_D A [(pA, .inr (2, [.ref hT, .int (-2147483648), .int hi, .long le, .long gr])), (hT, .inr (1, [.ref hR, .int (nI n)])), (hR, .inl (d, N, .inl a))] := hD
    refine lv_aload_n hx hb dX2_put_45 rfl (lv_at hl 1 rfl) ?_
    refine lv_iload hx hb dX2_put_46 (lv_at hl 0 rfl) ?_
    refine lv_if_eq (tgt := 62) hx hb dX2_put_48 (by decide) (fun c_48 => ?_) (fun c_48 => absurd rfl c_48)
    refine lv_ldc (v := 2147483647) hx hb hown (hts _ q161) dX2_put_62 ?_
    refine va_put (D := D) (ci := 2) (v := .int 2147483647) (ty := .int) (C := RX2) (T := TX2) (N := 5) hx hb hts in_X2 tyX2 tyX2_ok nmX2 hown hK hP hD hS 0 rfl rfl 2 (by decide) (hts _ q55) (fun _ h9 => h9) rfl (by decide +kernel) rfl rfl (Nat.le_of_ble_eq_true rfl) dX2_put_64 (fun H locs hP hD hS => ?_)
    have hP : va_P D vwCl [(pA, .inr (2, [.ref hT, .int (-2147483648), .int 2147483647, .long le, .long gr])), (hT, .inr (1, [.ref hR, .int (nI n)])), (hR, .inl (d, N, .inl a))] H := hP
    have hD : va_D A [(pA, .inr (2, [.ref hT, .int (-2147483648), .int 2147483647, .long le, .long gr])), (hT, .inr (1, [.ref hR, .int (nI n)])), (hR, .inl (d, N, .inl a))] := hD
    exact W.vret hx hb hr (rr_endv (-2147483648, 2147483647) (PutR_lo c_4) hP hK hD hS) hS.2.2 dX2_put_67
  · refine lv_lload_n hx hb dX2_put_8 rfl (lv_at hl 2 rfl) ?_
    refine lv_ldc2 (v := 2147483647) hx hb hown (hts _ q157) dX2_put_9 ?_
    refine lc_gt (tgt := 20) hx hb dX2_put_12 dX2_put_13 (by decide) (fun c_12 => ?_) (fun c_12 => ?_)
    · refine lv_iconst (v := 0) hx hb dX2_put_20 (by decide) ?_
      refine lv_istore (lv' := [(5, .int 0), (0, .ref pA), (1, .long x), (3, .long y)]) hx hb dX2_put_21 hl (by decide) rfl (fun ls hl => ?_)
      refine lv_aload_n hx hb dX2_put_23 rfl (lv_at hl 1 rfl) ?_
      refine lv_iload hx hb dX2_put_24 (lv_at hl 0 rfl) ?_
      refine lv_if_eq (tgt := 40) hx hb dX2_put_26 (by decide) (fun c_26 => ?_) (fun c_26 => absurd rfl c_26)
      refine lv_ldc (v := (-2147483648)) hx hb hown (hts _ q159) dX2_put_40 ?_
      refine va_put (D := D) (ci := 2) (v := .int (-2147483648)) (ty := .int) (C := RX2) (T := TX2) (N := 5) hx hb hts in_X2 tyX2 tyX2_ok nmX2 hown hK hP hD hS 0 rfl rfl 1 (by decide) (hts _ q53) (fun _ h9 => h9) rfl (by decide +kernel) rfl rfl (Nat.le_of_ble_eq_true rfl) dX2_put_42 (fun H locs hP hD hS => ?_)
      have hP : va_P D vwCl [(pA, .inr (2, [.ref hT, .int (-2147483648), .int hi, .long le, .long gr])), (hT, .inr (1, [.ref hR, .int (nI n)])), (hR, .inl (d, N, .inl a))] H := hP
      have hD : va_D A [(pA, .inr (2, [.ref hT, .int (-2147483648), .int hi, .long le, .long gr])), (hT, .inr (1, [.ref hR, .int (nI n)])), (hR, .inl (d, N, .inl a))] := hD
      refine lv_aload_n hx hb dX2_put_45 rfl (lv_at hl 1 rfl) ?_
      refine lv_iload hx hb dX2_put_46 (lv_at hl 0 rfl) ?_
      refine lv_if_eq (tgt := 62) hx hb dX2_put_48 (by decide) (fun c_48 => ?_) (fun c_48 => absurd rfl c_48)
      refine lv_ldc (v := 2147483647) hx hb hown (hts _ q161) dX2_put_62 ?_
      refine va_put (D := D) (ci := 2) (v := .int 2147483647) (ty := .int) (C := RX2) (T := TX2) (N := 5) hx hb hts in_X2 tyX2 tyX2_ok nmX2 hown hK hP hD hS 0 rfl rfl 2 (by decide) (hts _ q55) (fun _ h9 => h9) rfl (by decide +kernel) rfl rfl (Nat.le_of_ble_eq_true rfl) dX2_put_64 (fun H locs hP hD hS => ?_)
      have hP : va_P D vwCl [(pA, .inr (2, [.ref hT, .int (-2147483648), .int 2147483647, .long le, .long gr])), (hT, .inr (1, [.ref hR, .int (nI n)])), (hR, .inl (d, N, .inl a))] H := hP
      have hD : va_D A [(pA, .inr (2, [.ref hT, .int (-2147483648), .int 2147483647, .long le, .long gr])), (hT, .inr (1, [.ref hR, .int (nI n)])), (hR, .inl (d, N, .inl a))] := hD
      exact W.vret hx hb hr (rr_endv (-2147483648, 2147483647) (PutR_hi c_12) hP hK hD hS) hS.2.2 dX2_put_67
    · refine lv_iconst (v := 1) hx hb dX2_put_16 (by decide) ?_
      refine lv_goto (tgt := 21) hx hb dX2_put_17 (by decide) ?_
      refine lv_istore (lv' := [(5, .int 1), (0, .ref pA), (1, .long x), (3, .long y)]) hx hb dX2_put_21 hl (by decide) rfl (fun ls hl => ?_)
      refine lv_aload_n hx hb dX2_put_23 rfl (lv_at hl 1 rfl) ?_
      refine lv_iload hx hb dX2_put_24 (lv_at hl 0 rfl) ?_
      refine lv_if_eq (tgt := 40) hx hb dX2_put_26 (by decide) (fun c_26 => absurd c_26 (by decide)) (fun c_26 => ?_)
      refine lv_aload_n hx hb dX2_put_29 rfl (lv_at hl 1 rfl) ?_
      refine va_get (D := D) (ci := 2) (v := .ref hT) (C := RX2) (T := TX2) (N := 5) hx hb hts in_X2 hown hK hP 0 rfl rfl 0 (by decide) (hts _ q52) (fun _ h9 => h9) rfl dX2_put_30 ?_
      refine lv_lload_n hx hb dX2_put_33 rfl (lv_at hl 2 rfl) ?_
      refine rr_callo (va_runV (As := [.long x]) (rest := [.ref pA]) ⟨hx, hb, hml, hown, hts⟩ (met_X1_down l D hT hR d N n a s.heap.size x hok hnN hN hmi (w_ge c_4)) (cwV 1 hts (lw_V q158 q129 q130 q17 q131) rfl rfl rfl (by decide +kernel) ⟨Nat.le_of_ble_eq_true rfl, Nat.le_of_ble_eq_true rfl⟩) ⟨rr_blindO, va_recv hK hP (ci := 1) (q0 := 1) rfl rfl, rr_preO (hP.sub (ws' := [(hT, .inr (1, [.ref hR, .int (nI n)])), (hR, .inl (d, N, .inl a))]) [1, 2] rfl) (hK.sub (tys' := [(d, .int)]) [0] rfl)⟩ rfl rfl hl.1 rfl (lv_room (Nat.le_of_ble_eq_true rfl)) dX2_put_34 ⟨Nat.le_of_ble_eq_true rfl, Nat.le_of_ble_eq_true rfl⟩) hP hS hA (fun r_14 H locs hw_15 hP hS => ?_)
      refine lv_goto (tgt := 42) hx hb dX2_put_37 (by decide) ?_
      refine va_put (D := D) (ci := 2) (v := .int r_14) (ty := .int) (C := RX2) (T := TX2) (N := 5) hx hb hts in_X2 tyX2 tyX2_ok nmX2 hown hK hP hD hS 0 rfl rfl 1 (by decide) (hts _ q53) (fun _ h9 => h9) rfl (by decide +kernel) rfl rfl (Nat.le_of_ble_eq_true rfl) dX2_put_42 (fun H locs hP hD hS => ?_)
      have hP : va_P D vwCl [(pA, .inr (2, [.ref hT, .int r_14, .int hi, .long le, .long gr])), (hT, .inr (1, [.ref hR, .int (nI n)])), (hR, .inl (d, N, .inl a))] H := hP
      have hD : va_D A [(pA, .inr (2, [.ref hT, .int r_14, .int hi, .long le, .long gr])), (hT, .inr (1, [.ref hR, .int (nI n)])), (hR, .inl (d, N, .inl a))] := hD
      refine lv_aload_n hx hb dX2_put_45 rfl (lv_at hl 1 rfl) ?_
      refine lv_iload hx hb dX2_put_46 (lv_at hl 0 rfl) ?_
      refine lv_if_eq (tgt := 62) hx hb dX2_put_48 (by decide) (fun c_48 => absurd c_48 (by decide)) (fun c_48 => ?_)
      refine lv_aload_n hx hb dX2_put_51 rfl (lv_at hl 1 rfl) ?_
      refine va_get (D := D) (ci := 2) (v := .ref hT) (C := RX2) (T := TX2) (N := 5) hx hb hts in_X2 hown hK hP 0 rfl rfl 0 (by decide) (hts _ q52) (fun _ h9 => h9) rfl dX2_put_52 ?_
      refine lv_lload_n hx hb dX2_put_55 rfl (lv_at hl 3 rfl) ?_
      refine rr_callo (va_runV (As := [.long y]) (rest := [.ref pA]) ⟨hx, hb, hml, hown, hts⟩ (met_X1_up l D hT hR d N n a H.size y hok hnN hN hma (w_le c_12)) (cwV 1 hts (lw_V q160 q137 q138 q17 q139) rfl rfl rfl (by decide +kernel) ⟨Nat.le_of_ble_eq_true rfl, Nat.le_of_ble_eq_true rfl⟩) ⟨rr_blindO, va_recv hK hP (ci := 1) (q0 := 1) rfl rfl, rr_preO (hP.sub (ws' := [(hT, .inr (1, [.ref hR, .int (nI n)])), (hR, .inl (d, N, .inl a))]) [1, 2] rfl) (hK.sub (tys' := [(d, .int)]) [0] rfl)⟩ rfl rfl hl.1 rfl (lv_room (Nat.le_of_ble_eq_true rfl)) dX2_put_56 ⟨Nat.le_of_ble_eq_true rfl, Nat.le_of_ble_eq_true rfl⟩) hP hS hA (fun r_16 H locs hw_17 hP hS => ?_)
      refine lv_goto (tgt := 64) hx hb dX2_put_59 (by decide) ?_
      refine va_put (D := D) (ci := 2) (v := .int r_16) (ty := .int) (C := RX2) (T := TX2) (N := 5) hx hb hts in_X2 tyX2 tyX2_ok nmX2 hown hK hP hD hS 0 rfl rfl 2 (by decide) (hts _ q55) (fun _ h9 => h9) rfl (by decide +kernel) rfl rfl (Nat.le_of_ble_eq_true rfl) dX2_put_64 (fun H locs hP hD hS => ?_)
      have hP : va_P D vwCl [(pA, .inr (2, [.ref hT, .int r_14, .int r_16, .long le, .long gr])), (hT, .inr (1, [.ref hR, .int (nI n)])), (hR, .inl (d, N, .inl a))] H := hP
      have hD : va_D A [(pA, .inr (2, [.ref hT, .int r_14, .int r_16, .long le, .long gr])), (hT, .inr (1, [.ref hR, .int (nI n)])), (hR, .inl (d, N, .inl a))] := hD
      exact W.vret hx hb hr (rr_endv (r_14, r_16) (PutR_in c_4 c_12 hw_15 hw_17) hP hK hD hS) hS.2.2 dX2_put_67
abbrev wsX2_negate : List Cond := ws_ yX2_negate cX2_negate 5 none
set_option maxHeartbeats 4000000 in
set_option maxRecDepth 100000 in
theorem met_X2_negate (l : Launch) (D : va_G) (pA : Nat) (lo hi : Int32) (le gr : Int64) (hT hR : Nat) (d : ClassId) (N n : Nat) (a : Nat → Int32) (sz : Nat) (x y : Int64) {S : Int32 → Bool} (hok : T_ok S n a) (hnN : n ≤ N) (hN : N ≤ 512) (hmi : S (-2147483648) = true) (hma : S 2147483647 = true) : rr_CV l D yX2_negate wsX2_negate ({ frames := 2, cells := 0, slots := 0, locals := 50 }) [.ref pA, .long x, .long y] [(d, .int)] [(pA, .inr (2, [.ref hT, .int lo, .int hi, .long le, .long gr])), (hT, .inr (1, [.ref hR, .int (nI n)])), (hR, .inl (d, N, .inl a))] sz (fun u : Int32 × Int32 => PutR S (-y) (-x) u.1 u.2) (fun _ => [(d, .int)]) (fun u => [(pA, .inr (2, [.ref hT, .int u.1, .int u.2, .long le, .long gr])), (hT, .inr (1, [.ref hR, .int (nI n)])), (hR, .inl (d, N, .inl a))]) 0 0 := by
  refine Met.ofW (cc := cX2_negate) (maxL := 5) (ret := none) (by decide) rfl ?_
  intro p e s m args below meth c s₁ B hml hv
  obtain ⟨rfl, hsz, hP, hK, hD0⟩ := hv
  have hx := B.exec
  have hb := B.bytes
  have hr := B.returns
  have hts := atoms_spec (ws := wsX2_negate) B.pre
  have hts : ∀ w ∈ lw_all, w.before _ s = true := fun w h => hts w (List.mem_cons_of_mem _ h)
  have hown : s.vm.findClass RX2 = some m.cls := findClass_of_methodNamed B.named
  have hlocks := B.notSynchronized
  subst hsz
  have hD := hD0.self (sz := s.heap.size)
  generalize hAe : va_A [(pA, .inr (2, [.ref hT, .int lo, .int hi, .long le, .long gr])), (hT, .inr (1, [.ref hR, .int (nI n)])), (hR, .inl (d, N, .inl a))] s.heap.size = A at hD ⊢
  have hA : ∀ q : Nat, s.heap.size ≤ q → A q := fun q h => by rw [← hAe]; exact Or.inr h
  have hS : va_S A s.heap s.heap [] := va_S.rf
  have hP : va_P D vwCl [(pA, .inr (2, [.ref hT, .int lo, .int hi, .long le, .long gr])), (hT, .inr (1, [.ref hR, .int (nI n)])), (hR, .inl (d, N, .inl a))] s.heap := hP
  have hK : va_K D vwCl [(d, .int)] s := hK
  have hl := lv_entry ([.ref pA, .long x, .long y]) (n := 5) (Nat.le_of_ble_eq_true rfl)
  rw [lg_entry_eq]
  generalize (lg_sl ([.ref pA, .long x, .long y]) ++ List.replicate (5 - (lg_sl ([.ref pA, .long x, .long y])).length) Slot.unset).toArray = ls at hl ⊢
  have hl : lv_has ls 5 [(0, .ref pA), (1, .long x), (3, .long y)] := hl
  refine lv_aload_n hx hb dX2_negate_0 rfl (lv_at hl 0 rfl) ?_
  refine lv_lload_n hx hb dX2_negate_1 rfl (lv_at hl 2 rfl) ?_
  refine lv_lneg hx hb dX2_negate_2 ?_
  refine lv_lload_n hx hb dX2_negate_3 rfl (lv_at hl 1 rfl) ?_
  refine lv_lneg hx hb dX2_negate_4 ?_
  refine rr_callv (wc := [(pA, .inr (2, [.ref hT, .int lo, .int hi, .long le, .long gr])), (hT, .inr (1, [.ref hR, .int (nI n)])), (hR, .inl (d, N, .inl a))]) (wr := []) (va_runV (As := [.long (-y), .long (-x)]) (rest := []) ⟨hx, hb, hml, hown, hts⟩ (met_X2_put l D pA lo hi le gr hT hR d N n a s.heap.size (-y) (-x) hok hnN hN hmi hma) (cwV 2 hts (lw_V q152 q154 qs2 q18 q155) rfl rfl rfl (by decide +kernel) ⟨Nat.le_of_ble_eq_true rfl, Nat.le_of_ble_eq_true rfl⟩) ⟨rr_blind, va_recv hK hP (ci := 2) (q0 := 0) rfl rfl, rr_pre (hP.sub (ws' := [(pA, .inr (2, [.ref hT, .int lo, .int hi, .long le, .long gr])), (hT, .inr (1, [.ref hR, .int (nI n)])), (hR, .inl (d, N, .inl a))]) [0, 1, 2] rfl) (hK.sub (tys' := [(d, .int)]) [0] rfl) (hD.sub (ws' := [(pA, .inr (2, [.ref hT, .int lo, .int hi, .long le, .long gr])), (hT, .inr (1, [.ref hR, .int (nI n)])), (hR, .inl (d, N, .inl a))]) [0, 1, 2] (by decide) rfl)⟩ rfl rfl hl.1 rfl (lv_room (Nat.le_of_ble_eq_true rfl)) dX2_negate_5 ⟨Nat.le_of_ble_eq_true rfl, Nat.le_of_ble_eq_true rfl⟩) hK hP hD hS hA [0, 1, 2] [] rfl rfl (by decide) (by decide) (fun u_19 H locs hw_18 hP hD hK hS => ?_)
  obtain ⟨lo_18, hi_18⟩ := u_19
  have hP : va_P D vwCl [(pA, .inr (2, [.ref hT, .int lo_18, .int hi_18, .long le, .long gr])), (hT, .inr (1, [.ref hR, .int (nI n)])), (hR, .inl (d, N, .inl a))] H := hP
  have hD : va_D A [(pA, .inr (2, [.ref hT, .int lo_18, .int hi_18, .long le, .long gr])), (hT, .inr (1, [.ref hR, .int (nI n)])), (hR, .inl (d, N, .inl a))] := hD
  have hK : va_K D vwCl [(d, .int)] s := hK.sub (tys' := [(d, .int)]) [0] rfl
  exact W.vret hx hb hr (rr_endv (lo_18, hi_18) hw_18 hP hK hD hS) hS.2.2 dX2_negate_8
abbrev wsX2_product : List Cond := ws_ yX2_product cX2_product 9 none
set_option maxHeartbeats 4000000 in
set_option maxRecDepth 100000 in
theorem met_X2_product (l : Launch) (D : va_G) (pA : Nat) (lo hi : Int32) (le gr : Int64) (hT hR : Nat) (d : ClassId) (N n : Nat) (a : Nat → Int32) (sz : Nat) (l0 h0 m0 n0 : Int64) {S : Int32 → Bool} (hok : T_ok S n a) (hnN : n ≤ N) (hN : N ≤ 512) (hmi : S (-2147483648) = true) (hma : S 2147483647 = true) : rr_CV l D yX2_product wsX2_product ({ frames := 2, cells := 0, slots := 0, locals := 50 }) [.ref pA, .long l0, .long h0, .long m0, .long n0] [(d, .int)] [(pA, .inr (2, [.ref hT, .int lo, .int hi, .long le, .long gr])), (hT, .inr (1, [.ref hR, .int (nI n)])), (hR, .inl (d, N, .inl a))] sz (fun u : Int32 × Int32 => PutR S (prLo l0 h0 m0 n0) (prHi l0 h0 m0 n0) u.1 u.2) (fun _ => [(d, .int)]) (fun u => [(pA, .inr (2, [.ref hT, .int u.1, .int u.2, .long le, .long gr])), (hT, .inr (1, [.ref hR, .int (nI n)])), (hR, .inl (d, N, .inl a))]) 0 0 := by
  refine Met.ofW (cc := cX2_product) (maxL := 9) (ret := none) (by decide) rfl ?_
  intro p e s m args below meth c s₁ B hml hv
  obtain ⟨rfl, hsz, hP, hK, hD0⟩ := hv
  have hx := B.exec
  have hb := B.bytes
  have hr := B.returns
  have hts := atoms_spec (ws := wsX2_product) B.pre
  have hts : ∀ w ∈ lw_all, w.before _ s = true := fun w h => hts w (List.mem_cons_of_mem _ h)
  have hown : s.vm.findClass RX2 = some m.cls := findClass_of_methodNamed B.named
  have hlocks := B.notSynchronized
  subst hsz
  have hD := hD0.self (sz := s.heap.size)
  generalize hAe : va_A [(pA, .inr (2, [.ref hT, .int lo, .int hi, .long le, .long gr])), (hT, .inr (1, [.ref hR, .int (nI n)])), (hR, .inl (d, N, .inl a))] s.heap.size = A at hD ⊢
  have hA : ∀ q : Nat, s.heap.size ≤ q → A q := fun q h => by rw [← hAe]; exact Or.inr h
  have hS : va_S A s.heap s.heap [] := va_S.rf
  have hP : va_P D vwCl [(pA, .inr (2, [.ref hT, .int lo, .int hi, .long le, .long gr])), (hT, .inr (1, [.ref hR, .int (nI n)])), (hR, .inl (d, N, .inl a))] s.heap := hP
  have hK : va_K D vwCl [(d, .int)] s := hK
  have hl := lv_entry ([.ref pA, .long l0, .long h0, .long m0, .long n0]) (n := 9) (Nat.le_of_ble_eq_true rfl)
  rw [lg_entry_eq]
  generalize (lg_sl ([.ref pA, .long l0, .long h0, .long m0, .long n0]) ++ List.replicate (9 - (lg_sl ([.ref pA, .long l0, .long h0, .long m0, .long n0])).length) Slot.unset).toArray = ls at hl ⊢
  have hl : lv_has ls 9 [(0, .ref pA), (1, .long l0), (3, .long h0), (5, .long m0), (7, .long n0)] := hl
  refine lv_aload_n hx hb dX2_product_0 rfl (lv_at hl 0 rfl) ?_
  refine lv_lload_n hx hb dX2_product_1 rfl (lv_at hl 1 rfl) ?_
  refine lv_lload hx hb dX2_product_2 (lv_at hl 3 rfl) ?_
  refine lv_lmul hx hb dX2_product_4 ?_
  refine lv_lload_n hx hb dX2_product_5 rfl (lv_at hl 1 rfl) ?_
  refine lv_lload hx hb dX2_product_6 (lv_at hl 4 rfl) ?_
  refine lv_lmul hx hb dX2_product_8 ?_
  refine rr_minL hx hb hml hl.1 hown hts q166 (Nat.le_of_ble_eq_true rfl) (Nat.le_of_ble_eq_true rfl) (Nat.le_of_ble_eq_true rfl) (Nat.le_of_ble_eq_true rfl) dX2_product_9 ?_
  refine lv_lload_n hx hb dX2_product_12 rfl (lv_at hl 2 rfl) ?_
  refine lv_lload hx hb dX2_product_13 (lv_at hl 3 rfl) ?_
  refine lv_lmul hx hb dX2_product_15 ?_
  refine lv_lload_n hx hb dX2_product_16 rfl (lv_at hl 2 rfl) ?_
  refine lv_lload hx hb dX2_product_17 (lv_at hl 4 rfl) ?_
  refine lv_lmul hx hb dX2_product_19 ?_
  refine rr_minL hx hb hml hl.1 hown hts q166 (Nat.le_of_ble_eq_true rfl) (Nat.le_of_ble_eq_true rfl) (Nat.le_of_ble_eq_true rfl) (Nat.le_of_ble_eq_true rfl) dX2_product_20 ?_
  refine rr_minL hx hb hml hl.1 hown hts q166 (Nat.le_of_ble_eq_true rfl) (Nat.le_of_ble_eq_true rfl) (Nat.le_of_ble_eq_true rfl) (Nat.le_of_ble_eq_true rfl) dX2_product_23 ?_
  refine lv_lload_n hx hb dX2_product_26 rfl (lv_at hl 1 rfl) ?_
  refine lv_lload hx hb dX2_product_27 (lv_at hl 3 rfl) ?_
  refine lv_lmul hx hb dX2_product_29 ?_
  refine lv_lload_n hx hb dX2_product_30 rfl (lv_at hl 1 rfl) ?_
  refine lv_lload hx hb dX2_product_31 (lv_at hl 4 rfl) ?_
  refine lv_lmul hx hb dX2_product_33 ?_
  refine rr_maxL hx hb hml hl.1 hown hts q169 (Nat.le_of_ble_eq_true rfl) (Nat.le_of_ble_eq_true rfl) (Nat.le_of_ble_eq_true rfl) (Nat.le_of_ble_eq_true rfl) dX2_product_34 ?_
  refine lv_lload_n hx hb dX2_product_37 rfl (lv_at hl 2 rfl) ?_
  refine lv_lload hx hb dX2_product_38 (lv_at hl 3 rfl) ?_
  refine lv_lmul hx hb dX2_product_40 ?_
  refine lv_lload_n hx hb dX2_product_41 rfl (lv_at hl 2 rfl) ?_
  refine lv_lload hx hb dX2_product_42 (lv_at hl 4 rfl) ?_
  refine lv_lmul hx hb dX2_product_44 ?_
  refine rr_maxL hx hb hml hl.1 hown hts q169 (Nat.le_of_ble_eq_true rfl) (Nat.le_of_ble_eq_true rfl) (Nat.le_of_ble_eq_true rfl) (Nat.le_of_ble_eq_true rfl) dX2_product_45 ?_
  refine rr_maxL hx hb hml hl.1 hown hts q169 (Nat.le_of_ble_eq_true rfl) (Nat.le_of_ble_eq_true rfl) (Nat.le_of_ble_eq_true rfl) (Nat.le_of_ble_eq_true rfl) dX2_product_48 ?_
  refine rr_callv (wc := [(pA, .inr (2, [.ref hT, .int lo, .int hi, .long le, .long gr])), (hT, .inr (1, [.ref hR, .int (nI n)])), (hR, .inl (d, N, .inl a))]) (wr := []) (va_runV (As := [.long (mnL (mnL (l0 * m0) (l0 * n0)) (mnL (h0 * m0) (h0 * n0))), .long (mxL (mxL (l0 * m0) (l0 * n0)) (mxL (h0 * m0) (h0 * n0)))]) (rest := []) ⟨hx, hb, hml, hown, hts⟩ (met_X2_put l D pA lo hi le gr hT hR d N n a s.heap.size (mnL (mnL (l0 * m0) (l0 * n0)) (mnL (h0 * m0) (h0 * n0))) (mxL (mxL (l0 * m0) (l0 * n0)) (mxL (h0 * m0) (h0 * n0))) hok hnN hN hmi hma) (cwV 2 hts (lw_V q152 q154 qs2 q18 q155) rfl rfl rfl (by decide +kernel) ⟨Nat.le_of_ble_eq_true rfl, Nat.le_of_ble_eq_true rfl⟩) ⟨rr_blind, va_recv hK hP (ci := 2) (q0 := 0) rfl rfl, rr_pre (hP.sub (ws' := [(pA, .inr (2, [.ref hT, .int lo, .int hi, .long le, .long gr])), (hT, .inr (1, [.ref hR, .int (nI n)])), (hR, .inl (d, N, .inl a))]) [0, 1, 2] rfl) (hK.sub (tys' := [(d, .int)]) [0] rfl) (hD.sub (ws' := [(pA, .inr (2, [.ref hT, .int lo, .int hi, .long le, .long gr])), (hT, .inr (1, [.ref hR, .int (nI n)])), (hR, .inl (d, N, .inl a))]) [0, 1, 2] (by decide) rfl)⟩ rfl rfl hl.1 rfl (lv_room (Nat.le_of_ble_eq_true rfl)) dX2_product_51 ⟨Nat.le_of_ble_eq_true rfl, Nat.le_of_ble_eq_true rfl⟩) hK hP hD hS hA [0, 1, 2] [] rfl rfl (by decide) (by decide) (fun u_21 H locs hw_20 hP hD hK hS => ?_)
  obtain ⟨lo_20, hi_20⟩ := u_21
  have hP : va_P D vwCl [(pA, .inr (2, [.ref hT, .int lo_20, .int hi_20, .long le, .long gr])), (hT, .inr (1, [.ref hR, .int (nI n)])), (hR, .inl (d, N, .inl a))] H := hP
  have hD : va_D A [(pA, .inr (2, [.ref hT, .int lo_20, .int hi_20, .long le, .long gr])), (hT, .inr (1, [.ref hR, .int (nI n)])), (hR, .inl (d, N, .inl a))] := hD
  have hK : va_K D vwCl [(d, .int)] s := hK.sub (tys' := [(d, .int)]) [0] rfl
  exact W.vret hx hb hr (rr_endv (lo_20, hi_20) hw_20 hP hK hD hS) hS.2.2 dX2_product_54
end
section
abbrev wsX2_divide : List Cond := ws_ yX2_divide cX2_divide 7 none
set_option maxHeartbeats 4000000 in
set_option maxRecDepth 100000 in
theorem met_X2_divide (l : Launch) (D : va_G) (pA : Nat) (lo hi : Int32) (le gr : Int64) (hT : Nat) (sz : Nat) (l0 h0 d0 : Int64) (hd : ¬ d0 = 0) : rr_CV l D yX2_divide wsX2_divide ({ frames := 1, cells := 0, slots := 0, locals := 30 }) [.ref pA, .long l0, .long h0, .long d0] [] [(pA, .inr (2, [.ref hT, .int lo, .int hi, .long le, .long gr]))] sz (fun _ : Unit => True) (fun _ => []) (fun _ => [(pA, .inr (2, [.ref hT, .int lo, .int hi, .long (mnL le (mnL (l0 / d0) (h0 / d0))), .long (mxL gr (mxL (l0 / d0) (h0 / d0)))]))]) 0 0 := by
  refine Met.ofW (cc := cX2_divide) (maxL := 7) (ret := none) (by decide) rfl ?_
  intro p e s m args below meth c s₁ B hml hv
  obtain ⟨rfl, hsz, hP, hK, hD0⟩ := hv
  have hx := B.exec
  have hb := B.bytes
  have hr := B.returns
  have hts := atoms_spec (ws := wsX2_divide) B.pre
  have hts : ∀ w ∈ lw_all, w.before _ s = true := fun w h => hts w (List.mem_cons_of_mem _ h)
  have hown : s.vm.findClass RX2 = some m.cls := findClass_of_methodNamed B.named
  have hlocks := B.notSynchronized
  subst hsz
  have hD := hD0.self (sz := s.heap.size)
  generalize hAe : va_A [(pA, .inr (2, [.ref hT, .int lo, .int hi, .long le, .long gr]))] s.heap.size = A at hD ⊢
  have hA : ∀ q : Nat, s.heap.size ≤ q → A q := fun q h => by rw [← hAe]; exact Or.inr h
  have hS : va_S A s.heap s.heap [] := va_S.rf
  have hP : va_P D vwCl [(pA, .inr (2, [.ref hT, .int lo, .int hi, .long le, .long gr]))] s.heap := hP
  have hK : va_K D vwCl [] s := hK
  have hl := lv_entry ([.ref pA, .long l0, .long h0, .long d0]) (n := 7) (Nat.le_of_ble_eq_true rfl)
  rw [lg_entry_eq]
  generalize (lg_sl ([.ref pA, .long l0, .long h0, .long d0]) ++ List.replicate (7 - (lg_sl ([.ref pA, .long l0, .long h0, .long d0])).length) Slot.unset).toArray = ls at hl ⊢
  have hl : lv_has ls 7 [(0, .ref pA), (1, .long l0), (3, .long h0), (5, .long d0)] := hl
  refine lv_aload_n hx hb dX2_divide_0 rfl (lv_at hl 0 rfl) ?_
  refine lv_aload_n hx hb dX2_divide_1 rfl (lv_at hl 0 rfl) ?_
  refine va_get (D := D) (ci := 2) (v := .long le) (C := RX2) (T := TX2) (N := 5) hx hb hts in_X2 hown hK hP 0 rfl rfl 3 (by decide) (hts _ q57) (fun _ h9 => h9) rfl dX2_divide_2 ?_
  refine lv_lload_n hx hb dX2_divide_5 rfl (lv_at hl 1 rfl) ?_
  refine lv_lload hx hb dX2_divide_6 (lv_at hl 3 rfl) ?_
  refine lv_ldiv hx hb dX2_divide_8 (hd) ?_
  refine lv_lload_n hx hb dX2_divide_9 rfl (lv_at hl 2 rfl) ?_
  refine lv_lload hx hb dX2_divide_10 (lv_at hl 3 rfl) ?_
  refine lv_ldiv hx hb dX2_divide_12 (hd) ?_
  refine rr_minL hx hb hml hl.1 hown hts q166 (Nat.le_of_ble_eq_true rfl) (Nat.le_of_ble_eq_true rfl) (Nat.le_of_ble_eq_true rfl) (Nat.le_of_ble_eq_true rfl) dX2_divide_13 ?_
  refine rr_minL hx hb hml hl.1 hown hts q166 (Nat.le_of_ble_eq_true rfl) (Nat.le_of_ble_eq_true rfl) (Nat.le_of_ble_eq_true rfl) (Nat.le_of_ble_eq_true rfl) dX2_divide_16 ?_
  refine va_put (D := D) (ci := 2) (v := .long (mnL le (mnL (l0 / d0) (h0 / d0)))) (ty := .long) (C := RX2) (T := TX2) (N := 5) hx hb hts in_X2 tyX2 tyX2_ok nmX2 hown hK hP hD hS 0 rfl rfl 3 (by decide) (hts _ q57) (fun _ h9 => h9) rfl (by decide +kernel) rfl rfl (Nat.le_of_ble_eq_true rfl) dX2_divide_19 (fun H locs hP hD hS => ?_)
  have hP : va_P D vwCl [(pA, .inr (2, [.ref hT, .int lo, .int hi, .long (mnL le (mnL (l0 / d0) (h0 / d0))), .long gr]))] H := hP
  have hD : va_D A [(pA, .inr (2, [.ref hT, .int lo, .int hi, .long (mnL le (mnL (l0 / d0) (h0 / d0))), .long gr]))] := hD
  refine lv_aload_n hx hb dX2_divide_22 rfl (lv_at hl 0 rfl) ?_
  refine lv_aload_n hx hb dX2_divide_23 rfl (lv_at hl 0 rfl) ?_
  refine va_get (D := D) (ci := 2) (v := .long gr) (C := RX2) (T := TX2) (N := 5) hx hb hts in_X2 hown hK hP 0 rfl rfl 4 (by decide) (hts _ q58) (fun _ h9 => h9) rfl dX2_divide_24 ?_
  refine lv_lload_n hx hb dX2_divide_27 rfl (lv_at hl 1 rfl) ?_
  refine lv_lload hx hb dX2_divide_28 (lv_at hl 3 rfl) ?_
  refine lv_ldiv hx hb dX2_divide_30 (hd) ?_
  refine lv_lload_n hx hb dX2_divide_31 rfl (lv_at hl 2 rfl) ?_
  refine lv_lload hx hb dX2_divide_32 (lv_at hl 3 rfl) ?_
  refine lv_ldiv hx hb dX2_divide_34 (hd) ?_
  refine rr_maxL hx hb hml hl.1 hown hts q169 (Nat.le_of_ble_eq_true rfl) (Nat.le_of_ble_eq_true rfl) (Nat.le_of_ble_eq_true rfl) (Nat.le_of_ble_eq_true rfl) dX2_divide_35 ?_
  refine rr_maxL hx hb hml hl.1 hown hts q169 (Nat.le_of_ble_eq_true rfl) (Nat.le_of_ble_eq_true rfl) (Nat.le_of_ble_eq_true rfl) (Nat.le_of_ble_eq_true rfl) dX2_divide_38 ?_
  refine va_put (D := D) (ci := 2) (v := .long (mxL gr (mxL (l0 / d0) (h0 / d0)))) (ty := .long) (C := RX2) (T := TX2) (N := 5) hx hb hts in_X2 tyX2 tyX2_ok nmX2 hown hK hP hD hS 0 rfl rfl 4 (by decide) (hts _ q58) (fun _ h9 => h9) rfl (by decide +kernel) rfl rfl (Nat.le_of_ble_eq_true rfl) dX2_divide_41 (fun H locs hP hD hS => ?_)
  have hP : va_P D vwCl [(pA, .inr (2, [.ref hT, .int lo, .int hi, .long (mnL le (mnL (l0 / d0) (h0 / d0))), .long (mxL gr (mxL (l0 / d0) (h0 / d0)))]))] H := hP
  have hD : va_D A [(pA, .inr (2, [.ref hT, .int lo, .int hi, .long (mnL le (mnL (l0 / d0) (h0 / d0))), .long (mxL gr (mxL (l0 / d0) (h0 / d0)))]))] := hD
  exact W.vret hx hb hr (rr_endv () trivial hP hK hD hS) hS.2.2 dX2_divide_44
abbrev wsX2_quotient : List Cond := ws_ yX2_quotient cX2_quotient 9 none
set_option maxHeartbeats 4000000 in
set_option maxRecDepth 100000 in
theorem X2_quot_14 {p : Program} {l : Launch} {e : Env} {s : State} {m : MethodId} {args : Array Value} {below : List Frame} {meth : Method} {c : Code} {H : Heap} {locs : List Loc} {Q : State → Prop} (hx : p.tables.exec = Jvm.exec) (hb : c.code = cX2_quotient) (hts : ∀ w ∈ lw_all, w.before args s = true) (hown : s.vm.findClass RX2 = some m.cls) (hml : c.maxLocals = 9) {D : va_G} {pA hT hR N n : Nat} {lo hi : Int32} {le gr : Int64} {d : ClassId} {a : Nat → Int32} {l0 h0 m0 n0 : Int64} {A : Nat → Prop} {H0 : Heap} (hK : va_K D vwCl [(d, .int)] s) (hP : va_P D vwCl [(pA, .inr (2, [.ref hT, .int lo, .int hi, .long le, .long gr])), (hT, .inr (1, [.ref hR, .int (nI n)])), (hR, .inl (d, N, .inl a))] H) (hD : va_D A [(pA, .inr (2, [.ref hT, .int lo, .int hi, .long le, .long gr])), (hT, .inr (1, [.ref hR, .int (nI n)])), (hR, .inl (d, N, .inl a))]) (hS : va_S A H0 H locs) (hA : ∀ q : Nat, H0.size ≤ q → A q) {ls : Array Slot} (hl : lv_has ls 9 [(0, .ref pA), (1, .long l0), (3, .long h0), (5, .long m0), (7, .long n0)])
    (kk : ∀ (H : Heap) (locs : List Loc) (q : Int64 × Int64), qst l0 h0 (decide (m0 ≠ 0)) m0 (le, gr) = q → va_P D vwCl [(pA, .inr (2, [.ref hT, .int lo, .int hi, .long q.1, .long q.2])), (hT, .inr (1, [.ref hR, .int (nI n)])), (hR, .inl (d, N, .inl a))] H → va_D A [(pA, .inr (2, [.ref hT, .int lo, .int hi, .long q.1, .long q.2])), (hT, .inr (1, [.ref hR, .int (nI n)])), (hR, .inl (d, N, .inl a))] → va_S A H0 H locs → W p l e (headSpec wsX2_quotient ({ frames := 2, cells := 0, slots := 0, locals := 56 })).room s m args below meth c H locs 0 0 Q (F0 m 29 ls [])) : W p l e (headSpec wsX2_quotient ({ frames := 2, cells := 0, slots := 0, locals := 56 })).room s m args below meth c H locs 0 0 Q (F0 m 14 ls []) := by
  refine lv_lload hx hb dX2_quotient_14 (lv_at hl 3 rfl) ?_
  refine lv_lconst (v := 0) hx hb dX2_quotient_16 (by decide) ?_
  refine lc_eq (tgt := 29) hx hb dX2_quotient_17 dX2_quotient_18 (by decide) (fun c_17 => ?_) (fun c_17 => ?_)
  · exact kk H locs _ (qst_f (decide_eq_false (fun q => q c_17))) (hP.sub (ws' := [(pA, .inr (2, [.ref hT, .int lo, .int hi, .long le, .long gr])), (hT, .inr (1, [.ref hR, .int (nI n)])), (hR, .inl (d, N, .inl a))]) [0, 1, 2] rfl) (hD.sub (ws' := [(pA, .inr (2, [.ref hT, .int lo, .int hi, .long le, .long gr])), (hT, .inr (1, [.ref hR, .int (nI n)])), (hR, .inl (d, N, .inl a))]) [0, 1, 2] (by decide) rfl) hS
  · refine lv_aload_n hx hb dX2_quotient_21 rfl (lv_at hl 0 rfl) ?_
    refine lv_lload_n hx hb dX2_quotient_22 rfl (lv_at hl 1 rfl) ?_
    refine lv_lload_n hx hb dX2_quotient_23 rfl (lv_at hl 2 rfl) ?_
    refine lv_lload hx hb dX2_quotient_24 (lv_at hl 3 rfl) ?_
    refine rr_callv (wc := [(pA, .inr (2, [.ref hT, .int lo, .int hi, .long le, .long gr]))]) (wr := [(hT, .inr (1, [.ref hR, .int (nI n)])), (hR, .inl (d, N, .inl a))]) (va_runV (As := [.long l0, .long h0, .long m0]) (rest := []) ⟨hx, hb, hml, hown, hts⟩ (met_X2_divide l D pA lo hi le gr hT H.size l0 h0 m0 c_17) (cwV 3 hts (lw_V q178 q180 qs5 q18 q181) rfl rfl rfl (by decide +kernel) ⟨Nat.le_of_ble_eq_true rfl, Nat.le_of_ble_eq_true rfl⟩) ⟨rr_blind, va_recv hK hP (ci := 2) (q0 := 0) rfl rfl, rr_pre (hP.sub (ws' := [(pA, .inr (2, [.ref hT, .int lo, .int hi, .long le, .long gr]))]) [0] rfl) (hK.sub (tys' := []) [] rfl) (hD.sub (ws' := [(pA, .inr (2, [.ref hT, .int lo, .int hi, .long le, .long gr]))]) [0] (by decide) rfl)⟩ rfl rfl hl.1 rfl (lv_room (Nat.le_of_ble_eq_true rfl)) dX2_quotient_26 ⟨Nat.le_of_ble_eq_true rfl, Nat.le_of_ble_eq_true rfl⟩) hK hP hD hS hA [0] [1, 2] rfl rfl (by decide) (by decide) (fun u_23 H locs hw_22 hP hD hK hS => ?_)
    have hP : va_P D vwCl [(hT, .inr (1, [.ref hR, .int (nI n)])), (hR, .inl (d, N, .inl a)), (pA, .inr (2, [.ref hT, .int lo, .int hi, .long (mnL le (mnL (l0 / m0) (h0 / m0))), .long (mxL gr (mxL (l0 / m0) (h0 / m0)))]))] H := hP
    have hD : va_D A [(hT, .inr (1, [.ref hR, .int (nI n)])), (hR, .inl (d, N, .inl a)), (pA, .inr (2, [.ref hT, .int lo, .int hi, .long (mnL le (mnL (l0 / m0) (h0 / m0))), .long (mxL gr (mxL (l0 / m0) (h0 / m0)))]))] := hD
    have hK : va_K D vwCl [(d, .int)] s := hK.sub (tys' := [(d, .int)]) [0] rfl
    exact kk H locs _ (qst_t (decide_eq_true c_17)) (hP.sub (ws' := [(pA, .inr (2, [.ref hT, .int lo, .int hi, .long (mnL le (mnL (l0 / m0) (h0 / m0))), .long (mxL gr (mxL (l0 / m0) (h0 / m0)))])), (hT, .inr (1, [.ref hR, .int (nI n)])), (hR, .inl (d, N, .inl a))]) [2, 0, 1] rfl) (hD.sub (ws' := [(pA, .inr (2, [.ref hT, .int lo, .int hi, .long (mnL le (mnL (l0 / m0) (h0 / m0))), .long (mxL gr (mxL (l0 / m0) (h0 / m0)))])), (hT, .inr (1, [.ref hR, .int (nI n)])), (hR, .inl (d, N, .inl a))]) [2, 0, 1] (by decide) rfl) hS
set_option maxHeartbeats 4000000 in
set_option maxRecDepth 100000 in
theorem X2_quot_29 {p : Program} {l : Launch} {e : Env} {s : State} {m : MethodId} {args : Array Value} {below : List Frame} {meth : Method} {c : Code} {H : Heap} {locs : List Loc} {Q : State → Prop} (hx : p.tables.exec = Jvm.exec) (hb : c.code = cX2_quotient) (hts : ∀ w ∈ lw_all, w.before args s = true) (hown : s.vm.findClass RX2 = some m.cls) (hml : c.maxLocals = 9) {D : va_G} {pA hT hR N n : Nat} {lo hi : Int32} {le gr : Int64} {d : ClassId} {a : Nat → Int32} {l0 h0 m0 n0 : Int64} {A : Nat → Prop} {H0 : Heap} (hK : va_K D vwCl [(d, .int)] s) (hP : va_P D vwCl [(pA, .inr (2, [.ref hT, .int lo, .int hi, .long le, .long gr])), (hT, .inr (1, [.ref hR, .int (nI n)])), (hR, .inl (d, N, .inl a))] H) (hD : va_D A [(pA, .inr (2, [.ref hT, .int lo, .int hi, .long le, .long gr])), (hT, .inr (1, [.ref hR, .int (nI n)])), (hR, .inl (d, N, .inl a))]) (hS : va_S A H0 H locs) (hA : ∀ q : Nat, H0.size ≤ q → A q) {ls : Array Slot} (hl : lv_has ls 9 [(0, .ref pA), (1, .long l0), (3, .long h0), (5, .long m0), (7, .long n0)])
    (kk : ∀ (H : Heap) (locs : List Loc) (q : Int64 × Int64), qst l0 h0 (decide (n0 ≠ 0)) n0 (le, gr) = q → va_P D vwCl [(pA, .inr (2, [.ref hT, .int lo, .int hi, .long q.1, .long q.2])), (hT, .inr (1, [.ref hR, .int (nI n)])), (hR, .inl (d, N, .inl a))] H → va_D A [(pA, .inr (2, [.ref hT, .int lo, .int hi, .long q.1, .long q.2])), (hT, .inr (1, [.ref hR, .int (nI n)])), (hR, .inl (d, N, .inl a))] → va_S A H0 H locs → W p l e (headSpec wsX2_quotient ({ frames := 2, cells := 0, slots := 0, locals := 56 })).room s m args below meth c H locs 0 0 Q (F0 m 44 ls [])) : W p l e (headSpec wsX2_quotient ({ frames := 2, cells := 0, slots := 0, locals := 56 })).room s m args below meth c H locs 0 0 Q (F0 m 29 ls []) := by
  refine lv_lload hx hb dX2_quotient_29 (lv_at hl 4 rfl) ?_
  refine lv_lconst (v := 0) hx hb dX2_quotient_31 (by decide) ?_
  refine lc_eq (tgt := 44) hx hb dX2_quotient_32 dX2_quotient_33 (by decide) (fun c_32 => ?_) (fun c_32 => ?_)
  · exact kk H locs _ (qst_f (decide_eq_false (fun q => q c_32))) (hP.sub (ws' := [(pA, .inr (2, [.ref hT, .int lo, .int hi, .long le, .long gr])), (hT, .inr (1, [.ref hR, .int (nI n)])), (hR, .inl (d, N, .inl a))]) [0, 1, 2] rfl) (hD.sub (ws' := [(pA, .inr (2, [.ref hT, .int lo, .int hi, .long le, .long gr])), (hT, .inr (1, [.ref hR, .int (nI n)])), (hR, .inl (d, N, .inl a))]) [0, 1, 2] (by decide) rfl) hS
  · refine lv_aload_n hx hb dX2_quotient_36 rfl (lv_at hl 0 rfl) ?_
    refine lv_lload_n hx hb dX2_quotient_37 rfl (lv_at hl 1 rfl) ?_
    refine lv_lload_n hx hb dX2_quotient_38 rfl (lv_at hl 2 rfl) ?_
    refine lv_lload hx hb dX2_quotient_39 (lv_at hl 4 rfl) ?_
    refine rr_callv (wc := [(pA, .inr (2, [.ref hT, .int lo, .int hi, .long le, .long gr]))]) (wr := [(hT, .inr (1, [.ref hR, .int (nI n)])), (hR, .inl (d, N, .inl a))]) (va_runV (As := [.long l0, .long h0, .long n0]) (rest := []) ⟨hx, hb, hml, hown, hts⟩ (met_X2_divide l D pA lo hi le gr hT H.size l0 h0 n0 c_32) (cwV 3 hts (lw_V q178 q180 qs5 q18 q181) rfl rfl rfl (by decide +kernel) ⟨Nat.le_of_ble_eq_true rfl, Nat.le_of_ble_eq_true rfl⟩) ⟨rr_blind, va_recv hK hP (ci := 2) (q0 := 0) rfl rfl, rr_pre (hP.sub (ws' := [(pA, .inr (2, [.ref hT, .int lo, .int hi, .long le, .long gr]))]) [0] rfl) (hK.sub (tys' := []) [] rfl) (hD.sub (ws' := [(pA, .inr (2, [.ref hT, .int lo, .int hi, .long le, .long gr]))]) [0] (by decide) rfl)⟩ rfl rfl hl.1 rfl (lv_room (Nat.le_of_ble_eq_true rfl)) dX2_quotient_41 ⟨Nat.le_of_ble_eq_true rfl, Nat.le_of_ble_eq_true rfl⟩) hK hP hD hS hA [0] [1, 2] rfl rfl (by decide) (by decide) (fun u_25 H locs hw_24 hP hD hK hS => ?_)
    have hP : va_P D vwCl [(hT, .inr (1, [.ref hR, .int (nI n)])), (hR, .inl (d, N, .inl a)), (pA, .inr (2, [.ref hT, .int lo, .int hi, .long (mnL le (mnL (l0 / n0) (h0 / n0))), .long (mxL gr (mxL (l0 / n0) (h0 / n0)))]))] H := hP
    have hD : va_D A [(hT, .inr (1, [.ref hR, .int (nI n)])), (hR, .inl (d, N, .inl a)), (pA, .inr (2, [.ref hT, .int lo, .int hi, .long (mnL le (mnL (l0 / n0) (h0 / n0))), .long (mxL gr (mxL (l0 / n0) (h0 / n0)))]))] := hD
    have hK : va_K D vwCl [(d, .int)] s := hK.sub (tys' := [(d, .int)]) [0] rfl
    exact kk H locs _ (qst_t (decide_eq_true c_32)) (hP.sub (ws' := [(pA, .inr (2, [.ref hT, .int lo, .int hi, .long (mnL le (mnL (l0 / n0) (h0 / n0))), .long (mxL gr (mxL (l0 / n0) (h0 / n0)))])), (hT, .inr (1, [.ref hR, .int (nI n)])), (hR, .inl (d, N, .inl a))]) [2, 0, 1] rfl) (hD.sub (ws' := [(pA, .inr (2, [.ref hT, .int lo, .int hi, .long (mnL le (mnL (l0 / n0) (h0 / n0))), .long (mxL gr (mxL (l0 / n0) (h0 / n0)))])), (hT, .inr (1, [.ref hR, .int (nI n)])), (hR, .inl (d, N, .inl a))]) [2, 0, 1] (by decide) rfl) hS
set_option maxHeartbeats 4000000 in
set_option maxRecDepth 100000 in
theorem X2_quot_44 {p : Program} {l : Launch} {e : Env} {s : State} {m : MethodId} {args : Array Value} {below : List Frame} {meth : Method} {c : Code} {H : Heap} {locs : List Loc} {Q : State → Prop} (hx : p.tables.exec = Jvm.exec) (hb : c.code = cX2_quotient) (hts : ∀ w ∈ lw_all, w.before args s = true) (hown : s.vm.findClass RX2 = some m.cls) (hml : c.maxLocals = 9) {D : va_G} {pA hT hR N n : Nat} {lo hi : Int32} {le gr : Int64} {d : ClassId} {a : Nat → Int32} {l0 h0 m0 n0 : Int64} {A : Nat → Prop} {H0 : Heap} (hK : va_K D vwCl [(d, .int)] s) (hP : va_P D vwCl [(pA, .inr (2, [.ref hT, .int lo, .int hi, .long le, .long gr])), (hT, .inr (1, [.ref hR, .int (nI n)])), (hR, .inl (d, N, .inl a))] H) (hD : va_D A [(pA, .inr (2, [.ref hT, .int lo, .int hi, .long le, .long gr])), (hT, .inr (1, [.ref hR, .int (nI n)])), (hR, .inl (d, N, .inl a))]) (hS : va_S A H0 H locs) (hA : ∀ q : Nat, H0.size ≤ q → A q) {ls : Array Slot} (hl : lv_has ls 9 [(0, .ref pA), (1, .long l0), (3, .long h0), (5, .long m0), (7, .long n0)])
    (kk : ∀ (H : Heap) (locs : List Loc) (q : Int64 × Int64), qst l0 h0 (decide (m0 ≤ -1 ∧ -1 ≤ n0)) (-1) (le, gr) = q → va_P D vwCl [(pA, .inr (2, [.ref hT, .int lo, .int hi, .long q.1, .long q.2])), (hT, .inr (1, [.ref hR, .int (nI n)])), (hR, .inl (d, N, .inl a))] H → va_D A [(pA, .inr (2, [.ref hT, .int lo, .int hi, .long q.1, .long q.2])), (hT, .inr (1, [.ref hR, .int (nI n)])), (hR, .inl (d, N, .inl a))] → va_S A H0 H locs → W p l e (headSpec wsX2_quotient ({ frames := 2, cells := 0, slots := 0, locals := 56 })).room s m args below meth c H locs 0 0 Q (F0 m 71 ls [])) : W p l e (headSpec wsX2_quotient ({ frames := 2, cells := 0, slots := 0, locals := 56 })).room s m args below meth c H locs 0 0 Q (F0 m 44 ls []) := by
  refine lv_lload hx hb dX2_quotient_44 (lv_at hl 3 rfl) ?_
  refine lv_ldc2 (v := (-1)) hx hb hown (hts _ q182) dX2_quotient_46 ?_
  refine lc_gt (tgt := 71) hx hb dX2_quotient_49 dX2_quotient_50 (by decide) (fun c_49 => ?_) (fun c_49 => ?_)
  · exact kk H locs _ (qst_f (decide_eq_false (fun q => by have q1 := Int64.le_iff_toInt_le.mp q.1; rw [Int64.lt_iff_toInt_lt] at c_49; omega))) (hP.sub (ws' := [(pA, .inr (2, [.ref hT, .int lo, .int hi, .long le, .long gr])), (hT, .inr (1, [.ref hR, .int (nI n)])), (hR, .inl (d, N, .inl a))]) [0, 1, 2] rfl) (hD.sub (ws' := [(pA, .inr (2, [.ref hT, .int lo, .int hi, .long le, .long gr])), (hT, .inr (1, [.ref hR, .int (nI n)])), (hR, .inl (d, N, .inl a))]) [0, 1, 2] (by decide) rfl) hS
  · refine lv_lload hx hb dX2_quotient_53 (lv_at hl 4 rfl) ?_
    refine lv_ldc2 (v := (-1)) hx hb hown (hts _ q182) dX2_quotient_55 ?_
    refine lc_lt (tgt := 71) hx hb dX2_quotient_58 dX2_quotient_59 (by decide) (fun c_58 => ?_) (fun c_58 => ?_)
    · exact kk H locs _ (qst_f (decide_eq_false (fun q => by have q1 := Int64.le_iff_toInt_le.mp q.2; rw [Int64.lt_iff_toInt_lt] at c_58; omega))) (hP.sub (ws' := [(pA, .inr (2, [.ref hT, .int lo, .int hi, .long le, .long gr])), (hT, .inr (1, [.ref hR, .int (nI n)])), (hR, .inl (d, N, .inl a))]) [0, 1, 2] rfl) (hD.sub (ws' := [(pA, .inr (2, [.ref hT, .int lo, .int hi, .long le, .long gr])), (hT, .inr (1, [.ref hR, .int (nI n)])), (hR, .inl (d, N, .inl a))]) [0, 1, 2] (by decide) rfl) hS
    · refine lv_aload_n hx hb dX2_quotient_62 rfl (lv_at hl 0 rfl) ?_
      refine lv_lload_n hx hb dX2_quotient_63 rfl (lv_at hl 1 rfl) ?_
      refine lv_lload_n hx hb dX2_quotient_64 rfl (lv_at hl 2 rfl) ?_
      refine lv_ldc2 (v := (-1)) hx hb hown (hts _ q182) dX2_quotient_65 ?_
      refine rr_callv (wc := [(pA, .inr (2, [.ref hT, .int lo, .int hi, .long le, .long gr]))]) (wr := [(hT, .inr (1, [.ref hR, .int (nI n)])), (hR, .inl (d, N, .inl a))]) (va_runV (As := [.long l0, .long h0, .long (-1)]) (rest := []) ⟨hx, hb, hml, hown, hts⟩ (met_X2_divide l D pA lo hi le gr hT H.size l0 h0 (-1) (by decide)) (cwV 3 hts (lw_V q178 q180 qs5 q18 q181) rfl rfl rfl (by decide +kernel) ⟨Nat.le_of_ble_eq_true rfl, Nat.le_of_ble_eq_true rfl⟩) ⟨rr_blind, va_recv hK hP (ci := 2) (q0 := 0) rfl rfl, rr_pre (hP.sub (ws' := [(pA, .inr (2, [.ref hT, .int lo, .int hi, .long le, .long gr]))]) [0] rfl) (hK.sub (tys' := []) [] rfl) (hD.sub (ws' := [(pA, .inr (2, [.ref hT, .int lo, .int hi, .long le, .long gr]))]) [0] (by decide) rfl)⟩ rfl rfl hl.1 rfl (lv_room (Nat.le_of_ble_eq_true rfl)) dX2_quotient_68 ⟨Nat.le_of_ble_eq_true rfl, Nat.le_of_ble_eq_true rfl⟩) hK hP hD hS hA [0] [1, 2] rfl rfl (by decide) (by decide) (fun u_27 H locs hw_26 hP hD hK hS => ?_)
      have hP : va_P D vwCl [(hT, .inr (1, [.ref hR, .int (nI n)])), (hR, .inl (d, N, .inl a)), (pA, .inr (2, [.ref hT, .int lo, .int hi, .long (mnL le (mnL (l0 / (-1)) (h0 / (-1)))), .long (mxL gr (mxL (l0 / (-1)) (h0 / (-1))))]))] H := hP
      have hD : va_D A [(hT, .inr (1, [.ref hR, .int (nI n)])), (hR, .inl (d, N, .inl a)), (pA, .inr (2, [.ref hT, .int lo, .int hi, .long (mnL le (mnL (l0 / (-1)) (h0 / (-1)))), .long (mxL gr (mxL (l0 / (-1)) (h0 / (-1))))]))] := hD
      have hK : va_K D vwCl [(d, .int)] s := hK.sub (tys' := [(d, .int)]) [0] rfl
      exact kk H locs _ (qst_t (decide_eq_true ⟨Int64.le_iff_toInt_le.mpr (by rw [Int64.lt_iff_toInt_lt] at c_49; omega), Int64.le_iff_toInt_le.mpr (by rw [Int64.lt_iff_toInt_lt] at c_58; omega)⟩)) (hP.sub (ws' := [(pA, .inr (2, [.ref hT, .int lo, .int hi, .long (mnL le (mnL (l0 / (-1)) (h0 / (-1)))), .long (mxL gr (mxL (l0 / (-1)) (h0 / (-1))))])), (hT, .inr (1, [.ref hR, .int (nI n)])), (hR, .inl (d, N, .inl a))]) [2, 0, 1] rfl) (hD.sub (ws' := [(pA, .inr (2, [.ref hT, .int lo, .int hi, .long (mnL le (mnL (l0 / (-1)) (h0 / (-1)))), .long (mxL gr (mxL (l0 / (-1)) (h0 / (-1))))])), (hT, .inr (1, [.ref hR, .int (nI n)])), (hR, .inl (d, N, .inl a))]) [2, 0, 1] (by decide) rfl) hS
set_option maxHeartbeats 4000000 in
set_option maxRecDepth 100000 in
theorem X2_quot_71 {p : Program} {l : Launch} {e : Env} {s : State} {m : MethodId} {args : Array Value} {below : List Frame} {meth : Method} {c : Code} {H : Heap} {locs : List Loc} {Q : State → Prop} (hx : p.tables.exec = Jvm.exec) (hb : c.code = cX2_quotient) (hts : ∀ w ∈ lw_all, w.before args s = true) (hown : s.vm.findClass RX2 = some m.cls) (hml : c.maxLocals = 9) {D : va_G} {pA hT hR N n : Nat} {lo hi : Int32} {le gr : Int64} {d : ClassId} {a : Nat → Int32} {l0 h0 m0 n0 : Int64} {A : Nat → Prop} {H0 : Heap} (hK : va_K D vwCl [(d, .int)] s) (hP : va_P D vwCl [(pA, .inr (2, [.ref hT, .int lo, .int hi, .long le, .long gr])), (hT, .inr (1, [.ref hR, .int (nI n)])), (hR, .inl (d, N, .inl a))] H) (hD : va_D A [(pA, .inr (2, [.ref hT, .int lo, .int hi, .long le, .long gr])), (hT, .inr (1, [.ref hR, .int (nI n)])), (hR, .inl (d, N, .inl a))]) (hS : va_S A H0 H locs) (hA : ∀ q : Nat, H0.size ≤ q → A q) {ls : Array Slot} (hl : lv_has ls 9 [(0, .ref pA), (1, .long l0), (3, .long h0), (5, .long m0), (7, .long n0)])
    (kk : ∀ (H : Heap) (locs : List Loc) (q : Int64 × Int64), qst l0 h0 (decide (m0 ≤ 1 ∧ 1 ≤ n0)) 1 (le, gr) = q → va_P D vwCl [(pA, .inr (2, [.ref hT, .int lo, .int hi, .long q.1, .long q.2])), (hT, .inr (1, [.ref hR, .int (nI n)])), (hR, .inl (d, N, .inl a))] H → va_D A [(pA, .inr (2, [.ref hT, .int lo, .int hi, .long q.1, .long q.2])), (hT, .inr (1, [.ref hR, .int (nI n)])), (hR, .inl (d, N, .inl a))] → va_S A H0 H locs → W p l e (headSpec wsX2_quotient ({ frames := 2, cells := 0, slots := 0, locals := 56 })).room s m args below meth c H locs 0 0 Q (F0 m 92 ls [])) : W p l e (headSpec wsX2_quotient ({ frames := 2, cells := 0, slots := 0, locals := 56 })).room s m args below meth c H locs 0 0 Q (F0 m 71 ls []) := by
  refine lv_lload hx hb dX2_quotient_71 (lv_at hl 3 rfl) ?_
  refine lv_lconst (v := 1) hx hb dX2_quotient_73 (by decide) ?_
  refine lc_gt (tgt := 92) hx hb dX2_quotient_74 dX2_quotient_75 (by decide) (fun c_74 => ?_) (fun c_74 => ?_)
  · exact kk H locs _ (qst_f (decide_eq_false (fun q => by have q1 := Int64.le_iff_toInt_le.mp q.1; rw [Int64.lt_iff_toInt_lt] at c_74; omega))) (hP.sub (ws' := [(pA, .inr (2, [.ref hT, .int lo, .int hi, .long le, .long gr])), (hT, .inr (1, [.ref hR, .int (nI n)])), (hR, .inl (d, N, .inl a))]) [0, 1, 2] rfl) (hD.sub (ws' := [(pA, .inr (2, [.ref hT, .int lo, .int hi, .long le, .long gr])), (hT, .inr (1, [.ref hR, .int (nI n)])), (hR, .inl (d, N, .inl a))]) [0, 1, 2] (by decide) rfl) hS
  · refine lv_lload hx hb dX2_quotient_78 (lv_at hl 4 rfl) ?_
    refine lv_lconst (v := 1) hx hb dX2_quotient_80 (by decide) ?_
    refine lc_lt (tgt := 92) hx hb dX2_quotient_81 dX2_quotient_82 (by decide) (fun c_81 => ?_) (fun c_81 => ?_)
    · exact kk H locs _ (qst_f (decide_eq_false (fun q => by have q1 := Int64.le_iff_toInt_le.mp q.2; rw [Int64.lt_iff_toInt_lt] at c_81; omega))) (hP.sub (ws' := [(pA, .inr (2, [.ref hT, .int lo, .int hi, .long le, .long gr])), (hT, .inr (1, [.ref hR, .int (nI n)])), (hR, .inl (d, N, .inl a))]) [0, 1, 2] rfl) (hD.sub (ws' := [(pA, .inr (2, [.ref hT, .int lo, .int hi, .long le, .long gr])), (hT, .inr (1, [.ref hR, .int (nI n)])), (hR, .inl (d, N, .inl a))]) [0, 1, 2] (by decide) rfl) hS
    · refine lv_aload_n hx hb dX2_quotient_85 rfl (lv_at hl 0 rfl) ?_
      refine lv_lload_n hx hb dX2_quotient_86 rfl (lv_at hl 1 rfl) ?_
      refine lv_lload_n hx hb dX2_quotient_87 rfl (lv_at hl 2 rfl) ?_
      refine lv_lconst (v := 1) hx hb dX2_quotient_88 (by decide) ?_
      refine rr_callv (wc := [(pA, .inr (2, [.ref hT, .int lo, .int hi, .long le, .long gr]))]) (wr := [(hT, .inr (1, [.ref hR, .int (nI n)])), (hR, .inl (d, N, .inl a))]) (va_runV (As := [.long l0, .long h0, .long 1]) (rest := []) ⟨hx, hb, hml, hown, hts⟩ (met_X2_divide l D pA lo hi le gr hT H.size l0 h0 1 (by decide)) (cwV 3 hts (lw_V q178 q180 qs5 q18 q181) rfl rfl rfl (by decide +kernel) ⟨Nat.le_of_ble_eq_true rfl, Nat.le_of_ble_eq_true rfl⟩) ⟨rr_blind, va_recv hK hP (ci := 2) (q0 := 0) rfl rfl, rr_pre (hP.sub (ws' := [(pA, .inr (2, [.ref hT, .int lo, .int hi, .long le, .long gr]))]) [0] rfl) (hK.sub (tys' := []) [] rfl) (hD.sub (ws' := [(pA, .inr (2, [.ref hT, .int lo, .int hi, .long le, .long gr]))]) [0] (by decide) rfl)⟩ rfl rfl hl.1 rfl (lv_room (Nat.le_of_ble_eq_true rfl)) dX2_quotient_89 ⟨Nat.le_of_ble_eq_true rfl, Nat.le_of_ble_eq_true rfl⟩) hK hP hD hS hA [0] [1, 2] rfl rfl (by decide) (by decide) (fun u_29 H locs hw_28 hP hD hK hS => ?_)
      have hP : va_P D vwCl [(hT, .inr (1, [.ref hR, .int (nI n)])), (hR, .inl (d, N, .inl a)), (pA, .inr (2, [.ref hT, .int lo, .int hi, .long (mnL le (mnL (l0 / 1) (h0 / 1))), .long (mxL gr (mxL (l0 / 1) (h0 / 1)))]))] H := hP
      have hD : va_D A [(hT, .inr (1, [.ref hR, .int (nI n)])), (hR, .inl (d, N, .inl a)), (pA, .inr (2, [.ref hT, .int lo, .int hi, .long (mnL le (mnL (l0 / 1) (h0 / 1))), .long (mxL gr (mxL (l0 / 1) (h0 / 1)))]))] := hD
      have hK : va_K D vwCl [(d, .int)] s := hK.sub (tys' := [(d, .int)]) [0] rfl
      exact kk H locs _ (qst_t (decide_eq_true ⟨Int64.le_iff_toInt_le.mpr (by rw [Int64.lt_iff_toInt_lt] at c_74; omega), Int64.le_iff_toInt_le.mpr (by rw [Int64.lt_iff_toInt_lt] at c_81; omega)⟩)) (hP.sub (ws' := [(pA, .inr (2, [.ref hT, .int lo, .int hi, .long (mnL le (mnL (l0 / 1) (h0 / 1))), .long (mxL gr (mxL (l0 / 1) (h0 / 1)))])), (hT, .inr (1, [.ref hR, .int (nI n)])), (hR, .inl (d, N, .inl a))]) [2, 0, 1] rfl) (hD.sub (ws' := [(pA, .inr (2, [.ref hT, .int lo, .int hi, .long (mnL le (mnL (l0 / 1) (h0 / 1))), .long (mxL gr (mxL (l0 / 1) (h0 / 1)))])), (hT, .inr (1, [.ref hR, .int (nI n)])), (hR, .inl (d, N, .inl a))]) [2, 0, 1] (by decide) rfl) hS
set_option maxHeartbeats 4000000 in
set_option maxRecDepth 100000 in
theorem met_X2_quotient (l : Launch) (D : va_G) (pA : Nat) (lo hi : Int32) (le gr : Int64) (hT hR : Nat) (d : ClassId) (N n : Nat) (a : Nat → Int32) (sz : Nat) (l0 h0 m0 n0 : Int64) {S : Int32 → Bool} (hok : T_ok S n a) (hnN : n ≤ N) (hN : N ≤ 512) (hmi : S (-2147483648) = true) (hma : S 2147483647 = true) : rr_CV l D yX2_quotient wsX2_quotient ({ frames := 2, cells := 0, slots := 0, locals := 56 }) [.ref pA, .long l0, .long h0, .long m0, .long n0] [(d, .int)] [(pA, .inr (2, [.ref hT, .int lo, .int hi, .long le, .long gr])), (hT, .inr (1, [.ref hR, .int (nI n)])), (hR, .inl (d, N, .inl a))] sz (fun u : Int32 × Int32 × Int64 × Int64 => PutR S (sysQ l0 h0 m0 n0).1 (sysQ l0 h0 m0 n0).2 u.1 u.2.1) (fun _ => [(d, .int)]) (fun u => [(pA, .inr (2, [.ref hT, .int u.1, .int u.2.1, .long u.2.2.1, .long u.2.2.2])), (hT, .inr (1, [.ref hR, .int (nI n)])), (hR, .inl (d, N, .inl a))]) 0 0 := by
  refine Met.ofW (cc := cX2_quotient) (maxL := 9) (ret := none) (by decide) rfl ?_
  intro p e s m args below meth c s₁ B hml hv
  obtain ⟨rfl, hsz, hP, hK, hD0⟩ := hv
  have hx := B.exec
  have hb := B.bytes
  have hr := B.returns
  have hts := atoms_spec (ws := wsX2_quotient) B.pre
  have hts : ∀ w ∈ lw_all, w.before _ s = true := fun w h => hts w (List.mem_cons_of_mem _ h)
  have hown : s.vm.findClass RX2 = some m.cls := findClass_of_methodNamed B.named
  have hlocks := B.notSynchronized
  subst hsz
  have hD := hD0.self (sz := s.heap.size)
  generalize hAe : va_A [(pA, .inr (2, [.ref hT, .int lo, .int hi, .long le, .long gr])), (hT, .inr (1, [.ref hR, .int (nI n)])), (hR, .inl (d, N, .inl a))] s.heap.size = A at hD ⊢
  have hA : ∀ q : Nat, s.heap.size ≤ q → A q := fun q h => by rw [← hAe]; exact Or.inr h
  have hS : va_S A s.heap s.heap [] := va_S.rf
  have hP : va_P D vwCl [(pA, .inr (2, [.ref hT, .int lo, .int hi, .long le, .long gr])), (hT, .inr (1, [.ref hR, .int (nI n)])), (hR, .inl (d, N, .inl a))] s.heap := hP
  have hK : va_K D vwCl [(d, .int)] s := hK
  have hl := lv_entry ([.ref pA, .long l0, .long h0, .long m0, .long n0]) (n := 9) (Nat.le_of_ble_eq_true rfl)
  rw [lg_entry_eq]
  generalize (lg_sl ([.ref pA, .long l0, .long h0, .long m0, .long n0]) ++ List.replicate (9 - (lg_sl ([.ref pA, .long l0, .long h0, .long m0, .long n0])).length) Slot.unset).toArray = ls at hl ⊢
  have hl : lv_has ls 9 [(0, .ref pA), (1, .long l0), (3, .long h0), (5, .long m0), (7, .long n0)] := hl
  refine lv_aload_n hx hb dX2_quotient_0 rfl (lv_at hl 0 rfl) ?_
  refine lv_ldc2 (v := 9223372036854775807) hx hb hown (hts _ q176) dX2_quotient_1 ?_
  refine va_put (D := D) (ci := 2) (v := .long 9223372036854775807) (ty := .long) (C := RX2) (T := TX2) (N := 5) hx hb hts in_X2 tyX2 tyX2_ok nmX2 hown hK hP hD hS 0 rfl rfl 3 (by decide) (hts _ q57) (fun _ h9 => h9) rfl (by decide +kernel) rfl rfl (Nat.le_of_ble_eq_true rfl) dX2_quotient_4 (fun H locs hP hD hS => ?_)
  have hP : va_P D vwCl [(pA, .inr (2, [.ref hT, .int lo, .int hi, .long 9223372036854775807, .long gr])), (hT, .inr (1, [.ref hR, .int (nI n)])), (hR, .inl (d, N, .inl a))] H := hP
  have hD : va_D A [(pA, .inr (2, [.ref hT, .int lo, .int hi, .long 9223372036854775807, .long gr])), (hT, .inr (1, [.ref hR, .int (nI n)])), (hR, .inl (d, N, .inl a))] := hD
  refine lv_aload_n hx hb dX2_quotient_7 rfl (lv_at hl 0 rfl) ?_
  refine lv_ldc2 (v := (-9223372036854775808)) hx hb hown (hts _ q177) dX2_quotient_8 ?_
  refine va_put (D := D) (ci := 2) (v := .long (-9223372036854775808)) (ty := .long) (C := RX2) (T := TX2) (N := 5) hx hb hts in_X2 tyX2 tyX2_ok nmX2 hown hK hP hD hS 0 rfl rfl 4 (by decide) (hts _ q58) (fun _ h9 => h9) rfl (by decide +kernel) rfl rfl (Nat.le_of_ble_eq_true rfl) dX2_quotient_11 (fun H locs hP hD hS => ?_)
  have hP : va_P D vwCl [(pA, .inr (2, [.ref hT, .int lo, .int hi, .long 9223372036854775807, .long (-9223372036854775808)])), (hT, .inr (1, [.ref hR, .int (nI n)])), (hR, .inl (d, N, .inl a))] H := hP
  have hD : va_D A [(pA, .inr (2, [.ref hT, .int lo, .int hi, .long 9223372036854775807, .long (-9223372036854775808)])), (hT, .inr (1, [.ref hR, .int (nI n)])), (hR, .inl (d, N, .inl a))] := hD
  refine X2_quot_14 hx hb hts hown hml hK (hP.sub (ws' := [(pA, .inr (2, [.ref hT, .int lo, .int hi, .long 9223372036854775807, .long (-9223372036854775808)])), (hT, .inr (1, [.ref hR, .int (nI n)])), (hR, .inl (d, N, .inl a))]) [0, 1, 2] rfl) (hD.sub (ws' := [(pA, .inr (2, [.ref hT, .int lo, .int hi, .long 9223372036854775807, .long (-9223372036854775808)])), (hT, .inr (1, [.ref hR, .int (nI n)])), (hR, .inl (d, N, .inl a))]) [0, 1, 2] (by decide) rfl) hS hA hl (fun H locs q1 e1 hP hD hS => ?_)
  refine X2_quot_29 hx hb hts hown hml hK (hP.sub (ws' := [(pA, .inr (2, [.ref hT, .int lo, .int hi, .long q1.1, .long q1.2])), (hT, .inr (1, [.ref hR, .int (nI n)])), (hR, .inl (d, N, .inl a))]) [0, 1, 2] rfl) (hD.sub (ws' := [(pA, .inr (2, [.ref hT, .int lo, .int hi, .long q1.1, .long q1.2])), (hT, .inr (1, [.ref hR, .int (nI n)])), (hR, .inl (d, N, .inl a))]) [0, 1, 2] (by decide) rfl) hS hA hl (fun H locs q2 e2 hP hD hS => ?_)
  refine X2_quot_44 hx hb hts hown hml hK (hP.sub (ws' := [(pA, .inr (2, [.ref hT, .int lo, .int hi, .long q2.1, .long q2.2])), (hT, .inr (1, [.ref hR, .int (nI n)])), (hR, .inl (d, N, .inl a))]) [0, 1, 2] rfl) (hD.sub (ws' := [(pA, .inr (2, [.ref hT, .int lo, .int hi, .long q2.1, .long q2.2])), (hT, .inr (1, [.ref hR, .int (nI n)])), (hR, .inl (d, N, .inl a))]) [0, 1, 2] (by decide) rfl) hS hA hl (fun H locs q3 e3 hP hD hS => ?_)
  refine X2_quot_71 hx hb hts hown hml hK (hP.sub (ws' := [(pA, .inr (2, [.ref hT, .int lo, .int hi, .long q3.1, .long q3.2])), (hT, .inr (1, [.ref hR, .int (nI n)])), (hR, .inl (d, N, .inl a))]) [0, 1, 2] rfl) (hD.sub (ws' := [(pA, .inr (2, [.ref hT, .int lo, .int hi, .long q3.1, .long q3.2])), (hT, .inr (1, [.ref hR, .int (nI n)])), (hR, .inl (d, N, .inl a))]) [0, 1, 2] (by decide) rfl) hS hA hl (fun H locs q4 e4 hP hD hS => ?_)
  refine lv_aload_n hx hb dX2_quotient_92 rfl (lv_at hl 0 rfl) ?_
  refine lv_aload_n hx hb dX2_quotient_93 rfl (lv_at hl 0 rfl) ?_
  refine va_get (D := D) (ci := 2) (v := .long q4.1) (C := RX2) (T := TX2) (N := 5) hx hb hts in_X2 hown hK hP 0 rfl rfl 3 (by decide) (hts _ q57) (fun _ h9 => h9) rfl dX2_quotient_94 ?_
  refine lv_aload_n hx hb dX2_quotient_97 rfl (lv_at hl 0 rfl) ?_
  refine va_get (D := D) (ci := 2) (v := .long q4.2) (C := RX2) (T := TX2) (N := 5) hx hb hts in_X2 hown hK hP 0 rfl rfl 4 (by decide) (hts _ q58) (fun _ h9 => h9) rfl dX2_quotient_98 ?_
  refine rr_callv (wc := [(pA, .inr (2, [.ref hT, .int lo, .int hi, .long q4.1, .long q4.2])), (hT, .inr (1, [.ref hR, .int (nI n)])), (hR, .inl (d, N, .inl a))]) (wr := []) (va_runV (As := [.long q4.1, .long q4.2]) (rest := []) ⟨hx, hb, hml, hown, hts⟩ (met_X2_put l D pA lo hi q4.1 q4.2 hT hR d N n a H.size q4.1 q4.2 hok hnN hN hmi hma) (cwV 2 hts (lw_V q152 q154 qs2 q18 q155) rfl rfl rfl (by decide +kernel) ⟨Nat.le_of_ble_eq_true rfl, Nat.le_of_ble_eq_true rfl⟩) ⟨rr_blind, va_recv hK hP (ci := 2) (q0 := 0) rfl rfl, rr_pre (hP.sub (ws' := [(pA, .inr (2, [.ref hT, .int lo, .int hi, .long q4.1, .long q4.2])), (hT, .inr (1, [.ref hR, .int (nI n)])), (hR, .inl (d, N, .inl a))]) [0, 1, 2] rfl) (hK.sub (tys' := [(d, .int)]) [0] rfl) (hD.sub (ws' := [(pA, .inr (2, [.ref hT, .int lo, .int hi, .long q4.1, .long q4.2])), (hT, .inr (1, [.ref hR, .int (nI n)])), (hR, .inl (d, N, .inl a))]) [0, 1, 2] (by decide) rfl)⟩ rfl rfl hl.1 rfl (lv_room (Nat.le_of_ble_eq_true rfl)) dX2_quotient_101 ⟨Nat.le_of_ble_eq_true rfl, Nat.le_of_ble_eq_true rfl⟩) hK hP hD hS hA [0, 1, 2] [] rfl rfl (by decide) (by decide) (fun u_31 H locs hw_30 hP hD hK hS => ?_)
  obtain ⟨lo_30, hi_30⟩ := u_31
  have hP : va_P D vwCl [(pA, .inr (2, [.ref hT, .int lo_30, .int hi_30, .long q4.1, .long q4.2])), (hT, .inr (1, [.ref hR, .int (nI n)])), (hR, .inl (d, N, .inl a))] H := hP
  have hD : va_D A [(pA, .inr (2, [.ref hT, .int lo_30, .int hi_30, .long q4.1, .long q4.2])), (hT, .inr (1, [.ref hR, .int (nI n)])), (hR, .inl (d, N, .inl a))] := hD
  have hK : va_K D vwCl [(d, .int)] s := hK.sub (tys' := [(d, .int)]) [0] rfl
  have eq : sysQ l0 h0 m0 n0 = q4 := by unfold sysQ; rw [show q00 = (9223372036854775807, -9223372036854775808) from rfl, e1, e2, e3, e4]
  exact W.vret hx hb hr (rr_endv (lo_30, hi_30, q4.1, q4.2) (by rw [eq]; exact hw_30) hP hK hD hS) hS.2.2 dX2_quotient_104
abbrev wsX2_rest : List Cond := ws_ yX2_rest cX2_rest 7 none
set_option maxHeartbeats 4000000 in
set_option maxRecDepth 100000 in
theorem met_X2_rest (l : Launch) (D : va_G) (pA : Nat) (lo hi : Int32) (le gr : Int64) (hT hR : Nat) (d : ClassId) (N n : Nat) (a : Nat → Int32) (sz : Nat) (l0 h0 mo : Int64) {S : Int32 → Bool} (hok : T_ok S n a) (hnN : n ≤ N) (hN : N ≤ 512) (hmi : S (-2147483648) = true) (hma : S 2147483647 = true) : rr_CV l D yX2_rest wsX2_rest ({ frames := 2, cells := 0, slots := 0, locals := 50 }) [.ref pA, .long l0, .long h0, .long mo] [(d, .int)] [(pA, .inr (2, [.ref hT, .int lo, .int hi, .long le, .long gr])), (hT, .inr (1, [.ref hR, .int (nI n)])), (hR, .inl (d, N, .inl a))] sz (fun u : Int32 × Int32 => PutR S (rsLo l0 mo) (rsHi l0 h0 mo) u.1 u.2) (fun _ => [(d, .int)]) (fun u => [(pA, .inr (2, [.ref hT, .int u.1, .int u.2, .long le, .long gr])), (hT, .inr (1, [.ref hR, .int (nI n)])), (hR, .inl (d, N, .inl a))]) 0 0 := by
  refine Met.ofW (cc := cX2_rest) (maxL := 7) (ret := none) (by decide) rfl ?_
  intro p e s m args below meth c s₁ B hml hv
  obtain ⟨rfl, hsz, hP, hK, hD0⟩ := hv
  have hx := B.exec
  have hb := B.bytes
  have hr := B.returns
  have hts := atoms_spec (ws := wsX2_rest) B.pre
  have hts : ∀ w ∈ lw_all, w.before _ s = true := fun w h => hts w (List.mem_cons_of_mem _ h)
  have hown : s.vm.findClass RX2 = some m.cls := findClass_of_methodNamed B.named
  have hlocks := B.notSynchronized
  subst hsz
  have hD := hD0.self (sz := s.heap.size)
  generalize hAe : va_A [(pA, .inr (2, [.ref hT, .int lo, .int hi, .long le, .long gr])), (hT, .inr (1, [.ref hR, .int (nI n)])), (hR, .inl (d, N, .inl a))] s.heap.size = A at hD ⊢
  have hA : ∀ q : Nat, s.heap.size ≤ q → A q := fun q h => by rw [← hAe]; exact Or.inr h
  have hS : va_S A s.heap s.heap [] := va_S.rf
  have hP : va_P D vwCl [(pA, .inr (2, [.ref hT, .int lo, .int hi, .long le, .long gr])), (hT, .inr (1, [.ref hR, .int (nI n)])), (hR, .inl (d, N, .inl a))] s.heap := hP
  have hK : va_K D vwCl [(d, .int)] s := hK
  have hl := lv_entry ([.ref pA, .long l0, .long h0, .long mo]) (n := 7) (Nat.le_of_ble_eq_true rfl)
  rw [lg_entry_eq]
  generalize (lg_sl ([.ref pA, .long l0, .long h0, .long mo]) ++ List.replicate (7 - (lg_sl ([.ref pA, .long l0, .long h0, .long mo])).length) Slot.unset).toArray = ls at hl ⊢
  have hl : lv_has ls 7 [(0, .ref pA), (1, .long l0), (3, .long h0), (5, .long mo)] := hl
  refine lv_lload_n hx hb dX2_rest_0 rfl (lv_at hl 1 rfl) ?_
  refine lv_lconst (v := 0) hx hb dX2_rest_1 (by decide) ?_
  refine lc_lt (tgt := 20) hx hb dX2_rest_2 dX2_rest_3 (by decide) (fun c_2 => ?_) (fun c_2 => ?_)
  · refine lv_aload_n hx hb dX2_rest_20 rfl (lv_at hl 0 rfl) ?_
    refine lv_lload_n hx hb dX2_rest_21 rfl (lv_at hl 1 rfl) ?_
    refine lv_lload hx hb dX2_rest_22 (lv_at hl 3 rfl) ?_
    refine lv_lneg hx hb dX2_rest_24 ?_
    refine rr_maxL hx hb hml hl.1 hown hts q169 (Nat.le_of_ble_eq_true rfl) (Nat.le_of_ble_eq_true rfl) (Nat.le_of_ble_eq_true rfl) (Nat.le_of_ble_eq_true rfl) dX2_rest_25 ?_
    refine lv_lload_n hx hb dX2_rest_28 rfl (lv_at hl 2 rfl) ?_
    refine lv_lconst (v := 0) hx hb dX2_rest_29 (by decide) ?_
    refine lc_gt (tgt := 38) hx hb dX2_rest_30 dX2_rest_31 (by decide) (fun c_30 => ?_) (fun c_30 => ?_)
    · refine lv_lload_n hx hb dX2_rest_38 rfl (lv_at hl 2 rfl) ?_
      refine lv_lload hx hb dX2_rest_39 (lv_at hl 3 rfl) ?_
      refine rr_minL hx hb hml hl.1 hown hts q166 (Nat.le_of_ble_eq_true rfl) (Nat.le_of_ble_eq_true rfl) (Nat.le_of_ble_eq_true rfl) (Nat.le_of_ble_eq_true rfl) dX2_rest_41 ?_
      refine rr_callv (wc := [(pA, .inr (2, [.ref hT, .int lo, .int hi, .long le, .long gr])), (hT, .inr (1, [.ref hR, .int (nI n)])), (hR, .inl (d, N, .inl a))]) (wr := []) (va_runV (As := [.long (mxL l0 (-mo)), .long (mnL h0 mo)]) (rest := []) ⟨hx, hb, hml, hown, hts⟩ (met_X2_put l D pA lo hi le gr hT hR d N n a s.heap.size (mxL l0 (-mo)) (mnL h0 mo) hok hnN hN hmi hma) (cwV 2 hts (lw_V q152 q154 qs2 q18 q155) rfl rfl rfl (by decide +kernel) ⟨Nat.le_of_ble_eq_true rfl, Nat.le_of_ble_eq_true rfl⟩) ⟨rr_blind, va_recv hK hP (ci := 2) (q0 := 0) rfl rfl, rr_pre (hP.sub (ws' := [(pA, .inr (2, [.ref hT, .int lo, .int hi, .long le, .long gr])), (hT, .inr (1, [.ref hR, .int (nI n)])), (hR, .inl (d, N, .inl a))]) [0, 1, 2] rfl) (hK.sub (tys' := [(d, .int)]) [0] rfl) (hD.sub (ws' := [(pA, .inr (2, [.ref hT, .int lo, .int hi, .long le, .long gr])), (hT, .inr (1, [.ref hR, .int (nI n)])), (hR, .inl (d, N, .inl a))]) [0, 1, 2] (by decide) rfl)⟩ rfl rfl hl.1 rfl (lv_room (Nat.le_of_ble_eq_true rfl)) dX2_rest_44 ⟨Nat.le_of_ble_eq_true rfl, Nat.le_of_ble_eq_true rfl⟩) hK hP hD hS hA [0, 1, 2] [] rfl rfl (by decide) (by decide) (fun u_33 H locs hw_32 hP hD hK hS => ?_)
      obtain ⟨lo_32, hi_32⟩ := u_33
      have hP : va_P D vwCl [(pA, .inr (2, [.ref hT, .int lo_32, .int hi_32, .long le, .long gr])), (hT, .inr (1, [.ref hR, .int (nI n)])), (hR, .inl (d, N, .inl a))] H := hP
      have hD : va_D A [(pA, .inr (2, [.ref hT, .int lo_32, .int hi_32, .long le, .long gr])), (hT, .inr (1, [.ref hR, .int (nI n)])), (hR, .inl (d, N, .inl a))] := hD
      have hK : va_K D vwCl [(d, .int)] s := hK.sub (tys' := [(d, .int)]) [0] rfl
      exact W.vret hx hb hr (rr_endv (lo_32, hi_32) (by unfold rsLo rsHi; rw [if_pos c_2, if_pos c_2, if_pos c_30]; exact hw_32) hP hK hD hS) hS.2.2 dX2_rest_47
    · refine lv_lconst (v := 0) hx hb dX2_rest_34 (by decide) ?_
      refine lv_goto (tgt := 44) hx hb dX2_rest_35 (by decide) ?_
      refine rr_callv (wc := [(pA, .inr (2, [.ref hT, .int lo, .int hi, .long le, .long gr])), (hT, .inr (1, [.ref hR, .int (nI n)])), (hR, .inl (d, N, .inl a))]) (wr := []) (va_runV (As := [.long (mxL l0 (-mo)), .long 0]) (rest := []) ⟨hx, hb, hml, hown, hts⟩ (met_X2_put l D pA lo hi le gr hT hR d N n a s.heap.size (mxL l0 (-mo)) 0 hok hnN hN hmi hma) (cwV 2 hts (lw_V q152 q154 qs2 q18 q155) rfl rfl rfl (by decide +kernel) ⟨Nat.le_of_ble_eq_true rfl, Nat.le_of_ble_eq_true rfl⟩) ⟨rr_blind, va_recv hK hP (ci := 2) (q0 := 0) rfl rfl, rr_pre (hP.sub (ws' := [(pA, .inr (2, [.ref hT, .int lo, .int hi, .long le, .long gr])), (hT, .inr (1, [.ref hR, .int (nI n)])), (hR, .inl (d, N, .inl a))]) [0, 1, 2] rfl) (hK.sub (tys' := [(d, .int)]) [0] rfl) (hD.sub (ws' := [(pA, .inr (2, [.ref hT, .int lo, .int hi, .long le, .long gr])), (hT, .inr (1, [.ref hR, .int (nI n)])), (hR, .inl (d, N, .inl a))]) [0, 1, 2] (by decide) rfl)⟩ rfl rfl hl.1 rfl (lv_room (Nat.le_of_ble_eq_true rfl)) dX2_rest_44 ⟨Nat.le_of_ble_eq_true rfl, Nat.le_of_ble_eq_true rfl⟩) hK hP hD hS hA [0, 1, 2] [] rfl rfl (by decide) (by decide) (fun u_35 H locs hw_34 hP hD hK hS => ?_)
      obtain ⟨lo_34, hi_34⟩ := u_35
      have hP : va_P D vwCl [(pA, .inr (2, [.ref hT, .int lo_34, .int hi_34, .long le, .long gr])), (hT, .inr (1, [.ref hR, .int (nI n)])), (hR, .inl (d, N, .inl a))] H := hP
      have hD : va_D A [(pA, .inr (2, [.ref hT, .int lo_34, .int hi_34, .long le, .long gr])), (hT, .inr (1, [.ref hR, .int (nI n)])), (hR, .inl (d, N, .inl a))] := hD
      have hK : va_K D vwCl [(d, .int)] s := hK.sub (tys' := [(d, .int)]) [0] rfl
      exact W.vret hx hb hr (rr_endv (lo_34, hi_34) (by unfold rsLo rsHi; rw [if_pos c_2, if_pos c_2, if_neg c_30]; exact hw_34) hP hK hD hS) hS.2.2 dX2_rest_47
  · refine lv_aload_n hx hb dX2_rest_6 rfl (lv_at hl 0 rfl) ?_
    refine lv_lconst (v := 0) hx hb dX2_rest_7 (by decide) ?_
    refine lv_lload_n hx hb dX2_rest_8 rfl (lv_at hl 2 rfl) ?_
    refine lv_lload hx hb dX2_rest_9 (lv_at hl 3 rfl) ?_
    refine rr_minL hx hb hml hl.1 hown hts q166 (Nat.le_of_ble_eq_true rfl) (Nat.le_of_ble_eq_true rfl) (Nat.le_of_ble_eq_true rfl) (Nat.le_of_ble_eq_true rfl) dX2_rest_11 ?_
    refine rr_callv (wc := [(pA, .inr (2, [.ref hT, .int lo, .int hi, .long le, .long gr])), (hT, .inr (1, [.ref hR, .int (nI n)])), (hR, .inl (d, N, .inl a))]) (wr := []) (va_runV (As := [.long 0, .long (mnL h0 mo)]) (rest := []) ⟨hx, hb, hml, hown, hts⟩ (met_X2_put l D pA lo hi le gr hT hR d N n a s.heap.size 0 (mnL h0 mo) hok hnN hN hmi hma) (cwV 2 hts (lw_V q152 q154 qs2 q18 q155) rfl rfl rfl (by decide +kernel) ⟨Nat.le_of_ble_eq_true rfl, Nat.le_of_ble_eq_true rfl⟩) ⟨rr_blind, va_recv hK hP (ci := 2) (q0 := 0) rfl rfl, rr_pre (hP.sub (ws' := [(pA, .inr (2, [.ref hT, .int lo, .int hi, .long le, .long gr])), (hT, .inr (1, [.ref hR, .int (nI n)])), (hR, .inl (d, N, .inl a))]) [0, 1, 2] rfl) (hK.sub (tys' := [(d, .int)]) [0] rfl) (hD.sub (ws' := [(pA, .inr (2, [.ref hT, .int lo, .int hi, .long le, .long gr])), (hT, .inr (1, [.ref hR, .int (nI n)])), (hR, .inl (d, N, .inl a))]) [0, 1, 2] (by decide) rfl)⟩ rfl rfl hl.1 rfl (lv_room (Nat.le_of_ble_eq_true rfl)) dX2_rest_14 ⟨Nat.le_of_ble_eq_true rfl, Nat.le_of_ble_eq_true rfl⟩) hK hP hD hS hA [0, 1, 2] [] rfl rfl (by decide) (by decide) (fun u_37 H locs hw_36 hP hD hK hS => ?_)
    obtain ⟨lo_36, hi_36⟩ := u_37
    have hP : va_P D vwCl [(pA, .inr (2, [.ref hT, .int lo_36, .int hi_36, .long le, .long gr])), (hT, .inr (1, [.ref hR, .int (nI n)])), (hR, .inl (d, N, .inl a))] H := hP
    have hD : va_D A [(pA, .inr (2, [.ref hT, .int lo_36, .int hi_36, .long le, .long gr])), (hT, .inr (1, [.ref hR, .int (nI n)])), (hR, .inl (d, N, .inl a))] := hD
    have hK : va_K D vwCl [(d, .int)] s := hK.sub (tys' := [(d, .int)]) [0] rfl
    refine lv_goto (tgt := 47) hx hb dX2_rest_17 (by decide) ?_
    exact W.vret hx hb hr (rr_endv (lo_36, hi_36) (by unfold rsLo rsHi; rw [if_neg c_2, if_neg c_2]; exact hw_36) hP hK hD hS) hS.2.2 dX2_rest_47
end
section
theorem on1_step {k : Nat} (hk : k < 60) : 2 * lN (2 ^ k - 1) + 1 = lN (2 ^ (k + 1) - 1) := by
  have h1 : 0 < 2 ^ k := Nat.two_pow_pos k
  have h2 : 2 ^ (k + 1) = 2 * 2 ^ k := by rw [Nat.pow_succ]; omega
  rw [show (2 : Int64) = lN 2 from rfl, lN_mul, lN_1, h2]
  congr 1
  omega
theorem on1_top {x : Int64} (hx : x.toInt ≤ 2147483647) : ¬ lN (2 ^ 33 - 1) < x := by
  rw [Int64.lt_iff_toInt_lt, pk_lT (by decide)]
  have : (((2 ^ 33 - 1 : Nat)) : Int) = 8589934591 := by decide
  omega
theorem on1_go {f : Nat} {mo h n : Int64} (q : mo < h ∨ mo < n) : on1 (f + 1) mo h n = on1 f (2 * mo + 1) h n := by
  show (if mo < h ∨ mo < n then on1 f (2 * mo + 1) h n else mo) = _
  rw [if_pos q]
theorem on1_stop {f : Nat} {mo h n : Int64} (q : ¬ (mo < h ∨ mo < n)) : on1 f mo h n = mo := by
  cases f with
  | zero => rfl
  | succ f =>
    show (if mo < h ∨ mo < n then on1 f (2 * mo + 1) h n else mo) = _
    rw [if_neg q]
theorem fun_not {x y : Int64} (q : ¬ y ≤ x) : x < y := by
  rw [Int64.le_iff_toInt_le] at q
  rw [Int64.lt_iff_toInt_lt]
  omega
theorem fun_not2 {x y : Int64} (q : y ≤ x) (z : x < y) : False := by
  rw [Int64.le_iff_toInt_le] at q
  rw [Int64.lt_iff_toInt_lt] at z
  omega
set_option maxHeartbeats 4000000 in
set_option maxRecDepth 100000 in
theorem X2_bits_loop {p : Program} {l : Launch} {e : Env} {R : Room} {s : State} {m : MethodId} {args : Array Value} {below : List Frame} {meth : Method} {c : Code} {H : Heap} {locs : List Loc} {cells slots : Nat} {Q : State → Prop} (hx : p.tables.exec = Jvm.exec) (hb : c.code = cX2_bits) (hts : ∀ w ∈ lw_all, w.before args s = true) (hown : s.vm.findClass RX2 = some m.cls) {pA : Nat} {l0 h0 m0 n0 : Int64} {s0 : Int32} (hh : h0.toInt ≤ 2147483647) (hn : n0.toInt ≤ 2147483647) :
    ∀ (f k : Nat) (mo : Int64) (ls : Array Slot), k + f = 33 → mo = lN (2 ^ k - 1) → (∀ ls : Array Slot, lv_has ls 13 [(0, .ref pA), (2, .long l0), (4, .long h0), (6, .long m0), (8, .long n0), (10, .int s0), (11, .long (on1 f mo h0 n0))] → W p l e R s m args below meth c H locs cells slots Q (F0 m 121 ls [])) → lv_has ls 13 [(0, .ref pA), (2, .long l0), (4, .long h0), (6, .long m0), (8, .long n0), (10, .int s0), (11, .long mo)] → W p l e R s m args below meth c H locs cells slots Q (F0 m 92 ls []) := by
  intro f
  induction f with
  | zero =>
    intro k mo ls hk ek kk hl
    obtain rfl : k = 33 := by omega
    have c1 : ¬ mo < h0 := by rw [ek]; exact on1_top hh
    have c2 : ¬ mo < n0 := by rw [ek]; exact on1_top hn
    refine lv_lload hx hb dX2_bits_92 (lv_at hl 6 rfl) ?_
    refine lv_lload hx hb dX2_bits_94 (lv_at hl 2 rfl) ?_
    refine lc_lt (tgt := 108) hx hb dX2_bits_96 dX2_bits_97 (by decide) (fun c_96 => absurd c_96 c1) (fun c_96 => ?_)
    refine lv_lload hx hb dX2_bits_100 (lv_at hl 6 rfl) ?_
    refine lv_lload hx hb dX2_bits_102 (lv_at hl 4 rfl) ?_
    refine lc_ge (tgt := 121) hx hb dX2_bits_104 dX2_bits_105 (by decide) (fun c_104 => ?_) (fun c_104 => absurd (fun_not c_104) c2)
    exact kk ls (lv_sub hl [0, 1, 2, 3, 4, 5, 6] rfl)
  | succ f ih =>
    intro k mo ls hk ek kk hl
    refine lv_lload hx hb dX2_bits_92 (lv_at hl 6 rfl) ?_
    refine lv_lload hx hb dX2_bits_94 (lv_at hl 2 rfl) ?_
    refine lc_lt (tgt := 108) hx hb dX2_bits_96 dX2_bits_97 (by decide) (fun c_96 => ?_) (fun c_96 => ?_)
    · refine lv_ldc2 (v := 2) hx hb hown (hts _ q194) dX2_bits_108 ?_
      refine lv_lload hx hb dX2_bits_111 (lv_at hl 6 rfl) ?_
      refine lv_lmul hx hb dX2_bits_113 ?_
      refine lv_lconst (v := 1) hx hb dX2_bits_114 (by decide) ?_
      refine lv_ladd hx hb dX2_bits_115 ?_
      refine lv_lstore (lv' := [(11, .long ((2 * mo) + 1)), (0, .ref pA), (2, .long l0), (4, .long h0), (6, .long m0), (8, .long n0), (10, .int s0)]) hx hb dX2_bits_116 hl (by decide) rfl (fun ls hl => ?_)
      refine lv_goto (tgt := 92) hx hb dX2_bits_118 (by decide) ?_
      exact ih (k + 1) _ ls (by omega) (by rw [ek]; exact on1_step (by omega)) (fun ls hl => by
        have q := kk ls
        rw [on1_go (Or.inl c_96)] at q
        exact q hl) (lv_sub hl [1, 2, 3, 4, 5, 6, 0] rfl)
    · refine lv_lload hx hb dX2_bits_100 (lv_at hl 6 rfl) ?_
      refine lv_lload hx hb dX2_bits_102 (lv_at hl 4 rfl) ?_
      refine lc_ge (tgt := 121) hx hb dX2_bits_104 dX2_bits_105 (by decide) (fun c_104 => ?_) (fun c_104 => ?_)
      · rw [on1_stop (fun q => q.elim c_96 (fun z => fun_not2 c_104 z))] at kk
        exact kk ls (lv_sub hl [0, 1, 2, 3, 4, 5, 6] rfl)
      · refine lv_ldc2 (v := 2) hx hb hown (hts _ q194) dX2_bits_108 ?_
        refine lv_lload hx hb dX2_bits_111 (lv_at hl 6 rfl) ?_
        refine lv_lmul hx hb dX2_bits_113 ?_
        refine lv_lconst (v := 1) hx hb dX2_bits_114 (by decide) ?_
        refine lv_ladd hx hb dX2_bits_115 ?_
        refine lv_lstore (lv' := [(11, .long ((2 * mo) + 1)), (0, .ref pA), (2, .long l0), (4, .long h0), (6, .long m0), (8, .long n0), (10, .int s0)]) hx hb dX2_bits_116 hl (by decide) rfl (fun ls hl => ?_)
        refine lv_goto (tgt := 92) hx hb dX2_bits_118 (by decide) ?_
        exact ih (k + 1) _ ls (by omega) (by rw [ek]; exact on1_step (by omega)) (fun ls hl => by
          have q := kk ls
          rw [on1_go (Or.inr (fun_not c_104))] at q
          exact q hl) (lv_sub hl [1, 2, 3, 4, 5, 6, 0] rfl)
abbrev wsX2_bits : List Cond := ws_ yX2_bits cX2_bits 13 none
set_option maxHeartbeats 4000000 in
set_option maxRecDepth 100000 in
theorem met_X2_bits_5 (l : Launch) (D : va_G) (pA : Nat) (lo hi : Int32) (le gr : Int64) (hT hR : Nat) (d : ClassId) (N n : Nat) (a : Nat → Int32) (sz : Nat) (l0 h0 m0 n0 : Int64) {S : Int32 → Bool} (hok : T_ok S n a) (hnN : n ≤ N) (hN : N ≤ 512) (hmi : S (-2147483648) = true) (hma : S 2147483647 = true) (hh : h0.toInt ≤ 2147483647) (hn3 : n0.toInt ≤ 2147483647) : rr_CV l D yX2_bits wsX2_bits ({ frames := 3, cells := 0, slots := 0, locals := 78 }) [.ref pA, .int (nI 5), .long l0, .long h0, .long m0, .long n0] [(d, .int)] [(pA, .inr (2, [.ref hT, .int lo, .int hi, .long le, .long gr])), (hT, .inr (1, [.ref hR, .int (nI n)])), (hR, .inl (d, N, .inl a))] sz (fun u : Int32 × Int32 => ∃ q, sysOp 5 l0 h0 m0 n0 = some q ∧ PutR S q.1 q.2 u.1 u.2) (fun _ => [(d, .int)]) (fun u => [(pA, .inr (2, [.ref hT, .int u.1, .int u.2, .long le, .long gr])), (hT, .inr (1, [.ref hR, .int (nI n)])), (hR, .inl (d, N, .inl a))]) 0 0 := by
  refine Met.ofW (cc := cX2_bits) (maxL := 13) (ret := none) (by decide) rfl ?_
  intro p e s m args below meth c s₁ B hml hv
  obtain ⟨rfl, hsz, hP, hK, hD0⟩ := hv
  have hx := B.exec
  have hb := B.bytes
  have hr := B.returns
  have hts := atoms_spec (ws := wsX2_bits) B.pre
  have hts : ∀ w ∈ lw_all, w.before _ s = true := fun w h => hts w (List.mem_cons_of_mem _ h)
  have hown : s.vm.findClass RX2 = some m.cls := findClass_of_methodNamed B.named
  have hlocks := B.notSynchronized
  subst hsz
  have hD := hD0.self (sz := s.heap.size)
  generalize hAe : va_A [(pA, .inr (2, [.ref hT, .int lo, .int hi, .long le, .long gr])), (hT, .inr (1, [.ref hR, .int (nI n)])), (hR, .inl (d, N, .inl a))] s.heap.size = A at hD ⊢
  have hA : ∀ q : Nat, s.heap.size ≤ q → A q := fun q h => by rw [← hAe]; exact Or.inr h
  have hS : va_S A s.heap s.heap [] := va_S.rf
  have hP : va_P D vwCl [(pA, .inr (2, [.ref hT, .int lo, .int hi, .long le, .long gr])), (hT, .inr (1, [.ref hR, .int (nI n)])), (hR, .inl (d, N, .inl a))] s.heap := hP
  have hK : va_K D vwCl [(d, .int)] s := hK
  have hl := lv_entry ([.ref pA, .int (nI 5), .long l0, .long h0, .long m0, .long n0]) (n := 13) (Nat.le_of_ble_eq_true rfl)
  rw [lg_entry_eq]
  generalize (lg_sl ([.ref pA, .int (nI 5), .long l0, .long h0, .long m0, .long n0]) ++ List.replicate (13 - (lg_sl ([.ref pA, .int (nI 5), .long l0, .long h0, .long m0, .long n0])).length) Slot.unset).toArray = ls at hl ⊢
  have hl : lv_has ls 13 [(0, .ref pA), (1, .int (nI 5)), (2, .long l0), (4, .long h0), (6, .long m0), (8, .long n0)] := hl
  refine lv_lload hx hb dX2_bits_0 (lv_at hl 4 rfl) ?_
  refine lv_l2i hx hb dX2_bits_2 rfl ?_
  refine lv_bipush (v := 31) hx hb dX2_bits_3 (by decide) ?_
  refine lv_iand hx hb dX2_bits_5 ?_
  refine lv_istore (lv' := [(10, .int (m0.toInt32 &&& 31)), (0, .ref pA), (1, .int (nI 5)), (2, .long l0), (4, .long h0), (6, .long m0), (8, .long n0)]) hx hb dX2_bits_6 hl (by decide) rfl (fun ls hl => ?_)
  refine lv_iload_n hx hb dX2_bits_8 rfl (lv_at hl 2 rfl) ?_
  refine lv_iconst (v := 5) hx hb dX2_bits_9 (by decide) ?_
  refine lv_icmp_ne (tgt := 77) hx hb dX2_bits_10 (by decide) (fun c_10 => absurd (by decide) c_10) (fun c_10 => ?_)
  refine lv_lload_n hx hb dX2_bits_13 rfl (lv_at hl 3 rfl) ?_
  refine lv_lconst (v := 0) hx hb dX2_bits_14 (by decide) ?_
  refine lc_ge (tgt := 39) hx hb dX2_bits_15 dX2_bits_16 (by decide) (fun c_15 => ?_) (fun c_15 => ?_)
  · refine lv_aload_n hx hb dX2_bits_39 rfl (lv_at hl 1 rfl) ?_
    refine lv_lconst (v := 0) hx hb dX2_bits_40 (by decide) ?_
    refine lv_lload_n hx hb dX2_bits_41 rfl (lv_at hl 3 rfl) ?_
    refine lv_lconst (v := 0) hx hb dX2_bits_42 (by decide) ?_
    refine lc_ge (tgt := 52) hx hb dX2_bits_43 dX2_bits_44 (by decide) (fun c_43 => ?_) (fun c_43 => absurd c_15 c_43)
    refine lv_lload hx hb dX2_bits_52 (lv_at hl 5 rfl) ?_
    refine lv_lconst (v := 0) hx hb dX2_bits_54 (by decide) ?_
    refine lc_ge (tgt := 64) hx hb dX2_bits_55 dX2_bits_56 (by decide) (fun c_55 => ?_) (fun c_55 => ?_)
    · refine lv_lload hx hb dX2_bits_64 (lv_at hl 4 rfl) ?_
      refine lv_lload hx hb dX2_bits_66 (lv_at hl 6 rfl) ?_
      refine rr_minL hx hb hml hl.1 hown hts q166 (Nat.le_of_ble_eq_true rfl) (Nat.le_of_ble_eq_true rfl) (Nat.le_of_ble_eq_true rfl) (Nat.le_of_ble_eq_true rfl) dX2_bits_68 ?_
      refine rr_callv (wc := [(pA, .inr (2, [.ref hT, .int lo, .int hi, .long le, .long gr])), (hT, .inr (1, [.ref hR, .int (nI n)])), (hR, .inl (d, N, .inl a))]) (wr := []) (va_runV (As := [.long 0, .long (mnL h0 n0)]) (rest := []) ⟨hx, hb, hml, hown, hts⟩ (met_X2_put l D pA lo hi le gr hT hR d N n a s.heap.size 0 (mnL h0 n0) hok hnN hN hmi hma) (cwV 2 hts (lw_V q152 q154 qs2 q18 q155) rfl rfl rfl (by decide +kernel) ⟨Nat.le_of_ble_eq_true rfl, Nat.le_of_ble_eq_true rfl⟩) ⟨rr_blind, va_recv hK hP (ci := 2) (q0 := 0) rfl rfl, rr_pre (hP.sub (ws' := [(pA, .inr (2, [.ref hT, .int lo, .int hi, .long le, .long gr])), (hT, .inr (1, [.ref hR, .int (nI n)])), (hR, .inl (d, N, .inl a))]) [0, 1, 2] rfl) (hK.sub (tys' := [(d, .int)]) [0] rfl) (hD.sub (ws' := [(pA, .inr (2, [.ref hT, .int lo, .int hi, .long le, .long gr])), (hT, .inr (1, [.ref hR, .int (nI n)])), (hR, .inl (d, N, .inl a))]) [0, 1, 2] (by decide) rfl)⟩ rfl rfl hl.1 rfl (lv_room (Nat.le_of_ble_eq_true rfl)) dX2_bits_71 ⟨Nat.le_of_ble_eq_true rfl, Nat.le_of_ble_eq_true rfl⟩) hK hP hD hS hA [0, 1, 2] [] rfl rfl (by decide) (by decide) (fun u_39 H locs hw_38 hP hD hK hS => ?_)
      obtain ⟨lo_38, hi_38⟩ := u_39
      have hP : va_P D vwCl [(pA, .inr (2, [.ref hT, .int lo_38, .int hi_38, .long le, .long gr])), (hT, .inr (1, [.ref hR, .int (nI n)])), (hR, .inl (d, N, .inl a))] H := hP
      have hD : va_D A [(pA, .inr (2, [.ref hT, .int lo_38, .int hi_38, .long le, .long gr])), (hT, .inr (1, [.ref hR, .int (nI n)])), (hR, .inl (d, N, .inl a))] := hD
      have hK : va_K D vwCl [(d, .int)] s := hK.sub (tys' := [(d, .int)]) [0] rfl
      refine lv_goto (tgt := 243) hx hb dX2_bits_74 (by decide) ?_
      exact W.vret hx hb hr (rr_endv (lo_38, hi_38) ⟨_, rfl, by rw [if_neg (fun q => fun_not2 c_15 q.1), if_neg (fun q => fun_not2 c_15 q), if_neg (fun q => fun_not2 c_55 q)]; exact hw_38⟩ hP hK hD hS) hS.2.2 dX2_bits_243
    · refine lv_lload hx hb dX2_bits_59 (lv_at hl 4 rfl) ?_
      refine lv_goto (tgt := 71) hx hb dX2_bits_61 (by decide) ?_
      refine rr_callv (wc := [(pA, .inr (2, [.ref hT, .int lo, .int hi, .long le, .long gr])), (hT, .inr (1, [.ref hR, .int (nI n)])), (hR, .inl (d, N, .inl a))]) (wr := []) (va_runV (As := [.long 0, .long h0]) (rest := []) ⟨hx, hb, hml, hown, hts⟩ (met_X2_put l D pA lo hi le gr hT hR d N n a s.heap.size 0 h0 hok hnN hN hmi hma) (cwV 2 hts (lw_V q152 q154 qs2 q18 q155) rfl rfl rfl (by decide +kernel) ⟨Nat.le_of_ble_eq_true rfl, Nat.le_of_ble_eq_true rfl⟩) ⟨rr_blind, va_recv hK hP (ci := 2) (q0 := 0) rfl rfl, rr_pre (hP.sub (ws' := [(pA, .inr (2, [.ref hT, .int lo, .int hi, .long le, .long gr])), (hT, .inr (1, [.ref hR, .int (nI n)])), (hR, .inl (d, N, .inl a))]) [0, 1, 2] rfl) (hK.sub (tys' := [(d, .int)]) [0] rfl) (hD.sub (ws' := [(pA, .inr (2, [.ref hT, .int lo, .int hi, .long le, .long gr])), (hT, .inr (1, [.ref hR, .int (nI n)])), (hR, .inl (d, N, .inl a))]) [0, 1, 2] (by decide) rfl)⟩ rfl rfl hl.1 rfl (lv_room (Nat.le_of_ble_eq_true rfl)) dX2_bits_71 ⟨Nat.le_of_ble_eq_true rfl, Nat.le_of_ble_eq_true rfl⟩) hK hP hD hS hA [0, 1, 2] [] rfl rfl (by decide) (by decide) (fun u_41 H locs hw_40 hP hD hK hS => ?_)
      obtain ⟨lo_40, hi_40⟩ := u_41
      have hP : va_P D vwCl [(pA, .inr (2, [.ref hT, .int lo_40, .int hi_40, .long le, .long gr])), (hT, .inr (1, [.ref hR, .int (nI n)])), (hR, .inl (d, N, .inl a))] H := hP
      have hD : va_D A [(pA, .inr (2, [.ref hT, .int lo_40, .int hi_40, .long le, .long gr])), (hT, .inr (1, [.ref hR, .int (nI n)])), (hR, .inl (d, N, .inl a))] := hD
      have hK : va_K D vwCl [(d, .int)] s := hK.sub (tys' := [(d, .int)]) [0] rfl
      refine lv_goto (tgt := 243) hx hb dX2_bits_74 (by decide) ?_
      exact W.vret hx hb hr (rr_endv (lo_40, hi_40) ⟨_, rfl, by rw [if_neg (fun q => fun_not2 c_15 q.1), if_neg (fun q => fun_not2 c_15 q), if_pos (fun_not c_55)]; exact hw_40⟩ hP hK hD hS) hS.2.2 dX2_bits_243
  · refine lv_lload hx hb dX2_bits_19 (lv_at hl 5 rfl) ?_
    refine lv_lconst (v := 0) hx hb dX2_bits_21 (by decide) ?_
    refine lc_ge (tgt := 39) hx hb dX2_bits_22 dX2_bits_23 (by decide) (fun c_22 => ?_) (fun c_22 => ?_)
    · refine lv_aload_n hx hb dX2_bits_39 rfl (lv_at hl 1 rfl) ?_
      refine lv_lconst (v := 0) hx hb dX2_bits_40 (by decide) ?_
      refine lv_lload_n hx hb dX2_bits_41 rfl (lv_at hl 3 rfl) ?_
      refine lv_lconst (v := 0) hx hb dX2_bits_42 (by decide) ?_
      refine lc_ge (tgt := 52) hx hb dX2_bits_43 dX2_bits_44 (by decide) (fun c_43 => absurd c_43 c_15) (fun c_43 => ?_)
      refine lv_lload hx hb dX2_bits_47 (lv_at hl 6 rfl) ?_
      refine lv_goto (tgt := 71) hx hb dX2_bits_49 (by decide) ?_
      refine rr_callv (wc := [(pA, .inr (2, [.ref hT, .int lo, .int hi, .long le, .long gr])), (hT, .inr (1, [.ref hR, .int (nI n)])), (hR, .inl (d, N, .inl a))]) (wr := []) (va_runV (As := [.long 0, .long n0]) (rest := []) ⟨hx, hb, hml, hown, hts⟩ (met_X2_put l D pA lo hi le gr hT hR d N n a s.heap.size 0 n0 hok hnN hN hmi hma) (cwV 2 hts (lw_V q152 q154 qs2 q18 q155) rfl rfl rfl (by decide +kernel) ⟨Nat.le_of_ble_eq_true rfl, Nat.le_of_ble_eq_true rfl⟩) ⟨rr_blind, va_recv hK hP (ci := 2) (q0 := 0) rfl rfl, rr_pre (hP.sub (ws' := [(pA, .inr (2, [.ref hT, .int lo, .int hi, .long le, .long gr])), (hT, .inr (1, [.ref hR, .int (nI n)])), (hR, .inl (d, N, .inl a))]) [0, 1, 2] rfl) (hK.sub (tys' := [(d, .int)]) [0] rfl) (hD.sub (ws' := [(pA, .inr (2, [.ref hT, .int lo, .int hi, .long le, .long gr])), (hT, .inr (1, [.ref hR, .int (nI n)])), (hR, .inl (d, N, .inl a))]) [0, 1, 2] (by decide) rfl)⟩ rfl rfl hl.1 rfl (lv_room (Nat.le_of_ble_eq_true rfl)) dX2_bits_71 ⟨Nat.le_of_ble_eq_true rfl, Nat.le_of_ble_eq_true rfl⟩) hK hP hD hS hA [0, 1, 2] [] rfl rfl (by decide) (by decide) (fun u_43 H locs hw_42 hP hD hK hS => ?_)
      obtain ⟨lo_42, hi_42⟩ := u_43
      have hP : va_P D vwCl [(pA, .inr (2, [.ref hT, .int lo_42, .int hi_42, .long le, .long gr])), (hT, .inr (1, [.ref hR, .int (nI n)])), (hR, .inl (d, N, .inl a))] H := hP
      have hD : va_D A [(pA, .inr (2, [.ref hT, .int lo_42, .int hi_42, .long le, .long gr])), (hT, .inr (1, [.ref hR, .int (nI n)])), (hR, .inl (d, N, .inl a))] := hD
      have hK : va_K D vwCl [(d, .int)] s := hK.sub (tys' := [(d, .int)]) [0] rfl
      refine lv_goto (tgt := 243) hx hb dX2_bits_74 (by decide) ?_
      exact W.vret hx hb hr (rr_endv (lo_42, hi_42) ⟨_, rfl, by rw [if_neg (fun q => fun_not2 c_22 q.2), if_pos (fun_not c_15)]; exact hw_42⟩ hP hK hD hS) hS.2.2 dX2_bits_243
    · refine lv_aload_n hx hb dX2_bits_26 rfl (lv_at hl 1 rfl) ?_
      refine lv_ldc2 (v := (-2147483648)) hx hb hown (hts _ q156) dX2_bits_27 ?_
      refine lv_ldc2 (v := 2147483647) hx hb hown (hts _ q157) dX2_bits_30 ?_
      refine rr_callv (wc := [(pA, .inr (2, [.ref hT, .int lo, .int hi, .long le, .long gr])), (hT, .inr (1, [.ref hR, .int (nI n)])), (hR, .inl (d, N, .inl a))]) (wr := []) (va_runV (As := [.long (-2147483648), .long 2147483647]) (rest := []) ⟨hx, hb, hml, hown, hts⟩ (met_X2_put l D pA lo hi le gr hT hR d N n a s.heap.size (-2147483648) 2147483647 hok hnN hN hmi hma) (cwV 2 hts (lw_V q152 q154 qs2 q18 q155) rfl rfl rfl (by decide +kernel) ⟨Nat.le_of_ble_eq_true rfl, Nat.le_of_ble_eq_true rfl⟩) ⟨rr_blind, va_recv hK hP (ci := 2) (q0 := 0) rfl rfl, rr_pre (hP.sub (ws' := [(pA, .inr (2, [.ref hT, .int lo, .int hi, .long le, .long gr])), (hT, .inr (1, [.ref hR, .int (nI n)])), (hR, .inl (d, N, .inl a))]) [0, 1, 2] rfl) (hK.sub (tys' := [(d, .int)]) [0] rfl) (hD.sub (ws' := [(pA, .inr (2, [.ref hT, .int lo, .int hi, .long le, .long gr])), (hT, .inr (1, [.ref hR, .int (nI n)])), (hR, .inl (d, N, .inl a))]) [0, 1, 2] (by decide) rfl)⟩ rfl rfl hl.1 rfl (lv_room (Nat.le_of_ble_eq_true rfl)) dX2_bits_33 ⟨Nat.le_of_ble_eq_true rfl, Nat.le_of_ble_eq_true rfl⟩) hK hP hD hS hA [0, 1, 2] [] rfl rfl (by decide) (by decide) (fun u_45 H locs hw_44 hP hD hK hS => ?_)
      obtain ⟨lo_44, hi_44⟩ := u_45
      have hP : va_P D vwCl [(pA, .inr (2, [.ref hT, .int lo_44, .int hi_44, .long le, .long gr])), (hT, .inr (1, [.ref hR, .int (nI n)])), (hR, .inl (d, N, .inl a))] H := hP
      have hD : va_D A [(pA, .inr (2, [.ref hT, .int lo_44, .int hi_44, .long le, .long gr])), (hT, .inr (1, [.ref hR, .int (nI n)])), (hR, .inl (d, N, .inl a))] := hD
      have hK : va_K D vwCl [(d, .int)] s := hK.sub (tys' := [(d, .int)]) [0] rfl
      refine lv_goto (tgt := 243) hx hb dX2_bits_36 (by decide) ?_
      exact W.vret hx hb hr (rr_endv (lo_44, hi_44) ⟨_, rfl, by rw [if_pos ⟨fun_not c_15, fun_not c_22⟩]; exact hw_44⟩ hP hK hD hS) hS.2.2 dX2_bits_243
set_option maxHeartbeats 4000000 in
set_option maxRecDepth 100000 in
theorem met_X2_bits_6 (l : Launch) (D : va_G) (pA : Nat) (lo hi : Int32) (le gr : Int64) (hT hR : Nat) (d : ClassId) (N n : Nat) (a : Nat → Int32) (sz : Nat) (l0 h0 m0 n0 : Int64) {S : Int32 → Bool} (hok : T_ok S n a) (hnN : n ≤ N) (hN : N ≤ 512) (hmi : S (-2147483648) = true) (hma : S 2147483647 = true) (hh : h0.toInt ≤ 2147483647) (hn3 : n0.toInt ≤ 2147483647) : rr_CV l D yX2_bits wsX2_bits ({ frames := 3, cells := 0, slots := 0, locals := 78 }) [.ref pA, .int (nI 6), .long l0, .long h0, .long m0, .long n0] [(d, .int)] [(pA, .inr (2, [.ref hT, .int lo, .int hi, .long le, .long gr])), (hT, .inr (1, [.ref hR, .int (nI n)])), (hR, .inl (d, N, .inl a))] sz (fun u : Int32 × Int32 => ∃ q, sysOp 6 l0 h0 m0 n0 = some q ∧ PutR S q.1 q.2 u.1 u.2) (fun _ => [(d, .int)]) (fun u => [(pA, .inr (2, [.ref hT, .int u.1, .int u.2, .long le, .long gr])), (hT, .inr (1, [.ref hR, .int (nI n)])), (hR, .inl (d, N, .inl a))]) 0 0 := by
  refine Met.ofW (cc := cX2_bits) (maxL := 13) (ret := none) (by decide) rfl ?_
  intro p e s m args below meth c s₁ B hml hv
  obtain ⟨rfl, hsz, hP, hK, hD0⟩ := hv
  have hx := B.exec
  have hb := B.bytes
  have hr := B.returns
  have hts := atoms_spec (ws := wsX2_bits) B.pre
  have hts : ∀ w ∈ lw_all, w.before _ s = true := fun w h => hts w (List.mem_cons_of_mem _ h)
  have hown : s.vm.findClass RX2 = some m.cls := findClass_of_methodNamed B.named
  have hlocks := B.notSynchronized
  subst hsz
  have hD := hD0.self (sz := s.heap.size)
  generalize hAe : va_A [(pA, .inr (2, [.ref hT, .int lo, .int hi, .long le, .long gr])), (hT, .inr (1, [.ref hR, .int (nI n)])), (hR, .inl (d, N, .inl a))] s.heap.size = A at hD ⊢
  have hA : ∀ q : Nat, s.heap.size ≤ q → A q := fun q h => by rw [← hAe]; exact Or.inr h
  have hS : va_S A s.heap s.heap [] := va_S.rf
  have hP : va_P D vwCl [(pA, .inr (2, [.ref hT, .int lo, .int hi, .long le, .long gr])), (hT, .inr (1, [.ref hR, .int (nI n)])), (hR, .inl (d, N, .inl a))] s.heap := hP
  have hK : va_K D vwCl [(d, .int)] s := hK
  have hl := lv_entry ([.ref pA, .int (nI 6), .long l0, .long h0, .long m0, .long n0]) (n := 13) (Nat.le_of_ble_eq_true rfl)
  rw [lg_entry_eq]
  generalize (lg_sl ([.ref pA, .int (nI 6), .long l0, .long h0, .long m0, .long n0]) ++ List.replicate (13 - (lg_sl ([.ref pA, .int (nI 6), .long l0, .long h0, .long m0, .long n0])).length) Slot.unset).toArray = ls at hl ⊢
  have hl : lv_has ls 13 [(0, .ref pA), (1, .int (nI 6)), (2, .long l0), (4, .long h0), (6, .long m0), (8, .long n0)] := hl
  refine lv_lload hx hb dX2_bits_0 (lv_at hl 4 rfl) ?_
  refine lv_l2i hx hb dX2_bits_2 rfl ?_
  refine lv_bipush (v := 31) hx hb dX2_bits_3 (by decide) ?_
  refine lv_iand hx hb dX2_bits_5 ?_
  refine lv_istore (lv' := [(10, .int (m0.toInt32 &&& 31)), (0, .ref pA), (1, .int (nI 6)), (2, .long l0), (4, .long h0), (6, .long m0), (8, .long n0)]) hx hb dX2_bits_6 hl (by decide) rfl (fun ls hl => ?_)
  refine lv_iload_n hx hb dX2_bits_8 rfl (lv_at hl 2 rfl) ?_
  refine lv_iconst (v := 5) hx hb dX2_bits_9 (by decide) ?_
  refine lv_icmp_ne (tgt := 77) hx hb dX2_bits_10 (by decide) (fun c_10 => ?_) (fun c_10 => absurd c_10 (by decide))
  refine lv_iload_n hx hb dX2_bits_77 rfl (lv_at hl 2 rfl) ?_
  refine lv_bipush (v := 6) hx hb dX2_bits_78 (by decide) ?_
  refine lv_icmp_eq (tgt := 89) hx hb dX2_bits_80 (by decide) (fun c_80 => ?_) (fun c_80 => absurd (by decide) c_80)
  refine lv_lconst (v := 0) hx hb dX2_bits_89 (by decide) ?_
  refine lv_lstore (lv' := [(11, .long 0), (10, .int (m0.toInt32 &&& 31)), (0, .ref pA), (1, .int (nI 6)), (2, .long l0), (4, .long h0), (6, .long m0), (8, .long n0)]) hx hb dX2_bits_90 hl (by decide) rfl (fun ls hl => ?_)
  refine X2_bits_loop hx hb hts hown hh hn3 33 0 0 ls (by omega) rfl (fun ls hl => ?_) (lv_sub hl [2, 4, 5, 6, 7, 1, 0] rfl)
  refine lv_lload_n hx hb dX2_bits_121 rfl (lv_at hl 1 rfl) ?_
  refine lv_lconst (v := 0) hx hb dX2_bits_122 (by decide) ?_
  refine lc_lt (tgt := 134) hx hb dX2_bits_123 dX2_bits_124 (by decide) (fun c_123 => ?_) (fun c_123 => ?_)
  · refine lv_aload_n hx hb dX2_bits_134 rfl (lv_at hl 0 rfl) ?_
    refine lv_ldc2 (v := (-2147483648)) hx hb hown (hts _ q156) dX2_bits_135 ?_
    refine lv_ldc2 (v := 2147483647) hx hb hown (hts _ q157) dX2_bits_138 ?_
    refine rr_callv (wc := [(pA, .inr (2, [.ref hT, .int lo, .int hi, .long le, .long gr])), (hT, .inr (1, [.ref hR, .int (nI n)])), (hR, .inl (d, N, .inl a))]) (wr := []) (va_runV (As := [.long (-2147483648), .long 2147483647]) (rest := []) ⟨hx, hb, hml, hown, hts⟩ (met_X2_put l D pA lo hi le gr hT hR d N n a s.heap.size (-2147483648) 2147483647 hok hnN hN hmi hma) (cwV 2 hts (lw_V q152 q154 qs2 q18 q155) rfl rfl rfl (by decide +kernel) ⟨Nat.le_of_ble_eq_true rfl, Nat.le_of_ble_eq_true rfl⟩) ⟨rr_blind, va_recv hK hP (ci := 2) (q0 := 0) rfl rfl, rr_pre (hP.sub (ws' := [(pA, .inr (2, [.ref hT, .int lo, .int hi, .long le, .long gr])), (hT, .inr (1, [.ref hR, .int (nI n)])), (hR, .inl (d, N, .inl a))]) [0, 1, 2] rfl) (hK.sub (tys' := [(d, .int)]) [0] rfl) (hD.sub (ws' := [(pA, .inr (2, [.ref hT, .int lo, .int hi, .long le, .long gr])), (hT, .inr (1, [.ref hR, .int (nI n)])), (hR, .inl (d, N, .inl a))]) [0, 1, 2] (by decide) rfl)⟩ rfl rfl hl.1 rfl (lv_room (Nat.le_of_ble_eq_true rfl)) dX2_bits_141 ⟨Nat.le_of_ble_eq_true rfl, Nat.le_of_ble_eq_true rfl⟩) hK hP hD hS hA [0, 1, 2] [] rfl rfl (by decide) (by decide) (fun u_47 H locs hw_46 hP hD hK hS => ?_)
    obtain ⟨lo_46, hi_46⟩ := u_47
    have hP : va_P D vwCl [(pA, .inr (2, [.ref hT, .int lo_46, .int hi_46, .long le, .long gr])), (hT, .inr (1, [.ref hR, .int (nI n)])), (hR, .inl (d, N, .inl a))] H := hP
    have hD : va_D A [(pA, .inr (2, [.ref hT, .int lo_46, .int hi_46, .long le, .long gr])), (hT, .inr (1, [.ref hR, .int (nI n)])), (hR, .inl (d, N, .inl a))] := hD
    have hK : va_K D vwCl [(d, .int)] s := hK.sub (tys' := [(d, .int)]) [0] rfl
    refine lv_goto (tgt := 154) hx hb dX2_bits_144 (by decide) ?_
    refine lv_goto (tgt := 243) hx hb dX2_bits_154 (by decide) ?_
    exact W.vret hx hb hr (rr_endv (lo_46, hi_46) ⟨_, rfl, by rw [if_pos (Or.inl c_123)]; exact hw_46⟩ hP hK hD hS) hS.2.2 dX2_bits_243
  · refine lv_lload hx hb dX2_bits_127 (lv_at hl 3 rfl) ?_
    refine lv_lconst (v := 0) hx hb dX2_bits_129 (by decide) ?_
    refine lc_ge (tgt := 147) hx hb dX2_bits_130 dX2_bits_131 (by decide) (fun c_130 => ?_) (fun c_130 => ?_)
    · refine lv_aload_n hx hb dX2_bits_147 rfl (lv_at hl 0 rfl) ?_
      refine lv_lconst (v := 0) hx hb dX2_bits_148 (by decide) ?_
      refine lv_lload hx hb dX2_bits_149 (lv_at hl 6 rfl) ?_
      refine rr_callv (wc := [(pA, .inr (2, [.ref hT, .int lo, .int hi, .long le, .long gr])), (hT, .inr (1, [.ref hR, .int (nI n)])), (hR, .inl (d, N, .inl a))]) (wr := []) (va_runV (As := [.long 0, .long (on1 33 0 h0 n0)]) (rest := []) ⟨hx, hb, hml, hown, hts⟩ (met_X2_put l D pA lo hi le gr hT hR d N n a s.heap.size 0 (on1 33 0 h0 n0) hok hnN hN hmi hma) (cwV 2 hts (lw_V q152 q154 qs2 q18 q155) rfl rfl rfl (by decide +kernel) ⟨Nat.le_of_ble_eq_true rfl, Nat.le_of_ble_eq_true rfl⟩) ⟨rr_blind, va_recv hK hP (ci := 2) (q0 := 0) rfl rfl, rr_pre (hP.sub (ws' := [(pA, .inr (2, [.ref hT, .int lo, .int hi, .long le, .long gr])), (hT, .inr (1, [.ref hR, .int (nI n)])), (hR, .inl (d, N, .inl a))]) [0, 1, 2] rfl) (hK.sub (tys' := [(d, .int)]) [0] rfl) (hD.sub (ws' := [(pA, .inr (2, [.ref hT, .int lo, .int hi, .long le, .long gr])), (hT, .inr (1, [.ref hR, .int (nI n)])), (hR, .inl (d, N, .inl a))]) [0, 1, 2] (by decide) rfl)⟩ rfl rfl hl.1 rfl (lv_room (Nat.le_of_ble_eq_true rfl)) dX2_bits_151 ⟨Nat.le_of_ble_eq_true rfl, Nat.le_of_ble_eq_true rfl⟩) hK hP hD hS hA [0, 1, 2] [] rfl rfl (by decide) (by decide) (fun u_49 H locs hw_48 hP hD hK hS => ?_)
      obtain ⟨lo_48, hi_48⟩ := u_49
      have hP : va_P D vwCl [(pA, .inr (2, [.ref hT, .int lo_48, .int hi_48, .long le, .long gr])), (hT, .inr (1, [.ref hR, .int (nI n)])), (hR, .inl (d, N, .inl a))] H := hP
      have hD : va_D A [(pA, .inr (2, [.ref hT, .int lo_48, .int hi_48, .long le, .long gr])), (hT, .inr (1, [.ref hR, .int (nI n)])), (hR, .inl (d, N, .inl a))] := hD
      have hK : va_K D vwCl [(d, .int)] s := hK.sub (tys' := [(d, .int)]) [0] rfl
      refine lv_goto (tgt := 243) hx hb dX2_bits_154 (by decide) ?_
      exact W.vret hx hb hr (rr_endv (lo_48, hi_48) ⟨_, rfl, by rw [if_neg (fun q => q.elim c_123 (fun z => fun_not2 c_130 z))]; exact hw_48⟩ hP hK hD hS) hS.2.2 dX2_bits_243
    · refine lv_aload_n hx hb dX2_bits_134 rfl (lv_at hl 0 rfl) ?_
      refine lv_ldc2 (v := (-2147483648)) hx hb hown (hts _ q156) dX2_bits_135 ?_
      refine lv_ldc2 (v := 2147483647) hx hb hown (hts _ q157) dX2_bits_138 ?_
      refine rr_callv (wc := [(pA, .inr (2, [.ref hT, .int lo, .int hi, .long le, .long gr])), (hT, .inr (1, [.ref hR, .int (nI n)])), (hR, .inl (d, N, .inl a))]) (wr := []) (va_runV (As := [.long (-2147483648), .long 2147483647]) (rest := []) ⟨hx, hb, hml, hown, hts⟩ (met_X2_put l D pA lo hi le gr hT hR d N n a s.heap.size (-2147483648) 2147483647 hok hnN hN hmi hma) (cwV 2 hts (lw_V q152 q154 qs2 q18 q155) rfl rfl rfl (by decide +kernel) ⟨Nat.le_of_ble_eq_true rfl, Nat.le_of_ble_eq_true rfl⟩) ⟨rr_blind, va_recv hK hP (ci := 2) (q0 := 0) rfl rfl, rr_pre (hP.sub (ws' := [(pA, .inr (2, [.ref hT, .int lo, .int hi, .long le, .long gr])), (hT, .inr (1, [.ref hR, .int (nI n)])), (hR, .inl (d, N, .inl a))]) [0, 1, 2] rfl) (hK.sub (tys' := [(d, .int)]) [0] rfl) (hD.sub (ws' := [(pA, .inr (2, [.ref hT, .int lo, .int hi, .long le, .long gr])), (hT, .inr (1, [.ref hR, .int (nI n)])), (hR, .inl (d, N, .inl a))]) [0, 1, 2] (by decide) rfl)⟩ rfl rfl hl.1 rfl (lv_room (Nat.le_of_ble_eq_true rfl)) dX2_bits_141 ⟨Nat.le_of_ble_eq_true rfl, Nat.le_of_ble_eq_true rfl⟩) hK hP hD hS hA [0, 1, 2] [] rfl rfl (by decide) (by decide) (fun u_51 H locs hw_50 hP hD hK hS => ?_)
      obtain ⟨lo_50, hi_50⟩ := u_51
      have hP : va_P D vwCl [(pA, .inr (2, [.ref hT, .int lo_50, .int hi_50, .long le, .long gr])), (hT, .inr (1, [.ref hR, .int (nI n)])), (hR, .inl (d, N, .inl a))] H := hP
      have hD : va_D A [(pA, .inr (2, [.ref hT, .int lo_50, .int hi_50, .long le, .long gr])), (hT, .inr (1, [.ref hR, .int (nI n)])), (hR, .inl (d, N, .inl a))] := hD
      have hK : va_K D vwCl [(d, .int)] s := hK.sub (tys' := [(d, .int)]) [0] rfl
      refine lv_goto (tgt := 154) hx hb dX2_bits_144 (by decide) ?_
      refine lv_goto (tgt := 243) hx hb dX2_bits_154 (by decide) ?_
      exact W.vret hx hb hr (rr_endv (lo_50, hi_50) ⟨_, rfl, by rw [if_pos (Or.inr (fun_not c_130))]; exact hw_50⟩ hP hK hD hS) hS.2.2 dX2_bits_243
set_option maxHeartbeats 4000000 in
set_option maxRecDepth 100000 in
theorem met_X2_bits_7 (l : Launch) (D : va_G) (pA : Nat) (lo hi : Int32) (le gr : Int64) (hT hR : Nat) (d : ClassId) (N n : Nat) (a : Nat → Int32) (sz : Nat) (l0 h0 m0 n0 : Int64) {S : Int32 → Bool} (hok : T_ok S n a) (hnN : n ≤ N) (hN : N ≤ 512) (hmi : S (-2147483648) = true) (hma : S 2147483647 = true) (hh : h0.toInt ≤ 2147483647) (hn3 : n0.toInt ≤ 2147483647) : rr_CV l D yX2_bits wsX2_bits ({ frames := 3, cells := 0, slots := 0, locals := 78 }) [.ref pA, .int (nI 7), .long l0, .long h0, .long m0, .long n0] [(d, .int)] [(pA, .inr (2, [.ref hT, .int lo, .int hi, .long le, .long gr])), (hT, .inr (1, [.ref hR, .int (nI n)])), (hR, .inl (d, N, .inl a))] sz (fun u : Int32 × Int32 => ∃ q, sysOp 7 l0 h0 m0 n0 = some q ∧ PutR S q.1 q.2 u.1 u.2) (fun _ => [(d, .int)]) (fun u => [(pA, .inr (2, [.ref hT, .int u.1, .int u.2, .long le, .long gr])), (hT, .inr (1, [.ref hR, .int (nI n)])), (hR, .inl (d, N, .inl a))]) 0 0 := by
  refine Met.ofW (cc := cX2_bits) (maxL := 13) (ret := none) (by decide) rfl ?_
  intro p e s m args below meth c s₁ B hml hv
  obtain ⟨rfl, hsz, hP, hK, hD0⟩ := hv
  have hx := B.exec
  have hb := B.bytes
  have hr := B.returns
  have hts := atoms_spec (ws := wsX2_bits) B.pre
  have hts : ∀ w ∈ lw_all, w.before _ s = true := fun w h => hts w (List.mem_cons_of_mem _ h)
  have hown : s.vm.findClass RX2 = some m.cls := findClass_of_methodNamed B.named
  have hlocks := B.notSynchronized
  subst hsz
  have hD := hD0.self (sz := s.heap.size)
  generalize hAe : va_A [(pA, .inr (2, [.ref hT, .int lo, .int hi, .long le, .long gr])), (hT, .inr (1, [.ref hR, .int (nI n)])), (hR, .inl (d, N, .inl a))] s.heap.size = A at hD ⊢
  have hA : ∀ q : Nat, s.heap.size ≤ q → A q := fun q h => by rw [← hAe]; exact Or.inr h
  have hS : va_S A s.heap s.heap [] := va_S.rf
  have hP : va_P D vwCl [(pA, .inr (2, [.ref hT, .int lo, .int hi, .long le, .long gr])), (hT, .inr (1, [.ref hR, .int (nI n)])), (hR, .inl (d, N, .inl a))] s.heap := hP
  have hK : va_K D vwCl [(d, .int)] s := hK
  have hl := lv_entry ([.ref pA, .int (nI 7), .long l0, .long h0, .long m0, .long n0]) (n := 13) (Nat.le_of_ble_eq_true rfl)
  rw [lg_entry_eq]
  generalize (lg_sl ([.ref pA, .int (nI 7), .long l0, .long h0, .long m0, .long n0]) ++ List.replicate (13 - (lg_sl ([.ref pA, .int (nI 7), .long l0, .long h0, .long m0, .long n0])).length) Slot.unset).toArray = ls at hl ⊢
  have hl : lv_has ls 13 [(0, .ref pA), (1, .int (nI 7)), (2, .long l0), (4, .long h0), (6, .long m0), (8, .long n0)] := hl
  refine lv_lload hx hb dX2_bits_0 (lv_at hl 4 rfl) ?_
  refine lv_l2i hx hb dX2_bits_2 rfl ?_
  refine lv_bipush (v := 31) hx hb dX2_bits_3 (by decide) ?_
  refine lv_iand hx hb dX2_bits_5 ?_
  refine lv_istore (lv' := [(10, .int (m0.toInt32 &&& 31)), (0, .ref pA), (1, .int (nI 7)), (2, .long l0), (4, .long h0), (6, .long m0), (8, .long n0)]) hx hb dX2_bits_6 hl (by decide) rfl (fun ls hl => ?_)
  refine lv_iload_n hx hb dX2_bits_8 rfl (lv_at hl 2 rfl) ?_
  refine lv_iconst (v := 5) hx hb dX2_bits_9 (by decide) ?_
  refine lv_icmp_ne (tgt := 77) hx hb dX2_bits_10 (by decide) (fun c_10 => ?_) (fun c_10 => absurd c_10 (by decide))
  refine lv_iload_n hx hb dX2_bits_77 rfl (lv_at hl 2 rfl) ?_
  refine lv_bipush (v := 6) hx hb dX2_bits_78 (by decide) ?_
  refine lv_icmp_eq (tgt := 89) hx hb dX2_bits_80 (by decide) (fun c_80 => absurd c_80 (by decide)) (fun c_80 => ?_)
  refine lv_iload_n hx hb dX2_bits_83 rfl (lv_at hl 2 rfl) ?_
  refine lv_bipush (v := 7) hx hb dX2_bits_84 (by decide) ?_
  refine lv_icmp_ne (tgt := 157) hx hb dX2_bits_86 (by decide) (fun c_86 => absurd (by decide) c_86) (fun c_86 => ?_)
  refine lv_lconst (v := 0) hx hb dX2_bits_89 (by decide) ?_
  refine lv_lstore (lv' := [(11, .long 0), (10, .int (m0.toInt32 &&& 31)), (0, .ref pA), (1, .int (nI 7)), (2, .long l0), (4, .long h0), (6, .long m0), (8, .long n0)]) hx hb dX2_bits_90 hl (by decide) rfl (fun ls hl => ?_)
  refine X2_bits_loop hx hb hts hown hh hn3 33 0 0 ls (by omega) rfl (fun ls hl => ?_) (lv_sub hl [2, 4, 5, 6, 7, 1, 0] rfl)
  refine lv_lload_n hx hb dX2_bits_121 rfl (lv_at hl 1 rfl) ?_
  refine lv_lconst (v := 0) hx hb dX2_bits_122 (by decide) ?_
  refine lc_lt (tgt := 134) hx hb dX2_bits_123 dX2_bits_124 (by decide) (fun c_123 => ?_) (fun c_123 => ?_)
  · refine lv_aload_n hx hb dX2_bits_134 rfl (lv_at hl 0 rfl) ?_
    refine lv_ldc2 (v := (-2147483648)) hx hb hown (hts _ q156) dX2_bits_135 ?_
    refine lv_ldc2 (v := 2147483647) hx hb hown (hts _ q157) dX2_bits_138 ?_
    refine rr_callv (wc := [(pA, .inr (2, [.ref hT, .int lo, .int hi, .long le, .long gr])), (hT, .inr (1, [.ref hR, .int (nI n)])), (hR, .inl (d, N, .inl a))]) (wr := []) (va_runV (As := [.long (-2147483648), .long 2147483647]) (rest := []) ⟨hx, hb, hml, hown, hts⟩ (met_X2_put l D pA lo hi le gr hT hR d N n a s.heap.size (-2147483648) 2147483647 hok hnN hN hmi hma) (cwV 2 hts (lw_V q152 q154 qs2 q18 q155) rfl rfl rfl (by decide +kernel) ⟨Nat.le_of_ble_eq_true rfl, Nat.le_of_ble_eq_true rfl⟩) ⟨rr_blind, va_recv hK hP (ci := 2) (q0 := 0) rfl rfl, rr_pre (hP.sub (ws' := [(pA, .inr (2, [.ref hT, .int lo, .int hi, .long le, .long gr])), (hT, .inr (1, [.ref hR, .int (nI n)])), (hR, .inl (d, N, .inl a))]) [0, 1, 2] rfl) (hK.sub (tys' := [(d, .int)]) [0] rfl) (hD.sub (ws' := [(pA, .inr (2, [.ref hT, .int lo, .int hi, .long le, .long gr])), (hT, .inr (1, [.ref hR, .int (nI n)])), (hR, .inl (d, N, .inl a))]) [0, 1, 2] (by decide) rfl)⟩ rfl rfl hl.1 rfl (lv_room (Nat.le_of_ble_eq_true rfl)) dX2_bits_141 ⟨Nat.le_of_ble_eq_true rfl, Nat.le_of_ble_eq_true rfl⟩) hK hP hD hS hA [0, 1, 2] [] rfl rfl (by decide) (by decide) (fun u_53 H locs hw_52 hP hD hK hS => ?_)
    obtain ⟨lo_52, hi_52⟩ := u_53
    have hP : va_P D vwCl [(pA, .inr (2, [.ref hT, .int lo_52, .int hi_52, .long le, .long gr])), (hT, .inr (1, [.ref hR, .int (nI n)])), (hR, .inl (d, N, .inl a))] H := hP
    have hD : va_D A [(pA, .inr (2, [.ref hT, .int lo_52, .int hi_52, .long le, .long gr])), (hT, .inr (1, [.ref hR, .int (nI n)])), (hR, .inl (d, N, .inl a))] := hD
    have hK : va_K D vwCl [(d, .int)] s := hK.sub (tys' := [(d, .int)]) [0] rfl
    refine lv_goto (tgt := 154) hx hb dX2_bits_144 (by decide) ?_
    refine lv_goto (tgt := 243) hx hb dX2_bits_154 (by decide) ?_
    exact W.vret hx hb hr (rr_endv (lo_52, hi_52) ⟨_, rfl, by rw [if_pos (Or.inl c_123)]; exact hw_52⟩ hP hK hD hS) hS.2.2 dX2_bits_243
  · refine lv_lload hx hb dX2_bits_127 (lv_at hl 3 rfl) ?_
    refine lv_lconst (v := 0) hx hb dX2_bits_129 (by decide) ?_
    refine lc_ge (tgt := 147) hx hb dX2_bits_130 dX2_bits_131 (by decide) (fun c_130 => ?_) (fun c_130 => ?_)
    · refine lv_aload_n hx hb dX2_bits_147 rfl (lv_at hl 0 rfl) ?_
      refine lv_lconst (v := 0) hx hb dX2_bits_148 (by decide) ?_
      refine lv_lload hx hb dX2_bits_149 (lv_at hl 6 rfl) ?_
      refine rr_callv (wc := [(pA, .inr (2, [.ref hT, .int lo, .int hi, .long le, .long gr])), (hT, .inr (1, [.ref hR, .int (nI n)])), (hR, .inl (d, N, .inl a))]) (wr := []) (va_runV (As := [.long 0, .long (on1 33 0 h0 n0)]) (rest := []) ⟨hx, hb, hml, hown, hts⟩ (met_X2_put l D pA lo hi le gr hT hR d N n a s.heap.size 0 (on1 33 0 h0 n0) hok hnN hN hmi hma) (cwV 2 hts (lw_V q152 q154 qs2 q18 q155) rfl rfl rfl (by decide +kernel) ⟨Nat.le_of_ble_eq_true rfl, Nat.le_of_ble_eq_true rfl⟩) ⟨rr_blind, va_recv hK hP (ci := 2) (q0 := 0) rfl rfl, rr_pre (hP.sub (ws' := [(pA, .inr (2, [.ref hT, .int lo, .int hi, .long le, .long gr])), (hT, .inr (1, [.ref hR, .int (nI n)])), (hR, .inl (d, N, .inl a))]) [0, 1, 2] rfl) (hK.sub (tys' := [(d, .int)]) [0] rfl) (hD.sub (ws' := [(pA, .inr (2, [.ref hT, .int lo, .int hi, .long le, .long gr])), (hT, .inr (1, [.ref hR, .int (nI n)])), (hR, .inl (d, N, .inl a))]) [0, 1, 2] (by decide) rfl)⟩ rfl rfl hl.1 rfl (lv_room (Nat.le_of_ble_eq_true rfl)) dX2_bits_151 ⟨Nat.le_of_ble_eq_true rfl, Nat.le_of_ble_eq_true rfl⟩) hK hP hD hS hA [0, 1, 2] [] rfl rfl (by decide) (by decide) (fun u_55 H locs hw_54 hP hD hK hS => ?_)
      obtain ⟨lo_54, hi_54⟩ := u_55
      have hP : va_P D vwCl [(pA, .inr (2, [.ref hT, .int lo_54, .int hi_54, .long le, .long gr])), (hT, .inr (1, [.ref hR, .int (nI n)])), (hR, .inl (d, N, .inl a))] H := hP
      have hD : va_D A [(pA, .inr (2, [.ref hT, .int lo_54, .int hi_54, .long le, .long gr])), (hT, .inr (1, [.ref hR, .int (nI n)])), (hR, .inl (d, N, .inl a))] := hD
      have hK : va_K D vwCl [(d, .int)] s := hK.sub (tys' := [(d, .int)]) [0] rfl
      refine lv_goto (tgt := 243) hx hb dX2_bits_154 (by decide) ?_
      exact W.vret hx hb hr (rr_endv (lo_54, hi_54) ⟨_, rfl, by rw [if_neg (fun q => q.elim c_123 (fun z => fun_not2 c_130 z))]; exact hw_54⟩ hP hK hD hS) hS.2.2 dX2_bits_243
    · refine lv_aload_n hx hb dX2_bits_134 rfl (lv_at hl 0 rfl) ?_
      refine lv_ldc2 (v := (-2147483648)) hx hb hown (hts _ q156) dX2_bits_135 ?_
      refine lv_ldc2 (v := 2147483647) hx hb hown (hts _ q157) dX2_bits_138 ?_
      refine rr_callv (wc := [(pA, .inr (2, [.ref hT, .int lo, .int hi, .long le, .long gr])), (hT, .inr (1, [.ref hR, .int (nI n)])), (hR, .inl (d, N, .inl a))]) (wr := []) (va_runV (As := [.long (-2147483648), .long 2147483647]) (rest := []) ⟨hx, hb, hml, hown, hts⟩ (met_X2_put l D pA lo hi le gr hT hR d N n a s.heap.size (-2147483648) 2147483647 hok hnN hN hmi hma) (cwV 2 hts (lw_V q152 q154 qs2 q18 q155) rfl rfl rfl (by decide +kernel) ⟨Nat.le_of_ble_eq_true rfl, Nat.le_of_ble_eq_true rfl⟩) ⟨rr_blind, va_recv hK hP (ci := 2) (q0 := 0) rfl rfl, rr_pre (hP.sub (ws' := [(pA, .inr (2, [.ref hT, .int lo, .int hi, .long le, .long gr])), (hT, .inr (1, [.ref hR, .int (nI n)])), (hR, .inl (d, N, .inl a))]) [0, 1, 2] rfl) (hK.sub (tys' := [(d, .int)]) [0] rfl) (hD.sub (ws' := [(pA, .inr (2, [.ref hT, .int lo, .int hi, .long le, .long gr])), (hT, .inr (1, [.ref hR, .int (nI n)])), (hR, .inl (d, N, .inl a))]) [0, 1, 2] (by decide) rfl)⟩ rfl rfl hl.1 rfl (lv_room (Nat.le_of_ble_eq_true rfl)) dX2_bits_141 ⟨Nat.le_of_ble_eq_true rfl, Nat.le_of_ble_eq_true rfl⟩) hK hP hD hS hA [0, 1, 2] [] rfl rfl (by decide) (by decide) (fun u_57 H locs hw_56 hP hD hK hS => ?_)
      obtain ⟨lo_56, hi_56⟩ := u_57
      have hP : va_P D vwCl [(pA, .inr (2, [.ref hT, .int lo_56, .int hi_56, .long le, .long gr])), (hT, .inr (1, [.ref hR, .int (nI n)])), (hR, .inl (d, N, .inl a))] H := hP
      have hD : va_D A [(pA, .inr (2, [.ref hT, .int lo_56, .int hi_56, .long le, .long gr])), (hT, .inr (1, [.ref hR, .int (nI n)])), (hR, .inl (d, N, .inl a))] := hD
      have hK : va_K D vwCl [(d, .int)] s := hK.sub (tys' := [(d, .int)]) [0] rfl
      refine lv_goto (tgt := 154) hx hb dX2_bits_144 (by decide) ?_
      refine lv_goto (tgt := 243) hx hb dX2_bits_154 (by decide) ?_
      exact W.vret hx hb hr (rr_endv (lo_56, hi_56) ⟨_, rfl, by rw [if_pos (Or.inr (fun_not c_130))]; exact hw_56⟩ hP hK hD hS) hS.2.2 dX2_bits_243
set_option maxHeartbeats 4000000 in
set_option maxRecDepth 100000 in
theorem met_X2_bits_8 (l : Launch) (D : va_G) (pA : Nat) (lo hi : Int32) (le gr : Int64) (hT hR : Nat) (d : ClassId) (N n : Nat) (a : Nat → Int32) (sz : Nat) (l0 h0 m0 n0 : Int64) {S : Int32 → Bool} (hok : T_ok S n a) (hnN : n ≤ N) (hN : N ≤ 512) (hmi : S (-2147483648) = true) (hma : S 2147483647 = true) (hh : h0.toInt ≤ 2147483647) (hn3 : n0.toInt ≤ 2147483647) : rr_CV l D yX2_bits wsX2_bits ({ frames := 3, cells := 0, slots := 0, locals := 78 }) [.ref pA, .int (nI 8), .long l0, .long h0, .long m0, .long n0] [(d, .int)] [(pA, .inr (2, [.ref hT, .int lo, .int hi, .long le, .long gr])), (hT, .inr (1, [.ref hR, .int (nI n)])), (hR, .inl (d, N, .inl a))] sz (fun u : Int32 × Int32 => ∃ q, sysOp 8 l0 h0 m0 n0 = some q ∧ PutR S q.1 q.2 u.1 u.2) (fun _ => [(d, .int)]) (fun u => [(pA, .inr (2, [.ref hT, .int u.1, .int u.2, .long le, .long gr])), (hT, .inr (1, [.ref hR, .int (nI n)])), (hR, .inl (d, N, .inl a))]) 0 0 := by
  refine Met.ofW (cc := cX2_bits) (maxL := 13) (ret := none) (by decide) rfl ?_
  intro p e s m args below meth c s₁ B hml hv
  obtain ⟨rfl, hsz, hP, hK, hD0⟩ := hv
  have hx := B.exec
  have hb := B.bytes
  have hr := B.returns
  have hts := atoms_spec (ws := wsX2_bits) B.pre
  have hts : ∀ w ∈ lw_all, w.before _ s = true := fun w h => hts w (List.mem_cons_of_mem _ h)
  have hown : s.vm.findClass RX2 = some m.cls := findClass_of_methodNamed B.named
  have hlocks := B.notSynchronized
  subst hsz
  have hD := hD0.self (sz := s.heap.size)
  generalize hAe : va_A [(pA, .inr (2, [.ref hT, .int lo, .int hi, .long le, .long gr])), (hT, .inr (1, [.ref hR, .int (nI n)])), (hR, .inl (d, N, .inl a))] s.heap.size = A at hD ⊢
  have hA : ∀ q : Nat, s.heap.size ≤ q → A q := fun q h => by rw [← hAe]; exact Or.inr h
  have hS : va_S A s.heap s.heap [] := va_S.rf
  have hP : va_P D vwCl [(pA, .inr (2, [.ref hT, .int lo, .int hi, .long le, .long gr])), (hT, .inr (1, [.ref hR, .int (nI n)])), (hR, .inl (d, N, .inl a))] s.heap := hP
  have hK : va_K D vwCl [(d, .int)] s := hK
  have hl := lv_entry ([.ref pA, .int (nI 8), .long l0, .long h0, .long m0, .long n0]) (n := 13) (Nat.le_of_ble_eq_true rfl)
  rw [lg_entry_eq]
  generalize (lg_sl ([.ref pA, .int (nI 8), .long l0, .long h0, .long m0, .long n0]) ++ List.replicate (13 - (lg_sl ([.ref pA, .int (nI 8), .long l0, .long h0, .long m0, .long n0])).length) Slot.unset).toArray = ls at hl ⊢
  have hl : lv_has ls 13 [(0, .ref pA), (1, .int (nI 8)), (2, .long l0), (4, .long h0), (6, .long m0), (8, .long n0)] := hl
  refine lv_lload hx hb dX2_bits_0 (lv_at hl 4 rfl) ?_
  refine lv_l2i hx hb dX2_bits_2 rfl ?_
  refine lv_bipush (v := 31) hx hb dX2_bits_3 (by decide) ?_
  refine lv_iand hx hb dX2_bits_5 ?_
  refine lv_istore (lv' := [(10, .int (m0.toInt32 &&& 31)), (0, .ref pA), (1, .int (nI 8)), (2, .long l0), (4, .long h0), (6, .long m0), (8, .long n0)]) hx hb dX2_bits_6 hl (by decide) rfl (fun ls hl => ?_)
  refine lv_iload_n hx hb dX2_bits_8 rfl (lv_at hl 2 rfl) ?_
  refine lv_iconst (v := 5) hx hb dX2_bits_9 (by decide) ?_
  refine lv_icmp_ne (tgt := 77) hx hb dX2_bits_10 (by decide) (fun c_10 => ?_) (fun c_10 => absurd c_10 (by decide))
  refine lv_iload_n hx hb dX2_bits_77 rfl (lv_at hl 2 rfl) ?_
  refine lv_bipush (v := 6) hx hb dX2_bits_78 (by decide) ?_
  refine lv_icmp_eq (tgt := 89) hx hb dX2_bits_80 (by decide) (fun c_80 => absurd c_80 (by decide)) (fun c_80 => ?_)
  refine lv_iload_n hx hb dX2_bits_83 rfl (lv_at hl 2 rfl) ?_
  refine lv_bipush (v := 7) hx hb dX2_bits_84 (by decide) ?_
  refine lv_icmp_ne (tgt := 157) hx hb dX2_bits_86 (by decide) (fun c_86 => ?_) (fun c_86 => absurd c_86 (by decide))
  refine lv_iload_n hx hb dX2_bits_157 rfl (lv_at hl 2 rfl) ?_
  refine lv_bipush (v := 8) hx hb dX2_bits_158 (by decide) ?_
  refine lv_icmp_ne (tgt := 202) hx hb dX2_bits_160 (by decide) (fun c_160 => absurd (by decide) c_160) (fun c_160 => ?_)
  refine lv_lload hx hb dX2_bits_163 (lv_at hl 5 rfl) ?_
  refine lv_lload hx hb dX2_bits_165 (lv_at hl 6 rfl) ?_
  refine lc_ne (tgt := 189) hx hb dX2_bits_167 dX2_bits_168 (by decide) (fun c_167 => ?_) (fun c_167 => ?_)
  · refine lv_aload_n hx hb dX2_bits_189 rfl (lv_at hl 1 rfl) ?_
    refine lv_ldc2 (v := (-2147483648)) hx hb hown (hts _ q156) dX2_bits_190 ?_
    refine lv_ldc2 (v := 2147483647) hx hb hown (hts _ q157) dX2_bits_193 ?_
    refine rr_callv (wc := [(pA, .inr (2, [.ref hT, .int lo, .int hi, .long le, .long gr])), (hT, .inr (1, [.ref hR, .int (nI n)])), (hR, .inl (d, N, .inl a))]) (wr := []) (va_runV (As := [.long (-2147483648), .long 2147483647]) (rest := []) ⟨hx, hb, hml, hown, hts⟩ (met_X2_put l D pA lo hi le gr hT hR d N n a s.heap.size (-2147483648) 2147483647 hok hnN hN hmi hma) (cwV 2 hts (lw_V q152 q154 qs2 q18 q155) rfl rfl rfl (by decide +kernel) ⟨Nat.le_of_ble_eq_true rfl, Nat.le_of_ble_eq_true rfl⟩) ⟨rr_blind, va_recv hK hP (ci := 2) (q0 := 0) rfl rfl, rr_pre (hP.sub (ws' := [(pA, .inr (2, [.ref hT, .int lo, .int hi, .long le, .long gr])), (hT, .inr (1, [.ref hR, .int (nI n)])), (hR, .inl (d, N, .inl a))]) [0, 1, 2] rfl) (hK.sub (tys' := [(d, .int)]) [0] rfl) (hD.sub (ws' := [(pA, .inr (2, [.ref hT, .int lo, .int hi, .long le, .long gr])), (hT, .inr (1, [.ref hR, .int (nI n)])), (hR, .inl (d, N, .inl a))]) [0, 1, 2] (by decide) rfl)⟩ rfl rfl hl.1 rfl (lv_room (Nat.le_of_ble_eq_true rfl)) dX2_bits_196 ⟨Nat.le_of_ble_eq_true rfl, Nat.le_of_ble_eq_true rfl⟩) hK hP hD hS hA [0, 1, 2] [] rfl rfl (by decide) (by decide) (fun u_59 H locs hw_58 hP hD hK hS => ?_)
    obtain ⟨lo_58, hi_58⟩ := u_59
    have hP : va_P D vwCl [(pA, .inr (2, [.ref hT, .int lo_58, .int hi_58, .long le, .long gr])), (hT, .inr (1, [.ref hR, .int (nI n)])), (hR, .inl (d, N, .inl a))] H := hP
    have hD : va_D A [(pA, .inr (2, [.ref hT, .int lo_58, .int hi_58, .long le, .long gr])), (hT, .inr (1, [.ref hR, .int (nI n)])), (hR, .inl (d, N, .inl a))] := hD
    have hK : va_K D vwCl [(d, .int)] s := hK.sub (tys' := [(d, .int)]) [0] rfl
    refine lv_goto (tgt := 243) hx hb dX2_bits_199 (by decide) ?_
    exact W.vret hx hb hr (rr_endv (lo_58, hi_58) ⟨_, rfl, by rw [if_neg c_167]; exact hw_58⟩ hP hK hD hS) hS.2.2 dX2_bits_243
  · refine lv_aload_n hx hb dX2_bits_171 rfl (lv_at hl 1 rfl) ?_
    refine lv_lload_n hx hb dX2_bits_172 rfl (lv_at hl 3 rfl) ?_
    refine lv_lload hx hb dX2_bits_173 (lv_at hl 4 rfl) ?_
    refine lv_lconst (v := 1) hx hb dX2_bits_175 (by decide) ?_
    refine lv_iload hx hb dX2_bits_176 (lv_at hl 0 rfl) ?_
    refine lv_lshl hx hb dX2_bits_178 rfl ?_
    refine lv_lconst (v := 1) hx hb dX2_bits_179 (by decide) ?_
    refine lv_iload hx hb dX2_bits_180 (lv_at hl 0 rfl) ?_
    refine lv_lshl hx hb dX2_bits_182 rfl ?_
    refine rr_callv (wc := [(pA, .inr (2, [.ref hT, .int lo, .int hi, .long le, .long gr])), (hT, .inr (1, [.ref hR, .int (nI n)])), (hR, .inl (d, N, .inl a))]) (wr := []) (va_runV (As := [.long l0, .long h0, .long (1 <<< ((m0.toInt32 &&& 31).toInt64 &&& 63)), .long (1 <<< ((m0.toInt32 &&& 31).toInt64 &&& 63))]) (rest := []) ⟨hx, hb, hml, hown, hts⟩ (met_X2_product l D pA lo hi le gr hT hR d N n a s.heap.size l0 h0 (1 <<< ((m0.toInt32 &&& 31).toInt64 &&& 63)) (1 <<< ((m0.toInt32 &&& 31).toInt64 &&& 63)) hok hnN hN hmi hma) (cwV 4 hts (lw_V q162 q164 qs3 q18 q165) rfl rfl rfl (by decide +kernel) ⟨Nat.le_of_ble_eq_true rfl, Nat.le_of_ble_eq_true rfl⟩) ⟨rr_blind, va_recv hK hP (ci := 2) (q0 := 0) rfl rfl, rr_pre (hP.sub (ws' := [(pA, .inr (2, [.ref hT, .int lo, .int hi, .long le, .long gr])), (hT, .inr (1, [.ref hR, .int (nI n)])), (hR, .inl (d, N, .inl a))]) [0, 1, 2] rfl) (hK.sub (tys' := [(d, .int)]) [0] rfl) (hD.sub (ws' := [(pA, .inr (2, [.ref hT, .int lo, .int hi, .long le, .long gr])), (hT, .inr (1, [.ref hR, .int (nI n)])), (hR, .inl (d, N, .inl a))]) [0, 1, 2] (by decide) rfl)⟩ rfl rfl hl.1 rfl (lv_room (Nat.le_of_ble_eq_true rfl)) dX2_bits_183 ⟨Nat.le_of_ble_eq_true rfl, Nat.le_of_ble_eq_true rfl⟩) hK hP hD hS hA [0, 1, 2] [] rfl rfl (by decide) (by decide) (fun u_61 H locs hw_60 hP hD hK hS => ?_)
    obtain ⟨lo_60, hi_60⟩ := u_61
    have hP : va_P D vwCl [(pA, .inr (2, [.ref hT, .int lo_60, .int hi_60, .long le, .long gr])), (hT, .inr (1, [.ref hR, .int (nI n)])), (hR, .inl (d, N, .inl a))] H := hP
    have hD : va_D A [(pA, .inr (2, [.ref hT, .int lo_60, .int hi_60, .long le, .long gr])), (hT, .inr (1, [.ref hR, .int (nI n)])), (hR, .inl (d, N, .inl a))] := hD
    have hK : va_K D vwCl [(d, .int)] s := hK.sub (tys' := [(d, .int)]) [0] rfl
    refine lv_goto (tgt := 243) hx hb dX2_bits_186 (by decide) ?_
    exact W.vret hx hb hr (rr_endv (lo_60, hi_60) ⟨_, rfl, by rw [if_pos c_167]; exact hw_60⟩ hP hK hD hS) hS.2.2 dX2_bits_243
set_option maxHeartbeats 4000000 in
set_option maxRecDepth 100000 in
theorem met_X2_bits_9 (l : Launch) (D : va_G) (pA : Nat) (lo hi : Int32) (le gr : Int64) (hT hR : Nat) (d : ClassId) (N n : Nat) (a : Nat → Int32) (sz : Nat) (l0 h0 m0 n0 : Int64) {S : Int32 → Bool} (hok : T_ok S n a) (hnN : n ≤ N) (hN : N ≤ 512) (hmi : S (-2147483648) = true) (hma : S 2147483647 = true) (hh : h0.toInt ≤ 2147483647) (hn3 : n0.toInt ≤ 2147483647) : rr_CV l D yX2_bits wsX2_bits ({ frames := 3, cells := 0, slots := 0, locals := 78 }) [.ref pA, .int (nI 9), .long l0, .long h0, .long m0, .long n0] [(d, .int)] [(pA, .inr (2, [.ref hT, .int lo, .int hi, .long le, .long gr])), (hT, .inr (1, [.ref hR, .int (nI n)])), (hR, .inl (d, N, .inl a))] sz (fun u : Int32 × Int32 => ∃ q, sysOp 9 l0 h0 m0 n0 = some q ∧ PutR S q.1 q.2 u.1 u.2) (fun _ => [(d, .int)]) (fun u => [(pA, .inr (2, [.ref hT, .int u.1, .int u.2, .long le, .long gr])), (hT, .inr (1, [.ref hR, .int (nI n)])), (hR, .inl (d, N, .inl a))]) 0 0 := by
  refine Met.ofW (cc := cX2_bits) (maxL := 13) (ret := none) (by decide) rfl ?_
  intro p e s m args below meth c s₁ B hml hv
  obtain ⟨rfl, hsz, hP, hK, hD0⟩ := hv
  have hx := B.exec
  have hb := B.bytes
  have hr := B.returns
  have hts := atoms_spec (ws := wsX2_bits) B.pre
  have hts : ∀ w ∈ lw_all, w.before _ s = true := fun w h => hts w (List.mem_cons_of_mem _ h)
  have hown : s.vm.findClass RX2 = some m.cls := findClass_of_methodNamed B.named
  have hlocks := B.notSynchronized
  subst hsz
  have hD := hD0.self (sz := s.heap.size)
  generalize hAe : va_A [(pA, .inr (2, [.ref hT, .int lo, .int hi, .long le, .long gr])), (hT, .inr (1, [.ref hR, .int (nI n)])), (hR, .inl (d, N, .inl a))] s.heap.size = A at hD ⊢
  have hA : ∀ q : Nat, s.heap.size ≤ q → A q := fun q h => by rw [← hAe]; exact Or.inr h
  have hS : va_S A s.heap s.heap [] := va_S.rf
  have hP : va_P D vwCl [(pA, .inr (2, [.ref hT, .int lo, .int hi, .long le, .long gr])), (hT, .inr (1, [.ref hR, .int (nI n)])), (hR, .inl (d, N, .inl a))] s.heap := hP
  have hK : va_K D vwCl [(d, .int)] s := hK
  have hl := lv_entry ([.ref pA, .int (nI 9), .long l0, .long h0, .long m0, .long n0]) (n := 13) (Nat.le_of_ble_eq_true rfl)
  rw [lg_entry_eq]
  generalize (lg_sl ([.ref pA, .int (nI 9), .long l0, .long h0, .long m0, .long n0]) ++ List.replicate (13 - (lg_sl ([.ref pA, .int (nI 9), .long l0, .long h0, .long m0, .long n0])).length) Slot.unset).toArray = ls at hl ⊢
  have hl : lv_has ls 13 [(0, .ref pA), (1, .int (nI 9)), (2, .long l0), (4, .long h0), (6, .long m0), (8, .long n0)] := hl
  refine lv_lload hx hb dX2_bits_0 (lv_at hl 4 rfl) ?_
  refine lv_l2i hx hb dX2_bits_2 rfl ?_
  refine lv_bipush (v := 31) hx hb dX2_bits_3 (by decide) ?_
  refine lv_iand hx hb dX2_bits_5 ?_
  refine lv_istore (lv' := [(10, .int (m0.toInt32 &&& 31)), (0, .ref pA), (1, .int (nI 9)), (2, .long l0), (4, .long h0), (6, .long m0), (8, .long n0)]) hx hb dX2_bits_6 hl (by decide) rfl (fun ls hl => ?_)
  refine lv_iload_n hx hb dX2_bits_8 rfl (lv_at hl 2 rfl) ?_
  refine lv_iconst (v := 5) hx hb dX2_bits_9 (by decide) ?_
  refine lv_icmp_ne (tgt := 77) hx hb dX2_bits_10 (by decide) (fun c_10 => ?_) (fun c_10 => absurd c_10 (by decide))
  refine lv_iload_n hx hb dX2_bits_77 rfl (lv_at hl 2 rfl) ?_
  refine lv_bipush (v := 6) hx hb dX2_bits_78 (by decide) ?_
  refine lv_icmp_eq (tgt := 89) hx hb dX2_bits_80 (by decide) (fun c_80 => absurd c_80 (by decide)) (fun c_80 => ?_)
  refine lv_iload_n hx hb dX2_bits_83 rfl (lv_at hl 2 rfl) ?_
  refine lv_bipush (v := 7) hx hb dX2_bits_84 (by decide) ?_
  refine lv_icmp_ne (tgt := 157) hx hb dX2_bits_86 (by decide) (fun c_86 => ?_) (fun c_86 => absurd c_86 (by decide))
  refine lv_iload_n hx hb dX2_bits_157 rfl (lv_at hl 2 rfl) ?_
  refine lv_bipush (v := 8) hx hb dX2_bits_158 (by decide) ?_
  refine lv_icmp_ne (tgt := 202) hx hb dX2_bits_160 (by decide) (fun c_160 => ?_) (fun c_160 => absurd c_160 (by decide))
  refine lv_lload hx hb dX2_bits_202 (lv_at hl 5 rfl) ?_
  refine lv_lload hx hb dX2_bits_204 (lv_at hl 6 rfl) ?_
  refine lc_ne (tgt := 226) hx hb dX2_bits_206 dX2_bits_207 (by decide) (fun c_206 => ?_) (fun c_206 => ?_)
  · refine lv_aload_n hx hb dX2_bits_226 rfl (lv_at hl 1 rfl) ?_
    refine lv_lload_n hx hb dX2_bits_227 rfl (lv_at hl 3 rfl) ?_
    refine lv_lconst (v := 0) hx hb dX2_bits_228 (by decide) ?_
    refine rr_minL hx hb hml hl.1 hown hts q166 (Nat.le_of_ble_eq_true rfl) (Nat.le_of_ble_eq_true rfl) (Nat.le_of_ble_eq_true rfl) (Nat.le_of_ble_eq_true rfl) dX2_bits_229 ?_
    refine lv_lload hx hb dX2_bits_232 (lv_at hl 4 rfl) ?_
    refine lv_ldc2 (v := (-1)) hx hb hown (hts _ q182) dX2_bits_234 ?_
    refine rr_maxL hx hb hml hl.1 hown hts q169 (Nat.le_of_ble_eq_true rfl) (Nat.le_of_ble_eq_true rfl) (Nat.le_of_ble_eq_true rfl) (Nat.le_of_ble_eq_true rfl) dX2_bits_237 ?_
    refine rr_callv (wc := [(pA, .inr (2, [.ref hT, .int lo, .int hi, .long le, .long gr])), (hT, .inr (1, [.ref hR, .int (nI n)])), (hR, .inl (d, N, .inl a))]) (wr := []) (va_runV (As := [.long (mnL l0 0), .long (mxL h0 (-1))]) (rest := []) ⟨hx, hb, hml, hown, hts⟩ (met_X2_put l D pA lo hi le gr hT hR d N n a s.heap.size (mnL l0 0) (mxL h0 (-1)) hok hnN hN hmi hma) (cwV 2 hts (lw_V q152 q154 qs2 q18 q155) rfl rfl rfl (by decide +kernel) ⟨Nat.le_of_ble_eq_true rfl, Nat.le_of_ble_eq_true rfl⟩) ⟨rr_blind, va_recv hK hP (ci := 2) (q0 := 0) rfl rfl, rr_pre (hP.sub (ws' := [(pA, .inr (2, [.ref hT, .int lo, .int hi, .long le, .long gr])), (hT, .inr (1, [.ref hR, .int (nI n)])), (hR, .inl (d, N, .inl a))]) [0, 1, 2] rfl) (hK.sub (tys' := [(d, .int)]) [0] rfl) (hD.sub (ws' := [(pA, .inr (2, [.ref hT, .int lo, .int hi, .long le, .long gr])), (hT, .inr (1, [.ref hR, .int (nI n)])), (hR, .inl (d, N, .inl a))]) [0, 1, 2] (by decide) rfl)⟩ rfl rfl hl.1 rfl (lv_room (Nat.le_of_ble_eq_true rfl)) dX2_bits_240 ⟨Nat.le_of_ble_eq_true rfl, Nat.le_of_ble_eq_true rfl⟩) hK hP hD hS hA [0, 1, 2] [] rfl rfl (by decide) (by decide) (fun u_63 H locs hw_62 hP hD hK hS => ?_)
    obtain ⟨lo_62, hi_62⟩ := u_63
    have hP : va_P D vwCl [(pA, .inr (2, [.ref hT, .int lo_62, .int hi_62, .long le, .long gr])), (hT, .inr (1, [.ref hR, .int (nI n)])), (hR, .inl (d, N, .inl a))] H := hP
    have hD : va_D A [(pA, .inr (2, [.ref hT, .int lo_62, .int hi_62, .long le, .long gr])), (hT, .inr (1, [.ref hR, .int (nI n)])), (hR, .inl (d, N, .inl a))] := hD
    have hK : va_K D vwCl [(d, .int)] s := hK.sub (tys' := [(d, .int)]) [0] rfl
    exact W.vret hx hb hr (rr_endv (lo_62, hi_62) ⟨_, rfl, by rw [if_neg c_206]; exact hw_62⟩ hP hK hD hS) hS.2.2 dX2_bits_243
  · refine lv_aload_n hx hb dX2_bits_210 rfl (lv_at hl 1 rfl) ?_
    refine lv_lload_n hx hb dX2_bits_211 rfl (lv_at hl 3 rfl) ?_
    refine lv_iload hx hb dX2_bits_212 (lv_at hl 0 rfl) ?_
    refine lv_lshr hx hb dX2_bits_214 rfl ?_
    refine lv_lload hx hb dX2_bits_215 (lv_at hl 4 rfl) ?_
    refine lv_iload hx hb dX2_bits_217 (lv_at hl 0 rfl) ?_
    refine lv_lshr hx hb dX2_bits_219 rfl ?_
    refine rr_callv (wc := [(pA, .inr (2, [.ref hT, .int lo, .int hi, .long le, .long gr])), (hT, .inr (1, [.ref hR, .int (nI n)])), (hR, .inl (d, N, .inl a))]) (wr := []) (va_runV (As := [.long (l0 >>> ((m0.toInt32 &&& 31).toInt64 &&& 63)), .long (h0 >>> ((m0.toInt32 &&& 31).toInt64 &&& 63))]) (rest := []) ⟨hx, hb, hml, hown, hts⟩ (met_X2_put l D pA lo hi le gr hT hR d N n a s.heap.size (l0 >>> ((m0.toInt32 &&& 31).toInt64 &&& 63)) (h0 >>> ((m0.toInt32 &&& 31).toInt64 &&& 63)) hok hnN hN hmi hma) (cwV 2 hts (lw_V q152 q154 qs2 q18 q155) rfl rfl rfl (by decide +kernel) ⟨Nat.le_of_ble_eq_true rfl, Nat.le_of_ble_eq_true rfl⟩) ⟨rr_blind, va_recv hK hP (ci := 2) (q0 := 0) rfl rfl, rr_pre (hP.sub (ws' := [(pA, .inr (2, [.ref hT, .int lo, .int hi, .long le, .long gr])), (hT, .inr (1, [.ref hR, .int (nI n)])), (hR, .inl (d, N, .inl a))]) [0, 1, 2] rfl) (hK.sub (tys' := [(d, .int)]) [0] rfl) (hD.sub (ws' := [(pA, .inr (2, [.ref hT, .int lo, .int hi, .long le, .long gr])), (hT, .inr (1, [.ref hR, .int (nI n)])), (hR, .inl (d, N, .inl a))]) [0, 1, 2] (by decide) rfl)⟩ rfl rfl hl.1 rfl (lv_room (Nat.le_of_ble_eq_true rfl)) dX2_bits_220 ⟨Nat.le_of_ble_eq_true rfl, Nat.le_of_ble_eq_true rfl⟩) hK hP hD hS hA [0, 1, 2] [] rfl rfl (by decide) (by decide) (fun u_65 H locs hw_64 hP hD hK hS => ?_)
    obtain ⟨lo_64, hi_64⟩ := u_65
    have hP : va_P D vwCl [(pA, .inr (2, [.ref hT, .int lo_64, .int hi_64, .long le, .long gr])), (hT, .inr (1, [.ref hR, .int (nI n)])), (hR, .inl (d, N, .inl a))] H := hP
    have hD : va_D A [(pA, .inr (2, [.ref hT, .int lo_64, .int hi_64, .long le, .long gr])), (hT, .inr (1, [.ref hR, .int (nI n)])), (hR, .inl (d, N, .inl a))] := hD
    have hK : va_K D vwCl [(d, .int)] s := hK.sub (tys' := [(d, .int)]) [0] rfl
    refine lv_goto (tgt := 243) hx hb dX2_bits_223 (by decide) ?_
    exact W.vret hx hb hr (rr_endv (lo_64, hi_64) ⟨_, rfl, by rw [if_pos c_206]; exact hw_64⟩ hP hK hD hS) hS.2.2 dX2_bits_243
end
section
abbrev wsX2_work : List Cond := ws_ yX2_work cX2_work 10 (some .boolean)
set_option maxHeartbeats 4000000 in
set_option maxRecDepth 100000 in
theorem met_X2_work_0 (l : Launch) (D : va_G) (pA : Nat) (lo hi : Int32) (le gr : Int64) (hT hR : Nat) (d : ClassId) (N n : Nat) (a : Nat → Int32) (sz : Nat) (l0 h0 m0 n0 : Int64) {S : Int32 → Bool} (hok : T_ok S n a) (hnN : n ≤ N) (hN : N ≤ 512) (hmi : S (-2147483648) = true) (hma : S 2147483647 = true) (hh : h0.toInt ≤ 2147483647) (hn3 : n0.toInt ≤ 2147483647) : rr_CI l D yX2_work wsX2_work ({ frames := 4, cells := 0, slots := 0, locals := 110 }) [.ref pA, .int (nI 0), .long l0, .long h0, .long m0, .long n0] [(d, .int)] [(pA, .inr (2, [.ref hT, .int lo, .int hi, .long le, .long gr])), (hT, .inr (1, [.ref hR, .int (nI n)])), (hR, .inl (d, N, .inl a))] sz (fun (r : Int32) (u : Int32 × Int32 × Int64 × Int64) => WorkR (PutR S) (sysOp 0 l0 h0 m0 n0) lo hi r u.1 u.2.1) (fun _ => [(d, .int)]) (fun u => [(pA, .inr (2, [.ref hT, .int u.1, .int u.2.1, .long u.2.2.1, .long u.2.2.2])), (hT, .inr (1, [.ref hR, .int (nI n)])), (hR, .inl (d, N, .inl a))]) 0 0 := by
  refine Met.ofW (cc := cX2_work) (maxL := 10) (ret := (some .boolean)) (by decide) rfl ?_
  intro p e s m args below meth c s₁ B hml hv
  obtain ⟨rfl, hsz, hP, hK, hD0⟩ := hv
  have hx := B.exec
  have hb := B.bytes
  have hr := B.returns
  have hts := atoms_spec (ws := wsX2_work) B.pre
  have hts : ∀ w ∈ lw_all, w.before _ s = true := fun w h => hts w (List.mem_cons_of_mem _ h)
  have hown : s.vm.findClass RX2 = some m.cls := findClass_of_methodNamed B.named
  have hlocks := B.notSynchronized
  subst hsz
  have hD := hD0.self (sz := s.heap.size)
  generalize hAe : va_A [(pA, .inr (2, [.ref hT, .int lo, .int hi, .long le, .long gr])), (hT, .inr (1, [.ref hR, .int (nI n)])), (hR, .inl (d, N, .inl a))] s.heap.size = A at hD ⊢
  have hA : ∀ q : Nat, s.heap.size ≤ q → A q := fun q h => by rw [← hAe]; exact Or.inr h
  have hS : va_S A s.heap s.heap [] := va_S.rf
  have hP : va_P D vwCl [(pA, .inr (2, [.ref hT, .int lo, .int hi, .long le, .long gr])), (hT, .inr (1, [.ref hR, .int (nI n)])), (hR, .inl (d, N, .inl a))] s.heap := hP
  have hK : va_K D vwCl [(d, .int)] s := hK
  have hl := lv_entry ([.ref pA, .int (nI 0), .long l0, .long h0, .long m0, .long n0]) (n := 10) (Nat.le_of_ble_eq_true rfl)
  rw [lg_entry_eq]
  generalize (lg_sl ([.ref pA, .int (nI 0), .long l0, .long h0, .long m0, .long n0]) ++ List.replicate (10 - (lg_sl ([.ref pA, .int (nI 0), .long l0, .long h0, .long m0, .long n0])).length) Slot.unset).toArray = ls at hl ⊢
  have hl : lv_has ls 10 [(0, .ref pA), (1, .int (nI 0)), (2, .long l0), (4, .long h0), (6, .long m0), (8, .long n0)] := hl
  refine lv_iload_n hx hb dX2_work_0 rfl (lv_at hl 1 rfl) ?_
  refine lv_tableIn (off := 35) (tgt := 36) hx hb dX2_work_1 (by decide) (by decide) rfl (by decide) ?_
  refine lv_aload_n hx hb dX2_work_36 rfl (lv_at hl 0 rfl) ?_
  refine lv_lload_n hx hb dX2_work_37 rfl (lv_at hl 2 rfl) ?_
  refine lv_lload hx hb dX2_work_38 (lv_at hl 4 rfl) ?_
  refine lv_ladd hx hb dX2_work_40 ?_
  refine lv_lload hx hb dX2_work_41 (lv_at hl 3 rfl) ?_
  refine lv_lload hx hb dX2_work_43 (lv_at hl 5 rfl) ?_
  refine lv_ladd hx hb dX2_work_45 ?_
  refine rr_callv (wc := [(pA, .inr (2, [.ref hT, .int lo, .int hi, .long le, .long gr])), (hT, .inr (1, [.ref hR, .int (nI n)])), (hR, .inl (d, N, .inl a))]) (wr := []) (va_runV (As := [.long (l0 + m0), .long (h0 + n0)]) (rest := []) ⟨hx, hb, hml, hown, hts⟩ (met_X2_put l D pA lo hi le gr hT hR d N n a s.heap.size (l0 + m0) (h0 + n0) hok hnN hN hmi hma) (cwV 2 hts (lw_V q152 q154 qs2 q18 q155) rfl rfl rfl (by decide +kernel) ⟨Nat.le_of_ble_eq_true rfl, Nat.le_of_ble_eq_true rfl⟩) ⟨rr_blind, va_recv hK hP (ci := 2) (q0 := 0) rfl rfl, rr_pre (hP.sub (ws' := [(pA, .inr (2, [.ref hT, .int lo, .int hi, .long le, .long gr])), (hT, .inr (1, [.ref hR, .int (nI n)])), (hR, .inl (d, N, .inl a))]) [0, 1, 2] rfl) (hK.sub (tys' := [(d, .int)]) [0] rfl) (hD.sub (ws' := [(pA, .inr (2, [.ref hT, .int lo, .int hi, .long le, .long gr])), (hT, .inr (1, [.ref hR, .int (nI n)])), (hR, .inl (d, N, .inl a))]) [0, 1, 2] (by decide) rfl)⟩ rfl rfl hl.1 rfl (lv_room (Nat.le_of_ble_eq_true rfl)) dX2_work_46 ⟨Nat.le_of_ble_eq_true rfl, Nat.le_of_ble_eq_true rfl⟩) hK hP hD hS hA [0, 1, 2] [] rfl rfl (by decide) (by decide) (fun u_67 H locs hw_66 hP hD hK hS => ?_)
  obtain ⟨lo_66, hi_66⟩ := u_67
  have hP : va_P D vwCl [(pA, .inr (2, [.ref hT, .int lo_66, .int hi_66, .long le, .long gr])), (hT, .inr (1, [.ref hR, .int (nI n)])), (hR, .inl (d, N, .inl a))] H := hP
  have hD : va_D A [(pA, .inr (2, [.ref hT, .int lo_66, .int hi_66, .long le, .long gr])), (hT, .inr (1, [.ref hR, .int (nI n)])), (hR, .inl (d, N, .inl a))] := hD
  have hK : va_K D vwCl [(d, .int)] s := hK.sub (tys' := [(d, .int)]) [0] rfl
  refine lv_iconst (v := 1) hx hb dX2_work_49 (by decide) ?_
  exact W.zret (v := 1) hx hb hr rfl (rr_endi (lo_66, hi_66, le, gr) (⟨rfl, hw_66⟩) hP hK hD hS) hS.2.2 dX2_work_50
set_option maxHeartbeats 4000000 in
set_option maxRecDepth 100000 in
theorem met_X2_work_1 (l : Launch) (D : va_G) (pA : Nat) (lo hi : Int32) (le gr : Int64) (hT hR : Nat) (d : ClassId) (N n : Nat) (a : Nat → Int32) (sz : Nat) (l0 h0 m0 n0 : Int64) {S : Int32 → Bool} (hok : T_ok S n a) (hnN : n ≤ N) (hN : N ≤ 512) (hmi : S (-2147483648) = true) (hma : S 2147483647 = true) (hh : h0.toInt ≤ 2147483647) (hn3 : n0.toInt ≤ 2147483647) : rr_CI l D yX2_work wsX2_work ({ frames := 4, cells := 0, slots := 0, locals := 110 }) [.ref pA, .int (nI 1), .long l0, .long h0, .long m0, .long n0] [(d, .int)] [(pA, .inr (2, [.ref hT, .int lo, .int hi, .long le, .long gr])), (hT, .inr (1, [.ref hR, .int (nI n)])), (hR, .inl (d, N, .inl a))] sz (fun (r : Int32) (u : Int32 × Int32 × Int64 × Int64) => WorkR (PutR S) (sysOp 1 l0 h0 m0 n0) lo hi r u.1 u.2.1) (fun _ => [(d, .int)]) (fun u => [(pA, .inr (2, [.ref hT, .int u.1, .int u.2.1, .long u.2.2.1, .long u.2.2.2])), (hT, .inr (1, [.ref hR, .int (nI n)])), (hR, .inl (d, N, .inl a))]) 0 0 := by
  refine Met.ofW (cc := cX2_work) (maxL := 10) (ret := (some .boolean)) (by decide) rfl ?_
  intro p e s m args below meth c s₁ B hml hv
  obtain ⟨rfl, hsz, hP, hK, hD0⟩ := hv
  have hx := B.exec
  have hb := B.bytes
  have hr := B.returns
  have hts := atoms_spec (ws := wsX2_work) B.pre
  have hts : ∀ w ∈ lw_all, w.before _ s = true := fun w h => hts w (List.mem_cons_of_mem _ h)
  have hown : s.vm.findClass RX2 = some m.cls := findClass_of_methodNamed B.named
  have hlocks := B.notSynchronized
  subst hsz
  have hD := hD0.self (sz := s.heap.size)
  generalize hAe : va_A [(pA, .inr (2, [.ref hT, .int lo, .int hi, .long le, .long gr])), (hT, .inr (1, [.ref hR, .int (nI n)])), (hR, .inl (d, N, .inl a))] s.heap.size = A at hD ⊢
  have hA : ∀ q : Nat, s.heap.size ≤ q → A q := fun q h => by rw [← hAe]; exact Or.inr h
  have hS : va_S A s.heap s.heap [] := va_S.rf
  have hP : va_P D vwCl [(pA, .inr (2, [.ref hT, .int lo, .int hi, .long le, .long gr])), (hT, .inr (1, [.ref hR, .int (nI n)])), (hR, .inl (d, N, .inl a))] s.heap := hP
  have hK : va_K D vwCl [(d, .int)] s := hK
  have hl := lv_entry ([.ref pA, .int (nI 1), .long l0, .long h0, .long m0, .long n0]) (n := 10) (Nat.le_of_ble_eq_true rfl)
  rw [lg_entry_eq]
  generalize (lg_sl ([.ref pA, .int (nI 1), .long l0, .long h0, .long m0, .long n0]) ++ List.replicate (10 - (lg_sl ([.ref pA, .int (nI 1), .long l0, .long h0, .long m0, .long n0])).length) Slot.unset).toArray = ls at hl ⊢
  have hl : lv_has ls 10 [(0, .ref pA), (1, .int (nI 1)), (2, .long l0), (4, .long h0), (6, .long m0), (8, .long n0)] := hl
  refine lv_iload_n hx hb dX2_work_0 rfl (lv_at hl 1 rfl) ?_
  refine lv_tableIn (off := 50) (tgt := 51) hx hb dX2_work_1 (by decide) (by decide) rfl (by decide) ?_
  refine lv_aload_n hx hb dX2_work_51 rfl (lv_at hl 0 rfl) ?_
  refine lv_lload_n hx hb dX2_work_52 rfl (lv_at hl 2 rfl) ?_
  refine lv_lload hx hb dX2_work_53 (lv_at hl 5 rfl) ?_
  refine lv_lsub hx hb dX2_work_55 ?_
  refine lv_lload hx hb dX2_work_56 (lv_at hl 3 rfl) ?_
  refine lv_lload hx hb dX2_work_58 (lv_at hl 4 rfl) ?_
  refine lv_lsub hx hb dX2_work_60 ?_
  refine rr_callv (wc := [(pA, .inr (2, [.ref hT, .int lo, .int hi, .long le, .long gr])), (hT, .inr (1, [.ref hR, .int (nI n)])), (hR, .inl (d, N, .inl a))]) (wr := []) (va_runV (As := [.long (l0 - n0), .long (h0 - m0)]) (rest := []) ⟨hx, hb, hml, hown, hts⟩ (met_X2_put l D pA lo hi le gr hT hR d N n a s.heap.size (l0 - n0) (h0 - m0) hok hnN hN hmi hma) (cwV 2 hts (lw_V q152 q154 qs2 q18 q155) rfl rfl rfl (by decide +kernel) ⟨Nat.le_of_ble_eq_true rfl, Nat.le_of_ble_eq_true rfl⟩) ⟨rr_blind, va_recv hK hP (ci := 2) (q0 := 0) rfl rfl, rr_pre (hP.sub (ws' := [(pA, .inr (2, [.ref hT, .int lo, .int hi, .long le, .long gr])), (hT, .inr (1, [.ref hR, .int (nI n)])), (hR, .inl (d, N, .inl a))]) [0, 1, 2] rfl) (hK.sub (tys' := [(d, .int)]) [0] rfl) (hD.sub (ws' := [(pA, .inr (2, [.ref hT, .int lo, .int hi, .long le, .long gr])), (hT, .inr (1, [.ref hR, .int (nI n)])), (hR, .inl (d, N, .inl a))]) [0, 1, 2] (by decide) rfl)⟩ rfl rfl hl.1 rfl (lv_room (Nat.le_of_ble_eq_true rfl)) dX2_work_61 ⟨Nat.le_of_ble_eq_true rfl, Nat.le_of_ble_eq_true rfl⟩) hK hP hD hS hA [0, 1, 2] [] rfl rfl (by decide) (by decide) (fun u_69 H locs hw_68 hP hD hK hS => ?_)
  obtain ⟨lo_68, hi_68⟩ := u_69
  have hP : va_P D vwCl [(pA, .inr (2, [.ref hT, .int lo_68, .int hi_68, .long le, .long gr])), (hT, .inr (1, [.ref hR, .int (nI n)])), (hR, .inl (d, N, .inl a))] H := hP
  have hD : va_D A [(pA, .inr (2, [.ref hT, .int lo_68, .int hi_68, .long le, .long gr])), (hT, .inr (1, [.ref hR, .int (nI n)])), (hR, .inl (d, N, .inl a))] := hD
  have hK : va_K D vwCl [(d, .int)] s := hK.sub (tys' := [(d, .int)]) [0] rfl
  refine lv_iconst (v := 1) hx hb dX2_work_64 (by decide) ?_
  exact W.zret (v := 1) hx hb hr rfl (rr_endi (lo_68, hi_68, le, gr) (⟨rfl, hw_68⟩) hP hK hD hS) hS.2.2 dX2_work_65
set_option maxHeartbeats 4000000 in
set_option maxRecDepth 100000 in
theorem met_X2_work_2 (l : Launch) (D : va_G) (pA : Nat) (lo hi : Int32) (le gr : Int64) (hT hR : Nat) (d : ClassId) (N n : Nat) (a : Nat → Int32) (sz : Nat) (l0 h0 m0 n0 : Int64) {S : Int32 → Bool} (hok : T_ok S n a) (hnN : n ≤ N) (hN : N ≤ 512) (hmi : S (-2147483648) = true) (hma : S 2147483647 = true) (hh : h0.toInt ≤ 2147483647) (hn3 : n0.toInt ≤ 2147483647) : rr_CI l D yX2_work wsX2_work ({ frames := 4, cells := 0, slots := 0, locals := 110 }) [.ref pA, .int (nI 2), .long l0, .long h0, .long m0, .long n0] [(d, .int)] [(pA, .inr (2, [.ref hT, .int lo, .int hi, .long le, .long gr])), (hT, .inr (1, [.ref hR, .int (nI n)])), (hR, .inl (d, N, .inl a))] sz (fun (r : Int32) (u : Int32 × Int32 × Int64 × Int64) => WorkR (PutR S) (sysOp 2 l0 h0 m0 n0) lo hi r u.1 u.2.1) (fun _ => [(d, .int)]) (fun u => [(pA, .inr (2, [.ref hT, .int u.1, .int u.2.1, .long u.2.2.1, .long u.2.2.2])), (hT, .inr (1, [.ref hR, .int (nI n)])), (hR, .inl (d, N, .inl a))]) 0 0 := by
  refine Met.ofW (cc := cX2_work) (maxL := 10) (ret := (some .boolean)) (by decide) rfl ?_
  intro p e s m args below meth c s₁ B hml hv
  obtain ⟨rfl, hsz, hP, hK, hD0⟩ := hv
  have hx := B.exec
  have hb := B.bytes
  have hr := B.returns
  have hts := atoms_spec (ws := wsX2_work) B.pre
  have hts : ∀ w ∈ lw_all, w.before _ s = true := fun w h => hts w (List.mem_cons_of_mem _ h)
  have hown : s.vm.findClass RX2 = some m.cls := findClass_of_methodNamed B.named
  have hlocks := B.notSynchronized
  subst hsz
  have hD := hD0.self (sz := s.heap.size)
  generalize hAe : va_A [(pA, .inr (2, [.ref hT, .int lo, .int hi, .long le, .long gr])), (hT, .inr (1, [.ref hR, .int (nI n)])), (hR, .inl (d, N, .inl a))] s.heap.size = A at hD ⊢
  have hA : ∀ q : Nat, s.heap.size ≤ q → A q := fun q h => by rw [← hAe]; exact Or.inr h
  have hS : va_S A s.heap s.heap [] := va_S.rf
  have hP : va_P D vwCl [(pA, .inr (2, [.ref hT, .int lo, .int hi, .long le, .long gr])), (hT, .inr (1, [.ref hR, .int (nI n)])), (hR, .inl (d, N, .inl a))] s.heap := hP
  have hK : va_K D vwCl [(d, .int)] s := hK
  have hl := lv_entry ([.ref pA, .int (nI 2), .long l0, .long h0, .long m0, .long n0]) (n := 10) (Nat.le_of_ble_eq_true rfl)
  rw [lg_entry_eq]
  generalize (lg_sl ([.ref pA, .int (nI 2), .long l0, .long h0, .long m0, .long n0]) ++ List.replicate (10 - (lg_sl ([.ref pA, .int (nI 2), .long l0, .long h0, .long m0, .long n0])).length) Slot.unset).toArray = ls at hl ⊢
  have hl : lv_has ls 10 [(0, .ref pA), (1, .int (nI 2)), (2, .long l0), (4, .long h0), (6, .long m0), (8, .long n0)] := hl
  refine lv_iload_n hx hb dX2_work_0 rfl (lv_at hl 1 rfl) ?_
  refine lv_tableIn (off := 65) (tgt := 66) hx hb dX2_work_1 (by decide) (by decide) rfl (by decide) ?_
  refine lv_aload_n hx hb dX2_work_66 rfl (lv_at hl 0 rfl) ?_
  refine lv_lload_n hx hb dX2_work_67 rfl (lv_at hl 2 rfl) ?_
  refine lv_lload hx hb dX2_work_68 (lv_at hl 3 rfl) ?_
  refine lv_lload hx hb dX2_work_70 (lv_at hl 4 rfl) ?_
  refine lv_lload hx hb dX2_work_72 (lv_at hl 5 rfl) ?_
  refine rr_callv (wc := [(pA, .inr (2, [.ref hT, .int lo, .int hi, .long le, .long gr])), (hT, .inr (1, [.ref hR, .int (nI n)])), (hR, .inl (d, N, .inl a))]) (wr := []) (va_runV (As := [.long l0, .long h0, .long m0, .long n0]) (rest := []) ⟨hx, hb, hml, hown, hts⟩ (met_X2_product l D pA lo hi le gr hT hR d N n a s.heap.size l0 h0 m0 n0 hok hnN hN hmi hma) (cwV 4 hts (lw_V q162 q164 qs3 q18 q165) rfl rfl rfl (by decide +kernel) ⟨Nat.le_of_ble_eq_true rfl, Nat.le_of_ble_eq_true rfl⟩) ⟨rr_blind, va_recv hK hP (ci := 2) (q0 := 0) rfl rfl, rr_pre (hP.sub (ws' := [(pA, .inr (2, [.ref hT, .int lo, .int hi, .long le, .long gr])), (hT, .inr (1, [.ref hR, .int (nI n)])), (hR, .inl (d, N, .inl a))]) [0, 1, 2] rfl) (hK.sub (tys' := [(d, .int)]) [0] rfl) (hD.sub (ws' := [(pA, .inr (2, [.ref hT, .int lo, .int hi, .long le, .long gr])), (hT, .inr (1, [.ref hR, .int (nI n)])), (hR, .inl (d, N, .inl a))]) [0, 1, 2] (by decide) rfl)⟩ rfl rfl hl.1 rfl (lv_room (Nat.le_of_ble_eq_true rfl)) dX2_work_74 ⟨Nat.le_of_ble_eq_true rfl, Nat.le_of_ble_eq_true rfl⟩) hK hP hD hS hA [0, 1, 2] [] rfl rfl (by decide) (by decide) (fun u_71 H locs hw_70 hP hD hK hS => ?_)
  obtain ⟨lo_70, hi_70⟩ := u_71
  have hP : va_P D vwCl [(pA, .inr (2, [.ref hT, .int lo_70, .int hi_70, .long le, .long gr])), (hT, .inr (1, [.ref hR, .int (nI n)])), (hR, .inl (d, N, .inl a))] H := hP
  have hD : va_D A [(pA, .inr (2, [.ref hT, .int lo_70, .int hi_70, .long le, .long gr])), (hT, .inr (1, [.ref hR, .int (nI n)])), (hR, .inl (d, N, .inl a))] := hD
  have hK : va_K D vwCl [(d, .int)] s := hK.sub (tys' := [(d, .int)]) [0] rfl
  refine lv_iconst (v := 1) hx hb dX2_work_77 (by decide) ?_
  exact W.zret (v := 1) hx hb hr rfl (rr_endi (lo_70, hi_70, le, gr) (⟨rfl, hw_70⟩) hP hK hD hS) hS.2.2 dX2_work_78
set_option maxHeartbeats 4000000 in
set_option maxRecDepth 100000 in
theorem met_X2_work_3 (l : Launch) (D : va_G) (pA : Nat) (lo hi : Int32) (le gr : Int64) (hT hR : Nat) (d : ClassId) (N n : Nat) (a : Nat → Int32) (sz : Nat) (l0 h0 m0 n0 : Int64) {S : Int32 → Bool} (hok : T_ok S n a) (hnN : n ≤ N) (hN : N ≤ 512) (hmi : S (-2147483648) = true) (hma : S 2147483647 = true) (hh : h0.toInt ≤ 2147483647) (hn3 : n0.toInt ≤ 2147483647) : rr_CI l D yX2_work wsX2_work ({ frames := 4, cells := 0, slots := 0, locals := 110 }) [.ref pA, .int (nI 3), .long l0, .long h0, .long m0, .long n0] [(d, .int)] [(pA, .inr (2, [.ref hT, .int lo, .int hi, .long le, .long gr])), (hT, .inr (1, [.ref hR, .int (nI n)])), (hR, .inl (d, N, .inl a))] sz (fun (r : Int32) (u : Int32 × Int32 × Int64 × Int64) => WorkR (PutR S) (sysOp 3 l0 h0 m0 n0) lo hi r u.1 u.2.1) (fun _ => [(d, .int)]) (fun u => [(pA, .inr (2, [.ref hT, .int u.1, .int u.2.1, .long u.2.2.1, .long u.2.2.2])), (hT, .inr (1, [.ref hR, .int (nI n)])), (hR, .inl (d, N, .inl a))]) 0 0 := by
  refine Met.ofW (cc := cX2_work) (maxL := 10) (ret := (some .boolean)) (by decide) rfl ?_
  intro p e s m args below meth c s₁ B hml hv
  obtain ⟨rfl, hsz, hP, hK, hD0⟩ := hv
  have hx := B.exec
  have hb := B.bytes
  have hr := B.returns
  have hts := atoms_spec (ws := wsX2_work) B.pre
  have hts : ∀ w ∈ lw_all, w.before _ s = true := fun w h => hts w (List.mem_cons_of_mem _ h)
  have hown : s.vm.findClass RX2 = some m.cls := findClass_of_methodNamed B.named
  have hlocks := B.notSynchronized
  subst hsz
  have hD := hD0.self (sz := s.heap.size)
  generalize hAe : va_A [(pA, .inr (2, [.ref hT, .int lo, .int hi, .long le, .long gr])), (hT, .inr (1, [.ref hR, .int (nI n)])), (hR, .inl (d, N, .inl a))] s.heap.size = A at hD ⊢
  have hA : ∀ q : Nat, s.heap.size ≤ q → A q := fun q h => by rw [← hAe]; exact Or.inr h
  have hS : va_S A s.heap s.heap [] := va_S.rf
  have hP : va_P D vwCl [(pA, .inr (2, [.ref hT, .int lo, .int hi, .long le, .long gr])), (hT, .inr (1, [.ref hR, .int (nI n)])), (hR, .inl (d, N, .inl a))] s.heap := hP
  have hK : va_K D vwCl [(d, .int)] s := hK
  have hl := lv_entry ([.ref pA, .int (nI 3), .long l0, .long h0, .long m0, .long n0]) (n := 10) (Nat.le_of_ble_eq_true rfl)
  rw [lg_entry_eq]
  generalize (lg_sl ([.ref pA, .int (nI 3), .long l0, .long h0, .long m0, .long n0]) ++ List.replicate (10 - (lg_sl ([.ref pA, .int (nI 3), .long l0, .long h0, .long m0, .long n0])).length) Slot.unset).toArray = ls at hl ⊢
  have hl : lv_has ls 10 [(0, .ref pA), (1, .int (nI 3)), (2, .long l0), (4, .long h0), (6, .long m0), (8, .long n0)] := hl
  refine lv_iload_n hx hb dX2_work_0 rfl (lv_at hl 1 rfl) ?_
  refine lv_tableIn (off := 78) (tgt := 79) hx hb dX2_work_1 (by decide) (by decide) rfl (by decide) ?_
  refine lv_lload hx hb dX2_work_79 (lv_at hl 4 rfl) ?_
  refine lv_lconst (v := 0) hx hb dX2_work_81 (by decide) ?_
  refine lc_ne (tgt := 95) hx hb dX2_work_82 dX2_work_83 (by decide) (fun c_82 => ?_) (fun c_82 => ?_)
  · refine lv_iload_n hx hb dX2_work_95 rfl (lv_at hl 1 rfl) ?_
    refine lv_iconst (v := 3) hx hb dX2_work_96 (by decide) ?_
    refine lv_icmp_ne (tgt := 114) hx hb dX2_work_97 (by decide) (fun c_97 => absurd (by decide) c_97) (fun c_97 => ?_)
    refine lv_aload_n hx hb dX2_work_100 rfl (lv_at hl 0 rfl) ?_
    refine lv_lload_n hx hb dX2_work_101 rfl (lv_at hl 2 rfl) ?_
    refine lv_lload hx hb dX2_work_102 (lv_at hl 3 rfl) ?_
    refine lv_lload hx hb dX2_work_104 (lv_at hl 4 rfl) ?_
    refine lv_lload hx hb dX2_work_106 (lv_at hl 5 rfl) ?_
    refine rr_callv (wc := [(pA, .inr (2, [.ref hT, .int lo, .int hi, .long le, .long gr])), (hT, .inr (1, [.ref hR, .int (nI n)])), (hR, .inl (d, N, .inl a))]) (wr := []) (va_runV (As := [.long l0, .long h0, .long m0, .long n0]) (rest := []) ⟨hx, hb, hml, hown, hts⟩ (met_X2_quotient l D pA lo hi le gr hT hR d N n a s.heap.size l0 h0 m0 n0 hok hnN hN hmi hma) (cwV 4 hts (lw_V q172 q174 qs4 q18 q175) rfl rfl rfl (by decide +kernel) ⟨Nat.le_of_ble_eq_true rfl, Nat.le_of_ble_eq_true rfl⟩) ⟨rr_blind, va_recv hK hP (ci := 2) (q0 := 0) rfl rfl, rr_pre (hP.sub (ws' := [(pA, .inr (2, [.ref hT, .int lo, .int hi, .long le, .long gr])), (hT, .inr (1, [.ref hR, .int (nI n)])), (hR, .inl (d, N, .inl a))]) [0, 1, 2] rfl) (hK.sub (tys' := [(d, .int)]) [0] rfl) (hD.sub (ws' := [(pA, .inr (2, [.ref hT, .int lo, .int hi, .long le, .long gr])), (hT, .inr (1, [.ref hR, .int (nI n)])), (hR, .inl (d, N, .inl a))]) [0, 1, 2] (by decide) rfl)⟩ rfl rfl hl.1 rfl (lv_room (Nat.le_of_ble_eq_true rfl)) dX2_work_108 ⟨Nat.le_of_ble_eq_true rfl, Nat.le_of_ble_eq_true rfl⟩) hK hP hD hS hA [0, 1, 2] [] rfl rfl (by decide) (by decide) (fun u_73 H locs hw_72 hP hD hK hS => ?_)
    obtain ⟨lo_72, hi_72, le_72, gr_72⟩ := u_73
    have hP : va_P D vwCl [(pA, .inr (2, [.ref hT, .int lo_72, .int hi_72, .long le_72, .long gr_72])), (hT, .inr (1, [.ref hR, .int (nI n)])), (hR, .inl (d, N, .inl a))] H := hP
    have hD : va_D A [(pA, .inr (2, [.ref hT, .int lo_72, .int hi_72, .long le_72, .long gr_72])), (hT, .inr (1, [.ref hR, .int (nI n)])), (hR, .inl (d, N, .inl a))] := hD
    have hK : va_K D vwCl [(d, .int)] s := hK.sub (tys' := [(d, .int)]) [0] rfl
    refine lv_goto (tgt := 136) hx hb dX2_work_111 (by decide) ?_
    refine lv_iconst (v := 1) hx hb dX2_work_136 (by decide) ?_
    exact W.zret (v := 1) hx hb hr rfl (rr_endi (lo_72, hi_72, le_72, gr_72) (by show WorkR _ (if m0 = 0 ∧ n0 = 0 then none else _) _ _ _ _ _; rw [if_neg (fun q => c_82 q.1)]; exact ⟨rfl, hw_72⟩) hP hK hD hS) hS.2.2 dX2_work_137
  · refine lv_lload hx hb dX2_work_86 (lv_at hl 5 rfl) ?_
    refine lv_lconst (v := 0) hx hb dX2_work_88 (by decide) ?_
    refine lc_ne (tgt := 95) hx hb dX2_work_89 dX2_work_90 (by decide) (fun c_89 => ?_) (fun c_89 => ?_)
    · refine lv_iload_n hx hb dX2_work_95 rfl (lv_at hl 1 rfl) ?_
      refine lv_iconst (v := 3) hx hb dX2_work_96 (by decide) ?_
      refine lv_icmp_ne (tgt := 114) hx hb dX2_work_97 (by decide) (fun c_97 => absurd (by decide) c_97) (fun c_97 => ?_)
      refine lv_aload_n hx hb dX2_work_100 rfl (lv_at hl 0 rfl) ?_
      refine lv_lload_n hx hb dX2_work_101 rfl (lv_at hl 2 rfl) ?_
      refine lv_lload hx hb dX2_work_102 (lv_at hl 3 rfl) ?_
      refine lv_lload hx hb dX2_work_104 (lv_at hl 4 rfl) ?_
      refine lv_lload hx hb dX2_work_106 (lv_at hl 5 rfl) ?_
      refine rr_callv (wc := [(pA, .inr (2, [.ref hT, .int lo, .int hi, .long le, .long gr])), (hT, .inr (1, [.ref hR, .int (nI n)])), (hR, .inl (d, N, .inl a))]) (wr := []) (va_runV (As := [.long l0, .long h0, .long m0, .long n0]) (rest := []) ⟨hx, hb, hml, hown, hts⟩ (met_X2_quotient l D pA lo hi le gr hT hR d N n a s.heap.size l0 h0 m0 n0 hok hnN hN hmi hma) (cwV 4 hts (lw_V q172 q174 qs4 q18 q175) rfl rfl rfl (by decide +kernel) ⟨Nat.le_of_ble_eq_true rfl, Nat.le_of_ble_eq_true rfl⟩) ⟨rr_blind, va_recv hK hP (ci := 2) (q0 := 0) rfl rfl, rr_pre (hP.sub (ws' := [(pA, .inr (2, [.ref hT, .int lo, .int hi, .long le, .long gr])), (hT, .inr (1, [.ref hR, .int (nI n)])), (hR, .inl (d, N, .inl a))]) [0, 1, 2] rfl) (hK.sub (tys' := [(d, .int)]) [0] rfl) (hD.sub (ws' := [(pA, .inr (2, [.ref hT, .int lo, .int hi, .long le, .long gr])), (hT, .inr (1, [.ref hR, .int (nI n)])), (hR, .inl (d, N, .inl a))]) [0, 1, 2] (by decide) rfl)⟩ rfl rfl hl.1 rfl (lv_room (Nat.le_of_ble_eq_true rfl)) dX2_work_108 ⟨Nat.le_of_ble_eq_true rfl, Nat.le_of_ble_eq_true rfl⟩) hK hP hD hS hA [0, 1, 2] [] rfl rfl (by decide) (by decide) (fun u_75 H locs hw_74 hP hD hK hS => ?_)
      obtain ⟨lo_74, hi_74, le_74, gr_74⟩ := u_75
      have hP : va_P D vwCl [(pA, .inr (2, [.ref hT, .int lo_74, .int hi_74, .long le_74, .long gr_74])), (hT, .inr (1, [.ref hR, .int (nI n)])), (hR, .inl (d, N, .inl a))] H := hP
      have hD : va_D A [(pA, .inr (2, [.ref hT, .int lo_74, .int hi_74, .long le_74, .long gr_74])), (hT, .inr (1, [.ref hR, .int (nI n)])), (hR, .inl (d, N, .inl a))] := hD
      have hK : va_K D vwCl [(d, .int)] s := hK.sub (tys' := [(d, .int)]) [0] rfl
      refine lv_goto (tgt := 136) hx hb dX2_work_111 (by decide) ?_
      refine lv_iconst (v := 1) hx hb dX2_work_136 (by decide) ?_
      exact W.zret (v := 1) hx hb hr rfl (rr_endi (lo_74, hi_74, le_74, gr_74) (by show WorkR _ (if m0 = 0 ∧ n0 = 0 then none else _) _ _ _ _ _; rw [if_neg (fun q => c_89 q.2)]; exact ⟨rfl, hw_74⟩) hP hK hD hS) hS.2.2 dX2_work_137
    · refine lv_iconst (v := 0) hx hb dX2_work_93 (by decide) ?_
      exact W.zret (v := 0) hx hb hr rfl (rr_endi (lo, hi, le, gr) (by show WorkR _ (if m0 = 0 ∧ n0 = 0 then none else _) _ _ _ _ _; rw [if_pos ⟨c_82, c_89⟩]; exact ⟨rfl, rfl, rfl⟩) hP hK hD hS) hS.2.2 dX2_work_94
set_option maxHeartbeats 4000000 in
set_option maxRecDepth 100000 in
theorem met_X2_work_4 (l : Launch) (D : va_G) (pA : Nat) (lo hi : Int32) (le gr : Int64) (hT hR : Nat) (d : ClassId) (N n : Nat) (a : Nat → Int32) (sz : Nat) (l0 h0 m0 n0 : Int64) {S : Int32 → Bool} (hok : T_ok S n a) (hnN : n ≤ N) (hN : N ≤ 512) (hmi : S (-2147483648) = true) (hma : S 2147483647 = true) (hh : h0.toInt ≤ 2147483647) (hn3 : n0.toInt ≤ 2147483647) : rr_CI l D yX2_work wsX2_work ({ frames := 4, cells := 0, slots := 0, locals := 110 }) [.ref pA, .int (nI 4), .long l0, .long h0, .long m0, .long n0] [(d, .int)] [(pA, .inr (2, [.ref hT, .int lo, .int hi, .long le, .long gr])), (hT, .inr (1, [.ref hR, .int (nI n)])), (hR, .inl (d, N, .inl a))] sz (fun (r : Int32) (u : Int32 × Int32 × Int64 × Int64) => WorkR (PutR S) (sysOp 4 l0 h0 m0 n0) lo hi r u.1 u.2.1) (fun _ => [(d, .int)]) (fun u => [(pA, .inr (2, [.ref hT, .int u.1, .int u.2.1, .long u.2.2.1, .long u.2.2.2])), (hT, .inr (1, [.ref hR, .int (nI n)])), (hR, .inl (d, N, .inl a))]) 0 0 := by
  refine Met.ofW (cc := cX2_work) (maxL := 10) (ret := (some .boolean)) (by decide) rfl ?_
  intro p e s m args below meth c s₁ B hml hv
  obtain ⟨rfl, hsz, hP, hK, hD0⟩ := hv
  have hx := B.exec
  have hb := B.bytes
  have hr := B.returns
  have hts := atoms_spec (ws := wsX2_work) B.pre
  have hts : ∀ w ∈ lw_all, w.before _ s = true := fun w h => hts w (List.mem_cons_of_mem _ h)
  have hown : s.vm.findClass RX2 = some m.cls := findClass_of_methodNamed B.named
  have hlocks := B.notSynchronized
  subst hsz
  have hD := hD0.self (sz := s.heap.size)
  generalize hAe : va_A [(pA, .inr (2, [.ref hT, .int lo, .int hi, .long le, .long gr])), (hT, .inr (1, [.ref hR, .int (nI n)])), (hR, .inl (d, N, .inl a))] s.heap.size = A at hD ⊢
  have hA : ∀ q : Nat, s.heap.size ≤ q → A q := fun q h => by rw [← hAe]; exact Or.inr h
  have hS : va_S A s.heap s.heap [] := va_S.rf
  have hP : va_P D vwCl [(pA, .inr (2, [.ref hT, .int lo, .int hi, .long le, .long gr])), (hT, .inr (1, [.ref hR, .int (nI n)])), (hR, .inl (d, N, .inl a))] s.heap := hP
  have hK : va_K D vwCl [(d, .int)] s := hK
  have hl := lv_entry ([.ref pA, .int (nI 4), .long l0, .long h0, .long m0, .long n0]) (n := 10) (Nat.le_of_ble_eq_true rfl)
  rw [lg_entry_eq]
  generalize (lg_sl ([.ref pA, .int (nI 4), .long l0, .long h0, .long m0, .long n0]) ++ List.replicate (10 - (lg_sl ([.ref pA, .int (nI 4), .long l0, .long h0, .long m0, .long n0])).length) Slot.unset).toArray = ls at hl ⊢
  have hl : lv_has ls 10 [(0, .ref pA), (1, .int (nI 4)), (2, .long l0), (4, .long h0), (6, .long m0), (8, .long n0)] := hl
  refine lv_iload_n hx hb dX2_work_0 rfl (lv_at hl 1 rfl) ?_
  refine lv_tableIn (off := 78) (tgt := 79) hx hb dX2_work_1 (by decide) (by decide) rfl (by decide) ?_
  refine lv_lload hx hb dX2_work_79 (lv_at hl 4 rfl) ?_
  refine lv_lconst (v := 0) hx hb dX2_work_81 (by decide) ?_
  refine lc_ne (tgt := 95) hx hb dX2_work_82 dX2_work_83 (by decide) (fun c_82 => ?_) (fun c_82 => ?_)
  · refine lv_iload_n hx hb dX2_work_95 rfl (lv_at hl 1 rfl) ?_
    refine lv_iconst (v := 3) hx hb dX2_work_96 (by decide) ?_
    refine lv_icmp_ne (tgt := 114) hx hb dX2_work_97 (by decide) (fun c_97 => ?_) (fun c_97 => absurd c_97 (by decide))
    refine lv_aload_n hx hb dX2_work_114 rfl (lv_at hl 0 rfl) ?_
    refine lv_lload_n hx hb dX2_work_115 rfl (lv_at hl 2 rfl) ?_
    refine lv_lload hx hb dX2_work_116 (lv_at hl 3 rfl) ?_
    refine lv_lload hx hb dX2_work_118 (lv_at hl 4 rfl) ?_
    refine rr_absL hx hb hml hl.1 hown hts q183 (Nat.le_of_ble_eq_true rfl) (Nat.le_of_ble_eq_true rfl) (Nat.le_of_ble_eq_true rfl) (Nat.le_of_ble_eq_true rfl) dX2_work_120 ?_
    refine lv_lload hx hb dX2_work_123 (lv_at hl 5 rfl) ?_
    refine rr_absL hx hb hml hl.1 hown hts q183 (Nat.le_of_ble_eq_true rfl) (Nat.le_of_ble_eq_true rfl) (Nat.le_of_ble_eq_true rfl) (Nat.le_of_ble_eq_true rfl) dX2_work_125 ?_
    refine rr_maxL hx hb hml hl.1 hown hts q169 (Nat.le_of_ble_eq_true rfl) (Nat.le_of_ble_eq_true rfl) (Nat.le_of_ble_eq_true rfl) (Nat.le_of_ble_eq_true rfl) dX2_work_128 ?_
    refine lv_lconst (v := 1) hx hb dX2_work_131 (by decide) ?_
    refine lv_lsub hx hb dX2_work_132 ?_
    refine rr_callv (wc := [(pA, .inr (2, [.ref hT, .int lo, .int hi, .long le, .long gr])), (hT, .inr (1, [.ref hR, .int (nI n)])), (hR, .inl (d, N, .inl a))]) (wr := []) (va_runV (As := [.long l0, .long h0, .long ((mxL (abL m0) (abL n0)) - 1)]) (rest := []) ⟨hx, hb, hml, hown, hts⟩ (met_X2_rest l D pA lo hi le gr hT hR d N n a s.heap.size l0 h0 ((mxL (abL m0) (abL n0)) - 1) hok hnN hN hmi hma) (cwV 3 hts (lw_V q186 q188 qs6 q18 q189) rfl rfl rfl (by decide +kernel) ⟨Nat.le_of_ble_eq_true rfl, Nat.le_of_ble_eq_true rfl⟩) ⟨rr_blind, va_recv hK hP (ci := 2) (q0 := 0) rfl rfl, rr_pre (hP.sub (ws' := [(pA, .inr (2, [.ref hT, .int lo, .int hi, .long le, .long gr])), (hT, .inr (1, [.ref hR, .int (nI n)])), (hR, .inl (d, N, .inl a))]) [0, 1, 2] rfl) (hK.sub (tys' := [(d, .int)]) [0] rfl) (hD.sub (ws' := [(pA, .inr (2, [.ref hT, .int lo, .int hi, .long le, .long gr])), (hT, .inr (1, [.ref hR, .int (nI n)])), (hR, .inl (d, N, .inl a))]) [0, 1, 2] (by decide) rfl)⟩ rfl rfl hl.1 rfl (lv_room (Nat.le_of_ble_eq_true rfl)) dX2_work_133 ⟨Nat.le_of_ble_eq_true rfl, Nat.le_of_ble_eq_true rfl⟩) hK hP hD hS hA [0, 1, 2] [] rfl rfl (by decide) (by decide) (fun u_77 H locs hw_76 hP hD hK hS => ?_)
    obtain ⟨lo_76, hi_76⟩ := u_77
    have hP : va_P D vwCl [(pA, .inr (2, [.ref hT, .int lo_76, .int hi_76, .long le, .long gr])), (hT, .inr (1, [.ref hR, .int (nI n)])), (hR, .inl (d, N, .inl a))] H := hP
    have hD : va_D A [(pA, .inr (2, [.ref hT, .int lo_76, .int hi_76, .long le, .long gr])), (hT, .inr (1, [.ref hR, .int (nI n)])), (hR, .inl (d, N, .inl a))] := hD
    have hK : va_K D vwCl [(d, .int)] s := hK.sub (tys' := [(d, .int)]) [0] rfl
    refine lv_iconst (v := 1) hx hb dX2_work_136 (by decide) ?_
    exact W.zret (v := 1) hx hb hr rfl (rr_endi (lo_76, hi_76, le, gr) (by show WorkR _ (if m0 = 0 ∧ n0 = 0 then none else _) _ _ _ _ _; rw [if_neg (fun q => c_82 q.1)]; exact ⟨rfl, hw_76⟩) hP hK hD hS) hS.2.2 dX2_work_137
  · refine lv_lload hx hb dX2_work_86 (lv_at hl 5 rfl) ?_
    refine lv_lconst (v := 0) hx hb dX2_work_88 (by decide) ?_
    refine lc_ne (tgt := 95) hx hb dX2_work_89 dX2_work_90 (by decide) (fun c_89 => ?_) (fun c_89 => ?_)
    · refine lv_iload_n hx hb dX2_work_95 rfl (lv_at hl 1 rfl) ?_
      refine lv_iconst (v := 3) hx hb dX2_work_96 (by decide) ?_
      refine lv_icmp_ne (tgt := 114) hx hb dX2_work_97 (by decide) (fun c_97 => ?_) (fun c_97 => absurd c_97 (by decide))
      refine lv_aload_n hx hb dX2_work_114 rfl (lv_at hl 0 rfl) ?_
      refine lv_lload_n hx hb dX2_work_115 rfl (lv_at hl 2 rfl) ?_
      refine lv_lload hx hb dX2_work_116 (lv_at hl 3 rfl) ?_
      refine lv_lload hx hb dX2_work_118 (lv_at hl 4 rfl) ?_
      refine rr_absL hx hb hml hl.1 hown hts q183 (Nat.le_of_ble_eq_true rfl) (Nat.le_of_ble_eq_true rfl) (Nat.le_of_ble_eq_true rfl) (Nat.le_of_ble_eq_true rfl) dX2_work_120 ?_
      refine lv_lload hx hb dX2_work_123 (lv_at hl 5 rfl) ?_
      refine rr_absL hx hb hml hl.1 hown hts q183 (Nat.le_of_ble_eq_true rfl) (Nat.le_of_ble_eq_true rfl) (Nat.le_of_ble_eq_true rfl) (Nat.le_of_ble_eq_true rfl) dX2_work_125 ?_
      refine rr_maxL hx hb hml hl.1 hown hts q169 (Nat.le_of_ble_eq_true rfl) (Nat.le_of_ble_eq_true rfl) (Nat.le_of_ble_eq_true rfl) (Nat.le_of_ble_eq_true rfl) dX2_work_128 ?_
      refine lv_lconst (v := 1) hx hb dX2_work_131 (by decide) ?_
      refine lv_lsub hx hb dX2_work_132 ?_
      refine rr_callv (wc := [(pA, .inr (2, [.ref hT, .int lo, .int hi, .long le, .long gr])), (hT, .inr (1, [.ref hR, .int (nI n)])), (hR, .inl (d, N, .inl a))]) (wr := []) (va_runV (As := [.long l0, .long h0, .long ((mxL (abL m0) (abL n0)) - 1)]) (rest := []) ⟨hx, hb, hml, hown, hts⟩ (met_X2_rest l D pA lo hi le gr hT hR d N n a s.heap.size l0 h0 ((mxL (abL m0) (abL n0)) - 1) hok hnN hN hmi hma) (cwV 3 hts (lw_V q186 q188 qs6 q18 q189) rfl rfl rfl (by decide +kernel) ⟨Nat.le_of_ble_eq_true rfl, Nat.le_of_ble_eq_true rfl⟩) ⟨rr_blind, va_recv hK hP (ci := 2) (q0 := 0) rfl rfl, rr_pre (hP.sub (ws' := [(pA, .inr (2, [.ref hT, .int lo, .int hi, .long le, .long gr])), (hT, .inr (1, [.ref hR, .int (nI n)])), (hR, .inl (d, N, .inl a))]) [0, 1, 2] rfl) (hK.sub (tys' := [(d, .int)]) [0] rfl) (hD.sub (ws' := [(pA, .inr (2, [.ref hT, .int lo, .int hi, .long le, .long gr])), (hT, .inr (1, [.ref hR, .int (nI n)])), (hR, .inl (d, N, .inl a))]) [0, 1, 2] (by decide) rfl)⟩ rfl rfl hl.1 rfl (lv_room (Nat.le_of_ble_eq_true rfl)) dX2_work_133 ⟨Nat.le_of_ble_eq_true rfl, Nat.le_of_ble_eq_true rfl⟩) hK hP hD hS hA [0, 1, 2] [] rfl rfl (by decide) (by decide) (fun u_79 H locs hw_78 hP hD hK hS => ?_)
      obtain ⟨lo_78, hi_78⟩ := u_79
      have hP : va_P D vwCl [(pA, .inr (2, [.ref hT, .int lo_78, .int hi_78, .long le, .long gr])), (hT, .inr (1, [.ref hR, .int (nI n)])), (hR, .inl (d, N, .inl a))] H := hP
      have hD : va_D A [(pA, .inr (2, [.ref hT, .int lo_78, .int hi_78, .long le, .long gr])), (hT, .inr (1, [.ref hR, .int (nI n)])), (hR, .inl (d, N, .inl a))] := hD
      have hK : va_K D vwCl [(d, .int)] s := hK.sub (tys' := [(d, .int)]) [0] rfl
      refine lv_iconst (v := 1) hx hb dX2_work_136 (by decide) ?_
      exact W.zret (v := 1) hx hb hr rfl (rr_endi (lo_78, hi_78, le, gr) (by show WorkR _ (if m0 = 0 ∧ n0 = 0 then none else _) _ _ _ _ _; rw [if_neg (fun q => c_89 q.2)]; exact ⟨rfl, hw_78⟩) hP hK hD hS) hS.2.2 dX2_work_137
    · refine lv_iconst (v := 0) hx hb dX2_work_93 (by decide) ?_
      exact W.zret (v := 0) hx hb hr rfl (rr_endi (lo, hi, le, gr) (by show WorkR _ (if m0 = 0 ∧ n0 = 0 then none else _) _ _ _ _ _; rw [if_pos ⟨c_82, c_89⟩]; exact ⟨rfl, rfl, rfl⟩) hP hK hD hS) hS.2.2 dX2_work_94
set_option maxHeartbeats 4000000 in
set_option maxRecDepth 100000 in
theorem met_X2_work_5 (l : Launch) (D : va_G) (pA : Nat) (lo hi : Int32) (le gr : Int64) (hT hR : Nat) (d : ClassId) (N n : Nat) (a : Nat → Int32) (sz : Nat) (l0 h0 m0 n0 : Int64) {S : Int32 → Bool} (hok : T_ok S n a) (hnN : n ≤ N) (hN : N ≤ 512) (hmi : S (-2147483648) = true) (hma : S 2147483647 = true) (hh : h0.toInt ≤ 2147483647) (hn3 : n0.toInt ≤ 2147483647) : rr_CI l D yX2_work wsX2_work ({ frames := 4, cells := 0, slots := 0, locals := 110 }) [.ref pA, .int (nI 5), .long l0, .long h0, .long m0, .long n0] [(d, .int)] [(pA, .inr (2, [.ref hT, .int lo, .int hi, .long le, .long gr])), (hT, .inr (1, [.ref hR, .int (nI n)])), (hR, .inl (d, N, .inl a))] sz (fun (r : Int32) (u : Int32 × Int32 × Int64 × Int64) => WorkR (PutR S) (sysOp 5 l0 h0 m0 n0) lo hi r u.1 u.2.1) (fun _ => [(d, .int)]) (fun u => [(pA, .inr (2, [.ref hT, .int u.1, .int u.2.1, .long u.2.2.1, .long u.2.2.2])), (hT, .inr (1, [.ref hR, .int (nI n)])), (hR, .inl (d, N, .inl a))]) 0 0 := by
  refine Met.ofW (cc := cX2_work) (maxL := 10) (ret := (some .boolean)) (by decide) rfl ?_
  intro p e s m args below meth c s₁ B hml hv
  obtain ⟨rfl, hsz, hP, hK, hD0⟩ := hv
  have hx := B.exec
  have hb := B.bytes
  have hr := B.returns
  have hts := atoms_spec (ws := wsX2_work) B.pre
  have hts : ∀ w ∈ lw_all, w.before _ s = true := fun w h => hts w (List.mem_cons_of_mem _ h)
  have hown : s.vm.findClass RX2 = some m.cls := findClass_of_methodNamed B.named
  have hlocks := B.notSynchronized
  subst hsz
  have hD := hD0.self (sz := s.heap.size)
  generalize hAe : va_A [(pA, .inr (2, [.ref hT, .int lo, .int hi, .long le, .long gr])), (hT, .inr (1, [.ref hR, .int (nI n)])), (hR, .inl (d, N, .inl a))] s.heap.size = A at hD ⊢
  have hA : ∀ q : Nat, s.heap.size ≤ q → A q := fun q h => by rw [← hAe]; exact Or.inr h
  have hS : va_S A s.heap s.heap [] := va_S.rf
  have hP : va_P D vwCl [(pA, .inr (2, [.ref hT, .int lo, .int hi, .long le, .long gr])), (hT, .inr (1, [.ref hR, .int (nI n)])), (hR, .inl (d, N, .inl a))] s.heap := hP
  have hK : va_K D vwCl [(d, .int)] s := hK
  have hl := lv_entry ([.ref pA, .int (nI 5), .long l0, .long h0, .long m0, .long n0]) (n := 10) (Nat.le_of_ble_eq_true rfl)
  rw [lg_entry_eq]
  generalize (lg_sl ([.ref pA, .int (nI 5), .long l0, .long h0, .long m0, .long n0]) ++ List.replicate (10 - (lg_sl ([.ref pA, .int (nI 5), .long l0, .long h0, .long m0, .long n0])).length) Slot.unset).toArray = ls at hl ⊢
  have hl : lv_has ls 10 [(0, .ref pA), (1, .int (nI 5)), (2, .long l0), (4, .long h0), (6, .long m0), (8, .long n0)] := hl
  refine lv_iload_n hx hb dX2_work_0 rfl (lv_at hl 1 rfl) ?_
  refine lv_tableOut (tgt := 138) hx hb dX2_work_1 (by decide) (by decide) ?_
  refine lv_aload_n hx hb dX2_work_138 rfl (lv_at hl 0 rfl) ?_
  refine lv_iload_n hx hb dX2_work_139 rfl (lv_at hl 1 rfl) ?_
  refine lv_lload_n hx hb dX2_work_140 rfl (lv_at hl 2 rfl) ?_
  refine lv_lload hx hb dX2_work_141 (lv_at hl 3 rfl) ?_
  refine lv_lload hx hb dX2_work_143 (lv_at hl 4 rfl) ?_
  refine lv_lload hx hb dX2_work_145 (lv_at hl 5 rfl) ?_
  refine rr_callv (wc := [(pA, .inr (2, [.ref hT, .int lo, .int hi, .long le, .long gr])), (hT, .inr (1, [.ref hR, .int (nI n)])), (hR, .inl (d, N, .inl a))]) (wr := []) (va_runV (As := [.int (nI 5), .long l0, .long h0, .long m0, .long n0]) (rest := []) ⟨hx, hb, hml, hown, hts⟩ (met_X2_bits_5 l D pA lo hi le gr hT hR d N n a s.heap.size l0 h0 m0 n0 hok hnN hN hmi hma hh hn3) (cwV 5 hts (lw_V q190 q192 qs7 q18 q193) rfl rfl rfl (by decide +kernel) ⟨Nat.le_of_ble_eq_true rfl, Nat.le_of_ble_eq_true rfl⟩) ⟨rr_blind, va_recv hK hP (ci := 2) (q0 := 0) rfl rfl, rr_pre (hP.sub (ws' := [(pA, .inr (2, [.ref hT, .int lo, .int hi, .long le, .long gr])), (hT, .inr (1, [.ref hR, .int (nI n)])), (hR, .inl (d, N, .inl a))]) [0, 1, 2] rfl) (hK.sub (tys' := [(d, .int)]) [0] rfl) (hD.sub (ws' := [(pA, .inr (2, [.ref hT, .int lo, .int hi, .long le, .long gr])), (hT, .inr (1, [.ref hR, .int (nI n)])), (hR, .inl (d, N, .inl a))]) [0, 1, 2] (by decide) rfl)⟩ rfl rfl hl.1 rfl (lv_room (Nat.le_of_ble_eq_true rfl)) dX2_work_147 ⟨Nat.le_of_ble_eq_true rfl, Nat.le_of_ble_eq_true rfl⟩) hK hP hD hS hA [0, 1, 2] [] rfl rfl (by decide) (by decide) (fun u_81 H locs hw_80 hP hD hK hS => ?_)
  obtain ⟨lo_80, hi_80⟩ := u_81
  have hP : va_P D vwCl [(pA, .inr (2, [.ref hT, .int lo_80, .int hi_80, .long le, .long gr])), (hT, .inr (1, [.ref hR, .int (nI n)])), (hR, .inl (d, N, .inl a))] H := hP
  have hD : va_D A [(pA, .inr (2, [.ref hT, .int lo_80, .int hi_80, .long le, .long gr])), (hT, .inr (1, [.ref hR, .int (nI n)])), (hR, .inl (d, N, .inl a))] := hD
  have hK : va_K D vwCl [(d, .int)] s := hK.sub (tys' := [(d, .int)]) [0] rfl
  refine lv_iconst (v := 1) hx hb dX2_work_150 (by decide) ?_
  exact W.zret (v := 1) hx hb hr rfl (rr_endi (lo_80, hi_80, le, gr) (by obtain ⟨q, eq, hq⟩ := hw_80; rw [eq]; exact ⟨rfl, hq⟩) hP hK hD hS) hS.2.2 dX2_work_151
set_option maxHeartbeats 4000000 in
set_option maxRecDepth 100000 in
theorem met_X2_work_6 (l : Launch) (D : va_G) (pA : Nat) (lo hi : Int32) (le gr : Int64) (hT hR : Nat) (d : ClassId) (N n : Nat) (a : Nat → Int32) (sz : Nat) (l0 h0 m0 n0 : Int64) {S : Int32 → Bool} (hok : T_ok S n a) (hnN : n ≤ N) (hN : N ≤ 512) (hmi : S (-2147483648) = true) (hma : S 2147483647 = true) (hh : h0.toInt ≤ 2147483647) (hn3 : n0.toInt ≤ 2147483647) : rr_CI l D yX2_work wsX2_work ({ frames := 4, cells := 0, slots := 0, locals := 110 }) [.ref pA, .int (nI 6), .long l0, .long h0, .long m0, .long n0] [(d, .int)] [(pA, .inr (2, [.ref hT, .int lo, .int hi, .long le, .long gr])), (hT, .inr (1, [.ref hR, .int (nI n)])), (hR, .inl (d, N, .inl a))] sz (fun (r : Int32) (u : Int32 × Int32 × Int64 × Int64) => WorkR (PutR S) (sysOp 6 l0 h0 m0 n0) lo hi r u.1 u.2.1) (fun _ => [(d, .int)]) (fun u => [(pA, .inr (2, [.ref hT, .int u.1, .int u.2.1, .long u.2.2.1, .long u.2.2.2])), (hT, .inr (1, [.ref hR, .int (nI n)])), (hR, .inl (d, N, .inl a))]) 0 0 := by
  refine Met.ofW (cc := cX2_work) (maxL := 10) (ret := (some .boolean)) (by decide) rfl ?_
  intro p e s m args below meth c s₁ B hml hv
  obtain ⟨rfl, hsz, hP, hK, hD0⟩ := hv
  have hx := B.exec
  have hb := B.bytes
  have hr := B.returns
  have hts := atoms_spec (ws := wsX2_work) B.pre
  have hts : ∀ w ∈ lw_all, w.before _ s = true := fun w h => hts w (List.mem_cons_of_mem _ h)
  have hown : s.vm.findClass RX2 = some m.cls := findClass_of_methodNamed B.named
  have hlocks := B.notSynchronized
  subst hsz
  have hD := hD0.self (sz := s.heap.size)
  generalize hAe : va_A [(pA, .inr (2, [.ref hT, .int lo, .int hi, .long le, .long gr])), (hT, .inr (1, [.ref hR, .int (nI n)])), (hR, .inl (d, N, .inl a))] s.heap.size = A at hD ⊢
  have hA : ∀ q : Nat, s.heap.size ≤ q → A q := fun q h => by rw [← hAe]; exact Or.inr h
  have hS : va_S A s.heap s.heap [] := va_S.rf
  have hP : va_P D vwCl [(pA, .inr (2, [.ref hT, .int lo, .int hi, .long le, .long gr])), (hT, .inr (1, [.ref hR, .int (nI n)])), (hR, .inl (d, N, .inl a))] s.heap := hP
  have hK : va_K D vwCl [(d, .int)] s := hK
  have hl := lv_entry ([.ref pA, .int (nI 6), .long l0, .long h0, .long m0, .long n0]) (n := 10) (Nat.le_of_ble_eq_true rfl)
  rw [lg_entry_eq]
  generalize (lg_sl ([.ref pA, .int (nI 6), .long l0, .long h0, .long m0, .long n0]) ++ List.replicate (10 - (lg_sl ([.ref pA, .int (nI 6), .long l0, .long h0, .long m0, .long n0])).length) Slot.unset).toArray = ls at hl ⊢
  have hl : lv_has ls 10 [(0, .ref pA), (1, .int (nI 6)), (2, .long l0), (4, .long h0), (6, .long m0), (8, .long n0)] := hl
  refine lv_iload_n hx hb dX2_work_0 rfl (lv_at hl 1 rfl) ?_
  refine lv_tableOut (tgt := 138) hx hb dX2_work_1 (by decide) (by decide) ?_
  refine lv_aload_n hx hb dX2_work_138 rfl (lv_at hl 0 rfl) ?_
  refine lv_iload_n hx hb dX2_work_139 rfl (lv_at hl 1 rfl) ?_
  refine lv_lload_n hx hb dX2_work_140 rfl (lv_at hl 2 rfl) ?_
  refine lv_lload hx hb dX2_work_141 (lv_at hl 3 rfl) ?_
  refine lv_lload hx hb dX2_work_143 (lv_at hl 4 rfl) ?_
  refine lv_lload hx hb dX2_work_145 (lv_at hl 5 rfl) ?_
  refine rr_callv (wc := [(pA, .inr (2, [.ref hT, .int lo, .int hi, .long le, .long gr])), (hT, .inr (1, [.ref hR, .int (nI n)])), (hR, .inl (d, N, .inl a))]) (wr := []) (va_runV (As := [.int (nI 6), .long l0, .long h0, .long m0, .long n0]) (rest := []) ⟨hx, hb, hml, hown, hts⟩ (met_X2_bits_6 l D pA lo hi le gr hT hR d N n a s.heap.size l0 h0 m0 n0 hok hnN hN hmi hma hh hn3) (cwV 5 hts (lw_V q190 q192 qs7 q18 q193) rfl rfl rfl (by decide +kernel) ⟨Nat.le_of_ble_eq_true rfl, Nat.le_of_ble_eq_true rfl⟩) ⟨rr_blind, va_recv hK hP (ci := 2) (q0 := 0) rfl rfl, rr_pre (hP.sub (ws' := [(pA, .inr (2, [.ref hT, .int lo, .int hi, .long le, .long gr])), (hT, .inr (1, [.ref hR, .int (nI n)])), (hR, .inl (d, N, .inl a))]) [0, 1, 2] rfl) (hK.sub (tys' := [(d, .int)]) [0] rfl) (hD.sub (ws' := [(pA, .inr (2, [.ref hT, .int lo, .int hi, .long le, .long gr])), (hT, .inr (1, [.ref hR, .int (nI n)])), (hR, .inl (d, N, .inl a))]) [0, 1, 2] (by decide) rfl)⟩ rfl rfl hl.1 rfl (lv_room (Nat.le_of_ble_eq_true rfl)) dX2_work_147 ⟨Nat.le_of_ble_eq_true rfl, Nat.le_of_ble_eq_true rfl⟩) hK hP hD hS hA [0, 1, 2] [] rfl rfl (by decide) (by decide) (fun u_83 H locs hw_82 hP hD hK hS => ?_)
  obtain ⟨lo_82, hi_82⟩ := u_83
  have hP : va_P D vwCl [(pA, .inr (2, [.ref hT, .int lo_82, .int hi_82, .long le, .long gr])), (hT, .inr (1, [.ref hR, .int (nI n)])), (hR, .inl (d, N, .inl a))] H := hP
  have hD : va_D A [(pA, .inr (2, [.ref hT, .int lo_82, .int hi_82, .long le, .long gr])), (hT, .inr (1, [.ref hR, .int (nI n)])), (hR, .inl (d, N, .inl a))] := hD
  have hK : va_K D vwCl [(d, .int)] s := hK.sub (tys' := [(d, .int)]) [0] rfl
  refine lv_iconst (v := 1) hx hb dX2_work_150 (by decide) ?_
  exact W.zret (v := 1) hx hb hr rfl (rr_endi (lo_82, hi_82, le, gr) (by obtain ⟨q, eq, hq⟩ := hw_82; rw [eq]; exact ⟨rfl, hq⟩) hP hK hD hS) hS.2.2 dX2_work_151
set_option maxHeartbeats 4000000 in
set_option maxRecDepth 100000 in
theorem met_X2_work_7 (l : Launch) (D : va_G) (pA : Nat) (lo hi : Int32) (le gr : Int64) (hT hR : Nat) (d : ClassId) (N n : Nat) (a : Nat → Int32) (sz : Nat) (l0 h0 m0 n0 : Int64) {S : Int32 → Bool} (hok : T_ok S n a) (hnN : n ≤ N) (hN : N ≤ 512) (hmi : S (-2147483648) = true) (hma : S 2147483647 = true) (hh : h0.toInt ≤ 2147483647) (hn3 : n0.toInt ≤ 2147483647) : rr_CI l D yX2_work wsX2_work ({ frames := 4, cells := 0, slots := 0, locals := 110 }) [.ref pA, .int (nI 7), .long l0, .long h0, .long m0, .long n0] [(d, .int)] [(pA, .inr (2, [.ref hT, .int lo, .int hi, .long le, .long gr])), (hT, .inr (1, [.ref hR, .int (nI n)])), (hR, .inl (d, N, .inl a))] sz (fun (r : Int32) (u : Int32 × Int32 × Int64 × Int64) => WorkR (PutR S) (sysOp 7 l0 h0 m0 n0) lo hi r u.1 u.2.1) (fun _ => [(d, .int)]) (fun u => [(pA, .inr (2, [.ref hT, .int u.1, .int u.2.1, .long u.2.2.1, .long u.2.2.2])), (hT, .inr (1, [.ref hR, .int (nI n)])), (hR, .inl (d, N, .inl a))]) 0 0 := by
  refine Met.ofW (cc := cX2_work) (maxL := 10) (ret := (some .boolean)) (by decide) rfl ?_
  intro p e s m args below meth c s₁ B hml hv
  obtain ⟨rfl, hsz, hP, hK, hD0⟩ := hv
  have hx := B.exec
  have hb := B.bytes
  have hr := B.returns
  have hts := atoms_spec (ws := wsX2_work) B.pre
  have hts : ∀ w ∈ lw_all, w.before _ s = true := fun w h => hts w (List.mem_cons_of_mem _ h)
  have hown : s.vm.findClass RX2 = some m.cls := findClass_of_methodNamed B.named
  have hlocks := B.notSynchronized
  subst hsz
  have hD := hD0.self (sz := s.heap.size)
  generalize hAe : va_A [(pA, .inr (2, [.ref hT, .int lo, .int hi, .long le, .long gr])), (hT, .inr (1, [.ref hR, .int (nI n)])), (hR, .inl (d, N, .inl a))] s.heap.size = A at hD ⊢
  have hA : ∀ q : Nat, s.heap.size ≤ q → A q := fun q h => by rw [← hAe]; exact Or.inr h
  have hS : va_S A s.heap s.heap [] := va_S.rf
  have hP : va_P D vwCl [(pA, .inr (2, [.ref hT, .int lo, .int hi, .long le, .long gr])), (hT, .inr (1, [.ref hR, .int (nI n)])), (hR, .inl (d, N, .inl a))] s.heap := hP
  have hK : va_K D vwCl [(d, .int)] s := hK
  have hl := lv_entry ([.ref pA, .int (nI 7), .long l0, .long h0, .long m0, .long n0]) (n := 10) (Nat.le_of_ble_eq_true rfl)
  rw [lg_entry_eq]
  generalize (lg_sl ([.ref pA, .int (nI 7), .long l0, .long h0, .long m0, .long n0]) ++ List.replicate (10 - (lg_sl ([.ref pA, .int (nI 7), .long l0, .long h0, .long m0, .long n0])).length) Slot.unset).toArray = ls at hl ⊢
  have hl : lv_has ls 10 [(0, .ref pA), (1, .int (nI 7)), (2, .long l0), (4, .long h0), (6, .long m0), (8, .long n0)] := hl
  refine lv_iload_n hx hb dX2_work_0 rfl (lv_at hl 1 rfl) ?_
  refine lv_tableOut (tgt := 138) hx hb dX2_work_1 (by decide) (by decide) ?_
  refine lv_aload_n hx hb dX2_work_138 rfl (lv_at hl 0 rfl) ?_
  refine lv_iload_n hx hb dX2_work_139 rfl (lv_at hl 1 rfl) ?_
  refine lv_lload_n hx hb dX2_work_140 rfl (lv_at hl 2 rfl) ?_
  refine lv_lload hx hb dX2_work_141 (lv_at hl 3 rfl) ?_
  refine lv_lload hx hb dX2_work_143 (lv_at hl 4 rfl) ?_
  refine lv_lload hx hb dX2_work_145 (lv_at hl 5 rfl) ?_
  refine rr_callv (wc := [(pA, .inr (2, [.ref hT, .int lo, .int hi, .long le, .long gr])), (hT, .inr (1, [.ref hR, .int (nI n)])), (hR, .inl (d, N, .inl a))]) (wr := []) (va_runV (As := [.int (nI 7), .long l0, .long h0, .long m0, .long n0]) (rest := []) ⟨hx, hb, hml, hown, hts⟩ (met_X2_bits_7 l D pA lo hi le gr hT hR d N n a s.heap.size l0 h0 m0 n0 hok hnN hN hmi hma hh hn3) (cwV 5 hts (lw_V q190 q192 qs7 q18 q193) rfl rfl rfl (by decide +kernel) ⟨Nat.le_of_ble_eq_true rfl, Nat.le_of_ble_eq_true rfl⟩) ⟨rr_blind, va_recv hK hP (ci := 2) (q0 := 0) rfl rfl, rr_pre (hP.sub (ws' := [(pA, .inr (2, [.ref hT, .int lo, .int hi, .long le, .long gr])), (hT, .inr (1, [.ref hR, .int (nI n)])), (hR, .inl (d, N, .inl a))]) [0, 1, 2] rfl) (hK.sub (tys' := [(d, .int)]) [0] rfl) (hD.sub (ws' := [(pA, .inr (2, [.ref hT, .int lo, .int hi, .long le, .long gr])), (hT, .inr (1, [.ref hR, .int (nI n)])), (hR, .inl (d, N, .inl a))]) [0, 1, 2] (by decide) rfl)⟩ rfl rfl hl.1 rfl (lv_room (Nat.le_of_ble_eq_true rfl)) dX2_work_147 ⟨Nat.le_of_ble_eq_true rfl, Nat.le_of_ble_eq_true rfl⟩) hK hP hD hS hA [0, 1, 2] [] rfl rfl (by decide) (by decide) (fun u_85 H locs hw_84 hP hD hK hS => ?_)
  obtain ⟨lo_84, hi_84⟩ := u_85
  have hP : va_P D vwCl [(pA, .inr (2, [.ref hT, .int lo_84, .int hi_84, .long le, .long gr])), (hT, .inr (1, [.ref hR, .int (nI n)])), (hR, .inl (d, N, .inl a))] H := hP
  have hD : va_D A [(pA, .inr (2, [.ref hT, .int lo_84, .int hi_84, .long le, .long gr])), (hT, .inr (1, [.ref hR, .int (nI n)])), (hR, .inl (d, N, .inl a))] := hD
  have hK : va_K D vwCl [(d, .int)] s := hK.sub (tys' := [(d, .int)]) [0] rfl
  refine lv_iconst (v := 1) hx hb dX2_work_150 (by decide) ?_
  exact W.zret (v := 1) hx hb hr rfl (rr_endi (lo_84, hi_84, le, gr) (by obtain ⟨q, eq, hq⟩ := hw_84; rw [eq]; exact ⟨rfl, hq⟩) hP hK hD hS) hS.2.2 dX2_work_151
set_option maxHeartbeats 4000000 in
set_option maxRecDepth 100000 in
theorem met_X2_work_8 (l : Launch) (D : va_G) (pA : Nat) (lo hi : Int32) (le gr : Int64) (hT hR : Nat) (d : ClassId) (N n : Nat) (a : Nat → Int32) (sz : Nat) (l0 h0 m0 n0 : Int64) {S : Int32 → Bool} (hok : T_ok S n a) (hnN : n ≤ N) (hN : N ≤ 512) (hmi : S (-2147483648) = true) (hma : S 2147483647 = true) (hh : h0.toInt ≤ 2147483647) (hn3 : n0.toInt ≤ 2147483647) : rr_CI l D yX2_work wsX2_work ({ frames := 4, cells := 0, slots := 0, locals := 110 }) [.ref pA, .int (nI 8), .long l0, .long h0, .long m0, .long n0] [(d, .int)] [(pA, .inr (2, [.ref hT, .int lo, .int hi, .long le, .long gr])), (hT, .inr (1, [.ref hR, .int (nI n)])), (hR, .inl (d, N, .inl a))] sz (fun (r : Int32) (u : Int32 × Int32 × Int64 × Int64) => WorkR (PutR S) (sysOp 8 l0 h0 m0 n0) lo hi r u.1 u.2.1) (fun _ => [(d, .int)]) (fun u => [(pA, .inr (2, [.ref hT, .int u.1, .int u.2.1, .long u.2.2.1, .long u.2.2.2])), (hT, .inr (1, [.ref hR, .int (nI n)])), (hR, .inl (d, N, .inl a))]) 0 0 := by
  refine Met.ofW (cc := cX2_work) (maxL := 10) (ret := (some .boolean)) (by decide) rfl ?_
  intro p e s m args below meth c s₁ B hml hv
  obtain ⟨rfl, hsz, hP, hK, hD0⟩ := hv
  have hx := B.exec
  have hb := B.bytes
  have hr := B.returns
  have hts := atoms_spec (ws := wsX2_work) B.pre
  have hts : ∀ w ∈ lw_all, w.before _ s = true := fun w h => hts w (List.mem_cons_of_mem _ h)
  have hown : s.vm.findClass RX2 = some m.cls := findClass_of_methodNamed B.named
  have hlocks := B.notSynchronized
  subst hsz
  have hD := hD0.self (sz := s.heap.size)
  generalize hAe : va_A [(pA, .inr (2, [.ref hT, .int lo, .int hi, .long le, .long gr])), (hT, .inr (1, [.ref hR, .int (nI n)])), (hR, .inl (d, N, .inl a))] s.heap.size = A at hD ⊢
  have hA : ∀ q : Nat, s.heap.size ≤ q → A q := fun q h => by rw [← hAe]; exact Or.inr h
  have hS : va_S A s.heap s.heap [] := va_S.rf
  have hP : va_P D vwCl [(pA, .inr (2, [.ref hT, .int lo, .int hi, .long le, .long gr])), (hT, .inr (1, [.ref hR, .int (nI n)])), (hR, .inl (d, N, .inl a))] s.heap := hP
  have hK : va_K D vwCl [(d, .int)] s := hK
  have hl := lv_entry ([.ref pA, .int (nI 8), .long l0, .long h0, .long m0, .long n0]) (n := 10) (Nat.le_of_ble_eq_true rfl)
  rw [lg_entry_eq]
  generalize (lg_sl ([.ref pA, .int (nI 8), .long l0, .long h0, .long m0, .long n0]) ++ List.replicate (10 - (lg_sl ([.ref pA, .int (nI 8), .long l0, .long h0, .long m0, .long n0])).length) Slot.unset).toArray = ls at hl ⊢
  have hl : lv_has ls 10 [(0, .ref pA), (1, .int (nI 8)), (2, .long l0), (4, .long h0), (6, .long m0), (8, .long n0)] := hl
  refine lv_iload_n hx hb dX2_work_0 rfl (lv_at hl 1 rfl) ?_
  refine lv_tableOut (tgt := 138) hx hb dX2_work_1 (by decide) (by decide) ?_
  refine lv_aload_n hx hb dX2_work_138 rfl (lv_at hl 0 rfl) ?_
  refine lv_iload_n hx hb dX2_work_139 rfl (lv_at hl 1 rfl) ?_
  refine lv_lload_n hx hb dX2_work_140 rfl (lv_at hl 2 rfl) ?_
  refine lv_lload hx hb dX2_work_141 (lv_at hl 3 rfl) ?_
  refine lv_lload hx hb dX2_work_143 (lv_at hl 4 rfl) ?_
  refine lv_lload hx hb dX2_work_145 (lv_at hl 5 rfl) ?_
  refine rr_callv (wc := [(pA, .inr (2, [.ref hT, .int lo, .int hi, .long le, .long gr])), (hT, .inr (1, [.ref hR, .int (nI n)])), (hR, .inl (d, N, .inl a))]) (wr := []) (va_runV (As := [.int (nI 8), .long l0, .long h0, .long m0, .long n0]) (rest := []) ⟨hx, hb, hml, hown, hts⟩ (met_X2_bits_8 l D pA lo hi le gr hT hR d N n a s.heap.size l0 h0 m0 n0 hok hnN hN hmi hma hh hn3) (cwV 5 hts (lw_V q190 q192 qs7 q18 q193) rfl rfl rfl (by decide +kernel) ⟨Nat.le_of_ble_eq_true rfl, Nat.le_of_ble_eq_true rfl⟩) ⟨rr_blind, va_recv hK hP (ci := 2) (q0 := 0) rfl rfl, rr_pre (hP.sub (ws' := [(pA, .inr (2, [.ref hT, .int lo, .int hi, .long le, .long gr])), (hT, .inr (1, [.ref hR, .int (nI n)])), (hR, .inl (d, N, .inl a))]) [0, 1, 2] rfl) (hK.sub (tys' := [(d, .int)]) [0] rfl) (hD.sub (ws' := [(pA, .inr (2, [.ref hT, .int lo, .int hi, .long le, .long gr])), (hT, .inr (1, [.ref hR, .int (nI n)])), (hR, .inl (d, N, .inl a))]) [0, 1, 2] (by decide) rfl)⟩ rfl rfl hl.1 rfl (lv_room (Nat.le_of_ble_eq_true rfl)) dX2_work_147 ⟨Nat.le_of_ble_eq_true rfl, Nat.le_of_ble_eq_true rfl⟩) hK hP hD hS hA [0, 1, 2] [] rfl rfl (by decide) (by decide) (fun u_87 H locs hw_86 hP hD hK hS => ?_)
  obtain ⟨lo_86, hi_86⟩ := u_87
  have hP : va_P D vwCl [(pA, .inr (2, [.ref hT, .int lo_86, .int hi_86, .long le, .long gr])), (hT, .inr (1, [.ref hR, .int (nI n)])), (hR, .inl (d, N, .inl a))] H := hP
  have hD : va_D A [(pA, .inr (2, [.ref hT, .int lo_86, .int hi_86, .long le, .long gr])), (hT, .inr (1, [.ref hR, .int (nI n)])), (hR, .inl (d, N, .inl a))] := hD
  have hK : va_K D vwCl [(d, .int)] s := hK.sub (tys' := [(d, .int)]) [0] rfl
  refine lv_iconst (v := 1) hx hb dX2_work_150 (by decide) ?_
  exact W.zret (v := 1) hx hb hr rfl (rr_endi (lo_86, hi_86, le, gr) (by obtain ⟨q, eq, hq⟩ := hw_86; rw [eq]; exact ⟨rfl, hq⟩) hP hK hD hS) hS.2.2 dX2_work_151
set_option maxHeartbeats 4000000 in
set_option maxRecDepth 100000 in
theorem met_X2_work_9 (l : Launch) (D : va_G) (pA : Nat) (lo hi : Int32) (le gr : Int64) (hT hR : Nat) (d : ClassId) (N n : Nat) (a : Nat → Int32) (sz : Nat) (l0 h0 m0 n0 : Int64) {S : Int32 → Bool} (hok : T_ok S n a) (hnN : n ≤ N) (hN : N ≤ 512) (hmi : S (-2147483648) = true) (hma : S 2147483647 = true) (hh : h0.toInt ≤ 2147483647) (hn3 : n0.toInt ≤ 2147483647) : rr_CI l D yX2_work wsX2_work ({ frames := 4, cells := 0, slots := 0, locals := 110 }) [.ref pA, .int (nI 9), .long l0, .long h0, .long m0, .long n0] [(d, .int)] [(pA, .inr (2, [.ref hT, .int lo, .int hi, .long le, .long gr])), (hT, .inr (1, [.ref hR, .int (nI n)])), (hR, .inl (d, N, .inl a))] sz (fun (r : Int32) (u : Int32 × Int32 × Int64 × Int64) => WorkR (PutR S) (sysOp 9 l0 h0 m0 n0) lo hi r u.1 u.2.1) (fun _ => [(d, .int)]) (fun u => [(pA, .inr (2, [.ref hT, .int u.1, .int u.2.1, .long u.2.2.1, .long u.2.2.2])), (hT, .inr (1, [.ref hR, .int (nI n)])), (hR, .inl (d, N, .inl a))]) 0 0 := by
  refine Met.ofW (cc := cX2_work) (maxL := 10) (ret := (some .boolean)) (by decide) rfl ?_
  intro p e s m args below meth c s₁ B hml hv
  obtain ⟨rfl, hsz, hP, hK, hD0⟩ := hv
  have hx := B.exec
  have hb := B.bytes
  have hr := B.returns
  have hts := atoms_spec (ws := wsX2_work) B.pre
  have hts : ∀ w ∈ lw_all, w.before _ s = true := fun w h => hts w (List.mem_cons_of_mem _ h)
  have hown : s.vm.findClass RX2 = some m.cls := findClass_of_methodNamed B.named
  have hlocks := B.notSynchronized
  subst hsz
  have hD := hD0.self (sz := s.heap.size)
  generalize hAe : va_A [(pA, .inr (2, [.ref hT, .int lo, .int hi, .long le, .long gr])), (hT, .inr (1, [.ref hR, .int (nI n)])), (hR, .inl (d, N, .inl a))] s.heap.size = A at hD ⊢
  have hA : ∀ q : Nat, s.heap.size ≤ q → A q := fun q h => by rw [← hAe]; exact Or.inr h
  have hS : va_S A s.heap s.heap [] := va_S.rf
  have hP : va_P D vwCl [(pA, .inr (2, [.ref hT, .int lo, .int hi, .long le, .long gr])), (hT, .inr (1, [.ref hR, .int (nI n)])), (hR, .inl (d, N, .inl a))] s.heap := hP
  have hK : va_K D vwCl [(d, .int)] s := hK
  have hl := lv_entry ([.ref pA, .int (nI 9), .long l0, .long h0, .long m0, .long n0]) (n := 10) (Nat.le_of_ble_eq_true rfl)
  rw [lg_entry_eq]
  generalize (lg_sl ([.ref pA, .int (nI 9), .long l0, .long h0, .long m0, .long n0]) ++ List.replicate (10 - (lg_sl ([.ref pA, .int (nI 9), .long l0, .long h0, .long m0, .long n0])).length) Slot.unset).toArray = ls at hl ⊢
  have hl : lv_has ls 10 [(0, .ref pA), (1, .int (nI 9)), (2, .long l0), (4, .long h0), (6, .long m0), (8, .long n0)] := hl
  refine lv_iload_n hx hb dX2_work_0 rfl (lv_at hl 1 rfl) ?_
  refine lv_tableOut (tgt := 138) hx hb dX2_work_1 (by decide) (by decide) ?_
  refine lv_aload_n hx hb dX2_work_138 rfl (lv_at hl 0 rfl) ?_
  refine lv_iload_n hx hb dX2_work_139 rfl (lv_at hl 1 rfl) ?_
  refine lv_lload_n hx hb dX2_work_140 rfl (lv_at hl 2 rfl) ?_
  refine lv_lload hx hb dX2_work_141 (lv_at hl 3 rfl) ?_
  refine lv_lload hx hb dX2_work_143 (lv_at hl 4 rfl) ?_
  refine lv_lload hx hb dX2_work_145 (lv_at hl 5 rfl) ?_
  refine rr_callv (wc := [(pA, .inr (2, [.ref hT, .int lo, .int hi, .long le, .long gr])), (hT, .inr (1, [.ref hR, .int (nI n)])), (hR, .inl (d, N, .inl a))]) (wr := []) (va_runV (As := [.int (nI 9), .long l0, .long h0, .long m0, .long n0]) (rest := []) ⟨hx, hb, hml, hown, hts⟩ (met_X2_bits_9 l D pA lo hi le gr hT hR d N n a s.heap.size l0 h0 m0 n0 hok hnN hN hmi hma hh hn3) (cwV 5 hts (lw_V q190 q192 qs7 q18 q193) rfl rfl rfl (by decide +kernel) ⟨Nat.le_of_ble_eq_true rfl, Nat.le_of_ble_eq_true rfl⟩) ⟨rr_blind, va_recv hK hP (ci := 2) (q0 := 0) rfl rfl, rr_pre (hP.sub (ws' := [(pA, .inr (2, [.ref hT, .int lo, .int hi, .long le, .long gr])), (hT, .inr (1, [.ref hR, .int (nI n)])), (hR, .inl (d, N, .inl a))]) [0, 1, 2] rfl) (hK.sub (tys' := [(d, .int)]) [0] rfl) (hD.sub (ws' := [(pA, .inr (2, [.ref hT, .int lo, .int hi, .long le, .long gr])), (hT, .inr (1, [.ref hR, .int (nI n)])), (hR, .inl (d, N, .inl a))]) [0, 1, 2] (by decide) rfl)⟩ rfl rfl hl.1 rfl (lv_room (Nat.le_of_ble_eq_true rfl)) dX2_work_147 ⟨Nat.le_of_ble_eq_true rfl, Nat.le_of_ble_eq_true rfl⟩) hK hP hD hS hA [0, 1, 2] [] rfl rfl (by decide) (by decide) (fun u_89 H locs hw_88 hP hD hK hS => ?_)
  obtain ⟨lo_88, hi_88⟩ := u_89
  have hP : va_P D vwCl [(pA, .inr (2, [.ref hT, .int lo_88, .int hi_88, .long le, .long gr])), (hT, .inr (1, [.ref hR, .int (nI n)])), (hR, .inl (d, N, .inl a))] H := hP
  have hD : va_D A [(pA, .inr (2, [.ref hT, .int lo_88, .int hi_88, .long le, .long gr])), (hT, .inr (1, [.ref hR, .int (nI n)])), (hR, .inl (d, N, .inl a))] := hD
  have hK : va_K D vwCl [(d, .int)] s := hK.sub (tys' := [(d, .int)]) [0] rfl
  refine lv_iconst (v := 1) hx hb dX2_work_150 (by decide) ?_
  exact W.zret (v := 1) hx hb hr rfl (rr_endi (lo_88, hi_88, le, gr) (by obtain ⟨q, eq, hq⟩ := hw_88; rw [eq]; exact ⟨rfl, hq⟩) hP hK hD hS) hS.2.2 dX2_work_151
theorem met_X2_work (j : Nat) (hj : j < 10) (l : Launch) (D : va_G) (pA : Nat) (lo hi : Int32) (le gr : Int64) (hT hR : Nat) (d : ClassId) (N n : Nat) (a : Nat → Int32) (sz : Nat) (l0 h0 m0 n0 : Int64) {S : Int32 → Bool} (hok : T_ok S n a) (hnN : n ≤ N) (hN : N ≤ 512) (hmi : S (-2147483648) = true) (hma : S 2147483647 = true) (hh : h0.toInt ≤ 2147483647) (hn3 : n0.toInt ≤ 2147483647) : rr_CI l D yX2_work wsX2_work ({ frames := 4, cells := 0, slots := 0, locals := 110 }) [.ref pA, .int (nI j), .long l0, .long h0, .long m0, .long n0] [(d, .int)] [(pA, .inr (2, [.ref hT, .int lo, .int hi, .long le, .long gr])), (hT, .inr (1, [.ref hR, .int (nI n)])), (hR, .inl (d, N, .inl a))] sz (fun (r : Int32) (u : Int32 × Int32 × Int64 × Int64) => WorkR (PutR S) (sysOp j l0 h0 m0 n0) lo hi r u.1 u.2.1) (fun _ => [(d, .int)]) (fun u => [(pA, .inr (2, [.ref hT, .int u.1, .int u.2.1, .long u.2.2.1, .long u.2.2.2])), (hT, .inr (1, [.ref hR, .int (nI n)])), (hR, .inl (d, N, .inl a))]) 0 0 := by
  rcases (show j = 0 ∨ j = 1 ∨ j = 2 ∨ j = 3 ∨ j = 4 ∨ j = 5 ∨ j = 6 ∨ j = 7 ∨ j = 8 ∨ j = 9 by omega) with rfl | rfl | rfl | rfl | rfl | rfl | rfl | rfl | rfl | rfl
  · exact met_X2_work_0 l D pA lo hi le gr hT hR d N n a sz l0 h0 m0 n0 hok hnN hN hmi hma hh hn3
  · exact met_X2_work_1 l D pA lo hi le gr hT hR d N n a sz l0 h0 m0 n0 hok hnN hN hmi hma hh hn3
  · exact met_X2_work_2 l D pA lo hi le gr hT hR d N n a sz l0 h0 m0 n0 hok hnN hN hmi hma hh hn3
  · exact met_X2_work_3 l D pA lo hi le gr hT hR d N n a sz l0 h0 m0 n0 hok hnN hN hmi hma hh hn3
  · exact met_X2_work_4 l D pA lo hi le gr hT hR d N n a sz l0 h0 m0 n0 hok hnN hN hmi hma hh hn3
  · exact met_X2_work_5 l D pA lo hi le gr hT hR d N n a sz l0 h0 m0 n0 hok hnN hN hmi hma hh hn3
  · exact met_X2_work_6 l D pA lo hi le gr hT hR d N n a sz l0 h0 m0 n0 hok hnN hN hmi hma hh hn3
  · exact met_X2_work_7 l D pA lo hi le gr hT hR d N n a sz l0 h0 m0 n0 hok hnN hN hmi hma hh hn3
  · exact met_X2_work_8 l D pA lo hi le gr hT hR d N n a sz l0 h0 m0 n0 hok hnN hN hmi hma hh hn3
  · exact met_X2_work_9 l D pA lo hi le gr hT hR d N n a sz l0 h0 m0 n0 hok hnN hN hmi hma hh hn3
end
section
theorem w_i64ge (v : Int32) : -2147483648 ≤ v.toInt64.toInt := by
  rw [Int32.toInt_toInt64]
  have := v.le_toInt
  omega
theorem w_i64le (v : Int32) : v.toInt64.toInt ≤ 2147483647 := by
  rw [Int32.toInt_toInt64]
  have := v.toInt_lt
  omega
def arS (k : Nat) (S : Int32 → Bool) (v : Int32) : Int32 → Bool := if k = 60 then S else sA3 S v
def arN (k : Nat) (S : Int32 → Bool) (v : Int32) (n : Nat) : Nat := if k = 60 then n else n + cA3 S v
def arK (k : Nat) : Nat := if k = 60 then k else k + 1
def arR (k n : Nat) : Int32 := if k = 60 then -1 else nI n
theorem WorkR_ne0 {P : Int64 → Int64 → Int32 → Int32 → Prop} {q : Option (Int64 × Int64)} {lo hi r lo2 hi2 : Int32} (h : WorkR P q lo hi r lo2 hi2) (hr : ¬ r = 0) : WorkR P q lo hi 1 lo2 hi2 := by
  cases q with
  | none => exact absurd h.1 hr
  | some x => exact ⟨rfl, h.2⟩
def okW (S : Int32 → Bool) (op l h m n : Int32) : Bool := decide (¬ op < 0) && decide (¬ 9 < op) && rng S l h && rng S m n
theorem okW_iff {S : Int32 → Bool} {op l h m n : Int32} : okW S op l h m n = true ↔ ¬ op < 0 ∧ ¬ 9 < op ∧ rng S l h = true ∧ rng S m n = true := by simp only [okW, Bool.and_eq_true, decide_eq_true_eq, and_assoc]
def XWork (S : Int32 → Bool) (P : Int64 → Int64 → Int32 → Int32 → Prop) (q : Option (Int64 × Int64)) (op l h m n lo hi r lo2 hi2 : Int32) : Prop := if okW S op l h m n = true then WorkR P q lo hi r lo2 hi2 else (r = -1 ∧ lo2 = lo ∧ hi2 = hi)
def XNeg (S : Int32 → Bool) (P : Int64 → Int64 → Int32 → Int32 → Prop) (l h lo hi r lo2 hi2 : Int32) : Prop := if rng S l h = true then (r = 1 ∧ P (-h.toInt64) (-l.toInt64) lo2 hi2) else (r = 0 ∧ lo2 = lo ∧ hi2 = hi)
theorem rng_of {S : Int32 → Bool} {l h : Int32} (c : ¬ h < l) (h1 : S l = true) (h2 : S h = true) : rng S l h = true := by
  rw [rng_iff]
  rw [Int32.lt_iff_toInt_lt] at c
  exact ⟨Int32.le_iff_toInt_le.mpr (by omega), h1, h2⟩
theorem rng_no {S : Int32 → Bool} {l h : Int32} (c : h < l) : ¬ rng S l h = true := by
  rw [rng_iff]
  rw [Int32.lt_iff_toInt_lt] at c
  intro q
  have := Int32.le_iff_toInt_le.mp q.1
  omega
abbrev wsX0_size : List Cond := ws_ yX0_size cX0_size 1 (some .int)
set_option maxHeartbeats 4000000 in
set_option maxRecDepth 100000 in
theorem met_X0_size (l : Launch) (D : va_G) (ho pA : Nat) (hT hR : Nat) (d : ClassId) (N n : Nat) (a : Nat → Int32) (k : Nat) (sz : Nat) : rr_RI l D yX0_size wsX0_size ({ frames := 0, cells := 0, slots := 0, locals := 0 }) [.ref ho] [(d, .int)] [(ho, .inr (0, [.ref hT, .ref pA, .int (nI k)])), (hT, .inr (1, [.ref hR, .int (nI n)])), (hR, .inl (d, N, .inl a))] sz (fun r => r = nI n) := by
  refine Met.ofW (cc := cX0_size) (maxL := 1) (ret := (some .int)) (by decide) rfl ?_
  intro p e s m args below meth c s₁ B hml hv
  obtain ⟨rfl, hsz, hP, hK⟩ := hv
  have hx := B.exec
  have hb := B.bytes
  have hr := B.returns
  have hts := atoms_spec (ws := wsX0_size) B.pre
  have hts : ∀ w ∈ lw_all, w.before _ s = true := fun w h => hts w (List.mem_cons_of_mem _ h)
  have hown : s.vm.findClass RX0 = some m.cls := findClass_of_methodNamed B.named
  have hlocks := B.notSynchronized
  subst hsz
  generalize hAe : va_A [] s.heap.size = A
  have hA : ∀ q : Nat, s.heap.size ≤ q → A q := fun q h => by rw [← hAe]; exact Or.inr h
  have hS : va_S A s.heap s.heap [] := va_S.rf
  have hP : va_P D vwCl [(ho, .inr (0, [.ref hT, .ref pA, .int (nI k)])), (hT, .inr (1, [.ref hR, .int (nI n)])), (hR, .inl (d, N, .inl a))] s.heap := hP
  have hK : va_K D vwCl [(d, .int)] s := hK
  have hl := lv_entry ([.ref ho]) (n := 1) (Nat.le_of_ble_eq_true rfl)
  rw [lg_entry_eq]
  generalize (lg_sl ([.ref ho]) ++ List.replicate (1 - (lg_sl ([.ref ho])).length) Slot.unset).toArray = ls at hl ⊢
  have hl : lv_has ls 1 [(0, .ref ho)] := hl
  refine lv_aload_n hx hb dX0_size_0 rfl (lv_at hl 0 rfl) ?_
  refine va_get (D := D) (ci := 0) (v := .ref hT) (C := RX0) (T := TX0) (N := 3) hx hb hts in_X0 hown hK hP 0 rfl rfl 0 (by decide) (hts _ q98) (fun _ h9 => h9) rfl dX0_size_1 ?_
  refine va_get (D := D) (ci := 1) (v := .int (nI n)) (C := RX1) (T := TX1) (N := 2) hx hb hts in_X1 hown hK hP 1 rfl rfl 1 (by decide) (hts _ q39) (fun _ h9 => h9) rfl dX0_size_4 ?_
  exact W.iret hx hb hr (rr_endo (by exact rfl) hS) hS.2.2 dX0_size_7
abbrev wsX0_down : List Cond := ws_ yX0_down cX0_down 2 (some .int)
set_option maxHeartbeats 4000000 in
set_option maxRecDepth 100000 in
theorem met_X0_down (l : Launch) (D : va_G) (ho pA : Nat) (hT hR : Nat) (d : ClassId) (N n : Nat) (a : Nat → Int32) (k : Nat) (sz : Nat) (v : Int32) {S : Int32 → Bool} (hok : T_ok S n a) (hnN : n ≤ N) (hN : N ≤ 512) (hmi : S (-2147483648) = true) (hma : S 2147483647 = true) : rr_RI l D yX0_down wsX0_down ({ frames := 1, cells := 0, slots := 0, locals := 25 }) [.ref ho, .int v] [(d, .int)] [(ho, .inr (0, [.ref hT, .ref pA, .int (nI k)])), (hT, .inr (1, [.ref hR, .int (nI n)])), (hR, .inl (d, N, .inl a))] sz (fun r => IsDn S v.toInt r) := by
  refine Met.ofW (cc := cX0_down) (maxL := 2) (ret := (some .int)) (by decide) rfl ?_
  intro p e s m args below meth c s₁ B hml hv
  obtain ⟨rfl, hsz, hP, hK⟩ := hv
  have hx := B.exec
  have hb := B.bytes
  have hr := B.returns
  have hts := atoms_spec (ws := wsX0_down) B.pre
  have hts : ∀ w ∈ lw_all, w.before _ s = true := fun w h => hts w (List.mem_cons_of_mem _ h)
  have hown : s.vm.findClass RX0 = some m.cls := findClass_of_methodNamed B.named
  have hlocks := B.notSynchronized
  subst hsz
  generalize hAe : va_A [] s.heap.size = A
  have hA : ∀ q : Nat, s.heap.size ≤ q → A q := fun q h => by rw [← hAe]; exact Or.inr h
  have hS : va_S A s.heap s.heap [] := va_S.rf
  have hP : va_P D vwCl [(ho, .inr (0, [.ref hT, .ref pA, .int (nI k)])), (hT, .inr (1, [.ref hR, .int (nI n)])), (hR, .inl (d, N, .inl a))] s.heap := hP
  have hK : va_K D vwCl [(d, .int)] s := hK
  have hl := lv_entry ([.ref ho, .int v]) (n := 2) (Nat.le_of_ble_eq_true rfl)
  rw [lg_entry_eq]
  generalize (lg_sl ([.ref ho, .int v]) ++ List.replicate (2 - (lg_sl ([.ref ho, .int v])).length) Slot.unset).toArray = ls at hl ⊢
  have hl : lv_has ls 2 [(0, .ref ho), (1, .int v)] := hl
  refine lv_aload_n hx hb dX0_down_0 rfl (lv_at hl 0 rfl) ?_
  refine va_get (D := D) (ci := 0) (v := .ref hT) (C := RX0) (T := TX0) (N := 3) hx hb hts in_X0 hown hK hP 0 rfl rfl 0 (by decide) (hts _ q98) (fun _ h9 => h9) rfl dX0_down_1 ?_
  refine lv_iload_n hx hb dX0_down_4 rfl (lv_at hl 1 rfl) ?_
  refine lv_i2l hx hb dX0_down_5 rfl ?_
  refine rr_callo (va_runV (As := [.long v.toInt64]) (rest := []) ⟨hx, hb, hml, hown, hts⟩ (met_X1_down l D hT hR d N n a s.heap.size v.toInt64 hok hnN hN hmi (w_i64ge _)) (cwV 1 hts (lw_V q128 q129 q130 q17 q131) rfl rfl rfl (by decide +kernel) ⟨Nat.le_of_ble_eq_true rfl, Nat.le_of_ble_eq_true rfl⟩) ⟨rr_blindO, va_recv hK hP (ci := 1) (q0 := 1) rfl rfl, rr_preO (hP.sub (ws' := [(hT, .inr (1, [.ref hR, .int (nI n)])), (hR, .inl (d, N, .inl a))]) [1, 2] rfl) (hK.sub (tys' := [(d, .int)]) [0] rfl)⟩ rfl rfl hl.1 rfl (lv_room (Nat.le_of_ble_eq_true rfl)) dX0_down_6 ⟨Nat.le_of_ble_eq_true rfl, Nat.le_of_ble_eq_true rfl⟩) hP hS hA (fun r_90 H locs hw_91 hP hS => ?_)
  exact W.iret hx hb hr (rr_endo (by rw [Int32.toInt_toInt64] at hw_91; exact hw_91) hS) hS.2.2 dX0_down_9
abbrev wsX0_up : List Cond := ws_ yX0_up cX0_up 2 (some .int)
set_option maxHeartbeats 4000000 in
set_option maxRecDepth 100000 in
theorem met_X0_up (l : Launch) (D : va_G) (ho pA : Nat) (hT hR : Nat) (d : ClassId) (N n : Nat) (a : Nat → Int32) (k : Nat) (sz : Nat) (v : Int32) {S : Int32 → Bool} (hok : T_ok S n a) (hnN : n ≤ N) (hN : N ≤ 512) (hmi : S (-2147483648) = true) (hma : S 2147483647 = true) : rr_RI l D yX0_up wsX0_up ({ frames := 1, cells := 0, slots := 0, locals := 25 }) [.ref ho, .int v] [(d, .int)] [(ho, .inr (0, [.ref hT, .ref pA, .int (nI k)])), (hT, .inr (1, [.ref hR, .int (nI n)])), (hR, .inl (d, N, .inl a))] sz (fun r => IsUp S v.toInt r) := by
  refine Met.ofW (cc := cX0_up) (maxL := 2) (ret := (some .int)) (by decide) rfl ?_
  intro p e s m args below meth c s₁ B hml hv
  obtain ⟨rfl, hsz, hP, hK⟩ := hv
  have hx := B.exec
  have hb := B.bytes
  have hr := B.returns
  have hts := atoms_spec (ws := wsX0_up) B.pre
  have hts : ∀ w ∈ lw_all, w.before _ s = true := fun w h => hts w (List.mem_cons_of_mem _ h)
  have hown : s.vm.findClass RX0 = some m.cls := findClass_of_methodNamed B.named
  have hlocks := B.notSynchronized
  subst hsz
  generalize hAe : va_A [] s.heap.size = A
  have hA : ∀ q : Nat, s.heap.size ≤ q → A q := fun q h => by rw [← hAe]; exact Or.inr h
  have hS : va_S A s.heap s.heap [] := va_S.rf
  have hP : va_P D vwCl [(ho, .inr (0, [.ref hT, .ref pA, .int (nI k)])), (hT, .inr (1, [.ref hR, .int (nI n)])), (hR, .inl (d, N, .inl a))] s.heap := hP
  have hK : va_K D vwCl [(d, .int)] s := hK
  have hl := lv_entry ([.ref ho, .int v]) (n := 2) (Nat.le_of_ble_eq_true rfl)
  rw [lg_entry_eq]
  generalize (lg_sl ([.ref ho, .int v]) ++ List.replicate (2 - (lg_sl ([.ref ho, .int v])).length) Slot.unset).toArray = ls at hl ⊢
  have hl : lv_has ls 2 [(0, .ref ho), (1, .int v)] := hl
  refine lv_aload_n hx hb dX0_up_0 rfl (lv_at hl 0 rfl) ?_
  refine va_get (D := D) (ci := 0) (v := .ref hT) (C := RX0) (T := TX0) (N := 3) hx hb hts in_X0 hown hK hP 0 rfl rfl 0 (by decide) (hts _ q98) (fun _ h9 => h9) rfl dX0_up_1 ?_
  refine lv_iload_n hx hb dX0_up_4 rfl (lv_at hl 1 rfl) ?_
  refine lv_i2l hx hb dX0_up_5 rfl ?_
  refine rr_callo (va_runV (As := [.long v.toInt64]) (rest := []) ⟨hx, hb, hml, hown, hts⟩ (met_X1_up l D hT hR d N n a s.heap.size v.toInt64 hok hnN hN hma (w_i64le _)) (cwV 1 hts (lw_V q136 q137 q138 q17 q139) rfl rfl rfl (by decide +kernel) ⟨Nat.le_of_ble_eq_true rfl, Nat.le_of_ble_eq_true rfl⟩) ⟨rr_blindO, va_recv hK hP (ci := 1) (q0 := 1) rfl rfl, rr_preO (hP.sub (ws' := [(hT, .inr (1, [.ref hR, .int (nI n)])), (hR, .inl (d, N, .inl a))]) [1, 2] rfl) (hK.sub (tys' := [(d, .int)]) [0] rfl)⟩ rfl rfl hl.1 rfl (lv_room (Nat.le_of_ble_eq_true rfl)) dX0_up_6 ⟨Nat.le_of_ble_eq_true rfl, Nat.le_of_ble_eq_true rfl⟩) hP hS hA (fun r_92 H locs hw_93 hP hS => ?_)
  exact W.iret hx hb hr (rr_endo (by rw [Int32.toInt_toInt64] at hw_93; exact hw_93) hS) hS.2.2 dX0_up_9
abbrev wsX0_isRange : List Cond := ws_ yX0_isRange cX0_isRange 3 (some .boolean)
set_option maxHeartbeats 4000000 in
set_option maxRecDepth 100000 in
theorem met_X0_isRange (l : Launch) (D : va_G) (ho pA : Nat) (hT hR : Nat) (d : ClassId) (N n : Nat) (a : Nat → Int32) (k : Nat) (sz : Nat) (l0 h0 : Int32) {S : Int32 → Bool} (hok : T_ok S n a) (hnN : n ≤ N) (hN : N ≤ 512) (hmi : S (-2147483648) = true) (hma : S 2147483647 = true) : rr_RI l D yX0_isRange wsX0_isRange ({ frames := 1, cells := 0, slots := 0, locals := 25 }) [.ref ho, .int l0, .int h0] [(d, .int)] [(ho, .inr (0, [.ref hT, .ref pA, .int (nI k)])), (hT, .inr (1, [.ref hR, .int (nI n)])), (hR, .inl (d, N, .inl a))] sz (fun r => r = if rng S l0 h0 = true then 1 else 0) := by
  refine Met.ofW (cc := cX0_isRange) (maxL := 3) (ret := (some .boolean)) (by decide) rfl ?_
  intro p e s m args below meth c s₁ B hml hv
  obtain ⟨rfl, hsz, hP, hK⟩ := hv
  have hx := B.exec
  have hb := B.bytes
  have hr := B.returns
  have hts := atoms_spec (ws := wsX0_isRange) B.pre
  have hts : ∀ w ∈ lw_all, w.before _ s = true := fun w h => hts w (List.mem_cons_of_mem _ h)
  have hown : s.vm.findClass RX0 = some m.cls := findClass_of_methodNamed B.named
  have hlocks := B.notSynchronized
  subst hsz
  generalize hAe : va_A [] s.heap.size = A
  have hA : ∀ q : Nat, s.heap.size ≤ q → A q := fun q h => by rw [← hAe]; exact Or.inr h
  have hS : va_S A s.heap s.heap [] := va_S.rf
  have hP : va_P D vwCl [(ho, .inr (0, [.ref hT, .ref pA, .int (nI k)])), (hT, .inr (1, [.ref hR, .int (nI n)])), (hR, .inl (d, N, .inl a))] s.heap := hP
  have hK : va_K D vwCl [(d, .int)] s := hK
  have hl := lv_entry ([.ref ho, .int l0, .int h0]) (n := 3) (Nat.le_of_ble_eq_true rfl)
  rw [lg_entry_eq]
  generalize (lg_sl ([.ref ho, .int l0, .int h0]) ++ List.replicate (3 - (lg_sl ([.ref ho, .int l0, .int h0])).length) Slot.unset).toArray = ls at hl ⊢
  have hl : lv_has ls 3 [(0, .ref ho), (1, .int l0), (2, .int h0)] := hl
  refine lv_iload_n hx hb dX0_isRange_0 rfl (lv_at hl 1 rfl) ?_
  refine lv_iload_n hx hb dX0_isRange_1 rfl (lv_at hl 2 rfl) ?_
  refine lv_icmp_gt (tgt := 35) hx hb dX0_isRange_2 (by decide) (fun c_2 => ?_) (fun c_2 => ?_)
  · refine lv_iconst (v := 0) hx hb dX0_isRange_35 (by decide) ?_
    exact W.zret (v := 0) hx hb hr rfl (rr_endo (by rw [if_neg (rng_no c_2)]) hS) hS.2.2 dX0_isRange_36
  · refine lv_aload_n hx hb dX0_isRange_5 rfl (lv_at hl 0 rfl) ?_
    refine va_get (D := D) (ci := 0) (v := .ref hT) (C := RX0) (T := TX0) (N := 3) hx hb hts in_X0 hown hK hP 0 rfl rfl 0 (by decide) (hts _ q98) (fun _ h9 => h9) rfl dX0_isRange_6 ?_
    refine lv_iload_n hx hb dX0_isRange_9 rfl (lv_at hl 1 rfl) ?_
    refine lv_i2l hx hb dX0_isRange_10 rfl ?_
    refine rr_callo (va_runV (As := [.long l0.toInt64]) (rest := []) ⟨hx, hb, hml, hown, hts⟩ (met_X1_down l D hT hR d N n a s.heap.size l0.toInt64 hok hnN hN hmi (w_i64ge _)) (cwV 1 hts (lw_V q128 q129 q130 q17 q131) rfl rfl rfl (by decide +kernel) ⟨Nat.le_of_ble_eq_true rfl, Nat.le_of_ble_eq_true rfl⟩) ⟨rr_blindO, va_recv hK hP (ci := 1) (q0 := 1) rfl rfl, rr_preO (hP.sub (ws' := [(hT, .inr (1, [.ref hR, .int (nI n)])), (hR, .inl (d, N, .inl a))]) [1, 2] rfl) (hK.sub (tys' := [(d, .int)]) [0] rfl)⟩ rfl rfl hl.1 rfl (lv_room (Nat.le_of_ble_eq_true rfl)) dX0_isRange_11 ⟨Nat.le_of_ble_eq_true rfl, Nat.le_of_ble_eq_true rfl⟩) hP hS hA (fun r1 H locs hw1 hP hS => ?_)
    rw [Int32.toInt_toInt64] at hw1
    have hs1 := hw1.self
    refine lv_iload_n hx hb dX0_isRange_14 rfl (lv_at hl 1 rfl) ?_
    refine lv_icmp_ne (tgt := 35) hx hb dX0_isRange_15 (by decide) (fun c_15 => ?_) (fun c_15 => ?_)
    · refine lv_iconst (v := 0) hx hb dX0_isRange_35 (by decide) ?_
      exact W.zret (v := 0) hx hb hr rfl (rr_endo (by rw [if_neg (fun q => c_15 (hs1.mpr (rng_iff.mp q).2.1))]) hS) hS.2.2 dX0_isRange_36
    · refine lv_aload_n hx hb dX0_isRange_18 rfl (lv_at hl 0 rfl) ?_
      refine va_get (D := D) (ci := 0) (v := .ref hT) (C := RX0) (T := TX0) (N := 3) hx hb hts in_X0 hown hK hP 0 rfl rfl 0 (by decide) (hts _ q98) (fun _ h9 => h9) rfl dX0_isRange_19 ?_
      refine lv_iload_n hx hb dX0_isRange_22 rfl (lv_at hl 2 rfl) ?_
      refine lv_i2l hx hb dX0_isRange_23 rfl ?_
      refine rr_callo (va_runV (As := [.long h0.toInt64]) (rest := []) ⟨hx, hb, hml, hown, hts⟩ (met_X1_down l D hT hR d N n a H.size h0.toInt64 hok hnN hN hmi (w_i64ge _)) (cwV 1 hts (lw_V q128 q129 q130 q17 q131) rfl rfl rfl (by decide +kernel) ⟨Nat.le_of_ble_eq_true rfl, Nat.le_of_ble_eq_true rfl⟩) ⟨rr_blindO, va_recv hK hP (ci := 1) (q0 := 1) rfl rfl, rr_preO (hP.sub (ws' := [(hT, .inr (1, [.ref hR, .int (nI n)])), (hR, .inl (d, N, .inl a))]) [1, 2] rfl) (hK.sub (tys' := [(d, .int)]) [0] rfl)⟩ rfl rfl hl.1 rfl (lv_room (Nat.le_of_ble_eq_true rfl)) dX0_isRange_24 ⟨Nat.le_of_ble_eq_true rfl, Nat.le_of_ble_eq_true rfl⟩) hP hS hA (fun r2 H locs hw2 hP hS => ?_)
      rw [Int32.toInt_toInt64] at hw2
      have hs2 := hw2.self
      refine lv_iload_n hx hb dX0_isRange_27 rfl (lv_at hl 2 rfl) ?_
      refine lv_icmp_ne (tgt := 35) hx hb dX0_isRange_28 (by decide) (fun c_28 => ?_) (fun c_28 => ?_)
      · refine lv_iconst (v := 0) hx hb dX0_isRange_35 (by decide) ?_
        exact W.zret (v := 0) hx hb hr rfl (rr_endo (by rw [if_neg (fun q => c_28 (hs2.mpr (rng_iff.mp q).2.2))]) hS) hS.2.2 dX0_isRange_36
      · refine lv_iconst (v := 1) hx hb dX0_isRange_31 (by decide) ?_
        refine lv_goto (tgt := 36) hx hb dX0_isRange_32 (by decide) ?_
        exact W.zret (v := 1) hx hb hr rfl (rr_endo (by rw [if_pos (rng_of c_2 (hs1.mp c_15) (hs2.mp c_28))]) hS) hS.2.2 dX0_isRange_36
abbrev wsX0_low : List Cond := ws_ yX0_low cX0_low 1 (some .int)
set_option maxHeartbeats 4000000 in
set_option maxRecDepth 100000 in
theorem met_X0_low (l : Launch) (D : va_G) (ho pA : Nat) (lo hi : Int32) (le gr : Int64) (hT : Nat) (k : Nat) (sz : Nat) : rr_RI l D yX0_low wsX0_low ({ frames := 0, cells := 0, slots := 0, locals := 0 }) [.ref ho] [] [(ho, .inr (0, [.ref hT, .ref pA, .int (nI k)])), (pA, .inr (2, [.ref hT, .int lo, .int hi, .long le, .long gr]))] sz (fun r => r = lo) := by
  refine Met.ofW (cc := cX0_low) (maxL := 1) (ret := (some .int)) (by decide) rfl ?_
  intro p e s m args below meth c s₁ B hml hv
  obtain ⟨rfl, hsz, hP, hK⟩ := hv
  have hx := B.exec
  have hb := B.bytes
  have hr := B.returns
  have hts := atoms_spec (ws := wsX0_low) B.pre
  have hts : ∀ w ∈ lw_all, w.before _ s = true := fun w h => hts w (List.mem_cons_of_mem _ h)
  have hown : s.vm.findClass RX0 = some m.cls := findClass_of_methodNamed B.named
  have hlocks := B.notSynchronized
  subst hsz
  generalize hAe : va_A [] s.heap.size = A
  have hA : ∀ q : Nat, s.heap.size ≤ q → A q := fun q h => by rw [← hAe]; exact Or.inr h
  have hS : va_S A s.heap s.heap [] := va_S.rf
  have hP : va_P D vwCl [(ho, .inr (0, [.ref hT, .ref pA, .int (nI k)])), (pA, .inr (2, [.ref hT, .int lo, .int hi, .long le, .long gr]))] s.heap := hP
  have hK : va_K D vwCl [] s := hK
  have hl := lv_entry ([.ref ho]) (n := 1) (Nat.le_of_ble_eq_true rfl)
  rw [lg_entry_eq]
  generalize (lg_sl ([.ref ho]) ++ List.replicate (1 - (lg_sl ([.ref ho])).length) Slot.unset).toArray = ls at hl ⊢
  have hl : lv_has ls 1 [(0, .ref ho)] := hl
  refine lv_aload_n hx hb dX0_low_0 rfl (lv_at hl 0 rfl) ?_
  refine va_get (D := D) (ci := 0) (v := .ref pA) (C := RX0) (T := TX0) (N := 3) hx hb hts in_X0 hown hK hP 0 rfl rfl 1 (by decide) (hts _ q99) (fun _ h9 => h9) rfl dX0_low_1 ?_
  refine va_get (D := D) (ci := 2) (v := .int lo) (C := RX2) (T := TX2) (N := 5) hx hb hts in_X2 hown hK hP 1 rfl rfl 1 (by decide) (hts _ q54) (fun _ h9 => h9) rfl dX0_low_4 ?_
  exact W.iret hx hb hr (rr_endo (by exact rfl) hS) hS.2.2 dX0_low_7
abbrev wsX0_high : List Cond := ws_ yX0_high cX0_high 1 (some .int)
set_option maxHeartbeats 4000000 in
set_option maxRecDepth 100000 in
theorem met_X0_high (l : Launch) (D : va_G) (ho pA : Nat) (lo hi : Int32) (le gr : Int64) (hT : Nat) (k : Nat) (sz : Nat) : rr_RI l D yX0_high wsX0_high ({ frames := 0, cells := 0, slots := 0, locals := 0 }) [.ref ho] [] [(ho, .inr (0, [.ref hT, .ref pA, .int (nI k)])), (pA, .inr (2, [.ref hT, .int lo, .int hi, .long le, .long gr]))] sz (fun r => r = hi) := by
  refine Met.ofW (cc := cX0_high) (maxL := 1) (ret := (some .int)) (by decide) rfl ?_
  intro p e s m args below meth c s₁ B hml hv
  obtain ⟨rfl, hsz, hP, hK⟩ := hv
  have hx := B.exec
  have hb := B.bytes
  have hr := B.returns
  have hts := atoms_spec (ws := wsX0_high) B.pre
  have hts : ∀ w ∈ lw_all, w.before _ s = true := fun w h => hts w (List.mem_cons_of_mem _ h)
  have hown : s.vm.findClass RX0 = some m.cls := findClass_of_methodNamed B.named
  have hlocks := B.notSynchronized
  subst hsz
  generalize hAe : va_A [] s.heap.size = A
  have hA : ∀ q : Nat, s.heap.size ≤ q → A q := fun q h => by rw [← hAe]; exact Or.inr h
  have hS : va_S A s.heap s.heap [] := va_S.rf
  have hP : va_P D vwCl [(ho, .inr (0, [.ref hT, .ref pA, .int (nI k)])), (pA, .inr (2, [.ref hT, .int lo, .int hi, .long le, .long gr]))] s.heap := hP
  have hK : va_K D vwCl [] s := hK
  have hl := lv_entry ([.ref ho]) (n := 1) (Nat.le_of_ble_eq_true rfl)
  rw [lg_entry_eq]
  generalize (lg_sl ([.ref ho]) ++ List.replicate (1 - (lg_sl ([.ref ho])).length) Slot.unset).toArray = ls at hl ⊢
  have hl : lv_has ls 1 [(0, .ref ho)] := hl
  refine lv_aload_n hx hb dX0_high_0 rfl (lv_at hl 0 rfl) ?_
  refine va_get (D := D) (ci := 0) (v := .ref pA) (C := RX0) (T := TX0) (N := 3) hx hb hts in_X0 hown hK hP 0 rfl rfl 1 (by decide) (hts _ q99) (fun _ h9 => h9) rfl dX0_high_1 ?_
  refine va_get (D := D) (ci := 2) (v := .int hi) (C := RX2) (T := TX2) (N := 5) hx hb hts in_X2 hown hK hP 1 rfl rfl 2 (by decide) (hts _ q56) (fun _ h9 => h9) rfl dX0_high_4 ?_
  exact W.iret hx hb hr (rr_endo (by exact rfl) hS) hS.2.2 dX0_high_7
end
section
def rr_ctrN (D : va_G) (tys : List (ClassId × FieldType)) (ws : va_W) (sz : Nat) (U : State) : Prop := U.heap.size = sz ∧ va_P D vwCl ws U.heap ∧ va_K D vwCl tys U ∧ va_D (fun _ => True) ws ∧ va_Nw (Cond.methodLinkNest RX0 9 yX1_init RX0) U
theorem rr_blindN {av : List Value} {D : va_G} {tys : List (ClassId × FieldType)} {ws : va_W} {sz : Nat} : FrameBlind (va_Pc av (rr_ctrN D tys ws sz)) := by
  intro a U g mk q
  obtain ⟨q0, q1, qP, qK, qD, qN⟩ := q
  exact ⟨q0, q1, qP, va_K.moved (u := U) (U := U.calling g mk a) (Vm.Alike.refl U.vm) qK, qD, va_tabs (A := #[]) (u := U) (U := U.calling g mk a) rfl rfl qN⟩
theorem rr_preN {av : List Value} {D : va_G} {tys : List (ClassId × FieldType)} {ws : va_W} {s : State} {H : Heap} {A : Nat → Prop} (hP : va_P D vwCl ws H) (hK : va_K D vwCl tys s) (hD : va_D A ws) (hN : va_Nw (Cond.methodLinkNest RX0 9 yX1_init RX0) s) : ∀ U : State, U.heap = H → s.WarmedH U.vm → va_Pc av (rr_ctrN D tys ws H.size) av.toArray U :=
  fun U hU hW => ⟨rfl, by rw [hU], by rw [hU]; exact hP, va_K.moved hW.alike hK, hD.weaken (fun _ _ _ _ => trivial), va_Nw.warmM hW hN⟩
abbrev wsX0_init : List Cond := ws_ yX0_init cX0_init 1 none
set_option maxHeartbeats 4000000 in
set_option maxRecDepth 100000 in
theorem met_X0_init (l : Launch) (D : va_G) (ho : Nat) (sz : Nat) : Met l yX0_init wsX0_init ({ frames := 4, cells := 10, slots := 3655, locals := 128 }) (va_Pc [.ref ho] (rr_ctrN D [] [(ho, .inr (0, [.null, .null, .int 0]))] sz)) (rr_qV D (fun u : Nat × Nat × Nat × ClassId × Nat × (Nat → Int32) => T_ok sB7 7 u.2.2.2.2.2 ∧ 7 ≤ u.2.2.2.2.1 ∧ u.2.2.2.2.1 ≤ 512) (fun u => [(u.2.2.2.1, .int)]) (fun u => [(ho, .inr (0, [.ref u.1, .ref u.2.1, .int (nI 0)])), (u.2.1, .inr (2, [.ref u.1, .int 0, .int 0, .long 0, .long 0])), (u.1, .inr (1, [.ref u.2.2.1, .int (nI 7)])), (u.2.2.1, .inl (u.2.2.2.1, u.2.2.2.2.1, .inl u.2.2.2.2.2))]) (va_A [(ho, .inr (0, [.null, .null, .int 0]))] sz)) 10 3655 (va_A [(ho, .inr (0, [.null, .null, .int 0]))] sz) := by
  refine Met.ofW (cc := cX0_init) (maxL := 1) (ret := none) (by decide) rfl ?_
  intro p e s m args below meth c s₁ B hml hv
  obtain ⟨rfl, hsz, hP, hK, hD0, hNw⟩ := hv
  have hx := B.exec
  have hb := B.bytes
  have hr := B.returns
  have hts := atoms_spec (ws := wsX0_init) B.pre
  have hts : ∀ w ∈ lw_all, w.before _ s = true := fun w h => hts w (List.mem_cons_of_mem _ h)
  have hown : s.vm.findClass RX0 = some m.cls := findClass_of_methodNamed B.named
  have hlocks := B.notSynchronized
  have hin : meth.name = "<init>" := (name_of_methodNamed B.named B.method).1
  subst hsz
  have hD := hD0.self (sz := s.heap.size)
  generalize hAe : va_A [(ho, .inr (0, [.null, .null, .int 0]))] s.heap.size = A at hD ⊢
  have hA : ∀ q : Nat, s.heap.size ≤ q → A q := fun q h => by rw [← hAe]; exact Or.inr h
  have hS : va_S A s.heap s.heap [] := va_S.rf
  have hP : va_P D vwCl [(ho, .inr (0, [.null, .null, .int 0]))] s.heap := hP
  have hK : va_K D vwCl [] s := hK
  have hl := lv_entry ([.ref ho]) (n := 1) (Nat.le_of_ble_eq_true rfl)
  rw [lg_entry_eq]
  generalize (lg_sl ([.ref ho]) ++ List.replicate (1 - (lg_sl ([.ref ho])).length) Slot.unset).toArray = ls at hl ⊢
  have hl : lv_has ls 1 [(0, .ref ho)] := hl
  refine lv_aload_n hx hb dX0_init_0 rfl (lv_at hl 0 rfl) ?_
  refine W.objInit hx hb hown (hts _ q28) (hts _ q29) (hts _ q30) rfl (by rw [hml]; exact hl.1) rfl dX0_init_1 (Nat.le_of_ble_eq_true rfl) (Nat.le_of_ble_eq_true rfl) ?_
  refine W.eq (g2 := F0 m 4 ls []) rfl ?_
  refine lv_aload_n hx hb dX0_init_4 rfl (lv_at hl 0 rfl) ?_
  refine va_new (ci := 1) (fs := [.null, .int 0]) (C := RX1) (T := TX1) (N := 2) hx hb hts in_X1 tyX1 tyX1_ok hown (hts _ q31) (hts _ q32) (hts _ q17) hK hP hD hS hA rfl (fun j hj => by rcases (show j = 0 ∨ j = 1 by omega) with rfl | rfl <;> rfl) (Nat.le_of_ble_eq_true rfl) (Nat.le_of_ble_eq_true rfl) dX0_init_5 (fun qo_98 H hP hD hS => ?_)
  have hP : va_P D vwCl [(ho, .inr (0, [.null, .null, .int 0])), (qo_98, .inr (1, [.null, .int 0]))] H := hP
  have hD : va_D A [(ho, .inr (0, [.null, .null, .int 0])), (qo_98, .inr (1, [.null, .int 0]))] := hD
  refine lv_dup hx hb dX0_init_8 rfl ?_
  refine rr_callv (wc := [(qo_98, .inr (1, [.null, .int 0]))]) (wr := [(ho, .inr (0, [.null, .null, .int 0]))]) (va_runIN (As := []) (rest := [.ref qo_98, .ref ho]) ⟨hx, hb, hml, hown, hts⟩ (met_X1_init l D qo_98 H.size) ⟨va_cnB 0 hts (lw_meth q35) rfl rfl rfl hNw (hts _ q17) (by decide +kernel) ⟨Nat.le_of_ble_eq_true rfl, Nat.le_of_ble_eq_true rfl⟩, rfl, hts _ q34⟩ ⟨rr_blind, rr_pre (hP.sub (ws' := [(qo_98, .inr (1, [.null, .int 0]))]) [1] rfl) (hK.sub (tys' := []) [] rfl) (hD.sub (ws' := [(qo_98, .inr (1, [.null, .int 0]))]) [1] (by decide) rfl)⟩ rfl rfl hl.1 rfl (lv_room (Nat.le_of_ble_eq_true rfl)) dX0_init_9 ⟨Nat.le_of_ble_eq_true rfl, Nat.le_of_ble_eq_true rfl⟩) hK hP hD hS hA [1] [0] rfl rfl (by decide) (by decide) (fun u_100 H locs hw_99 hP hD hK hS => ?_)
  obtain ⟨hR0, d0⟩ := u_100
  have hP : va_P D vwCl [(ho, .inr (0, [.null, .null, .int 0])), (qo_98, .inr (1, [.ref hR0, .int 0])), (hR0, .inl (d0, 64, .inl (fun _ => 0)))] H := hP
  have hD : va_D A [(ho, .inr (0, [.null, .null, .int 0])), (qo_98, .inr (1, [.ref hR0, .int 0])), (hR0, .inl (d0, 64, .inl (fun _ => 0)))] := hD
  have hK : va_K D vwCl [(d0, .int)] s := hK.sub (tys' := [(d0, .int)]) [0] rfl
  refine va_putF (D := D) (ci := 0) (v := .ref qo_98) (ty := .object "RangeRules$Thresholds") (C := RX0) (T := TX0) (N := 3) hx hb hts in_X0 tyX0 tyX0_ok nmX0 hown hK hP hD hS 0 rfl rfl 0 (by decide) (hts _ q98) (fun _ h9 => h9) rfl hin rfl (by decide +kernel) rfl rfl (Nat.le_of_ble_eq_true rfl) dX0_init_12 (fun H locs hP hD hS => ?_)
  have hP : va_P D vwCl [(ho, .inr (0, [.ref qo_98, .null, .int 0])), (qo_98, .inr (1, [.ref hR0, .int 0])), (hR0, .inl (d0, 64, .inl (fun _ => 0)))] H := hP
  have hD : va_D A [(ho, .inr (0, [.ref qo_98, .null, .int 0])), (qo_98, .inr (1, [.ref hR0, .int 0])), (hR0, .inl (d0, 64, .inl (fun _ => 0)))] := hD
  refine lv_aload_n hx hb dX0_init_15 rfl (lv_at hl 0 rfl) ?_
  refine va_new (ci := 2) (fs := [.null, .int 0, .int 0, .long 0, .long 0]) (C := RX2) (T := TX2) (N := 5) hx hb hts in_X2 tyX2 tyX2_ok hown (hts _ q46) (hts _ q47) (hts _ q18) hK hP hD hS hA rfl (fun j hj => by rcases (show j = 0 ∨ j = 1 ∨ j = 2 ∨ j = 3 ∨ j = 4 by omega) with rfl | rfl | rfl | rfl | rfl <;> rfl) (Nat.le_of_ble_eq_true rfl) (Nat.le_of_ble_eq_true rfl) dX0_init_16 (fun qo_101 H hP hD hS => ?_)
  have hP : va_P D vwCl [(ho, .inr (0, [.ref qo_98, .null, .int 0])), (qo_98, .inr (1, [.ref hR0, .int 0])), (hR0, .inl (d0, 64, .inl (fun _ => 0))), (qo_101, .inr (2, [.null, .int 0, .int 0, .long 0, .long 0]))] H := hP
  have hD : va_D A [(ho, .inr (0, [.ref qo_98, .null, .int 0])), (qo_98, .inr (1, [.ref hR0, .int 0])), (hR0, .inl (d0, 64, .inl (fun _ => 0))), (qo_101, .inr (2, [.null, .int 0, .int 0, .long 0, .long 0]))] := hD
  refine lv_dup hx hb dX0_init_19 rfl ?_
  refine lv_aload_n hx hb dX0_init_20 rfl (lv_at hl 0 rfl) ?_
  refine va_get (D := D) (ci := 0) (v := .ref qo_98) (C := RX0) (T := TX0) (N := 3) hx hb hts in_X0 hown hK hP 0 rfl rfl 0 (by decide) (hts _ q98) (fun _ h9 => h9) rfl dX0_init_21 ?_
  refine rr_callv (wc := [(qo_101, .inr (2, [.null, .int 0, .int 0, .long 0, .long 0]))]) (wr := [(ho, .inr (0, [.ref qo_98, .null, .int 0])), (qo_98, .inr (1, [.ref hR0, .int 0])), (hR0, .inl (d0, 64, .inl (fun _ => 0)))]) (va_runI (As := [.ref qo_98]) (rest := [.ref qo_101, .ref ho]) ⟨hx, hb, hml, hown, hts⟩ (met_X2_init l D qo_101 qo_98 H.size) (cwI 1 hts (lw_meth q50) rfl rfl rfl (hts _ q18) (hts _ q48) (hts _ q49) rfl (by decide +kernel) ⟨Nat.le_of_ble_eq_true rfl, Nat.le_of_ble_eq_true rfl⟩) ⟨rr_blind, rr_pre (hP.sub (ws' := [(qo_101, .inr (2, [.null, .int 0, .int 0, .long 0, .long 0]))]) [3] rfl) (hK.sub (tys' := []) [] rfl) (hD.sub (ws' := [(qo_101, .inr (2, [.null, .int 0, .int 0, .long 0, .long 0]))]) [3] (by decide) rfl)⟩ rfl rfl hl.1 rfl (lv_room (Nat.le_of_ble_eq_true rfl)) dX0_init_24 ⟨Nat.le_of_ble_eq_true rfl, Nat.le_of_ble_eq_true rfl⟩) hK hP hD hS hA [3] [0, 1, 2] rfl rfl (by decide) (by decide) (fun u_103 H locs hw_102 hP hD hK hS => ?_)
  have hP : va_P D vwCl [(ho, .inr (0, [.ref qo_98, .null, .int 0])), (qo_98, .inr (1, [.ref hR0, .int 0])), (hR0, .inl (d0, 64, .inl (fun _ => 0))), (qo_101, .inr (2, [.ref qo_98, .int 0, .int 0, .long 0, .long 0]))] H := hP
  have hD : va_D A [(ho, .inr (0, [.ref qo_98, .null, .int 0])), (qo_98, .inr (1, [.ref hR0, .int 0])), (hR0, .inl (d0, 64, .inl (fun _ => 0))), (qo_101, .inr (2, [.ref qo_98, .int 0, .int 0, .long 0, .long 0]))] := hD
  have hK : va_K D vwCl [(d0, .int)] s := hK.sub (tys' := [(d0, .int)]) [0] rfl
  refine va_putF (D := D) (ci := 0) (v := .ref qo_101) (ty := .object "RangeRules$Arithmetic") (C := RX0) (T := TX0) (N := 3) hx hb hts in_X0 tyX0 tyX0_ok nmX0 hown hK hP hD hS 0 rfl rfl 1 (by decide) (hts _ q99) (fun _ h9 => h9) rfl hin rfl (by decide +kernel) rfl rfl (Nat.le_of_ble_eq_true rfl) dX0_init_27 (fun H locs hP hD hS => ?_)
  have hP : va_P D vwCl [(ho, .inr (0, [.ref qo_98, .ref qo_101, .int 0])), (qo_98, .inr (1, [.ref hR0, .int 0])), (hR0, .inl (d0, 64, .inl (fun _ => 0))), (qo_101, .inr (2, [.ref qo_98, .int 0, .int 0, .long 0, .long 0]))] H := hP
  have hD : va_D A [(ho, .inr (0, [.ref qo_98, .ref qo_101, .int 0])), (qo_98, .inr (1, [.ref hR0, .int 0])), (hR0, .inl (d0, 64, .inl (fun _ => 0))), (qo_101, .inr (2, [.ref qo_98, .int 0, .int 0, .long 0, .long 0]))] := hD
  refine lv_aload_n hx hb dX0_init_30 rfl (lv_at hl 0 rfl) ?_
  refine va_get (D := D) (ci := 0) (v := .ref qo_98) (C := RX0) (T := TX0) (N := 3) hx hb hts in_X0 hown hK hP 0 rfl rfl 0 (by decide) (hts _ q98) (fun _ h9 => h9) rfl dX0_init_31 ?_
  refine rr_callv (wc := [(qo_98, .inr (1, [.ref hR0, .int 0])), (hR0, .inl (d0, 64, .inl (fun _ => 0)))]) (wr := [(ho, .inr (0, [.ref qo_98, .ref qo_101, .int 0])), (qo_101, .inr (2, [.ref qo_98, .int 0, .int 0, .long 0, .long 0]))]) (va_runV (As := []) (rest := []) ⟨hx, hb, hml, hown, hts⟩ (met_X1_begin l D qo_98 hR0 d0 64 (fun _ => 0) 0 H.size (by decide) (by decide)) (cwV 0 hts (lw_V q70 q71 q72 q17 q73) rfl rfl rfl (by decide +kernel) ⟨Nat.le_of_ble_eq_true rfl, Nat.le_of_ble_eq_true rfl⟩) ⟨rr_blind, va_recv hK hP (ci := 1) (q0 := 1) rfl rfl, rr_pre (hP.sub (ws' := [(qo_98, .inr (1, [.ref hR0, .int 0])), (hR0, .inl (d0, 64, .inl (fun _ => 0)))]) [1, 2] rfl) (hK.sub (tys' := [(d0, .int)]) [0] rfl) (hD.sub (ws' := [(qo_98, .inr (1, [.ref hR0, .int 0])), (hR0, .inl (d0, 64, .inl (fun _ => 0)))]) [1, 2] (by decide) rfl)⟩ rfl rfl hl.1 rfl (lv_room (Nat.le_of_ble_eq_true rfl)) dX0_init_34 ⟨Nat.le_of_ble_eq_true rfl, Nat.le_of_ble_eq_true rfl⟩) hK hP hD hS hA [1, 2] [0, 3] rfl rfl (by decide) (by decide) (fun u_104 H locs hbg hP hD hK hS => ?_)
  obtain ⟨hR1, d1, N1, a1⟩ := u_104
  have hP : va_P D vwCl [(ho, .inr (0, [.ref qo_98, .ref qo_101, .int 0])), (qo_101, .inr (2, [.ref qo_98, .int 0, .int 0, .long 0, .long 0])), (qo_98, .inr (1, [.ref hR1, .int (nI 7)])), (hR1, .inl (d1, N1, .inl a1))] H := hP
  have hD : va_D A [(ho, .inr (0, [.ref qo_98, .ref qo_101, .int 0])), (qo_101, .inr (2, [.ref qo_98, .int 0, .int 0, .long 0, .long 0])), (qo_98, .inr (1, [.ref hR1, .int (nI 7)])), (hR1, .inl (d1, N1, .inl a1))] := hD
  have hK : va_K D vwCl [(d0, .int), (d1, .int)] s := hK.sub (tys' := [(d0, .int), (d1, .int)]) [0, 1] rfl
  exact W.vret hx hb hr (rr_endv (qo_98, qo_101, hR1, d1, N1, a1) hbg (hP.sub (ws' := [(ho, .inr (0, [.ref qo_98, .ref qo_101, .int 0])), (qo_101, .inr (2, [.ref qo_98, .int 0, .int 0, .long 0, .long 0])), (qo_98, .inr (1, [.ref hR1, .int (nI 7)])), (hR1, .inl (d1, N1, .inl a1))]) [0, 1, 2, 3] rfl) (hK.sub (tys' := [(d1, .int)]) [1] rfl) (hD.sub (ws' := [(ho, .inr (0, [.ref qo_98, .ref qo_101, .int 0])), (qo_101, .inr (2, [.ref qo_98, .int 0, .int 0, .long 0, .long 0])), (qo_98, .inr (1, [.ref hR1, .int (nI 7)])), (hR1, .inl (d1, N1, .inl a1))]) [0, 1, 2, 3] (by decide) rfl) hS) hS.2.2 dX0_init_37
abbrev wsX0_clear : List Cond := ws_ yX0_clear cX0_clear 1 none
set_option maxHeartbeats 4000000 in
set_option maxRecDepth 100000 in
theorem met_X0_clear (l : Launch) (D : va_G) (ho pA : Nat) (lo hi : Int32) (le gr : Int64) (hT hR : Nat) (d : ClassId) (N n : Nat) (a : Nat → Int32) (k : Nat) (sz : Nat) (hN : N ≤ 512) (h1N : 1 ≤ N) : rr_CV l D yX0_clear wsX0_clear ({ frames := 4, cells := 7, slots := 3584, locals := 128 }) [.ref ho] [(d, .int)] [(ho, .inr (0, [.ref hT, .ref pA, .int (nI k)])), (pA, .inr (2, [.ref hT, .int lo, .int hi, .long le, .long gr])), (hT, .inr (1, [.ref hR, .int (nI n)])), (hR, .inl (d, N, .inl a))] sz (fun u : Nat × ClassId × Nat × (Nat → Int32) => T_ok sB7 7 u.2.2.2 ∧ 7 ≤ u.2.2.1 ∧ u.2.2.1 ≤ 512) (fun u => [(u.2.1, .int)]) (fun u => [(ho, .inr (0, [.ref hT, .ref pA, .int (nI 0)])), (pA, .inr (2, [.ref hT, .int lo, .int hi, .long le, .long gr])), (hT, .inr (1, [.ref u.1, .int (nI 7)])), (u.1, .inl (u.2.1, u.2.2.1, .inl u.2.2.2))]) 7 3584 := by
  refine Met.ofW (cc := cX0_clear) (maxL := 1) (ret := none) (by decide) rfl ?_
  intro p e s m args below meth c s₁ B hml hv
  obtain ⟨rfl, hsz, hP, hK, hD0⟩ := hv
  have hx := B.exec
  have hb := B.bytes
  have hr := B.returns
  have hts := atoms_spec (ws := wsX0_clear) B.pre
  have hts : ∀ w ∈ lw_all, w.before _ s = true := fun w h => hts w (List.mem_cons_of_mem _ h)
  have hown : s.vm.findClass RX0 = some m.cls := findClass_of_methodNamed B.named
  have hlocks := B.notSynchronized
  subst hsz
  have hD := hD0.self (sz := s.heap.size)
  generalize hAe : va_A [(ho, .inr (0, [.ref hT, .ref pA, .int (nI k)])), (pA, .inr (2, [.ref hT, .int lo, .int hi, .long le, .long gr])), (hT, .inr (1, [.ref hR, .int (nI n)])), (hR, .inl (d, N, .inl a))] s.heap.size = A at hD ⊢
  have hA : ∀ q : Nat, s.heap.size ≤ q → A q := fun q h => by rw [← hAe]; exact Or.inr h
  have hS : va_S A s.heap s.heap [] := va_S.rf
  have hP : va_P D vwCl [(ho, .inr (0, [.ref hT, .ref pA, .int (nI k)])), (pA, .inr (2, [.ref hT, .int lo, .int hi, .long le, .long gr])), (hT, .inr (1, [.ref hR, .int (nI n)])), (hR, .inl (d, N, .inl a))] s.heap := hP
  have hK : va_K D vwCl [(d, .int)] s := hK
  have hl := lv_entry ([.ref ho]) (n := 1) (Nat.le_of_ble_eq_true rfl)
  rw [lg_entry_eq]
  generalize (lg_sl ([.ref ho]) ++ List.replicate (1 - (lg_sl ([.ref ho])).length) Slot.unset).toArray = ls at hl ⊢
  have hl : lv_has ls 1 [(0, .ref ho)] := hl
  refine lv_aload_n hx hb dX0_clear_0 rfl (lv_at hl 0 rfl) ?_
  refine lv_iconst (v := 0) hx hb dX0_clear_1 (by decide) ?_
  refine rr_reti (y := (nI 0)) (rfl) ?_
  refine va_put (D := D) (ci := 0) (v := .int (nI 0)) (ty := .int) (C := RX0) (T := TX0) (N := 3) hx hb hts in_X0 tyX0 tyX0_ok nmX0 hown hK hP hD hS 0 rfl rfl 2 (by decide) (hts _ q100) (fun _ h9 => h9) rfl (by decide +kernel) rfl rfl (Nat.le_of_ble_eq_true rfl) dX0_clear_2 (fun H locs hP hD hS => ?_)
  have hP : va_P D vwCl [(ho, .inr (0, [.ref hT, .ref pA, .int (nI 0)])), (pA, .inr (2, [.ref hT, .int lo, .int hi, .long le, .long gr])), (hT, .inr (1, [.ref hR, .int (nI n)])), (hR, .inl (d, N, .inl a))] H := hP
  have hD : va_D A [(ho, .inr (0, [.ref hT, .ref pA, .int (nI 0)])), (pA, .inr (2, [.ref hT, .int lo, .int hi, .long le, .long gr])), (hT, .inr (1, [.ref hR, .int (nI n)])), (hR, .inl (d, N, .inl a))] := hD
  refine lv_aload_n hx hb dX0_clear_5 rfl (lv_at hl 0 rfl) ?_
  refine va_get (D := D) (ci := 0) (v := .ref hT) (C := RX0) (T := TX0) (N := 3) hx hb hts in_X0 hown hK hP 0 rfl rfl 0 (by decide) (hts _ q98) (fun _ h9 => h9) rfl dX0_clear_6 ?_
  refine rr_callv (wc := [(hT, .inr (1, [.ref hR, .int (nI n)])), (hR, .inl (d, N, .inl a))]) (wr := [(ho, .inr (0, [.ref hT, .ref pA, .int (nI 0)])), (pA, .inr (2, [.ref hT, .int lo, .int hi, .long le, .long gr]))]) (va_runV (As := []) (rest := []) ⟨hx, hb, hml, hown, hts⟩ (met_X1_begin l D hT hR d N a (nI n) H.size hN h1N) (cwV 0 hts (lw_V q70 q71 q72 q17 q73) rfl rfl rfl (by decide +kernel) ⟨Nat.le_of_ble_eq_true rfl, Nat.le_of_ble_eq_true rfl⟩) ⟨rr_blind, va_recv hK hP (ci := 1) (q0 := 2) rfl rfl, rr_pre (hP.sub (ws' := [(hT, .inr (1, [.ref hR, .int (nI n)])), (hR, .inl (d, N, .inl a))]) [2, 3] rfl) (hK.sub (tys' := [(d, .int)]) [0] rfl) (hD.sub (ws' := [(hT, .inr (1, [.ref hR, .int (nI n)])), (hR, .inl (d, N, .inl a))]) [2, 3] (by decide) rfl)⟩ rfl rfl hl.1 rfl (lv_room (Nat.le_of_ble_eq_true rfl)) dX0_clear_9 ⟨Nat.le_of_ble_eq_true rfl, Nat.le_of_ble_eq_true rfl⟩) hK hP hD hS hA [2, 3] [0, 1] rfl rfl (by decide) (by decide) (fun u_105 H locs hbg hP hD hK hS => ?_)
  obtain ⟨hR1, d1, N1, a1⟩ := u_105
  have hP : va_P D vwCl [(ho, .inr (0, [.ref hT, .ref pA, .int (nI 0)])), (pA, .inr (2, [.ref hT, .int lo, .int hi, .long le, .long gr])), (hT, .inr (1, [.ref hR1, .int (nI 7)])), (hR1, .inl (d1, N1, .inl a1))] H := hP
  have hD : va_D A [(ho, .inr (0, [.ref hT, .ref pA, .int (nI 0)])), (pA, .inr (2, [.ref hT, .int lo, .int hi, .long le, .long gr])), (hT, .inr (1, [.ref hR1, .int (nI 7)])), (hR1, .inl (d1, N1, .inl a1))] := hD
  have hK : va_K D vwCl [(d, .int), (d1, .int)] s := hK.sub (tys' := [(d, .int), (d1, .int)]) [0, 1] rfl
  exact W.vret hx hb hr (rr_endv (hR1, d1, N1, a1) hbg (hP.sub (ws' := [(ho, .inr (0, [.ref hT, .ref pA, .int (nI 0)])), (pA, .inr (2, [.ref hT, .int lo, .int hi, .long le, .long gr])), (hT, .inr (1, [.ref hR1, .int (nI 7)])), (hR1, .inl (d1, N1, .inl a1))]) [0, 1, 2, 3] rfl) (hK.sub (tys' := [(d1, .int)]) [1] rfl) (hD.sub (ws' := [(ho, .inr (0, [.ref hT, .ref pA, .int (nI 0)])), (pA, .inr (2, [.ref hT, .int lo, .int hi, .long le, .long gr])), (hT, .inr (1, [.ref hR1, .int (nI 7)])), (hR1, .inl (d1, N1, .inl a1))]) [0, 1, 2, 3] (by decide) rfl) hS) hS.2.2 dX0_clear_12
abbrev wsX0_around : List Cond := ws_ yX0_around cX0_around 2 (some .int)
set_option maxHeartbeats 4000000 in
set_option maxRecDepth 100000 in
theorem met_X0_around (l : Launch) (D : va_G) (ho pA : Nat) (lo hi : Int32) (le gr : Int64) (hT hR : Nat) (d : ClassId) (N n : Nat) (a : Nat → Int32) (k : Nat) (sz : Nat) (v : Int32) {S : Int32 → Bool} (hok : T_ok S n a) (hnN : n ≤ N) (hN : N ≤ 512) (h1N : 1 ≤ N) (hk6 : k ≤ 60) (hnk : n ≤ 7 + 3 * k) : rr_CI l D yX0_around wsX0_around ({ frames := 4, cells := 3, slots := 1536, locals := 129 }) [.ref ho, .int v] [(d, .int)] [(ho, .inr (0, [.ref hT, .ref pA, .int (nI k)])), (pA, .inr (2, [.ref hT, .int lo, .int hi, .long le, .long gr])), (hT, .inr (1, [.ref hR, .int (nI n)])), (hR, .inl (d, N, .inl a))] sz (fun (r : Int32) (u : Nat × ClassId × Nat × (Nat → Int32)) => T_ok (arS k S v) (arN k S v n) u.2.2.2 ∧ arN k S v n ≤ u.2.2.1 ∧ u.2.2.1 ≤ 512 ∧ 1 ≤ u.2.2.1 ∧ r = arR k (arN k S v n)) (fun u => [(u.2.1, .int)]) (fun u => [(ho, .inr (0, [.ref hT, .ref pA, .int (nI (arK k))])), (pA, .inr (2, [.ref hT, .int lo, .int hi, .long le, .long gr])), (hT, .inr (1, [.ref u.1, .int (nI (arN k S v n))])), (u.1, .inl (u.2.1, u.2.2.1, .inl u.2.2.2))]) 3 1536 := by
  refine Met.ofW (cc := cX0_around) (maxL := 2) (ret := (some .int)) (by decide) rfl ?_
  intro p e s m args below meth c s₁ B hml hv
  obtain ⟨rfl, hsz, hP, hK, hD0⟩ := hv
  have hx := B.exec
  have hb := B.bytes
  have hr := B.returns
  have hts := atoms_spec (ws := wsX0_around) B.pre
  have hts : ∀ w ∈ lw_all, w.before _ s = true := fun w h => hts w (List.mem_cons_of_mem _ h)
  have hown : s.vm.findClass RX0 = some m.cls := findClass_of_methodNamed B.named
  have hlocks := B.notSynchronized
  subst hsz
  have hD := hD0.self (sz := s.heap.size)
  generalize hAe : va_A [(ho, .inr (0, [.ref hT, .ref pA, .int (nI k)])), (pA, .inr (2, [.ref hT, .int lo, .int hi, .long le, .long gr])), (hT, .inr (1, [.ref hR, .int (nI n)])), (hR, .inl (d, N, .inl a))] s.heap.size = A at hD ⊢
  have hA : ∀ q : Nat, s.heap.size ≤ q → A q := fun q h => by rw [← hAe]; exact Or.inr h
  have hS : va_S A s.heap s.heap [] := va_S.rf
  have hP : va_P D vwCl [(ho, .inr (0, [.ref hT, .ref pA, .int (nI k)])), (pA, .inr (2, [.ref hT, .int lo, .int hi, .long le, .long gr])), (hT, .inr (1, [.ref hR, .int (nI n)])), (hR, .inl (d, N, .inl a))] s.heap := hP
  have hK : va_K D vwCl [(d, .int)] s := hK
  have hl := lv_entry ([.ref ho, .int v]) (n := 2) (Nat.le_of_ble_eq_true rfl)
  rw [lg_entry_eq]
  generalize (lg_sl ([.ref ho, .int v]) ++ List.replicate (2 - (lg_sl ([.ref ho, .int v])).length) Slot.unset).toArray = ls at hl ⊢
  have hl : lv_has ls 2 [(0, .ref ho), (1, .int v)] := hl
  refine lv_aload_n hx hb dX0_around_0 rfl (lv_at hl 0 rfl) ?_
  refine va_get (D := D) (ci := 0) (v := .int (nI k)) (C := RX0) (T := TX0) (N := 3) hx hb hts in_X0 hown hK hP 0 rfl rfl 2 (by decide) (hts _ q100) (fun _ h9 => h9) rfl dX0_around_1 ?_
  refine lv_bipush (v := 60) hx hb dX0_around_4 (by decide) ?_
  refine rr_reti (y := (nI 60)) (rfl) ?_
  refine nn_ne (tgt := 11) hx hb dX0_around_6 (by decide) (by omega) (by omega) (fun c_6 => ?_) (fun c_6 => ?_)
  · refine lv_aload_n hx hb dX0_around_11 rfl (lv_at hl 0 rfl) ?_
    refine lv_dup hx hb dX0_around_12 rfl ?_
    refine va_get (D := D) (ci := 0) (v := .int (nI k)) (C := RX0) (T := TX0) (N := 3) hx hb hts in_X0 hown hK hP 0 rfl rfl 2 (by decide) (hts _ q100) (fun _ h9 => h9) rfl dX0_around_13 ?_
    refine lv_iconst (v := 1) hx hb dX0_around_16 (by decide) ?_
    refine lv_iadd hx hb dX0_around_17 ?_
    refine rr_reti (y := (nI (k + 1))) (nI_1 _) ?_
    refine va_put (D := D) (ci := 0) (v := .int (nI (k + 1))) (ty := .int) (C := RX0) (T := TX0) (N := 3) hx hb hts in_X0 tyX0 tyX0_ok nmX0 hown hK hP hD hS 0 rfl rfl 2 (by decide) (hts _ q100) (fun _ h9 => h9) rfl (by decide +kernel) rfl rfl (Nat.le_of_ble_eq_true rfl) dX0_around_18 (fun H locs hP hD hS => ?_)
    have hP : va_P D vwCl [(ho, .inr (0, [.ref hT, .ref pA, .int (nI (k + 1))])), (pA, .inr (2, [.ref hT, .int lo, .int hi, .long le, .long gr])), (hT, .inr (1, [.ref hR, .int (nI n)])), (hR, .inl (d, N, .inl a))] H := hP
    have hD : va_D A [(ho, .inr (0, [.ref hT, .ref pA, .int (nI (k + 1))])), (pA, .inr (2, [.ref hT, .int lo, .int hi, .long le, .long gr])), (hT, .inr (1, [.ref hR, .int (nI n)])), (hR, .inl (d, N, .inl a))] := hD
    refine lv_aload_n hx hb dX0_around_21 rfl (lv_at hl 0 rfl) ?_
    refine va_get (D := D) (ci := 0) (v := .ref hT) (C := RX0) (T := TX0) (N := 3) hx hb hts in_X0 hown hK hP 0 rfl rfl 0 (by decide) (hts _ q98) (fun _ h9 => h9) rfl dX0_around_22 ?_
    refine lv_iload_n hx hb dX0_around_25 rfl (lv_at hl 1 rfl) ?_
    refine rr_callv (wc := [(hT, .inr (1, [.ref hR, .int (nI n)])), (hR, .inl (d, N, .inl a))]) (wr := [(ho, .inr (0, [.ref hT, .ref pA, .int (nI (k + 1))])), (pA, .inr (2, [.ref hT, .int lo, .int hi, .long le, .long gr]))]) (va_runV (As := [.int v]) (rest := []) ⟨hx, hb, hml, hown, hts⟩ (met_X1_around l D hT hR d N n a H.size v hok hnN hN h1N (by omega)) (cwV 1 hts (lw_V q112 q113 q114 q17 q115) rfl rfl rfl (by decide +kernel) ⟨Nat.le_of_ble_eq_true rfl, Nat.le_of_ble_eq_true rfl⟩) ⟨rr_blind, va_recv hK hP (ci := 1) (q0 := 2) rfl rfl, rr_pre (hP.sub (ws' := [(hT, .inr (1, [.ref hR, .int (nI n)])), (hR, .inl (d, N, .inl a))]) [2, 3] rfl) (hK.sub (tys' := [(d, .int)]) [0] rfl) (hD.sub (ws' := [(hT, .inr (1, [.ref hR, .int (nI n)])), (hR, .inl (d, N, .inl a))]) [2, 3] (by decide) rfl)⟩ rfl rfl hl.1 rfl (lv_room (Nat.le_of_ble_eq_true rfl)) dX0_around_26 ⟨Nat.le_of_ble_eq_true rfl, Nat.le_of_ble_eq_true rfl⟩) hK hP hD hS hA [2, 3] [0, 1] rfl rfl (by decide) (by decide) (fun u_106 H locs hw1 hP hD hK hS => ?_)
    obtain ⟨hR1, d1, N1, n1, a1⟩ := u_106
    have hP : va_P D vwCl [(ho, .inr (0, [.ref hT, .ref pA, .int (nI (k + 1))])), (pA, .inr (2, [.ref hT, .int lo, .int hi, .long le, .long gr])), (hT, .inr (1, [.ref hR1, .int (nI n1)])), (hR1, .inl (d1, N1, .inl a1))] H := hP
    have hD : va_D A [(ho, .inr (0, [.ref hT, .ref pA, .int (nI (k + 1))])), (pA, .inr (2, [.ref hT, .int lo, .int hi, .long le, .long gr])), (hT, .inr (1, [.ref hR1, .int (nI n1)])), (hR1, .inl (d1, N1, .inl a1))] := hD
    have hK : va_K D vwCl [(d, .int), (d1, .int)] s := hK.sub (tys' := [(d, .int), (d1, .int)]) [0, 1] rfl
    obtain ⟨hok1, hn1, hnN1, hN1, h1N1⟩ := hw1
    have hok1 : T_ok (sA3 S v) n1 a1 := hok1
    have hn1 : n1 = n + cA3 S v := hn1
    have hnN1 : n1 ≤ N1 := hnN1
    have hN1 : N1 ≤ 512 := hN1
    have h1N1 : 1 ≤ N1 := h1N1
    refine lv_aload_n hx hb dX0_around_29 rfl (lv_at hl 0 rfl) ?_
    refine va_get (D := D) (ci := 0) (v := .ref hT) (C := RX0) (T := TX0) (N := 3) hx hb hts in_X0 hown hK hP 0 rfl rfl 0 (by decide) (hts _ q98) (fun _ h9 => h9) rfl dX0_around_30 ?_
    refine va_get (D := D) (ci := 1) (v := .int (nI n1)) (C := RX1) (T := TX1) (N := 2) hx hb hts in_X1 hown hK hP 2 rfl rfl 1 (by decide) (hts _ q39) (fun _ h9 => h9) rfl dX0_around_33 ?_
    have e1 : arS k S v = sA3 S v := by unfold arS; rw [if_neg c_6]
    have e2 : arN k S v n = n1 := by unfold arN; rw [if_neg c_6]; exact hn1.symm
    have e3 : arK k = k + 1 := by unfold arK; rw [if_neg c_6]
    exact W.iret hx hb hr (rr_endi (hR1, d1, N1, a1) ⟨by rw [e1, e2]; exact hok1, by rw [e2]; exact hnN1, hN1, h1N1, by unfold arR; rw [if_neg c_6, e2]⟩ (by rw [e2, e3]; exact (hP.sub (ws' := [(ho, .inr (0, [.ref hT, .ref pA, .int (nI (k + 1))])), (pA, .inr (2, [.ref hT, .int lo, .int hi, .long le, .long gr])), (hT, .inr (1, [.ref hR1, .int (nI n1)])), (hR1, .inl (d1, N1, .inl a1))]) [0, 1, 2, 3] rfl)) (hK.sub (tys' := [(d1, .int)]) [1] rfl) (by rw [e2, e3]; exact (hD.sub (ws' := [(ho, .inr (0, [.ref hT, .ref pA, .int (nI (k + 1))])), (pA, .inr (2, [.ref hT, .int lo, .int hi, .long le, .long gr])), (hT, .inr (1, [.ref hR1, .int (nI n1)])), (hR1, .inl (d1, N1, .inl a1))]) [0, 1, 2, 3] (by decide) rfl)) hS) hS.2.2 dX0_around_36
  · refine lv_iconst (v := (-1)) hx hb dX0_around_9 (by decide) ?_
    have e1 : arS k S v = S := by unfold arS; rw [if_pos c_6]
    have e2 : arN k S v n = n := by unfold arN; rw [if_pos c_6]
    have e3 : arK k = k := by unfold arK; rw [if_pos c_6]
    refine W.widen (k := 3) (n := 1536) (Nat.le_of_ble_eq_true rfl) (Nat.le_of_ble_eq_true rfl) ?_
    exact W.iret hx hb hr (rr_endi (hR, d, N, a) ⟨by rw [e1, e2]; exact hok, by rw [e2]; exact hnN, hN, h1N, by unfold arR; rw [if_pos c_6]⟩ (by rw [e2, e3]; exact (hP.sub (ws' := [(ho, .inr (0, [.ref hT, .ref pA, .int (nI k)])), (pA, .inr (2, [.ref hT, .int lo, .int hi, .long le, .long gr])), (hT, .inr (1, [.ref hR, .int (nI n)])), (hR, .inl (d, N, .inl a))]) [0, 1, 2, 3] rfl)) (hK.sub (tys' := [(d, .int)]) [0] rfl) (by rw [e2, e3]; exact (hD.sub (ws' := [(ho, .inr (0, [.ref hT, .ref pA, .int (nI k)])), (pA, .inr (2, [.ref hT, .int lo, .int hi, .long le, .long gr])), (hT, .inr (1, [.ref hR, .int (nI n)])), (hR, .inl (d, N, .inl a))]) [0, 1, 2, 3] (by decide) rfl)) hS) hS.2.2 dX0_around_10
end
section
abbrev wsX0_work : List Cond := ws_ yX0_work cX0_work 6 (some .int)
set_option maxHeartbeats 4000000 in
set_option maxRecDepth 100000 in
theorem met_X0_work (l : Launch) (D : va_G) (ho pA : Nat) (lo hi : Int32) (le gr : Int64) (hT hR : Nat) (d : ClassId) (N n : Nat) (a : Nat → Int32) (k : Nat) (sz : Nat) (op l0 h0 m0 n0 : Int32) {S : Int32 → Bool} (hok : T_ok S n a) (hnN : n ≤ N) (hN : N ≤ 512) (hmi : S (-2147483648) = true) (hma : S 2147483647 = true) : rr_CI l D yX0_work wsX0_work ({ frames := 5, cells := 0, slots := 0, locals := 139 }) [.ref ho, .int op, .int l0, .int h0, .int m0, .int n0] [(d, .int)] [(ho, .inr (0, [.ref hT, .ref pA, .int (nI k)])), (pA, .inr (2, [.ref hT, .int lo, .int hi, .long le, .long gr])), (hT, .inr (1, [.ref hR, .int (nI n)])), (hR, .inl (d, N, .inl a))] sz (fun (r : Int32) (u : Int32 × Int32 × Int64 × Int64) => XWork S (PutR S) (sysOp op.toNatClampNeg l0.toInt64 h0.toInt64 m0.toInt64 n0.toInt64) op l0 h0 m0 n0 lo hi r u.1 u.2.1) (fun _ => [(d, .int)]) (fun u => [(ho, .inr (0, [.ref hT, .ref pA, .int (nI k)])), (pA, .inr (2, [.ref hT, .int u.1, .int u.2.1, .long u.2.2.1, .long u.2.2.2])), (hT, .inr (1, [.ref hR, .int (nI n)])), (hR, .inl (d, N, .inl a))]) 0 0 := by
  refine Met.ofW (cc := cX0_work) (maxL := 6) (ret := (some .int)) (by decide) rfl ?_
  intro p e s m args below meth c s₁ B hml hv
  obtain ⟨rfl, hsz, hP, hK, hD0⟩ := hv
  have hx := B.exec
  have hb := B.bytes
  have hr := B.returns
  have hts := atoms_spec (ws := wsX0_work) B.pre
  have hts : ∀ w ∈ lw_all, w.before _ s = true := fun w h => hts w (List.mem_cons_of_mem _ h)
  have hown : s.vm.findClass RX0 = some m.cls := findClass_of_methodNamed B.named
  have hlocks := B.notSynchronized
  subst hsz
  have hD := hD0.self (sz := s.heap.size)
  generalize hAe : va_A [(ho, .inr (0, [.ref hT, .ref pA, .int (nI k)])), (pA, .inr (2, [.ref hT, .int lo, .int hi, .long le, .long gr])), (hT, .inr (1, [.ref hR, .int (nI n)])), (hR, .inl (d, N, .inl a))] s.heap.size = A at hD ⊢
  have hA : ∀ q : Nat, s.heap.size ≤ q → A q := fun q h => by rw [← hAe]; exact Or.inr h
  have hS : va_S A s.heap s.heap [] := va_S.rf
  have hP : va_P D vwCl [(ho, .inr (0, [.ref hT, .ref pA, .int (nI k)])), (pA, .inr (2, [.ref hT, .int lo, .int hi, .long le, .long gr])), (hT, .inr (1, [.ref hR, .int (nI n)])), (hR, .inl (d, N, .inl a))] s.heap := hP
  have hK : va_K D vwCl [(d, .int)] s := hK
  have hl := lv_entry ([.ref ho, .int op, .int l0, .int h0, .int m0, .int n0]) (n := 6) (Nat.le_of_ble_eq_true rfl)
  rw [lg_entry_eq]
  generalize (lg_sl ([.ref ho, .int op, .int l0, .int h0, .int m0, .int n0]) ++ List.replicate (6 - (lg_sl ([.ref ho, .int op, .int l0, .int h0, .int m0, .int n0])).length) Slot.unset).toArray = ls at hl ⊢
  have hl : lv_has ls 6 [(0, .ref ho), (1, .int op), (2, .int l0), (3, .int h0), (4, .int m0), (5, .int n0)] := hl
  refine lv_iload_n hx hb dX0_work_0 rfl (lv_at hl 1 rfl) ?_
  refine lv_if_lt (tgt := 30) hx hb dX0_work_1 (by decide) (fun c_1 => ?_) (fun c_1 => ?_)
  · refine lv_iconst (v := (-1)) hx hb dX0_work_30 (by decide) ?_
    exact W.iret hx hb hr (rr_endi (lo, hi, le, gr) (by unfold XWork; rw [if_neg (fun q => (okW_iff.mp q).1 c_1)]; exact ⟨rfl, rfl, rfl⟩) (hP.sub (ws' := [(ho, .inr (0, [.ref hT, .ref pA, .int (nI k)])), (pA, .inr (2, [.ref hT, .int lo, .int hi, .long le, .long gr])), (hT, .inr (1, [.ref hR, .int (nI n)])), (hR, .inl (d, N, .inl a))]) [0, 1, 2, 3] rfl) (hK.sub (tys' := [(d, .int)]) [0] rfl) (hD.sub (ws' := [(ho, .inr (0, [.ref hT, .ref pA, .int (nI k)])), (pA, .inr (2, [.ref hT, .int lo, .int hi, .long le, .long gr])), (hT, .inr (1, [.ref hR, .int (nI n)])), (hR, .inl (d, N, .inl a))]) [0, 1, 2, 3] (by decide) rfl) hS) hS.2.2 dX0_work_31
  · refine lv_iload_n hx hb dX0_work_4 rfl (lv_at hl 1 rfl) ?_
    refine lv_bipush (v := 9) hx hb dX0_work_5 (by decide) ?_
    refine lv_icmp_gt (tgt := 30) hx hb dX0_work_7 (by decide) (fun c_7 => ?_) (fun c_7 => ?_)
    · refine lv_iconst (v := (-1)) hx hb dX0_work_30 (by decide) ?_
      exact W.iret hx hb hr (rr_endi (lo, hi, le, gr) (by unfold XWork; rw [if_neg (fun q => (okW_iff.mp q).2.1 c_7)]; exact ⟨rfl, rfl, rfl⟩) (hP.sub (ws' := [(ho, .inr (0, [.ref hT, .ref pA, .int (nI k)])), (pA, .inr (2, [.ref hT, .int lo, .int hi, .long le, .long gr])), (hT, .inr (1, [.ref hR, .int (nI n)])), (hR, .inl (d, N, .inl a))]) [0, 1, 2, 3] rfl) (hK.sub (tys' := [(d, .int)]) [0] rfl) (hD.sub (ws' := [(ho, .inr (0, [.ref hT, .ref pA, .int (nI k)])), (pA, .inr (2, [.ref hT, .int lo, .int hi, .long le, .long gr])), (hT, .inr (1, [.ref hR, .int (nI n)])), (hR, .inl (d, N, .inl a))]) [0, 1, 2, 3] (by decide) rfl) hS) hS.2.2 dX0_work_31
    · refine lv_aload_n hx hb dX0_work_10 rfl (lv_at hl 0 rfl) ?_
      refine lv_iload_n hx hb dX0_work_11 rfl (lv_at hl 2 rfl) ?_
      refine lv_iload_n hx hb dX0_work_12 rfl (lv_at hl 3 rfl) ?_
      refine rr_callo (va_runV (As := [.int l0, .int h0]) (rest := []) ⟨hx, hb, hml, hown, hts⟩ (met_X0_isRange l D ho pA hT hR d N n a k s.heap.size l0 h0 hok hnN hN hmi hma) (cwV 2 hts (lw_V q144 q146 qs1 q16 q147) rfl rfl rfl (by decide +kernel) ⟨Nat.le_of_ble_eq_true rfl, Nat.le_of_ble_eq_true rfl⟩) ⟨rr_blindO, va_recv hK hP (ci := 0) (q0 := 0) rfl rfl, rr_preO (hP.sub (ws' := [(ho, .inr (0, [.ref hT, .ref pA, .int (nI k)])), (hT, .inr (1, [.ref hR, .int (nI n)])), (hR, .inl (d, N, .inl a))]) [0, 2, 3] rfl) (hK.sub (tys' := [(d, .int)]) [0] rfl)⟩ rfl rfl hl.1 rfl (lv_room (Nat.le_of_ble_eq_true rfl)) dX0_work_13 ⟨Nat.le_of_ble_eq_true rfl, Nat.le_of_ble_eq_true rfl⟩) hP hS hA (fun r1 H locs hi1 hP hS => ?_)
      refine lv_if_eq (tgt := 30) hx hb dX0_work_16 (by decide) (fun c_16 => ?_) (fun c_16 => ?_)
      · refine lv_iconst (v := (-1)) hx hb dX0_work_30 (by decide) ?_
        exact W.iret hx hb hr (rr_endi (lo, hi, le, gr) (by unfold XWork; rw [if_neg (fun q => absurd (hi1.symm.trans c_16) (by rw [if_pos (okW_iff.mp q).2.2.1]; decide))]; exact ⟨rfl, rfl, rfl⟩) (hP.sub (ws' := [(ho, .inr (0, [.ref hT, .ref pA, .int (nI k)])), (pA, .inr (2, [.ref hT, .int lo, .int hi, .long le, .long gr])), (hT, .inr (1, [.ref hR, .int (nI n)])), (hR, .inl (d, N, .inl a))]) [0, 1, 2, 3] rfl) (hK.sub (tys' := [(d, .int)]) [0] rfl) (hD.sub (ws' := [(ho, .inr (0, [.ref hT, .ref pA, .int (nI k)])), (pA, .inr (2, [.ref hT, .int lo, .int hi, .long le, .long gr])), (hT, .inr (1, [.ref hR, .int (nI n)])), (hR, .inl (d, N, .inl a))]) [0, 1, 2, 3] (by decide) rfl) hS) hS.2.2 dX0_work_31
      · refine lv_aload_n hx hb dX0_work_19 rfl (lv_at hl 0 rfl) ?_
        refine lv_iload hx hb dX0_work_20 (lv_at hl 4 rfl) ?_
        refine lv_iload hx hb dX0_work_22 (lv_at hl 5 rfl) ?_
        refine rr_callo (va_runV (As := [.int m0, .int n0]) (rest := []) ⟨hx, hb, hml, hown, hts⟩ (met_X0_isRange l D ho pA hT hR d N n a k H.size m0 n0 hok hnN hN hmi hma) (cwV 2 hts (lw_V q144 q146 qs1 q16 q147) rfl rfl rfl (by decide +kernel) ⟨Nat.le_of_ble_eq_true rfl, Nat.le_of_ble_eq_true rfl⟩) ⟨rr_blindO, va_recv hK hP (ci := 0) (q0 := 0) rfl rfl, rr_preO (hP.sub (ws' := [(ho, .inr (0, [.ref hT, .ref pA, .int (nI k)])), (hT, .inr (1, [.ref hR, .int (nI n)])), (hR, .inl (d, N, .inl a))]) [0, 2, 3] rfl) (hK.sub (tys' := [(d, .int)]) [0] rfl)⟩ rfl rfl hl.1 rfl (lv_room (Nat.le_of_ble_eq_true rfl)) dX0_work_24 ⟨Nat.le_of_ble_eq_true rfl, Nat.le_of_ble_eq_true rfl⟩) hP hS hA (fun r2 H locs hi2 hP hS => ?_)
        refine lv_if_ne (tgt := 32) hx hb dX0_work_27 (by decide) (fun c_27 => ?_) (fun c_27 => ?_)
        · have g1 : rng S l0 h0 = true := Decidable.byContradiction (fun q => c_16 (by rw [hi1, if_neg q]))
          have g2 : rng S m0 n0 = true := Decidable.byContradiction (fun q => c_27 (by rw [hi2, if_neg q]))
          obtain ⟨j, hj, rfl⟩ := nI_of2 (x := op) (M := 9) (n := 9) (by decide) c_1 (Int32.not_lt.mp c_7)
          have g3 : okW S (nI j) l0 h0 m0 n0 = true := okW_iff.mpr ⟨c_1, c_7, g1, g2⟩
          have g4 : (nI j).toNatClampNeg = j := nI_clamp (by omega)
          refine lv_aload_n hx hb dX0_work_32 rfl (lv_at hl 0 rfl) ?_
          refine va_get (D := D) (ci := 0) (v := .ref pA) (C := RX0) (T := TX0) (N := 3) hx hb hts in_X0 hown hK hP 0 rfl rfl 1 (by decide) (hts _ q99) (fun _ h9 => h9) rfl dX0_work_33 ?_
          refine lv_iload_n hx hb dX0_work_36 rfl (lv_at hl 1 rfl) ?_
          refine lv_iload_n hx hb dX0_work_37 rfl (lv_at hl 2 rfl) ?_
          refine lv_i2l hx hb dX0_work_38 rfl ?_
          refine lv_iload_n hx hb dX0_work_39 rfl (lv_at hl 3 rfl) ?_
          refine lv_i2l hx hb dX0_work_40 rfl ?_
          refine lv_iload hx hb dX0_work_41 (lv_at hl 4 rfl) ?_
          refine lv_i2l hx hb dX0_work_43 rfl ?_
          refine lv_iload hx hb dX0_work_44 (lv_at hl 5 rfl) ?_
          refine lv_i2l hx hb dX0_work_46 rfl ?_
          refine rr_calli (wc := [(pA, .inr (2, [.ref hT, .int lo, .int hi, .long le, .long gr])), (hT, .inr (1, [.ref hR, .int (nI n)])), (hR, .inl (d, N, .inl a))]) (wr := [(ho, .inr (0, [.ref hT, .ref pA, .int (nI k)]))]) (va_runV (As := [.int (nI j), .long l0.toInt64, .long h0.toInt64, .long m0.toInt64, .long n0.toInt64]) (rest := []) ⟨hx, hb, hml, hown, hts⟩ (met_X2_work j (by omega) l D pA lo hi le gr hT hR d N n a H.size l0.toInt64 h0.toInt64 m0.toInt64 n0.toInt64 hok hnN hN hmi hma (w_i64le _) (w_i64le _)) (cwV 5 hts (lw_V q148 q149 q150 q18 q151) rfl rfl rfl (by decide +kernel) ⟨Nat.le_of_ble_eq_true rfl, Nat.le_of_ble_eq_true rfl⟩) ⟨rr_blind, va_recv hK hP (ci := 2) (q0 := 1) rfl rfl, rr_pre (hP.sub (ws' := [(pA, .inr (2, [.ref hT, .int lo, .int hi, .long le, .long gr])), (hT, .inr (1, [.ref hR, .int (nI n)])), (hR, .inl (d, N, .inl a))]) [1, 2, 3] rfl) (hK.sub (tys' := [(d, .int)]) [0] rfl) (hD.sub (ws' := [(pA, .inr (2, [.ref hT, .int lo, .int hi, .long le, .long gr])), (hT, .inr (1, [.ref hR, .int (nI n)])), (hR, .inl (d, N, .inl a))]) [1, 2, 3] (by decide) rfl)⟩ rfl rfl hl.1 rfl (lv_room (Nat.le_of_ble_eq_true rfl)) dX0_work_47 ⟨Nat.le_of_ble_eq_true rfl, Nat.le_of_ble_eq_true rfl⟩) hK hP hD hS hA [1, 2, 3] [0] rfl rfl (by decide) (by decide) (fun rw0 u_107 H locs hwk hP hD hK hS => ?_)
          obtain ⟨lo1, hi1', le1, gr1⟩ := u_107
          have hP : va_P D vwCl [(ho, .inr (0, [.ref hT, .ref pA, .int (nI k)])), (pA, .inr (2, [.ref hT, .int lo1, .int hi1', .long le1, .long gr1])), (hT, .inr (1, [.ref hR, .int (nI n)])), (hR, .inl (d, N, .inl a))] H := hP
          have hD : va_D A [(ho, .inr (0, [.ref hT, .ref pA, .int (nI k)])), (pA, .inr (2, [.ref hT, .int lo1, .int hi1', .long le1, .long gr1])), (hT, .inr (1, [.ref hR, .int (nI n)])), (hR, .inl (d, N, .inl a))] := hD
          have hK : va_K D vwCl [(d, .int)] s := hK.sub (tys' := [(d, .int)]) [0] rfl
          refine lv_if_eq (tgt := 57) hx hb dX0_work_50 (by decide) (fun c_50 => ?_) (fun c_50 => ?_)
          · refine lv_iconst (v := 0) hx hb dX0_work_57 (by decide) ?_
            exact W.iret hx hb hr (rr_endi (lo1, hi1', le1, gr1) (by unfold XWork; rw [if_pos g3, g4]; rw [c_50] at hwk; exact hwk) (hP.sub (ws' := [(ho, .inr (0, [.ref hT, .ref pA, .int (nI k)])), (pA, .inr (2, [.ref hT, .int lo1, .int hi1', .long le1, .long gr1])), (hT, .inr (1, [.ref hR, .int (nI n)])), (hR, .inl (d, N, .inl a))]) [0, 1, 2, 3] rfl) (hK.sub (tys' := [(d, .int)]) [0] rfl) (hD.sub (ws' := [(ho, .inr (0, [.ref hT, .ref pA, .int (nI k)])), (pA, .inr (2, [.ref hT, .int lo1, .int hi1', .long le1, .long gr1])), (hT, .inr (1, [.ref hR, .int (nI n)])), (hR, .inl (d, N, .inl a))]) [0, 1, 2, 3] (by decide) rfl) hS) hS.2.2 dX0_work_58
          · refine lv_iconst (v := 1) hx hb dX0_work_53 (by decide) ?_
            refine lv_goto (tgt := 58) hx hb dX0_work_54 (by decide) ?_
            exact W.iret hx hb hr (rr_endi (lo1, hi1', le1, gr1) (by unfold XWork; rw [if_pos g3, g4]; exact WorkR_ne0 hwk c_50) (hP.sub (ws' := [(ho, .inr (0, [.ref hT, .ref pA, .int (nI k)])), (pA, .inr (2, [.ref hT, .int lo1, .int hi1', .long le1, .long gr1])), (hT, .inr (1, [.ref hR, .int (nI n)])), (hR, .inl (d, N, .inl a))]) [0, 1, 2, 3] rfl) (hK.sub (tys' := [(d, .int)]) [0] rfl) (hD.sub (ws' := [(ho, .inr (0, [.ref hT, .ref pA, .int (nI k)])), (pA, .inr (2, [.ref hT, .int lo1, .int hi1', .long le1, .long gr1])), (hT, .inr (1, [.ref hR, .int (nI n)])), (hR, .inl (d, N, .inl a))]) [0, 1, 2, 3] (by decide) rfl) hS) hS.2.2 dX0_work_58
        · refine lv_iconst (v := (-1)) hx hb dX0_work_30 (by decide) ?_
          exact W.iret hx hb hr (rr_endi (lo, hi, le, gr) (by unfold XWork; rw [if_neg (fun q => absurd (hi2.symm.trans c_27) (by rw [if_pos (okW_iff.mp q).2.2.2]; decide))]; exact ⟨rfl, rfl, rfl⟩) (hP.sub (ws' := [(ho, .inr (0, [.ref hT, .ref pA, .int (nI k)])), (pA, .inr (2, [.ref hT, .int lo, .int hi, .long le, .long gr])), (hT, .inr (1, [.ref hR, .int (nI n)])), (hR, .inl (d, N, .inl a))]) [0, 1, 2, 3] rfl) (hK.sub (tys' := [(d, .int)]) [0] rfl) (hD.sub (ws' := [(ho, .inr (0, [.ref hT, .ref pA, .int (nI k)])), (pA, .inr (2, [.ref hT, .int lo, .int hi, .long le, .long gr])), (hT, .inr (1, [.ref hR, .int (nI n)])), (hR, .inl (d, N, .inl a))]) [0, 1, 2, 3] (by decide) rfl) hS) hS.2.2 dX0_work_31
abbrev wsX0_negate : List Cond := ws_ yX0_negate cX0_negate 3 (some .boolean)
set_option maxHeartbeats 4000000 in
set_option maxRecDepth 100000 in
theorem met_X0_negate (l : Launch) (D : va_G) (ho pA : Nat) (lo hi : Int32) (le gr : Int64) (hT hR : Nat) (d : ClassId) (N n : Nat) (a : Nat → Int32) (k : Nat) (sz : Nat) (l0 h0 : Int32) {S : Int32 → Bool} (hok : T_ok S n a) (hnN : n ≤ N) (hN : N ≤ 512) (hmi : S (-2147483648) = true) (hma : S 2147483647 = true) : rr_CI l D yX0_negate wsX0_negate ({ frames := 3, cells := 0, slots := 0, locals := 74 }) [.ref ho, .int l0, .int h0] [(d, .int)] [(ho, .inr (0, [.ref hT, .ref pA, .int (nI k)])), (pA, .inr (2, [.ref hT, .int lo, .int hi, .long le, .long gr])), (hT, .inr (1, [.ref hR, .int (nI n)])), (hR, .inl (d, N, .inl a))] sz (fun (r : Int32) (u : Int32 × Int32) => XNeg S (PutR S) l0 h0 lo hi r u.1 u.2) (fun _ => [(d, .int)]) (fun u => [(ho, .inr (0, [.ref hT, .ref pA, .int (nI k)])), (pA, .inr (2, [.ref hT, .int u.1, .int u.2, .long le, .long gr])), (hT, .inr (1, [.ref hR, .int (nI n)])), (hR, .inl (d, N, .inl a))]) 0 0 := by
  refine Met.ofW (cc := cX0_negate) (maxL := 3) (ret := (some .boolean)) (by decide) rfl ?_
  intro p e s m args below meth c s₁ B hml hv
  obtain ⟨rfl, hsz, hP, hK, hD0⟩ := hv
  have hx := B.exec
  have hb := B.bytes
  have hr := B.returns
  have hts := atoms_spec (ws := wsX0_negate) B.pre
  have hts : ∀ w ∈ lw_all, w.before _ s = true := fun w h => hts w (List.mem_cons_of_mem _ h)
  have hown : s.vm.findClass RX0 = some m.cls := findClass_of_methodNamed B.named
  have hlocks := B.notSynchronized
  subst hsz
  have hD := hD0.self (sz := s.heap.size)
  generalize hAe : va_A [(ho, .inr (0, [.ref hT, .ref pA, .int (nI k)])), (pA, .inr (2, [.ref hT, .int lo, .int hi, .long le, .long gr])), (hT, .inr (1, [.ref hR, .int (nI n)])), (hR, .inl (d, N, .inl a))] s.heap.size = A at hD ⊢
  have hA : ∀ q : Nat, s.heap.size ≤ q → A q := fun q h => by rw [← hAe]; exact Or.inr h
  have hS : va_S A s.heap s.heap [] := va_S.rf
  have hP : va_P D vwCl [(ho, .inr (0, [.ref hT, .ref pA, .int (nI k)])), (pA, .inr (2, [.ref hT, .int lo, .int hi, .long le, .long gr])), (hT, .inr (1, [.ref hR, .int (nI n)])), (hR, .inl (d, N, .inl a))] s.heap := hP
  have hK : va_K D vwCl [(d, .int)] s := hK
  have hl := lv_entry ([.ref ho, .int l0, .int h0]) (n := 3) (Nat.le_of_ble_eq_true rfl)
  rw [lg_entry_eq]
  generalize (lg_sl ([.ref ho, .int l0, .int h0]) ++ List.replicate (3 - (lg_sl ([.ref ho, .int l0, .int h0])).length) Slot.unset).toArray = ls at hl ⊢
  have hl : lv_has ls 3 [(0, .ref ho), (1, .int l0), (2, .int h0)] := hl
  refine lv_aload_n hx hb dX0_negate_0 rfl (lv_at hl 0 rfl) ?_
  refine lv_iload_n hx hb dX0_negate_1 rfl (lv_at hl 1 rfl) ?_
  refine lv_iload_n hx hb dX0_negate_2 rfl (lv_at hl 2 rfl) ?_
  refine rr_callo (va_runV (As := [.int l0, .int h0]) (rest := []) ⟨hx, hb, hml, hown, hts⟩ (met_X0_isRange l D ho pA hT hR d N n a k s.heap.size l0 h0 hok hnN hN hmi hma) (cwV 2 hts (lw_V q144 q146 qs1 q16 q147) rfl rfl rfl (by decide +kernel) ⟨Nat.le_of_ble_eq_true rfl, Nat.le_of_ble_eq_true rfl⟩) ⟨rr_blindO, va_recv hK hP (ci := 0) (q0 := 0) rfl rfl, rr_preO (hP.sub (ws' := [(ho, .inr (0, [.ref hT, .ref pA, .int (nI k)])), (hT, .inr (1, [.ref hR, .int (nI n)])), (hR, .inl (d, N, .inl a))]) [0, 2, 3] rfl) (hK.sub (tys' := [(d, .int)]) [0] rfl)⟩ rfl rfl hl.1 rfl (lv_room (Nat.le_of_ble_eq_true rfl)) dX0_negate_3 ⟨Nat.le_of_ble_eq_true rfl, Nat.le_of_ble_eq_true rfl⟩) hP hS hA (fun r1 H locs hi1 hP hS => ?_)
  refine lv_if_ne (tgt := 11) hx hb dX0_negate_6 (by decide) (fun c_6 => ?_) (fun c_6 => ?_)
  · refine lv_aload_n hx hb dX0_negate_11 rfl (lv_at hl 0 rfl) ?_
    refine va_get (D := D) (ci := 0) (v := .ref pA) (C := RX0) (T := TX0) (N := 3) hx hb hts in_X0 hown hK hP 0 rfl rfl 1 (by decide) (hts _ q99) (fun _ h9 => h9) rfl dX0_negate_12 ?_
    refine lv_iload_n hx hb dX0_negate_15 rfl (lv_at hl 1 rfl) ?_
    refine lv_i2l hx hb dX0_negate_16 rfl ?_
    refine lv_iload_n hx hb dX0_negate_17 rfl (lv_at hl 2 rfl) ?_
    refine lv_i2l hx hb dX0_negate_18 rfl ?_
    refine rr_callv (wc := [(pA, .inr (2, [.ref hT, .int lo, .int hi, .long le, .long gr])), (hT, .inr (1, [.ref hR, .int (nI n)])), (hR, .inl (d, N, .inl a))]) (wr := [(ho, .inr (0, [.ref hT, .ref pA, .int (nI k)]))]) (va_runV (As := [.long l0.toInt64, .long h0.toInt64]) (rest := []) ⟨hx, hb, hml, hown, hts⟩ (met_X2_negate l D pA lo hi le gr hT hR d N n a H.size l0.toInt64 h0.toInt64 hok hnN hN hmi hma) (cwV 2 hts (lw_V q199 q200 q201 q18 q202) rfl rfl rfl (by decide +kernel) ⟨Nat.le_of_ble_eq_true rfl, Nat.le_of_ble_eq_true rfl⟩) ⟨rr_blind, va_recv hK hP (ci := 2) (q0 := 1) rfl rfl, rr_pre (hP.sub (ws' := [(pA, .inr (2, [.ref hT, .int lo, .int hi, .long le, .long gr])), (hT, .inr (1, [.ref hR, .int (nI n)])), (hR, .inl (d, N, .inl a))]) [1, 2, 3] rfl) (hK.sub (tys' := [(d, .int)]) [0] rfl) (hD.sub (ws' := [(pA, .inr (2, [.ref hT, .int lo, .int hi, .long le, .long gr])), (hT, .inr (1, [.ref hR, .int (nI n)])), (hR, .inl (d, N, .inl a))]) [1, 2, 3] (by decide) rfl)⟩ rfl rfl hl.1 rfl (lv_room (Nat.le_of_ble_eq_true rfl)) dX0_negate_19 ⟨Nat.le_of_ble_eq_true rfl, Nat.le_of_ble_eq_true rfl⟩) hK hP hD hS hA [1, 2, 3] [0] rfl rfl (by decide) (by decide) (fun u_108 H locs hwk hP hD hK hS => ?_)
    obtain ⟨lo1, hi2⟩ := u_108
    have hP : va_P D vwCl [(ho, .inr (0, [.ref hT, .ref pA, .int (nI k)])), (pA, .inr (2, [.ref hT, .int lo1, .int hi2, .long le, .long gr])), (hT, .inr (1, [.ref hR, .int (nI n)])), (hR, .inl (d, N, .inl a))] H := hP
    have hD : va_D A [(ho, .inr (0, [.ref hT, .ref pA, .int (nI k)])), (pA, .inr (2, [.ref hT, .int lo1, .int hi2, .long le, .long gr])), (hT, .inr (1, [.ref hR, .int (nI n)])), (hR, .inl (d, N, .inl a))] := hD
    have hK : va_K D vwCl [(d, .int)] s := hK.sub (tys' := [(d, .int)]) [0] rfl
    refine lv_iconst (v := 1) hx hb dX0_negate_22 (by decide) ?_
    exact W.zret (v := 1) hx hb hr rfl (rr_endi (lo1, hi2) (by unfold XNeg; rw [if_pos (Decidable.byContradiction (fun q => c_6 (by rw [hi1, if_neg q])))]; exact ⟨rfl, hwk⟩) (hP.sub (ws' := [(ho, .inr (0, [.ref hT, .ref pA, .int (nI k)])), (pA, .inr (2, [.ref hT, .int lo1, .int hi2, .long le, .long gr])), (hT, .inr (1, [.ref hR, .int (nI n)])), (hR, .inl (d, N, .inl a))]) [0, 1, 2, 3] rfl) (hK.sub (tys' := [(d, .int)]) [0] rfl) (hD.sub (ws' := [(ho, .inr (0, [.ref hT, .ref pA, .int (nI k)])), (pA, .inr (2, [.ref hT, .int lo1, .int hi2, .long le, .long gr])), (hT, .inr (1, [.ref hR, .int (nI n)])), (hR, .inl (d, N, .inl a))]) [0, 1, 2, 3] (by decide) rfl) hS) hS.2.2 dX0_negate_23
  · refine lv_iconst (v := 0) hx hb dX0_negate_9 (by decide) ?_
    exact W.zret (v := 0) hx hb hr rfl (rr_endi (lo, hi) (by unfold XNeg; rw [if_neg (fun q => absurd (hi1.symm.trans c_6) (by rw [if_pos q]; decide))]; exact ⟨rfl, rfl, rfl⟩) (hP.sub (ws' := [(ho, .inr (0, [.ref hT, .ref pA, .int (nI k)])), (pA, .inr (2, [.ref hT, .int lo, .int hi, .long le, .long gr])), (hT, .inr (1, [.ref hR, .int (nI n)])), (hR, .inl (d, N, .inl a))]) [0, 1, 2, 3] rfl) (hK.sub (tys' := [(d, .int)]) [0] rfl) (hD.sub (ws' := [(ho, .inr (0, [.ref hT, .ref pA, .int (nI k)])), (pA, .inr (2, [.ref hT, .int lo, .int hi, .long le, .long gr])), (hT, .inr (1, [.ref hR, .int (nI n)])), (hR, .inl (d, N, .inl a))]) [0, 1, 2, 3] (by decide) rfl) hS) hS.2.2 dX0_negate_10
end
section
def mS (S : Int32 → Bool) (v : Int64) : Int32 → Bool := if v < -2147483648 ∨ 2147483647 < v then S else sAdd S v.toInt32
def mC (S : Int32 → Bool) (v : Int64) : Nat := if v < -2147483648 ∨ 2147483647 < v then 0 else sCnt S v.toInt32
theorem m_back {x : Int32} {v : Int64} (h : x.toInt64 = v) : x = v.toInt32 := by
  have h1 := x.le_toInt
  have h2 := x.toInt_lt
  have h3 : v.toInt = x.toInt := by rw [← h, Int32.toInt_toInt64]
  exact Int32.toInt_inj.mp (by rw [w_toInt32 (by omega) (by omega)]; exact h3.symm)
theorem m_fwd {v : Int64} (h1 : ¬ v < -2147483648) (h2 : v ≤ 2147483647) : v.toInt32.toInt64 = v := by
  have q1 := w_ge h1
  have q2 := Int64.le_iff_toInt_le.mp h2
  rw [w_max64] at q2
  exact Int64.toInt_inj.mp (by rw [Int32.toInt_toInt64, w_toInt32 q1 q2])
theorem m_in {v : Int64} (h1 : ¬ v < -2147483648) (h2 : v ≤ 2147483647) : ¬ (v < -2147483648 ∨ 2147483647 < v) := by
  rintro (q | q)
  · exact h1 q
  · exact fun_not2 h2 q
theorem mxI_dn {S : Int32 → Bool} {z : Int} {x y : Int32} (h1 : S x = true) (h2 : x.toInt ≤ z) (h3 : S y = true) (h4 : y.toInt ≤ z) : S (mxI x y) = true ∧ (mxI x y).toInt ≤ z ∧ x.toInt ≤ (mxI x y).toInt ∧ y.toInt ≤ (mxI x y).toInt := by
  unfold mxI
  split
  · rename_i q
    rw [Int32.lt_iff_toInt_lt] at q
    exact ⟨h3, h4, by omega, by omega⟩
  · rename_i q
    rw [Int32.lt_iff_toInt_lt] at q
    exact ⟨h1, h2, by omega, by omega⟩
theorem mnI_up {S : Int32 → Bool} {z : Int} {x y : Int32} (h1 : S x = true) (h2 : z ≤ x.toInt) (h3 : S y = true) (h4 : z ≤ y.toInt) : S (mnI x y) = true ∧ z ≤ (mnI x y).toInt ∧ (mnI x y).toInt ≤ x.toInt ∧ (mnI x y).toInt ≤ y.toInt := by
  unfold mnI
  split
  · rename_i q
    rw [Int32.lt_iff_toInt_lt] at q
    exact ⟨h3, h4, by omega, by omega⟩
  · rename_i q
    rw [Int32.lt_iff_toInt_lt] at q
    exact ⟨h1, h2, by omega, by omega⟩
theorem m_ge32 (v : Int32) : (-2147483648 : Int32).toInt ≤ v.toInt := by
  have := v.le_toInt
  rw [T_min32]
  omega
theorem m_le32 (v : Int32) : v.toInt ≤ (2147483647 : Int32).toInt := by
  have := v.toInt_lt
  rw [T_max32]
  omega
set_option maxHeartbeats 4000000 in
set_option maxRecDepth 100000 in
theorem X3_add_loop {p : Program} {l : Launch} {e : Env} {R : Room} {s : State} {m : MethodId} {args : Array Value} {below : List Frame} {meth : Method} {c : Code} {H : Heap} {locs : List Loc} {cells slots : Nat} {Q : State → Prop} (hx : p.tables.exec = Jvm.exec) (hb : c.code = cX3_add) (hts : ∀ w ∈ lw_all, w.before args s = true) (hown : s.vm.findClass RX3 = some m.cls) {D : va_G} {hM hB n : Nat} {d : ClassId} {b : Nat → Int32} {ti lo hi : Int32} {v : Int64} (hn : n ≤ 187) (hK : va_K D vwCl [(d, .int)] s) (hP : va_P D vwCl [(hM, .inr (3, [.ref hB, .int (nI n), .int ti, .int lo, .int hi])), (hB, .inl (d, 187, .inl b))] H)
    (kk1 : ∀ (ls : Array Slot), (∀ i, i < n → ¬ (b i).toInt64 = v) → lv_has ls 4 [(0, .ref hM), (1, .long v)] → W p l e R s m args below meth c H locs cells slots Q (F0 m 46 ls []))
    (kk2 : ∀ (k : Nat) (ls : Array Slot), k < n → (b k).toInt64 = v → W p l e R s m args below meth c H locs cells slots Q (F0 m 39 ls [])) :
    ∀ (f k : Nat) (ls : Array Slot), n - k < f → k ≤ n → (∀ i, i < k → ¬ (b i).toInt64 = v) → lv_has ls 4 [(0, .ref hM), (1, .long v), (3, .int (nI k))] → W p l e R s m args below meth c H locs cells slots Q (F0 m 19 ls []) := by
  intro f
  induction f with
  | zero => intro k ls h; omega
  | succ f ih =>
    intro k ls hf hk hne hl
    refine lv_iload_n hx hb dX3_add_19 rfl (lv_at hl 2 rfl) ?_
    refine lv_aload_n hx hb dX3_add_20 rfl (lv_at hl 0 rfl) ?_
    refine va_get (D := D) (ci := 3) (v := .int (nI n)) (C := RX3) (T := TX3) (N := 5) hx hb hts in_X3 hown hK hP 0 rfl rfl 1 (by decide) (hts _ q230) (fun _ h9 => h9) rfl dX3_add_21 ?_
    refine nn_ge (tgt := 46) hx hb dX3_add_24 (by decide) (by omega) (by omega) (fun c_24 => ?_) (fun c_24 => ?_)
    · exact kk1 ls (fun i hi => hne i (by omega)) (lv_sub hl [0, 1] rfl)
    · refine lv_aload_n hx hb dX3_add_27 rfl (lv_at hl 0 rfl) ?_
      refine va_get (D := D) (ci := 3) (v := .ref hB) (C := RX3) (T := TX3) (N := 5) hx hb hts in_X3 hown hK hP 0 rfl rfl 0 (by decide) (hts _ q229) (fun _ h9 => h9) rfl dX3_add_28 ?_
      refine lv_iload_n hx hb dX3_add_31 rfl (lv_at hl 2 rfl) ?_
      refine nn_iald hx hb hK hP 1 0 rfl rfl (by omega) (by omega) dX3_add_32 ?_
      refine lv_i2l hx hb dX3_add_33 rfl ?_
      refine lv_lload_n hx hb dX3_add_34 rfl (lv_at hl 1 rfl) ?_
      refine lc_ne (tgt := 40) hx hb dX3_add_35 dX3_add_36 (by decide) (fun c_35 => ?_) (fun c_35 => ?_)
      · refine lv_iinc (v := (nI (k + 1))) (lv' := [(3, .int (nI (k + 1))), (0, .ref hM), (1, .long v)]) hx hb dX3_add_40 hl (k := 2) rfl (nI_1 _) (by decide) rfl (fun ls hl => ?_)
        refine lv_goto (tgt := 19) hx hb dX3_add_43 (by decide) ?_
        exact ih (k + 1) ls (by omega) (by omega) (fun i hi => by
          by_cases e : i = k
          · subst e; exact c_35
          · exact hne i (by omega)) (lv_sub hl [1, 2, 0] rfl)
      · exact kk2 k ls c_24 c_35
abbrev wsX3_add : List Cond := ws_ yX3_add cX3_add 4 none
set_option maxHeartbeats 4000000 in
set_option maxRecDepth 100000 in
theorem met_X3_add (l : Launch) (D : va_G) (hM hB : Nat) (d : ClassId) (b : Nat → Int32) (n : Nat) (ti lo hi : Int32) (sz : Nat) (v : Int64) {S S2 : Int32 → Bool} {n2 : Nat} (hok : M_ok S n b) (hn6 : n ≤ 186) (hS2 : mS S v = S2) (hn2 : n + mC S v = n2) : rr_CV l D yX3_add wsX3_add ({ frames := 0, cells := 0, slots := 0, locals := 0 }) [.ref hM, .long v] [(d, .int)] [(hM, .inr (3, [.ref hB, .int (nI n), .int ti, .int lo, .int hi])), (hB, .inl (d, 187, .inl b))] sz (fun u : Nat → Int32 => M_ok S2 n2 u) (fun _ => [(d, .int)]) (fun u => [(hM, .inr (3, [.ref hB, .int (nI n2), .int ti, .int lo, .int hi])), (hB, .inl (d, 187, .inl u))]) 0 0 := by
  have hn6' : n ≤ 187 := by omega
  refine Met.ofW (cc := cX3_add) (maxL := 4) (ret := none) (by decide) rfl ?_
  intro p e s m args below meth c s₁ B hml hv
  obtain ⟨rfl, hsz, hP, hK, hD0⟩ := hv
  have hx := B.exec
  have hb := B.bytes
  have hr := B.returns
  have hts := atoms_spec (ws := wsX3_add) B.pre
  have hts : ∀ w ∈ lw_all, w.before _ s = true := fun w h => hts w (List.mem_cons_of_mem _ h)
  have hown : s.vm.findClass RX3 = some m.cls := findClass_of_methodNamed B.named
  have hlocks := B.notSynchronized
  subst hsz
  have hD := hD0.self (sz := s.heap.size)
  generalize hAe : va_A [(hM, .inr (3, [.ref hB, .int (nI n), .int ti, .int lo, .int hi])), (hB, .inl (d, 187, .inl b))] s.heap.size = A at hD ⊢
  have hA : ∀ q : Nat, s.heap.size ≤ q → A q := fun q h => by rw [← hAe]; exact Or.inr h
  have hS : va_S A s.heap s.heap [] := va_S.rf
  have hP : va_P D vwCl [(hM, .inr (3, [.ref hB, .int (nI n), .int ti, .int lo, .int hi])), (hB, .inl (d, 187, .inl b))] s.heap := hP
  have hK : va_K D vwCl [(d, .int)] s := hK
  have hl := lv_entry ([.ref hM, .long v]) (n := 4) (Nat.le_of_ble_eq_true rfl)
  rw [lg_entry_eq]
  generalize (lg_sl ([.ref hM, .long v]) ++ List.replicate (4 - (lg_sl ([.ref hM, .long v])).length) Slot.unset).toArray = ls at hl ⊢
  have hl : lv_has ls 4 [(0, .ref hM), (1, .long v)] := hl
  refine lv_lload_n hx hb dX3_add_0 rfl (lv_at hl 1 rfl) ?_
  refine lv_ldc2 (v := (-2147483648)) hx hb hown (hts _ q221) dX3_add_1 ?_
  refine lc_lt (tgt := 16) hx hb dX3_add_4 dX3_add_5 (by decide) (fun c_4 => ?_) (fun c_4 => ?_)
  · have e1 : S2 = S := by rw [← hS2]; unfold mS; rw [if_pos (Or.inl c_4)]
    have e2 : n2 = n := by rw [← hn2]; unfold mC; rw [if_pos (Or.inl c_4)]; rfl
    subst e1
    subst e2
    exact W.vret hx hb hr (rr_endv b hok hP hK hD hS) hS.2.2 dX3_add_16
  · refine lv_lload_n hx hb dX3_add_8 rfl (lv_at hl 1 rfl) ?_
    refine lv_ldc2 (v := 2147483647) hx hb hown (hts _ q226) dX3_add_9 ?_
    refine lc_le (tgt := 17) hx hb dX3_add_12 dX3_add_13 (by decide) (fun c_12 => ?_) (fun c_12 => ?_)
    · refine lv_iconst (v := 0) hx hb dX3_add_17 (by decide) ?_
      refine rr_reti (y := (nI 0)) (rfl) ?_
      refine lv_istore_n (lv' := [(3, .int (nI 0)), (0, .ref hM), (1, .long v)]) hx hb dX3_add_18 rfl hl (by decide) rfl (fun ls hl => ?_)
      refine X3_add_loop hx hb hts hown hn6' hK hP (fun ls hne hl => ?_) (fun k ls hkn hfd => ?_) (n + 1) 0 ls (by omega) (by omega) (fun i hi => absurd hi (Nat.not_lt_zero _)) (lv_sub hl [1, 2, 0] rfl)
      · refine lv_aload_n hx hb dX3_add_46 rfl (lv_at hl 0 rfl) ?_
        refine va_get (D := D) (ci := 3) (v := .ref hB) (C := RX3) (T := TX3) (N := 5) hx hb hts in_X3 hown hK hP 0 rfl rfl 0 (by decide) (hts _ q229) (fun _ h9 => h9) rfl dX3_add_47 ?_
        refine lv_aload_n hx hb dX3_add_50 rfl (lv_at hl 0 rfl) ?_
        refine va_get (D := D) (ci := 3) (v := .int (nI n)) (C := RX3) (T := TX3) (N := 5) hx hb hts in_X3 hown hK hP 0 rfl rfl 1 (by decide) (hts _ q230) (fun _ h9 => h9) rfl dX3_add_51 ?_
        refine lv_lload_n hx hb dX3_add_54 rfl (lv_at hl 1 rfl) ?_
        refine lv_l2i hx hb dX3_add_55 rfl ?_
        refine nn_iast hx hb hK hP hD hS 1 0 rfl rfl (by omega) (by omega) dX3_add_56 (fun H locs hP hD hS => ?_)
        have hP : va_P D vwCl [(hM, .inr (3, [.ref hB, .int (nI n), .int ti, .int lo, .int hi])), (hB, .inl (d, 187, .inl (upd b n v.toInt32)))] H := hP
        have hD : va_D A [(hM, .inr (3, [.ref hB, .int (nI n), .int ti, .int lo, .int hi])), (hB, .inl (d, 187, .inl (upd b n v.toInt32)))] := hD
        refine lv_aload_n hx hb dX3_add_57 rfl (lv_at hl 0 rfl) ?_
        refine lv_dup hx hb dX3_add_58 rfl ?_
        refine va_get (D := D) (ci := 3) (v := .int (nI n)) (C := RX3) (T := TX3) (N := 5) hx hb hts in_X3 hown hK hP 0 rfl rfl 1 (by decide) (hts _ q230) (fun _ h9 => h9) rfl dX3_add_59 ?_
        refine lv_iconst (v := 1) hx hb dX3_add_62 (by decide) ?_
        refine lv_iadd hx hb dX3_add_63 ?_
        refine rr_reti (y := (nI (n + 1))) (nI_1 _) ?_
        refine va_put (D := D) (ci := 3) (v := .int (nI (n + 1))) (ty := .int) (C := RX3) (T := TX3) (N := 5) hx hb hts in_X3 tyX3 tyX3_ok nmX3 hown hK hP hD hS 0 rfl rfl 1 (by decide) (hts _ q230) (fun _ h9 => h9) rfl (by decide +kernel) rfl rfl (Nat.le_of_ble_eq_true rfl) dX3_add_64 (fun H locs hP hD hS => ?_)
        have hP : va_P D vwCl [(hM, .inr (3, [.ref hB, .int (nI (n + 1)), .int ti, .int lo, .int hi])), (hB, .inl (d, 187, .inl (upd b n v.toInt32)))] H := hP
        have hD : va_D A [(hM, .inr (3, [.ref hB, .int (nI (n + 1)), .int ti, .int lo, .int hi])), (hB, .inl (d, 187, .inl (upd b n v.toInt32)))] := hD
        have hSv : ¬ S v.toInt32 = true := M_not hok (fun i hi q => hne i hi (by rw [q]; exact m_fwd c_4 c_12))
        have e1 : sAdd S v.toInt32 = S2 := by rw [← hS2]; unfold mS; rw [if_neg (m_in c_4 c_12)]
        have e2 : n + 1 = n2 := by rw [← hn2]; unfold mC; rw [if_neg (m_in c_4 c_12), sCnt_no hSv]
        subst e1
        subst e2
        exact W.vret hx hb hr (rr_endv (upd b n v.toInt32) (M_push hok) hP hK hD hS) hS.2.2 dX3_add_67
      · have hSv : S v.toInt32 = true := (hok _).mpr ⟨k, hkn, m_back hfd⟩
        have e1 : S2 = S := by rw [← hS2]; unfold mS; rw [if_neg (m_in c_4 c_12), sAdd_of hSv]
        have e2 : n2 = n := by rw [← hn2]; unfold mC; rw [if_neg (m_in c_4 c_12), sCnt_of hSv]; rfl
        subst e1
        subst e2
        exact W.vret hx hb hr (rr_endv b hok hP hK hD hS) hS.2.2 dX3_add_39
    · have e1 : S2 = S := by rw [← hS2]; unfold mS; rw [if_pos (Or.inr (fun_not c_12))]
      have e2 : n2 = n := by rw [← hn2]; unfold mC; rw [if_pos (Or.inr (fun_not c_12))]; rfl
      subst e1
      subst e2
      exact W.vret hx hb hr (rr_endv b hok hP hK hD hS) hS.2.2 dX3_add_16
end
section
theorem mB_s1 : mS sB0 (-2147483648) = sB1 := by
  unfold mS
  rw [if_neg (by decide)]
  rfl
theorem mB_c1 : 0 + mC sB0 (-2147483648) = 1 := by decide
theorem mB_s2 : mS sB1 (-2147483647) = sB2 := by
  unfold mS
  rw [if_neg (by decide)]
  rfl
theorem mB_c2 : 1 + mC sB1 (-2147483647) = 2 := by decide
theorem mB_s3 : mS sB2 (-1) = sB3 := by
  unfold mS
  rw [if_neg (by decide)]
  rfl
theorem mB_c3 : 2 + mC sB2 (-1) = 3 := by decide
theorem mB_s4 : mS sB3 0 = sB4 := by
  unfold mS
  rw [if_neg (by decide)]
  rfl
theorem mB_c4 : 3 + mC sB3 0 = 4 := by decide
theorem mB_s5 : mS sB4 1 = sB5 := by
  unfold mS
  rw [if_neg (by decide)]
  rfl
theorem mB_c5 : 4 + mC sB4 1 = 5 := by decide
theorem mB_s6 : mS sB5 2147483646 = sB6 := by
  unfold mS
  rw [if_neg (by decide)]
  rfl
theorem mB_c6 : 5 + mC sB5 2147483646 = 6 := by decide
theorem mB_s7 : mS sB6 2147483647 = sB7 := by
  unfold mS
  rw [if_neg (by decide)]
  rfl
theorem mB_c7 : 6 + mC sB6 2147483647 = 7 := by decide
abbrev wsX3_clear : List Cond := ws_ yX3_clear cX3_clear 2 none
set_option maxHeartbeats 4000000 in
set_option maxRecDepth 100000 in
theorem met_X3_clear (l : Launch) (D : va_G) (hM hB : Nat) (d : ClassId) (b : Nat → Int32) (z ti lo hi : Int32) (sz : Nat) : rr_CV l D yX3_clear wsX3_clear ({ frames := 1, cells := 0, slots := 0, locals := 23 }) [.ref hM] [(d, .int)] [(hM, .inr (3, [.ref hB, .int z, .int ti, .int lo, .int hi])), (hB, .inl (d, 187, .inl b))] sz (fun u : Nat → Int32 => M_ok sB7 7 u) (fun _ => [(d, .int)]) (fun u => [(hM, .inr (3, [.ref hB, .int (nI 7), .int (nI 0), .int lo, .int hi])), (hB, .inl (d, 187, .inl u))]) 0 0 := by
  refine Met.ofW (cc := cX3_clear) (maxL := 2) (ret := none) (by decide) rfl ?_
  intro p e s m args below meth c s₁ B hml hv
  obtain ⟨rfl, hsz, hP, hK, hD0⟩ := hv
  have hx := B.exec
  have hb := B.bytes
  have hr := B.returns
  have hts := atoms_spec (ws := wsX3_clear) B.pre
  have hts : ∀ w ∈ lw_all, w.before _ s = true := fun w h => hts w (List.mem_cons_of_mem _ h)
  have hown : s.vm.findClass RX3 = some m.cls := findClass_of_methodNamed B.named
  have hlocks := B.notSynchronized
  subst hsz
  have hD := hD0.self (sz := s.heap.size)
  generalize hAe : va_A [(hM, .inr (3, [.ref hB, .int z, .int ti, .int lo, .int hi])), (hB, .inl (d, 187, .inl b))] s.heap.size = A at hD ⊢
  have hA : ∀ q : Nat, s.heap.size ≤ q → A q := fun q h => by rw [← hAe]; exact Or.inr h
  have hS : va_S A s.heap s.heap [] := va_S.rf
  have hP : va_P D vwCl [(hM, .inr (3, [.ref hB, .int z, .int ti, .int lo, .int hi])), (hB, .inl (d, 187, .inl b))] s.heap := hP
  have hK : va_K D vwCl [(d, .int)] s := hK
  have hl := lv_entry ([.ref hM]) (n := 2) (Nat.le_of_ble_eq_true rfl)
  rw [lg_entry_eq]
  generalize (lg_sl ([.ref hM]) ++ List.replicate (2 - (lg_sl ([.ref hM])).length) Slot.unset).toArray = ls at hl ⊢
  have hl : lv_has ls 2 [(0, .ref hM)] := hl
  refine lv_aload_n hx hb dX3_clear_0 rfl (lv_at hl 0 rfl) ?_
  refine lv_iconst (v := 0) hx hb dX3_clear_1 (by decide) ?_
  refine rr_reti (y := (nI 0)) (rfl) ?_
  refine va_put (D := D) (ci := 3) (v := .int (nI 0)) (ty := .int) (C := RX3) (T := TX3) (N := 5) hx hb hts in_X3 tyX3 tyX3_ok nmX3 hown hK hP hD hS 0 rfl rfl 2 (by decide) (hts _ q231) (fun _ h9 => h9) rfl (by decide +kernel) rfl rfl (Nat.le_of_ble_eq_true rfl) dX3_clear_2 (fun H locs hP hD hS => ?_)
  have hP : va_P D vwCl [(hM, .inr (3, [.ref hB, .int z, .int (nI 0), .int lo, .int hi])), (hB, .inl (d, 187, .inl b))] H := hP
  have hD : va_D A [(hM, .inr (3, [.ref hB, .int z, .int (nI 0), .int lo, .int hi])), (hB, .inl (d, 187, .inl b))] := hD
  refine lv_aload_n hx hb dX3_clear_5 rfl (lv_at hl 0 rfl) ?_
  refine lv_iconst (v := 0) hx hb dX3_clear_6 (by decide) ?_
  refine rr_reti (y := (nI 0)) (rfl) ?_
  refine va_put (D := D) (ci := 3) (v := .int (nI 0)) (ty := .int) (C := RX3) (T := TX3) (N := 5) hx hb hts in_X3 tyX3 tyX3_ok nmX3 hown hK hP hD hS 0 rfl rfl 1 (by decide) (hts _ q230) (fun _ h9 => h9) rfl (by decide +kernel) rfl rfl (Nat.le_of_ble_eq_true rfl) dX3_clear_7 (fun H locs hP hD hS => ?_)
  have hP : va_P D vwCl [(hM, .inr (3, [.ref hB, .int (nI 0), .int (nI 0), .int lo, .int hi])), (hB, .inl (d, 187, .inl b))] H := hP
  have hD : va_D A [(hM, .inr (3, [.ref hB, .int (nI 0), .int (nI 0), .int lo, .int hi])), (hB, .inl (d, 187, .inl b))] := hD
  refine lv_aload_n hx hb dX3_clear_10 rfl (lv_at hl 0 rfl) ?_
  refine lv_ldc2 (v := (-2147483648)) hx hb hown (hts _ q221) dX3_clear_11 ?_
  refine rr_callv (wc := [(hM, .inr (3, [.ref hB, .int (nI 0), .int (nI 0), .int lo, .int hi])), (hB, .inl (d, 187, .inl b))]) (wr := []) (va_runV (As := [.long (-2147483648)]) (rest := []) ⟨hx, hb, hml, hown, hts⟩ (met_X3_add l D hM hB d b 0 (nI 0) lo hi H.size (-2147483648) (S := sB0) (S2 := sB1) (n2 := 1) (M_nil b) (by decide) mB_s1 mB_c1) (cwV 1 hts (lw_V q222 q224 qs8 q22 q225) rfl rfl rfl (by decide +kernel) ⟨Nat.le_of_ble_eq_true rfl, Nat.le_of_ble_eq_true rfl⟩) ⟨rr_blind, va_recv hK hP (ci := 3) (q0 := 0) rfl rfl, rr_pre (hP.sub (ws' := [(hM, .inr (3, [.ref hB, .int (nI 0), .int (nI 0), .int lo, .int hi])), (hB, .inl (d, 187, .inl b))]) [0, 1] rfl) (hK.sub (tys' := [(d, .int)]) [0] rfl) (hD.sub (ws' := [(hM, .inr (3, [.ref hB, .int (nI 0), .int (nI 0), .int lo, .int hi])), (hB, .inl (d, 187, .inl b))]) [0, 1] (by decide) rfl)⟩ rfl rfl hl.1 rfl (lv_room (Nat.le_of_ble_eq_true rfl)) dX3_clear_14 ⟨Nat.le_of_ble_eq_true rfl, Nat.le_of_ble_eq_true rfl⟩) hK hP hD hS hA [0, 1] [] rfl rfl (by decide) (by decide) (fun u_109 H locs hok1 hP hD hK hS => ?_)
  obtain ⟨b1, rfl⟩ : ∃ z, z = u_109 := ⟨_, rfl⟩
  have hP : va_P D vwCl [(hM, .inr (3, [.ref hB, .int (nI 1), .int (nI 0), .int lo, .int hi])), (hB, .inl (d, 187, .inl b1))] H := hP
  have hD : va_D A [(hM, .inr (3, [.ref hB, .int (nI 1), .int (nI 0), .int lo, .int hi])), (hB, .inl (d, 187, .inl b1))] := hD
  have hK : va_K D vwCl [(d, .int)] s := hK.sub (tys' := [(d, .int)]) [0] rfl
  have hok1 : M_ok sB1 1 b1 := hok1
  refine lv_aload_n hx hb dX3_clear_17 rfl (lv_at hl 0 rfl) ?_
  refine lv_ldc2 (v := (-2147483647)) hx hb hown (hts _ q227) dX3_clear_18 ?_
  refine rr_callv (wc := [(hM, .inr (3, [.ref hB, .int (nI 1), .int (nI 0), .int lo, .int hi])), (hB, .inl (d, 187, .inl b1))]) (wr := []) (va_runV (As := [.long (-2147483647)]) (rest := []) ⟨hx, hb, hml, hown, hts⟩ (met_X3_add l D hM hB d b1 1 (nI 0) lo hi H.size (-2147483647) (S := sB1) (S2 := sB2) (n2 := 2) hok1 (by decide) mB_s2 mB_c2) (cwV 1 hts (lw_V q222 q224 qs8 q22 q225) rfl rfl rfl (by decide +kernel) ⟨Nat.le_of_ble_eq_true rfl, Nat.le_of_ble_eq_true rfl⟩) ⟨rr_blind, va_recv hK hP (ci := 3) (q0 := 0) rfl rfl, rr_pre (hP.sub (ws' := [(hM, .inr (3, [.ref hB, .int (nI 1), .int (nI 0), .int lo, .int hi])), (hB, .inl (d, 187, .inl b1))]) [0, 1] rfl) (hK.sub (tys' := [(d, .int)]) [0] rfl) (hD.sub (ws' := [(hM, .inr (3, [.ref hB, .int (nI 1), .int (nI 0), .int lo, .int hi])), (hB, .inl (d, 187, .inl b1))]) [0, 1] (by decide) rfl)⟩ rfl rfl hl.1 rfl (lv_room (Nat.le_of_ble_eq_true rfl)) dX3_clear_21 ⟨Nat.le_of_ble_eq_true rfl, Nat.le_of_ble_eq_true rfl⟩) hK hP hD hS hA [0, 1] [] rfl rfl (by decide) (by decide) (fun u_110 H locs hok2 hP hD hK hS => ?_)
  obtain ⟨b2, rfl⟩ : ∃ z, z = u_110 := ⟨_, rfl⟩
  have hP : va_P D vwCl [(hM, .inr (3, [.ref hB, .int (nI 2), .int (nI 0), .int lo, .int hi])), (hB, .inl (d, 187, .inl b2))] H := hP
  have hD : va_D A [(hM, .inr (3, [.ref hB, .int (nI 2), .int (nI 0), .int lo, .int hi])), (hB, .inl (d, 187, .inl b2))] := hD
  have hK : va_K D vwCl [(d, .int)] s := hK.sub (tys' := [(d, .int)]) [0] rfl
  have hok2 : M_ok sB2 2 b2 := hok2
  refine lv_iconst (v := (-1)) hx hb dX3_clear_24 (by decide) ?_
  refine lv_istore_n (lv' := [(1, .int (-1)), (0, .ref hM)]) hx hb dX3_clear_25 rfl hl (by decide) rfl (fun ls hl => ?_)
  refine lv_iload_n hx hb dX3_clear_26 rfl (lv_at hl 0 rfl) ?_
  refine lv_iconst (v := 2) hx hb dX3_clear_27 (by decide) ?_
  refine lv_icmp_ge (tgt := 43) hx hb dX3_clear_28 (by decide) (fun c_28 => absurd c_28 (by decide)) (fun c_28 => ?_)
  refine lv_aload_n hx hb dX3_clear_31 rfl (lv_at hl 1 rfl) ?_
  refine lv_iload_n hx hb dX3_clear_32 rfl (lv_at hl 0 rfl) ?_
  refine lv_i2l hx hb dX3_clear_33 rfl ?_
  refine rr_retl (y := (-1)) (by decide) ?_
  refine rr_callv (wc := [(hM, .inr (3, [.ref hB, .int (nI 2), .int (nI 0), .int lo, .int hi])), (hB, .inl (d, 187, .inl b2))]) (wr := []) (va_runV (As := [.long (-1)]) (rest := []) ⟨hx, hb, hml, hown, hts⟩ (met_X3_add l D hM hB d b2 2 (nI 0) lo hi H.size (-1) (S := sB2) (S2 := sB3) (n2 := 3) hok2 (by decide) mB_s3 mB_c3) (cwV 1 hts (lw_V q222 q224 qs8 q22 q225) rfl rfl rfl (by decide +kernel) ⟨Nat.le_of_ble_eq_true rfl, Nat.le_of_ble_eq_true rfl⟩) ⟨rr_blind, va_recv hK hP (ci := 3) (q0 := 0) rfl rfl, rr_pre (hP.sub (ws' := [(hM, .inr (3, [.ref hB, .int (nI 2), .int (nI 0), .int lo, .int hi])), (hB, .inl (d, 187, .inl b2))]) [0, 1] rfl) (hK.sub (tys' := [(d, .int)]) [0] rfl) (hD.sub (ws' := [(hM, .inr (3, [.ref hB, .int (nI 2), .int (nI 0), .int lo, .int hi])), (hB, .inl (d, 187, .inl b2))]) [0, 1] (by decide) rfl)⟩ rfl rfl hl.1 rfl (lv_room (Nat.le_of_ble_eq_true rfl)) dX3_clear_34 ⟨Nat.le_of_ble_eq_true rfl, Nat.le_of_ble_eq_true rfl⟩) hK hP hD hS hA [0, 1] [] rfl rfl (by decide) (by decide) (fun u_111 H locs hok3 hP hD hK hS => ?_)
  obtain ⟨b3, rfl⟩ : ∃ z, z = u_111 := ⟨_, rfl⟩
  have hP : va_P D vwCl [(hM, .inr (3, [.ref hB, .int (nI 3), .int (nI 0), .int lo, .int hi])), (hB, .inl (d, 187, .inl b3))] H := hP
  have hD : va_D A [(hM, .inr (3, [.ref hB, .int (nI 3), .int (nI 0), .int lo, .int hi])), (hB, .inl (d, 187, .inl b3))] := hD
  have hK : va_K D vwCl [(d, .int)] s := hK.sub (tys' := [(d, .int)]) [0] rfl
  have hok3 : M_ok sB3 3 b3 := hok3
  refine lv_iinc (v := 0) (lv' := [(1, .int 0), (0, .ref hM)]) hx hb dX3_clear_37 hl (k := 0) rfl (by decide) (by decide) rfl (fun ls hl => ?_)
  refine lv_goto (tgt := 26) hx hb dX3_clear_40 (by decide) ?_
  refine lv_iload_n hx hb dX3_clear_26 rfl (lv_at hl 0 rfl) ?_
  refine lv_iconst (v := 2) hx hb dX3_clear_27 (by decide) ?_
  refine lv_icmp_ge (tgt := 43) hx hb dX3_clear_28 (by decide) (fun c_28 => absurd c_28 (by decide)) (fun c_28 => ?_)
  refine lv_aload_n hx hb dX3_clear_31 rfl (lv_at hl 1 rfl) ?_
  refine lv_iload_n hx hb dX3_clear_32 rfl (lv_at hl 0 rfl) ?_
  refine lv_i2l hx hb dX3_clear_33 rfl ?_
  refine rr_retl (y := 0) (by decide) ?_
  refine rr_callv (wc := [(hM, .inr (3, [.ref hB, .int (nI 3), .int (nI 0), .int lo, .int hi])), (hB, .inl (d, 187, .inl b3))]) (wr := []) (va_runV (As := [.long 0]) (rest := []) ⟨hx, hb, hml, hown, hts⟩ (met_X3_add l D hM hB d b3 3 (nI 0) lo hi H.size 0 (S := sB3) (S2 := sB4) (n2 := 4) hok3 (by decide) mB_s4 mB_c4) (cwV 1 hts (lw_V q222 q224 qs8 q22 q225) rfl rfl rfl (by decide +kernel) ⟨Nat.le_of_ble_eq_true rfl, Nat.le_of_ble_eq_true rfl⟩) ⟨rr_blind, va_recv hK hP (ci := 3) (q0 := 0) rfl rfl, rr_pre (hP.sub (ws' := [(hM, .inr (3, [.ref hB, .int (nI 3), .int (nI 0), .int lo, .int hi])), (hB, .inl (d, 187, .inl b3))]) [0, 1] rfl) (hK.sub (tys' := [(d, .int)]) [0] rfl) (hD.sub (ws' := [(hM, .inr (3, [.ref hB, .int (nI 3), .int (nI 0), .int lo, .int hi])), (hB, .inl (d, 187, .inl b3))]) [0, 1] (by decide) rfl)⟩ rfl rfl hl.1 rfl (lv_room (Nat.le_of_ble_eq_true rfl)) dX3_clear_34 ⟨Nat.le_of_ble_eq_true rfl, Nat.le_of_ble_eq_true rfl⟩) hK hP hD hS hA [0, 1] [] rfl rfl (by decide) (by decide) (fun u_112 H locs hok4 hP hD hK hS => ?_)
  obtain ⟨b4, rfl⟩ : ∃ z, z = u_112 := ⟨_, rfl⟩
  have hP : va_P D vwCl [(hM, .inr (3, [.ref hB, .int (nI 4), .int (nI 0), .int lo, .int hi])), (hB, .inl (d, 187, .inl b4))] H := hP
  have hD : va_D A [(hM, .inr (3, [.ref hB, .int (nI 4), .int (nI 0), .int lo, .int hi])), (hB, .inl (d, 187, .inl b4))] := hD
  have hK : va_K D vwCl [(d, .int)] s := hK.sub (tys' := [(d, .int)]) [0] rfl
  have hok4 : M_ok sB4 4 b4 := hok4
  refine lv_iinc (v := 1) (lv' := [(1, .int 1), (0, .ref hM)]) hx hb dX3_clear_37 hl (k := 0) rfl (by decide) (by decide) rfl (fun ls hl => ?_)
  refine lv_goto (tgt := 26) hx hb dX3_clear_40 (by decide) ?_
  refine lv_iload_n hx hb dX3_clear_26 rfl (lv_at hl 0 rfl) ?_
  refine lv_iconst (v := 2) hx hb dX3_clear_27 (by decide) ?_
  refine lv_icmp_ge (tgt := 43) hx hb dX3_clear_28 (by decide) (fun c_28 => absurd c_28 (by decide)) (fun c_28 => ?_)
  refine lv_aload_n hx hb dX3_clear_31 rfl (lv_at hl 1 rfl) ?_
  refine lv_iload_n hx hb dX3_clear_32 rfl (lv_at hl 0 rfl) ?_
  refine lv_i2l hx hb dX3_clear_33 rfl ?_
  refine rr_retl (y := 1) (by decide) ?_
  refine rr_callv (wc := [(hM, .inr (3, [.ref hB, .int (nI 4), .int (nI 0), .int lo, .int hi])), (hB, .inl (d, 187, .inl b4))]) (wr := []) (va_runV (As := [.long 1]) (rest := []) ⟨hx, hb, hml, hown, hts⟩ (met_X3_add l D hM hB d b4 4 (nI 0) lo hi H.size 1 (S := sB4) (S2 := sB5) (n2 := 5) hok4 (by decide) mB_s5 mB_c5) (cwV 1 hts (lw_V q222 q224 qs8 q22 q225) rfl rfl rfl (by decide +kernel) ⟨Nat.le_of_ble_eq_true rfl, Nat.le_of_ble_eq_true rfl⟩) ⟨rr_blind, va_recv hK hP (ci := 3) (q0 := 0) rfl rfl, rr_pre (hP.sub (ws' := [(hM, .inr (3, [.ref hB, .int (nI 4), .int (nI 0), .int lo, .int hi])), (hB, .inl (d, 187, .inl b4))]) [0, 1] rfl) (hK.sub (tys' := [(d, .int)]) [0] rfl) (hD.sub (ws' := [(hM, .inr (3, [.ref hB, .int (nI 4), .int (nI 0), .int lo, .int hi])), (hB, .inl (d, 187, .inl b4))]) [0, 1] (by decide) rfl)⟩ rfl rfl hl.1 rfl (lv_room (Nat.le_of_ble_eq_true rfl)) dX3_clear_34 ⟨Nat.le_of_ble_eq_true rfl, Nat.le_of_ble_eq_true rfl⟩) hK hP hD hS hA [0, 1] [] rfl rfl (by decide) (by decide) (fun u_113 H locs hok5 hP hD hK hS => ?_)
  obtain ⟨b5, rfl⟩ : ∃ z, z = u_113 := ⟨_, rfl⟩
  have hP : va_P D vwCl [(hM, .inr (3, [.ref hB, .int (nI 5), .int (nI 0), .int lo, .int hi])), (hB, .inl (d, 187, .inl b5))] H := hP
  have hD : va_D A [(hM, .inr (3, [.ref hB, .int (nI 5), .int (nI 0), .int lo, .int hi])), (hB, .inl (d, 187, .inl b5))] := hD
  have hK : va_K D vwCl [(d, .int)] s := hK.sub (tys' := [(d, .int)]) [0] rfl
  have hok5 : M_ok sB5 5 b5 := hok5
  refine lv_iinc (v := 2) (lv' := [(1, .int 2), (0, .ref hM)]) hx hb dX3_clear_37 hl (k := 0) rfl (by decide) (by decide) rfl (fun ls hl => ?_)
  refine lv_goto (tgt := 26) hx hb dX3_clear_40 (by decide) ?_
  refine lv_iload_n hx hb dX3_clear_26 rfl (lv_at hl 0 rfl) ?_
  refine lv_iconst (v := 2) hx hb dX3_clear_27 (by decide) ?_
  refine lv_icmp_ge (tgt := 43) hx hb dX3_clear_28 (by decide) (fun c_28 => ?_) (fun c_28 => absurd (by decide) c_28)
  refine lv_aload_n hx hb dX3_clear_43 rfl (lv_at hl 1 rfl) ?_
  refine lv_ldc2 (v := 2147483646) hx hb hown (hts _ q228) dX3_clear_44 ?_
  refine rr_callv (wc := [(hM, .inr (3, [.ref hB, .int (nI 5), .int (nI 0), .int lo, .int hi])), (hB, .inl (d, 187, .inl b5))]) (wr := []) (va_runV (As := [.long 2147483646]) (rest := []) ⟨hx, hb, hml, hown, hts⟩ (met_X3_add l D hM hB d b5 5 (nI 0) lo hi H.size 2147483646 (S := sB5) (S2 := sB6) (n2 := 6) hok5 (by decide) mB_s6 mB_c6) (cwV 1 hts (lw_V q222 q224 qs8 q22 q225) rfl rfl rfl (by decide +kernel) ⟨Nat.le_of_ble_eq_true rfl, Nat.le_of_ble_eq_true rfl⟩) ⟨rr_blind, va_recv hK hP (ci := 3) (q0 := 0) rfl rfl, rr_pre (hP.sub (ws' := [(hM, .inr (3, [.ref hB, .int (nI 5), .int (nI 0), .int lo, .int hi])), (hB, .inl (d, 187, .inl b5))]) [0, 1] rfl) (hK.sub (tys' := [(d, .int)]) [0] rfl) (hD.sub (ws' := [(hM, .inr (3, [.ref hB, .int (nI 5), .int (nI 0), .int lo, .int hi])), (hB, .inl (d, 187, .inl b5))]) [0, 1] (by decide) rfl)⟩ rfl rfl hl.1 rfl (lv_room (Nat.le_of_ble_eq_true rfl)) dX3_clear_47 ⟨Nat.le_of_ble_eq_true rfl, Nat.le_of_ble_eq_true rfl⟩) hK hP hD hS hA [0, 1] [] rfl rfl (by decide) (by decide) (fun u_114 H locs hok6 hP hD hK hS => ?_)
  obtain ⟨b6, rfl⟩ : ∃ z, z = u_114 := ⟨_, rfl⟩
  have hP : va_P D vwCl [(hM, .inr (3, [.ref hB, .int (nI 6), .int (nI 0), .int lo, .int hi])), (hB, .inl (d, 187, .inl b6))] H := hP
  have hD : va_D A [(hM, .inr (3, [.ref hB, .int (nI 6), .int (nI 0), .int lo, .int hi])), (hB, .inl (d, 187, .inl b6))] := hD
  have hK : va_K D vwCl [(d, .int)] s := hK.sub (tys' := [(d, .int)]) [0] rfl
  have hok6 : M_ok sB6 6 b6 := hok6
  refine lv_aload_n hx hb dX3_clear_50 rfl (lv_at hl 1 rfl) ?_
  refine lv_ldc2 (v := 2147483647) hx hb hown (hts _ q226) dX3_clear_51 ?_
  refine rr_callv (wc := [(hM, .inr (3, [.ref hB, .int (nI 6), .int (nI 0), .int lo, .int hi])), (hB, .inl (d, 187, .inl b6))]) (wr := []) (va_runV (As := [.long 2147483647]) (rest := []) ⟨hx, hb, hml, hown, hts⟩ (met_X3_add l D hM hB d b6 6 (nI 0) lo hi H.size 2147483647 (S := sB6) (S2 := sB7) (n2 := 7) hok6 (by decide) mB_s7 mB_c7) (cwV 1 hts (lw_V q222 q224 qs8 q22 q225) rfl rfl rfl (by decide +kernel) ⟨Nat.le_of_ble_eq_true rfl, Nat.le_of_ble_eq_true rfl⟩) ⟨rr_blind, va_recv hK hP (ci := 3) (q0 := 0) rfl rfl, rr_pre (hP.sub (ws' := [(hM, .inr (3, [.ref hB, .int (nI 6), .int (nI 0), .int lo, .int hi])), (hB, .inl (d, 187, .inl b6))]) [0, 1] rfl) (hK.sub (tys' := [(d, .int)]) [0] rfl) (hD.sub (ws' := [(hM, .inr (3, [.ref hB, .int (nI 6), .int (nI 0), .int lo, .int hi])), (hB, .inl (d, 187, .inl b6))]) [0, 1] (by decide) rfl)⟩ rfl rfl hl.1 rfl (lv_room (Nat.le_of_ble_eq_true rfl)) dX3_clear_54 ⟨Nat.le_of_ble_eq_true rfl, Nat.le_of_ble_eq_true rfl⟩) hK hP hD hS hA [0, 1] [] rfl rfl (by decide) (by decide) (fun u_115 H locs hok7 hP hD hK hS => ?_)
  obtain ⟨b7, rfl⟩ : ∃ z, z = u_115 := ⟨_, rfl⟩
  have hP : va_P D vwCl [(hM, .inr (3, [.ref hB, .int (nI 7), .int (nI 0), .int lo, .int hi])), (hB, .inl (d, 187, .inl b7))] H := hP
  have hD : va_D A [(hM, .inr (3, [.ref hB, .int (nI 7), .int (nI 0), .int lo, .int hi])), (hB, .inl (d, 187, .inl b7))] := hD
  have hK : va_K D vwCl [(d, .int)] s := hK.sub (tys' := [(d, .int)]) [0] rfl
  have hok7 : M_ok sB7 7 b7 := hok7
  exact W.vret hx hb hr (rr_endv b7 hok7 hP hK hD hS) hS.2.2 dX3_clear_57
abbrev wsX3_init : List Cond := ws_ yX3_init cX3_init 1 none
set_option maxHeartbeats 4000000 in
set_option maxRecDepth 100000 in
theorem met_X3_init (l : Launch) (D : va_G) (hM : Nat) (sz : Nat) : rr_CV l D yX3_init wsX3_init ({ frames := 2, cells := 1, slots := 187, locals := 44 }) [.ref hM] [] [(hM, .inr (3, [.null, .int 0, .int 0, .int 0, .int 0]))] sz (fun u : Nat × ClassId × (Nat → Int32) => M_ok sB7 7 u.2.2) (fun u => [(u.2.1, .int)]) (fun u => [(hM, .inr (3, [.ref u.1, .int (nI 7), .int (nI 0), .int 0, .int 0])), (u.1, .inl (u.2.1, 187, .inl u.2.2))]) 1 187 := by
  refine Met.ofW (cc := cX3_init) (maxL := 1) (ret := none) (by decide) rfl ?_
  intro p e s m args below meth c s₁ B hml hv
  obtain ⟨rfl, hsz, hP, hK, hD0⟩ := hv
  have hx := B.exec
  have hb := B.bytes
  have hr := B.returns
  have hts := atoms_spec (ws := wsX3_init) B.pre
  have hts : ∀ w ∈ lw_all, w.before _ s = true := fun w h => hts w (List.mem_cons_of_mem _ h)
  have hown : s.vm.findClass RX3 = some m.cls := findClass_of_methodNamed B.named
  have hlocks := B.notSynchronized
  have hin : meth.name = "<init>" := (name_of_methodNamed B.named B.method).1
  subst hsz
  have hD := hD0.self (sz := s.heap.size)
  generalize hAe : va_A [(hM, .inr (3, [.null, .int 0, .int 0, .int 0, .int 0]))] s.heap.size = A at hD ⊢
  have hA : ∀ q : Nat, s.heap.size ≤ q → A q := fun q h => by rw [← hAe]; exact Or.inr h
  have hS : va_S A s.heap s.heap [] := va_S.rf
  have hP : va_P D vwCl [(hM, .inr (3, [.null, .int 0, .int 0, .int 0, .int 0]))] s.heap := hP
  have hK : va_K D vwCl [] s := hK
  have hl := lv_entry ([.ref hM]) (n := 1) (Nat.le_of_ble_eq_true rfl)
  rw [lg_entry_eq]
  generalize (lg_sl ([.ref hM]) ++ List.replicate (1 - (lg_sl ([.ref hM])).length) Slot.unset).toArray = ls at hl ⊢
  have hl : lv_has ls 1 [(0, .ref hM)] := hl
  refine lv_aload_n hx hb dX3_init_0 rfl (lv_at hl 0 rfl) ?_
  refine W.objInit hx hb hown (hts _ q216) (hts _ q29) (hts _ q30) rfl (by rw [hml]; exact hl.1) rfl dX3_init_1 (Nat.le_of_ble_eq_true rfl) (Nat.le_of_ble_eq_true rfl) ?_
  refine W.eq (g2 := F0 m 4 ls []) rfl ?_
  refine lv_aload_n hx hb dX3_init_4 rfl (lv_at hl 0 rfl) ?_
  refine lv_sipush (v := 187) hx hb dX3_init_5 (by decide) ?_
  refine va_newa (atype := .int) (N' := 187) (a0 := (187, .inl (fun _ => 0))) (ty := .int) hx hb (hts _ q45) rfl hK hP hD hS hA (fun _ => rfl) (by decide) (by decide) (by decide) (Nat.le_of_ble_eq_true rfl) (Nat.le_of_ble_eq_true rfl) dX3_init_8 (fun qa_116 da_117 H hK hP hD hS => ?_)
  have hP : va_P D vwCl [(hM, .inr (3, [.null, .int 0, .int 0, .int 0, .int 0])), (qa_116, .inl (da_117, 187, .inl (fun _ => 0)))] H := hP
  have hD : va_D A [(hM, .inr (3, [.null, .int 0, .int 0, .int 0, .int 0])), (qa_116, .inl (da_117, 187, .inl (fun _ => 0)))] := hD
  have hK : va_K D vwCl [(da_117, .int)] s := hK
  refine va_putF (D := D) (ci := 3) (v := .ref qa_116) (ty := .array .int) (C := RX3) (T := TX3) (N := 5) hx hb hts in_X3 tyX3 tyX3_ok nmX3 hown hK hP hD hS 0 rfl rfl 0 (by decide) (hts _ q229) (fun _ h9 => h9) rfl hin rfl (by decide +kernel) rfl rfl (Nat.le_of_ble_eq_true rfl) dX3_init_10 (fun H locs hP hD hS => ?_)
  have hP : va_P D vwCl [(hM, .inr (3, [.ref qa_116, .int 0, .int 0, .int 0, .int 0])), (qa_116, .inl (da_117, 187, .inl (fun _ => 0)))] H := hP
  have hD : va_D A [(hM, .inr (3, [.ref qa_116, .int 0, .int 0, .int 0, .int 0])), (qa_116, .inl (da_117, 187, .inl (fun _ => 0)))] := hD
  refine lv_aload_n hx hb dX3_init_13 rfl (lv_at hl 0 rfl) ?_
  refine rr_callv (wc := [(hM, .inr (3, [.ref qa_116, .int 0, .int 0, .int 0, .int 0])), (qa_116, .inl (da_117, 187, .inl (fun _ => 0)))]) (wr := []) (va_runV (As := []) (rest := []) ⟨hx, hb, hml, hown, hts⟩ (met_X3_clear l D hM qa_116 da_117 (fun _ => 0) 0 0 0 0 H.size) (cwV 0 hts (lw_V q217 q218 q219 q22 q220) rfl rfl rfl (by decide +kernel) ⟨Nat.le_of_ble_eq_true rfl, Nat.le_of_ble_eq_true rfl⟩) ⟨rr_blind, va_recv hK hP (ci := 3) (q0 := 0) rfl rfl, rr_pre (hP.sub (ws' := [(hM, .inr (3, [.ref qa_116, .int 0, .int 0, .int 0, .int 0])), (qa_116, .inl (da_117, 187, .inl (fun _ => 0)))]) [0, 1] rfl) (hK.sub (tys' := [(da_117, .int)]) [0] rfl) (hD.sub (ws' := [(hM, .inr (3, [.ref qa_116, .int 0, .int 0, .int 0, .int 0])), (qa_116, .inl (da_117, 187, .inl (fun _ => 0)))]) [0, 1] (by decide) rfl)⟩ rfl rfl hl.1 rfl (lv_room (Nat.le_of_ble_eq_true rfl)) dX3_init_14 ⟨Nat.le_of_ble_eq_true rfl, Nat.le_of_ble_eq_true rfl⟩) hK hP hD hS hA [0, 1] [] rfl rfl (by decide) (by decide) (fun u_118 H locs hok1 hP hD hK hS => ?_)
  obtain ⟨b1, rfl⟩ : ∃ z, z = u_118 := ⟨_, rfl⟩
  have hP : va_P D vwCl [(hM, .inr (3, [.ref qa_116, .int (nI 7), .int (nI 0), .int 0, .int 0])), (qa_116, .inl (da_117, 187, .inl b1))] H := hP
  have hD : va_D A [(hM, .inr (3, [.ref qa_116, .int (nI 7), .int (nI 0), .int 0, .int 0])), (qa_116, .inl (da_117, 187, .inl b1))] := hD
  have hK : va_K D vwCl [(da_117, .int)] s := hK.sub (tys' := [(da_117, .int)]) [0] rfl
  exact W.vret hx hb hr (rr_endv (qa_116, da_117, b1) hok1 hP hK hD hS) hS.2.2 dX3_init_17
theorem m_ar1 (x : Int64) : x - 1 + 1 = x := Int64.sub_add_cancel x 1
def sM1 (S : Int32 → Bool) (v : Int32) : Int32 → Bool := mS S (v.toInt64 - 1)
def sM2 (S : Int32 → Bool) (v : Int32) : Int32 → Bool := mS (sM1 S v) v.toInt64
def sM3 (S : Int32 → Bool) (v : Int32) : Int32 → Bool := mS (sM2 S v) (v.toInt64 + 1)
theorem m_one : (1 : Int64).toInt = 1 := by decide
theorem m_tm (v : Int32) : (v.toInt64 - 1).toInt = v.toInt - 1 := by
  have h1 := v.le_toInt
  have h2 := v.toInt_lt
  rw [Int64.toInt_sub, Int32.toInt_toInt64, m_one]
  exact Int.bmod_eq_of_le (by omega) (by omega)
theorem m_tp (v : Int32) : (v.toInt64 + 1).toInt = v.toInt + 1 := by
  have h1 := v.le_toInt
  have h2 := v.toInt_lt
  rw [Int64.toInt_add, Int32.toInt_toInt64, m_one]
  exact Int.bmod_eq_of_le (by omega) (by omega)
theorem m_tpp (v : Int32) : (v.toInt64 + 1 + 1).toInt = v.toInt + 2 := by
  have h1 := v.le_toInt
  have h2 := v.toInt_lt
  rw [Int64.toInt_add, m_tp, m_one, Int.bmod_eq_of_le (by omega) (by omega)]
  omega
theorem m_l0 (v : Int32) : ¬ v.toInt64 + 1 < v.toInt64 - 1 := by
  rw [Int64.lt_iff_toInt_lt, m_tp, m_tm]; omega
theorem m_l1 (v : Int32) : ¬ v.toInt64 + 1 < v.toInt64 := by
  rw [Int64.lt_iff_toInt_lt, m_tp, Int32.toInt_toInt64]; omega
theorem m_l2 (v : Int32) : ¬ v.toInt64 + 1 < v.toInt64 + 1 := by
  rw [Int64.lt_iff_toInt_lt]; omega
theorem m_l3 (v : Int32) : v.toInt64 + 1 < v.toInt64 + 1 + 1 := by
  rw [Int64.lt_iff_toInt_lt, m_tp, m_tpp]; omega
theorem mC_le (S : Int32 → Bool) (v : Int64) : mC S v ≤ 1 := by
  unfold mC
  split
  · omega
  · exact sCnt_le _ _
/-- the reference adds v - 1, v, v + 1; the class v, v - 1, v + 1: the same set -/
theorem m_32 (v : Int32) : v.toInt64.toInt32 = v := (m_back rfl).symm
theorem m_v0 (S : Int32 → Bool) (v : Int32) : mS S v.toInt64 = sAdd S v ∧ mC S v.toInt64 = sCnt S v := by
  have h1 := v.le_toInt
  have h2 := v.toInt_lt
  have h : ¬ (v.toInt64 < -2147483648 ∨ 2147483647 < v.toInt64) := by
    rw [Int64.lt_iff_toInt_lt, Int64.lt_iff_toInt_lt, w_min64, w_max64, Int32.toInt_toInt64]; omega
  unfold mS mC
  rw [if_neg h, if_neg h, m_32]
  exact ⟨rfl, rfl⟩
theorem m_lim {v : Int32} : v ≤ -2147483648 ↔ v.toInt = -2147483648 := by
  have h1 := v.le_toInt
  rw [Int32.le_iff_toInt_le, T_min32]
  omega
theorem m_lim2 {v : Int32} : 2147483647 ≤ v ↔ v.toInt = 2147483647 := by
  have h2 := v.toInt_lt
  rw [Int32.le_iff_toInt_le, T_max32]
  omega
theorem m_t32m {v : Int32} (h : ¬ v ≤ -2147483648) : (v - 1).toInt = v.toInt - 1 := by
  have h1 := v.le_toInt
  have h2 := v.toInt_lt
  rw [m_lim] at h
  rw [Int32.toInt_sub, show (1 : Int32).toInt = 1 from by decide]
  exact Int.bmod_eq_of_le (by omega) (by omega)
theorem m_t32p {v : Int32} (h : ¬ 2147483647 ≤ v) : (v + 1).toInt = v.toInt + 1 := by
  have h1 := v.le_toInt
  have h2 := v.toInt_lt
  rw [m_lim2] at h
  rw [Int32.toInt_add, show (1 : Int32).toInt = 1 from by decide]
  exact Int.bmod_eq_of_le (by omega) (by omega)
theorem m_vm (S : Int32 → Bool) (v : Int32) : mS S (v.toInt64 - 1) = (if v ≤ -2147483648 then S else sAdd S (v - 1)) ∧ mC S (v.toInt64 - 1) = (if v ≤ -2147483648 then 0 else sCnt S (v - 1)) := by
  have h1 := v.le_toInt
  have h2 := v.toInt_lt
  unfold mS mC
  by_cases q : v ≤ -2147483648
  · have h : v.toInt64 - 1 < -2147483648 ∨ 2147483647 < v.toInt64 - 1 := by
      rw [m_lim] at q
      rw [Int64.lt_iff_toInt_lt, Int64.lt_iff_toInt_lt, w_min64, w_max64, m_tm]; omega
    rw [if_pos h, if_pos h, if_pos q, if_pos q]
    exact ⟨rfl, rfl⟩
  · have h : ¬ (v.toInt64 - 1 < -2147483648 ∨ 2147483647 < v.toInt64 - 1) := by
      have q2 := q
      rw [m_lim] at q2
      rw [Int64.lt_iff_toInt_lt, Int64.lt_iff_toInt_lt, w_min64, w_max64, m_tm]; omega
    have e : (v.toInt64 - 1).toInt32 = v - 1 := by
      have q2 := q
      rw [m_lim] at q2
      exact Int32.toInt_inj.mp (by rw [w_toInt32 (by rw [m_tm]; omega) (by rw [m_tm]; omega), m_tm, m_t32m q])
    rw [if_neg h, if_neg h, if_neg q, if_neg q, e]
    exact ⟨rfl, rfl⟩
theorem m_vp (S : Int32 → Bool) (v : Int32) : mS S (v.toInt64 + 1) = (if 2147483647 ≤ v then S else sAdd S (v + 1)) ∧ mC S (v.toInt64 + 1) = (if 2147483647 ≤ v then 0 else sCnt S (v + 1)) := by
  have h1 := v.le_toInt
  have h2 := v.toInt_lt
  unfold mS mC
  by_cases q : 2147483647 ≤ v
  · have h : v.toInt64 + 1 < -2147483648 ∨ 2147483647 < v.toInt64 + 1 := by
      rw [m_lim2] at q
      rw [Int64.lt_iff_toInt_lt, Int64.lt_iff_toInt_lt, w_min64, w_max64, m_tp]; omega
    rw [if_pos h, if_pos h, if_pos q, if_pos q]
    exact ⟨rfl, rfl⟩
  · have h : ¬ (v.toInt64 + 1 < -2147483648 ∨ 2147483647 < v.toInt64 + 1) := by
      have q2 := q
      rw [m_lim2] at q2
      rw [Int64.lt_iff_toInt_lt, Int64.lt_iff_toInt_lt, w_min64, w_max64, m_tp]; omega
    have e : (v.toInt64 + 1).toInt32 = v + 1 := by
      have q2 := q
      rw [m_lim2] at q2
      exact Int32.toInt_inj.mp (by rw [w_toInt32 (by rw [m_tp]; omega) (by rw [m_tp]; omega), m_tp, m_t32p q])
    rw [if_neg h, if_neg h, if_neg q, if_neg q, e]
    exact ⟨rfl, rfl⟩
theorem sAdd_comm (S : Int32 → Bool) (v w : Int32) : sAdd (sAdd S v) w = sAdd (sAdd S w) v := by
  funext x
  simp only [sAdd]
  cases S x <;> simp [Bool.or_comm]
theorem sCnt_add {S : Int32 → Bool} {v w : Int32} (h : w ≠ v) : sCnt (sAdd S v) w = sCnt S w := by
  unfold sCnt sAdd
  simp [h]
theorem m_arS (S : Int32 → Bool) (v : Int32) : sM2 S v = sA2 S v := by
  unfold sM2 sM1 sA2
  rw [(m_v0 _ v).1, (m_vm S v).1]
  split
  · rfl
  · exact sAdd_comm _ _ _
theorem m_arS3 (S : Int32 → Bool) (v : Int32) : sM3 S v = sA3 S v := by
  unfold sM3 sA3
  rw [(m_vp _ v).1, m_arS]
theorem m_arC (S : Int32 → Bool) (v : Int32) : mC S (v.toInt64 - 1) + mC (sM1 S v) v.toInt64 + mC (sM2 S v) (v.toInt64 + 1) = cA3 S v := by
  unfold cA3
  rw [(m_vp _ v).2, m_arS, (m_v0 _ v).2, (m_vm S v).2]
  unfold sM1
  rw [(m_vm S v).1]
  by_cases q : v ≤ -2147483648
  · rw [if_pos q, if_pos q, if_pos q]; omega
  · rw [if_neg q, if_neg q, if_neg q]
    have h3 := m_t32m q
    rw [sCnt_add (w := v) (v := v - 1) (fun e => by rw [← e] at h3; omega), sCnt_add (w := v - 1) (v := v) (fun e => by rw [e] at h3; omega)]
    omega
abbrev wsX3_around : List Cond := ws_ yX3_around cX3_around 4 (some .int)
set_option maxHeartbeats 4000000 in
set_option maxRecDepth 100000 in
theorem met_X3_around (l : Launch) (D : va_G) (hM hB : Nat) (d : ClassId) (b : Nat → Int32) (n k : Nat) (lo hi : Int32) (sz : Nat) (v : Int32) {S : Int32 → Bool} (hok : M_ok S n b) (hk6 : k ≤ 60) (hnk : n ≤ 7 + 3 * k) : rr_CI l D yX3_around wsX3_around ({ frames := 1, cells := 0, slots := 0, locals := 23 }) [.ref hM, .int v] [(d, .int)] [(hM, .inr (3, [.ref hB, .int (nI n), .int (nI k), .int lo, .int hi])), (hB, .inl (d, 187, .inl b))] sz (fun (r : Int32) (u : Nat → Int32) => M_ok (arS k S v) (arN k S v n) u ∧ r = arR k (arN k S v n)) (fun _ => [(d, .int)]) (fun u => [(hM, .inr (3, [.ref hB, .int (nI (arN k S v n)), .int (nI (arK k)), .int lo, .int hi])), (hB, .inl (d, 187, .inl u))]) 0 0 := by
  have hm1 := mC_le S (v.toInt64 - 1)
  have hm2 := mC_le (sM1 S v) v.toInt64
  have hm3 := mC_le (sM2 S v) (v.toInt64 + 1)
  refine Met.ofW (cc := cX3_around) (maxL := 4) (ret := (some .int)) (by decide) rfl ?_
  intro p e s m args below meth c s₁ B hml hv
  obtain ⟨rfl, hsz, hP, hK, hD0⟩ := hv
  have hx := B.exec
  have hb := B.bytes
  have hr := B.returns
  have hts := atoms_spec (ws := wsX3_around) B.pre
  have hts : ∀ w ∈ lw_all, w.before _ s = true := fun w h => hts w (List.mem_cons_of_mem _ h)
  have hown : s.vm.findClass RX3 = some m.cls := findClass_of_methodNamed B.named
  have hlocks := B.notSynchronized
  subst hsz
  have hD := hD0.self (sz := s.heap.size)
  generalize hAe : va_A [(hM, .inr (3, [.ref hB, .int (nI n), .int (nI k), .int lo, .int hi])), (hB, .inl (d, 187, .inl b))] s.heap.size = A at hD ⊢
  have hA : ∀ q : Nat, s.heap.size ≤ q → A q := fun q h => by rw [← hAe]; exact Or.inr h
  have hS : va_S A s.heap s.heap [] := va_S.rf
  have hP : va_P D vwCl [(hM, .inr (3, [.ref hB, .int (nI n), .int (nI k), .int lo, .int hi])), (hB, .inl (d, 187, .inl b))] s.heap := hP
  have hK : va_K D vwCl [(d, .int)] s := hK
  have hl := lv_entry ([.ref hM, .int v]) (n := 4) (Nat.le_of_ble_eq_true rfl)
  rw [lg_entry_eq]
  generalize (lg_sl ([.ref hM, .int v]) ++ List.replicate (4 - (lg_sl ([.ref hM, .int v])).length) Slot.unset).toArray = ls at hl ⊢
  have hl : lv_has ls 4 [(0, .ref hM), (1, .int v)] := hl
  refine lv_aload_n hx hb dX3_around_0 rfl (lv_at hl 0 rfl) ?_
  refine va_get (D := D) (ci := 3) (v := .int (nI k)) (C := RX3) (T := TX3) (N := 5) hx hb hts in_X3 hown hK hP 0 rfl rfl 2 (by decide) (hts _ q231) (fun _ h9 => h9) rfl dX3_around_1 ?_
  refine lv_bipush (v := 60) hx hb dX3_around_4 (by decide) ?_
  refine rr_reti (y := (nI 60)) (rfl) ?_
  refine nn_ne (tgt := 11) hx hb dX3_around_6 (by decide) (by omega) (by omega) (fun c_6 => ?_) (fun c_6 => ?_)
  · refine lv_aload_n hx hb dX3_around_11 rfl (lv_at hl 0 rfl) ?_
    refine lv_dup hx hb dX3_around_12 rfl ?_
    refine va_get (D := D) (ci := 3) (v := .int (nI k)) (C := RX3) (T := TX3) (N := 5) hx hb hts in_X3 hown hK hP 0 rfl rfl 2 (by decide) (hts _ q231) (fun _ h9 => h9) rfl dX3_around_13 ?_
    refine lv_iconst (v := 1) hx hb dX3_around_16 (by decide) ?_
    refine lv_iadd hx hb dX3_around_17 ?_
    refine rr_reti (y := (nI (k + 1))) (nI_1 _) ?_
    refine va_put (D := D) (ci := 3) (v := .int (nI (k + 1))) (ty := .int) (C := RX3) (T := TX3) (N := 5) hx hb hts in_X3 tyX3 tyX3_ok nmX3 hown hK hP hD hS 0 rfl rfl 2 (by decide) (hts _ q231) (fun _ h9 => h9) rfl (by decide +kernel) rfl rfl (Nat.le_of_ble_eq_true rfl) dX3_around_18 (fun H locs hP hD hS => ?_)
    have hP : va_P D vwCl [(hM, .inr (3, [.ref hB, .int (nI n), .int (nI (k + 1)), .int lo, .int hi])), (hB, .inl (d, 187, .inl b))] H := hP
    have hD : va_D A [(hM, .inr (3, [.ref hB, .int (nI n), .int (nI (k + 1)), .int lo, .int hi])), (hB, .inl (d, 187, .inl b))] := hD
    refine lv_iload_n hx hb dX3_around_21 rfl (lv_at hl 1 rfl) ?_
    refine lv_i2l hx hb dX3_around_22 rfl ?_
    refine lv_lconst (v := 1) hx hb dX3_around_23 (by decide) ?_
    refine lv_lsub hx hb dX3_around_24 ?_
    refine lv_lstore_n (lv' := [(2, .long (v.toInt64 - 1)), (0, .ref hM), (1, .int v)]) hx hb dX3_around_25 rfl hl (by decide) rfl (fun ls hl => ?_)
    refine lv_lload_n hx hb dX3_around_26 rfl (lv_at hl 0 rfl) ?_
    refine lv_iload_n hx hb dX3_around_27 rfl (lv_at hl 2 rfl) ?_
    refine lv_i2l hx hb dX3_around_28 rfl ?_
    refine lv_lconst (v := 1) hx hb dX3_around_29 (by decide) ?_
    refine lv_ladd hx hb dX3_around_30 ?_
    refine lc_gt (tgt := 47) hx hb dX3_around_31 dX3_around_32 (by decide) (fun c_31 => absurd c_31 (m_l0 v)) (fun c_31 => ?_)
    refine lv_aload_n hx hb dX3_around_35 rfl (lv_at hl 1 rfl) ?_
    refine lv_lload_n hx hb dX3_around_36 rfl (lv_at hl 0 rfl) ?_
    refine rr_callv (wc := [(hM, .inr (3, [.ref hB, .int (nI n), .int (nI (k + 1)), .int lo, .int hi])), (hB, .inl (d, 187, .inl b))]) (wr := []) (va_runV (As := [.long (v.toInt64 - 1)]) (rest := []) ⟨hx, hb, hml, hown, hts⟩ (met_X3_add l D hM hB d b n (nI (k + 1)) lo hi H.size (v.toInt64 - 1) (S := S) (S2 := (sM1 S v)) (n2 := (n + mC S (v.toInt64 - 1))) hok (by omega) rfl rfl) (cwV 1 hts (lw_V q222 q224 qs8 q22 q225) rfl rfl rfl (by decide +kernel) ⟨Nat.le_of_ble_eq_true rfl, Nat.le_of_ble_eq_true rfl⟩) ⟨rr_blind, va_recv hK hP (ci := 3) (q0 := 0) rfl rfl, rr_pre (hP.sub (ws' := [(hM, .inr (3, [.ref hB, .int (nI n), .int (nI (k + 1)), .int lo, .int hi])), (hB, .inl (d, 187, .inl b))]) [0, 1] rfl) (hK.sub (tys' := [(d, .int)]) [0] rfl) (hD.sub (ws' := [(hM, .inr (3, [.ref hB, .int (nI n), .int (nI (k + 1)), .int lo, .int hi])), (hB, .inl (d, 187, .inl b))]) [0, 1] (by decide) rfl)⟩ rfl rfl hl.1 rfl (lv_room (Nat.le_of_ble_eq_true rfl)) dX3_around_37 ⟨Nat.le_of_ble_eq_true rfl, Nat.le_of_ble_eq_true rfl⟩) hK hP hD hS hA [0, 1] [] rfl rfl (by decide) (by decide) (fun u_119 H locs hok1 hP hD hK hS => ?_)
    obtain ⟨b1, rfl⟩ : ∃ z, z = u_119 := ⟨_, rfl⟩
    have hP : va_P D vwCl [(hM, .inr (3, [.ref hB, .int (nI (n + mC S (v.toInt64 - 1))), .int (nI (k + 1)), .int lo, .int hi])), (hB, .inl (d, 187, .inl b1))] H := hP
    have hD : va_D A [(hM, .inr (3, [.ref hB, .int (nI (n + mC S (v.toInt64 - 1))), .int (nI (k + 1)), .int lo, .int hi])), (hB, .inl (d, 187, .inl b1))] := hD
    have hK : va_K D vwCl [(d, .int)] s := hK.sub (tys' := [(d, .int)]) [0] rfl
    have hok1 : M_ok (sM1 S v) (n + mC S (v.toInt64 - 1)) b1 := hok1
    refine lv_lload_n hx hb dX3_around_40 rfl (lv_at hl 0 rfl) ?_
    refine lv_lconst (v := 1) hx hb dX3_around_41 (by decide) ?_
    refine lv_ladd hx hb dX3_around_42 ?_
    refine rr_retl (y := v.toInt64) (m_ar1 _) ?_
    refine lv_lstore_n (lv' := [(2, .long v.toInt64), (0, .ref hM), (1, .int v)]) hx hb dX3_around_43 rfl hl (by decide) rfl (fun ls hl => ?_)
    refine lv_goto (tgt := 26) hx hb dX3_around_44 (by decide) ?_
    refine lv_lload_n hx hb dX3_around_26 rfl (lv_at hl 0 rfl) ?_
    refine lv_iload_n hx hb dX3_around_27 rfl (lv_at hl 2 rfl) ?_
    refine lv_i2l hx hb dX3_around_28 rfl ?_
    refine lv_lconst (v := 1) hx hb dX3_around_29 (by decide) ?_
    refine lv_ladd hx hb dX3_around_30 ?_
    refine lc_gt (tgt := 47) hx hb dX3_around_31 dX3_around_32 (by decide) (fun c_31 => absurd c_31 (m_l1 v)) (fun c_31 => ?_)
    refine lv_aload_n hx hb dX3_around_35 rfl (lv_at hl 1 rfl) ?_
    refine lv_lload_n hx hb dX3_around_36 rfl (lv_at hl 0 rfl) ?_
    refine rr_callv (wc := [(hM, .inr (3, [.ref hB, .int (nI (n + mC S (v.toInt64 - 1))), .int (nI (k + 1)), .int lo, .int hi])), (hB, .inl (d, 187, .inl b1))]) (wr := []) (va_runV (As := [.long v.toInt64]) (rest := []) ⟨hx, hb, hml, hown, hts⟩ (met_X3_add l D hM hB d b1 (n + mC S (v.toInt64 - 1)) (nI (k + 1)) lo hi H.size v.toInt64 (S := (sM1 S v)) (S2 := (sM2 S v)) (n2 := (n + mC S (v.toInt64 - 1) + mC (sM1 S v) v.toInt64)) hok1 (by omega) rfl rfl) (cwV 1 hts (lw_V q222 q224 qs8 q22 q225) rfl rfl rfl (by decide +kernel) ⟨Nat.le_of_ble_eq_true rfl, Nat.le_of_ble_eq_true rfl⟩) ⟨rr_blind, va_recv hK hP (ci := 3) (q0 := 0) rfl rfl, rr_pre (hP.sub (ws' := [(hM, .inr (3, [.ref hB, .int (nI (n + mC S (v.toInt64 - 1))), .int (nI (k + 1)), .int lo, .int hi])), (hB, .inl (d, 187, .inl b1))]) [0, 1] rfl) (hK.sub (tys' := [(d, .int)]) [0] rfl) (hD.sub (ws' := [(hM, .inr (3, [.ref hB, .int (nI (n + mC S (v.toInt64 - 1))), .int (nI (k + 1)), .int lo, .int hi])), (hB, .inl (d, 187, .inl b1))]) [0, 1] (by decide) rfl)⟩ rfl rfl hl.1 rfl (lv_room (Nat.le_of_ble_eq_true rfl)) dX3_around_37 ⟨Nat.le_of_ble_eq_true rfl, Nat.le_of_ble_eq_true rfl⟩) hK hP hD hS hA [0, 1] [] rfl rfl (by decide) (by decide) (fun u_120 H locs hok2 hP hD hK hS => ?_)
    obtain ⟨b2, rfl⟩ : ∃ z, z = u_120 := ⟨_, rfl⟩
    have hP : va_P D vwCl [(hM, .inr (3, [.ref hB, .int (nI (n + mC S (v.toInt64 - 1) + mC (sM1 S v) v.toInt64)), .int (nI (k + 1)), .int lo, .int hi])), (hB, .inl (d, 187, .inl b2))] H := hP
    have hD : va_D A [(hM, .inr (3, [.ref hB, .int (nI (n + mC S (v.toInt64 - 1) + mC (sM1 S v) v.toInt64)), .int (nI (k + 1)), .int lo, .int hi])), (hB, .inl (d, 187, .inl b2))] := hD
    have hK : va_K D vwCl [(d, .int)] s := hK.sub (tys' := [(d, .int)]) [0] rfl
    have hok2 : M_ok (sM2 S v) (n + mC S (v.toInt64 - 1) + mC (sM1 S v) v.toInt64) b2 := hok2
    refine lv_lload_n hx hb dX3_around_40 rfl (lv_at hl 0 rfl) ?_
    refine lv_lconst (v := 1) hx hb dX3_around_41 (by decide) ?_
    refine lv_ladd hx hb dX3_around_42 ?_
    refine lv_lstore_n (lv' := [(2, .long (v.toInt64 + 1)), (0, .ref hM), (1, .int v)]) hx hb dX3_around_43 rfl hl (by decide) rfl (fun ls hl => ?_)
    refine lv_goto (tgt := 26) hx hb dX3_around_44 (by decide) ?_
    refine lv_lload_n hx hb dX3_around_26 rfl (lv_at hl 0 rfl) ?_
    refine lv_iload_n hx hb dX3_around_27 rfl (lv_at hl 2 rfl) ?_
    refine lv_i2l hx hb dX3_around_28 rfl ?_
    refine lv_lconst (v := 1) hx hb dX3_around_29 (by decide) ?_
    refine lv_ladd hx hb dX3_around_30 ?_
    refine lc_gt (tgt := 47) hx hb dX3_around_31 dX3_around_32 (by decide) (fun c_31 => absurd c_31 (m_l2 v)) (fun c_31 => ?_)
    refine lv_aload_n hx hb dX3_around_35 rfl (lv_at hl 1 rfl) ?_
    refine lv_lload_n hx hb dX3_around_36 rfl (lv_at hl 0 rfl) ?_
    refine rr_callv (wc := [(hM, .inr (3, [.ref hB, .int (nI (n + mC S (v.toInt64 - 1) + mC (sM1 S v) v.toInt64)), .int (nI (k + 1)), .int lo, .int hi])), (hB, .inl (d, 187, .inl b2))]) (wr := []) (va_runV (As := [.long (v.toInt64 + 1)]) (rest := []) ⟨hx, hb, hml, hown, hts⟩ (met_X3_add l D hM hB d b2 (n + mC S (v.toInt64 - 1) + mC (sM1 S v) v.toInt64) (nI (k + 1)) lo hi H.size (v.toInt64 + 1) (S := (sM2 S v)) (S2 := (sM3 S v)) (n2 := (n + mC S (v.toInt64 - 1) + mC (sM1 S v) v.toInt64 + mC (sM2 S v) (v.toInt64 + 1))) hok2 (by omega) rfl rfl) (cwV 1 hts (lw_V q222 q224 qs8 q22 q225) rfl rfl rfl (by decide +kernel) ⟨Nat.le_of_ble_eq_true rfl, Nat.le_of_ble_eq_true rfl⟩) ⟨rr_blind, va_recv hK hP (ci := 3) (q0 := 0) rfl rfl, rr_pre (hP.sub (ws' := [(hM, .inr (3, [.ref hB, .int (nI (n + mC S (v.toInt64 - 1) + mC (sM1 S v) v.toInt64)), .int (nI (k + 1)), .int lo, .int hi])), (hB, .inl (d, 187, .inl b2))]) [0, 1] rfl) (hK.sub (tys' := [(d, .int)]) [0] rfl) (hD.sub (ws' := [(hM, .inr (3, [.ref hB, .int (nI (n + mC S (v.toInt64 - 1) + mC (sM1 S v) v.toInt64)), .int (nI (k + 1)), .int lo, .int hi])), (hB, .inl (d, 187, .inl b2))]) [0, 1] (by decide) rfl)⟩ rfl rfl hl.1 rfl (lv_room (Nat.le_of_ble_eq_true rfl)) dX3_around_37 ⟨Nat.le_of_ble_eq_true rfl, Nat.le_of_ble_eq_true rfl⟩) hK hP hD hS hA [0, 1] [] rfl rfl (by decide) (by decide) (fun u_121 H locs hok3 hP hD hK hS => ?_)
    obtain ⟨b3, rfl⟩ : ∃ z, z = u_121 := ⟨_, rfl⟩
    have hP : va_P D vwCl [(hM, .inr (3, [.ref hB, .int (nI (n + mC S (v.toInt64 - 1) + mC (sM1 S v) v.toInt64 + mC (sM2 S v) (v.toInt64 + 1))), .int (nI (k + 1)), .int lo, .int hi])), (hB, .inl (d, 187, .inl b3))] H := hP
    have hD : va_D A [(hM, .inr (3, [.ref hB, .int (nI (n + mC S (v.toInt64 - 1) + mC (sM1 S v) v.toInt64 + mC (sM2 S v) (v.toInt64 + 1))), .int (nI (k + 1)), .int lo, .int hi])), (hB, .inl (d, 187, .inl b3))] := hD
    have hK : va_K D vwCl [(d, .int)] s := hK.sub (tys' := [(d, .int)]) [0] rfl
    have hok3 : M_ok (sM3 S v) (n + mC S (v.toInt64 - 1) + mC (sM1 S v) v.toInt64 + mC (sM2 S v) (v.toInt64 + 1)) b3 := hok3
    refine lv_lload_n hx hb dX3_around_40 rfl (lv_at hl 0 rfl) ?_
    refine lv_lconst (v := 1) hx hb dX3_around_41 (by decide) ?_
    refine lv_ladd hx hb dX3_around_42 ?_
    refine lv_lstore_n (lv' := [(2, .long ((v.toInt64 + 1) + 1)), (0, .ref hM), (1, .int v)]) hx hb dX3_around_43 rfl hl (by decide) rfl (fun ls hl => ?_)
    refine lv_goto (tgt := 26) hx hb dX3_around_44 (by decide) ?_
    refine lv_lload_n hx hb dX3_around_26 rfl (lv_at hl 0 rfl) ?_
    refine lv_iload_n hx hb dX3_around_27 rfl (lv_at hl 2 rfl) ?_
    refine lv_i2l hx hb dX3_around_28 rfl ?_
    refine lv_lconst (v := 1) hx hb dX3_around_29 (by decide) ?_
    refine lv_ladd hx hb dX3_around_30 ?_
    refine lc_gt (tgt := 47) hx hb dX3_around_31 dX3_around_32 (by decide) (fun c_31 => ?_) (fun c_31 => absurd (m_l3 v) c_31)
    refine lv_aload_n hx hb dX3_around_47 rfl (lv_at hl 1 rfl) ?_
    refine va_get (D := D) (ci := 3) (v := .int (nI (n + mC S (v.toInt64 - 1) + mC (sM1 S v) v.toInt64 + mC (sM2 S v) (v.toInt64 + 1)))) (C := RX3) (T := TX3) (N := 5) hx hb hts in_X3 hown hK hP 0 rfl rfl 1 (by decide) (hts _ q230) (fun _ h9 => h9) rfl dX3_around_48 ?_
    have e1 : arS k S v = sM3 S v := by unfold arS; rw [if_neg c_6, m_arS3]
    have e2 : arN k S v n = n + mC S (v.toInt64 - 1) + mC (sM1 S v) v.toInt64 + mC (sM2 S v) (v.toInt64 + 1) := by unfold arN; rw [if_neg c_6, ← m_arC]; omega
    have e3 : arK k = k + 1 := by unfold arK; rw [if_neg c_6]
    exact W.iret hx hb hr (rr_endi b3 ⟨by rw [e1, e2]; exact hok3, by unfold arR; rw [if_neg c_6, e2]⟩ (by rw [e2, e3]; exact hP) hK (by rw [e2, e3]; exact hD) hS) hS.2.2 dX3_around_51
  · refine lv_iconst (v := (-1)) hx hb dX3_around_9 (by decide) ?_
    have e1 : arS k S v = S := by unfold arS; rw [if_pos c_6]
    have e2 : arN k S v n = n := by unfold arN; rw [if_pos c_6]
    have e3 : arK k = k := by unfold arK; rw [if_pos c_6]
    exact W.iret hx hb hr (rr_endi b ⟨by rw [e1, e2]; exact hok, by unfold arR; rw [if_pos c_6]⟩ (by rw [e2, e3]; exact hP) hK (by rw [e2, e3]; exact hD) hS) hS.2.2 dX3_around_10
end
section
abbrev wsX3_size : List Cond := ws_ yX3_size cX3_size 1 (some .int)
set_option maxHeartbeats 4000000 in
set_option maxRecDepth 100000 in
theorem met_X3_size (l : Launch) (D : va_G) (hM hB : Nat) (d : ClassId) (b : Nat → Int32) (n : Nat) (ti lo hi : Int32) (sz : Nat) : rr_RI l D yX3_size wsX3_size ({ frames := 0, cells := 0, slots := 0, locals := 0 }) [.ref hM] [(d, .int)] [(hM, .inr (3, [.ref hB, .int (nI n), .int ti, .int lo, .int hi])), (hB, .inl (d, 187, .inl b))] sz (fun r => r = nI n) := by
  refine Met.ofW (cc := cX3_size) (maxL := 1) (ret := (some .int)) (by decide) rfl ?_
  intro p e s m args below meth c s₁ B hml hv
  obtain ⟨rfl, hsz, hP, hK⟩ := hv
  have hx := B.exec
  have hb := B.bytes
  have hr := B.returns
  have hts := atoms_spec (ws := wsX3_size) B.pre
  have hts : ∀ w ∈ lw_all, w.before _ s = true := fun w h => hts w (List.mem_cons_of_mem _ h)
  have hown : s.vm.findClass RX3 = some m.cls := findClass_of_methodNamed B.named
  have hlocks := B.notSynchronized
  subst hsz
  generalize hAe : va_A [] s.heap.size = A
  have hA : ∀ q : Nat, s.heap.size ≤ q → A q := fun q h => by rw [← hAe]; exact Or.inr h
  have hS : va_S A s.heap s.heap [] := va_S.rf
  have hP : va_P D vwCl [(hM, .inr (3, [.ref hB, .int (nI n), .int ti, .int lo, .int hi])), (hB, .inl (d, 187, .inl b))] s.heap := hP
  have hK : va_K D vwCl [(d, .int)] s := hK
  have hl := lv_entry ([.ref hM]) (n := 1) (Nat.le_of_ble_eq_true rfl)
  rw [lg_entry_eq]
  generalize (lg_sl ([.ref hM]) ++ List.replicate (1 - (lg_sl ([.ref hM])).length) Slot.unset).toArray = ls at hl ⊢
  have hl : lv_has ls 1 [(0, .ref hM)] := hl
  refine lv_aload_n hx hb dX3_size_0 rfl (lv_at hl 0 rfl) ?_
  refine va_get (D := D) (ci := 3) (v := .int (nI n)) (C := RX3) (T := TX3) (N := 5) hx hb hts in_X3 hown hK hP 0 rfl rfl 1 (by decide) (hts _ q230) (fun _ h9 => h9) rfl dX3_size_1 ?_
  exact W.iret hx hb hr (rr_endo (by exact rfl) hS) hS.2.2 dX3_size_4
abbrev wsX3_low : List Cond := ws_ yX3_low cX3_low 1 (some .int)
set_option maxHeartbeats 4000000 in
set_option maxRecDepth 100000 in
theorem met_X3_low (l : Launch) (D : va_G) (hM hB : Nat) (d : ClassId) (b : Nat → Int32) (n : Nat) (ti lo hi : Int32) (sz : Nat) : rr_RI l D yX3_low wsX3_low ({ frames := 0, cells := 0, slots := 0, locals := 0 }) [.ref hM] [(d, .int)] [(hM, .inr (3, [.ref hB, .int (nI n), .int ti, .int lo, .int hi])), (hB, .inl (d, 187, .inl b))] sz (fun r => r = lo) := by
  refine Met.ofW (cc := cX3_low) (maxL := 1) (ret := (some .int)) (by decide) rfl ?_
  intro p e s m args below meth c s₁ B hml hv
  obtain ⟨rfl, hsz, hP, hK⟩ := hv
  have hx := B.exec
  have hb := B.bytes
  have hr := B.returns
  have hts := atoms_spec (ws := wsX3_low) B.pre
  have hts : ∀ w ∈ lw_all, w.before _ s = true := fun w h => hts w (List.mem_cons_of_mem _ h)
  have hown : s.vm.findClass RX3 = some m.cls := findClass_of_methodNamed B.named
  have hlocks := B.notSynchronized
  subst hsz
  generalize hAe : va_A [] s.heap.size = A
  have hA : ∀ q : Nat, s.heap.size ≤ q → A q := fun q h => by rw [← hAe]; exact Or.inr h
  have hS : va_S A s.heap s.heap [] := va_S.rf
  have hP : va_P D vwCl [(hM, .inr (3, [.ref hB, .int (nI n), .int ti, .int lo, .int hi])), (hB, .inl (d, 187, .inl b))] s.heap := hP
  have hK : va_K D vwCl [(d, .int)] s := hK
  have hl := lv_entry ([.ref hM]) (n := 1) (Nat.le_of_ble_eq_true rfl)
  rw [lg_entry_eq]
  generalize (lg_sl ([.ref hM]) ++ List.replicate (1 - (lg_sl ([.ref hM])).length) Slot.unset).toArray = ls at hl ⊢
  have hl : lv_has ls 1 [(0, .ref hM)] := hl
  refine lv_aload_n hx hb dX3_low_0 rfl (lv_at hl 0 rfl) ?_
  refine va_get (D := D) (ci := 3) (v := .int lo) (C := RX3) (T := TX3) (N := 5) hx hb hts in_X3 hown hK hP 0 rfl rfl 3 (by decide) (hts _ q232) (fun _ h9 => h9) rfl dX3_low_1 ?_
  exact W.iret hx hb hr (rr_endo (by exact rfl) hS) hS.2.2 dX3_low_4
abbrev wsX3_high : List Cond := ws_ yX3_high cX3_high 1 (some .int)
set_option maxHeartbeats 4000000 in
set_option maxRecDepth 100000 in
theorem met_X3_high (l : Launch) (D : va_G) (hM hB : Nat) (d : ClassId) (b : Nat → Int32) (n : Nat) (ti lo hi : Int32) (sz : Nat) : rr_RI l D yX3_high wsX3_high ({ frames := 0, cells := 0, slots := 0, locals := 0 }) [.ref hM] [(d, .int)] [(hM, .inr (3, [.ref hB, .int (nI n), .int ti, .int lo, .int hi])), (hB, .inl (d, 187, .inl b))] sz (fun r => r = hi) := by
  refine Met.ofW (cc := cX3_high) (maxL := 1) (ret := (some .int)) (by decide) rfl ?_
  intro p e s m args below meth c s₁ B hml hv
  obtain ⟨rfl, hsz, hP, hK⟩ := hv
  have hx := B.exec
  have hb := B.bytes
  have hr := B.returns
  have hts := atoms_spec (ws := wsX3_high) B.pre
  have hts : ∀ w ∈ lw_all, w.before _ s = true := fun w h => hts w (List.mem_cons_of_mem _ h)
  have hown : s.vm.findClass RX3 = some m.cls := findClass_of_methodNamed B.named
  have hlocks := B.notSynchronized
  subst hsz
  generalize hAe : va_A [] s.heap.size = A
  have hA : ∀ q : Nat, s.heap.size ≤ q → A q := fun q h => by rw [← hAe]; exact Or.inr h
  have hS : va_S A s.heap s.heap [] := va_S.rf
  have hP : va_P D vwCl [(hM, .inr (3, [.ref hB, .int (nI n), .int ti, .int lo, .int hi])), (hB, .inl (d, 187, .inl b))] s.heap := hP
  have hK : va_K D vwCl [(d, .int)] s := hK
  have hl := lv_entry ([.ref hM]) (n := 1) (Nat.le_of_ble_eq_true rfl)
  rw [lg_entry_eq]
  generalize (lg_sl ([.ref hM]) ++ List.replicate (1 - (lg_sl ([.ref hM])).length) Slot.unset).toArray = ls at hl ⊢
  have hl : lv_has ls 1 [(0, .ref hM)] := hl
  refine lv_aload_n hx hb dX3_high_0 rfl (lv_at hl 0 rfl) ?_
  refine va_get (D := D) (ci := 3) (v := .int hi) (C := RX3) (T := TX3) (N := 5) hx hb hts in_X3 hown hK hP 0 rfl rfl 4 (by decide) (hts _ q233) (fun _ h9 => h9) rfl dX3_high_1 ?_
  exact W.iret hx hb hr (rr_endo (by exact rfl) hS) hS.2.2 dX3_high_4
abbrev wsX3_down : List Cond := ws_ yX3_down cX3_down 4 (some .int)
set_option maxHeartbeats 4000000 in
set_option maxRecDepth 100000 in
theorem X3_down_loop {p : Program} {l : Launch} {e : Env} {s : State} {m : MethodId} {args : Array Value} {below : List Frame} {meth : Method} {c : Code} {H : Heap} {locs : List Loc} {Q : State → Prop} (hx : p.tables.exec = Jvm.exec) (hb : c.code = cX3_down) (hts : ∀ w ∈ lw_all, w.before args s = true) (hown : s.vm.findClass RX3 = some m.cls) (hml : c.maxLocals = 4) {D : va_G} {hM hB n : Nat} {d : ClassId} {b : Nat → Int32} {ti lo hi v : Int32} {S : Int32 → Bool} (hok : M_ok S n b) (hn : n ≤ 187) (hK : va_K D vwCl [(d, .int)] s) (hP : va_P D vwCl [(hM, .inr (3, [.ref hB, .int (nI n), .int ti, .int lo, .int hi])), (hB, .inl (d, 187, .inl b))] H)
    (kk : ∀ (bs : Int32) (ls : Array Slot), IsDn S v.toInt bs → lv_has ls 4 [(0, .ref hM), (1, .int v), (2, .int bs)] → W p l e (headSpec wsX3_down ({ frames := 1, cells := 0, slots := 0, locals := 20 })).room s m args below meth c H locs 0 0 Q (F0 m 40 ls [])) :
    ∀ (f k : Nat) (bs : Int32) (ls : Array Slot), n - k < f → k ≤ n → S bs = true → bs.toInt ≤ v.toInt → (∀ i, i < k → (b i).toInt ≤ v.toInt → (b i).toInt ≤ bs.toInt) → lv_has ls 4 [(0, .ref hM), (1, .int v), (2, .int bs), (3, .int (nI k))] → W p l e (headSpec wsX3_down ({ frames := 1, cells := 0, slots := 0, locals := 20 })).room s m args below meth c H locs 0 0 Q (F0 m 5 ls []) := by
  intro f
  induction f with
  | zero => intro k bs ls h; omega
  | succ f ih =>
    intro k bs ls hf hk h1 h2 h3 hl
    refine lv_iload_n hx hb dX3_down_5 rfl (lv_at hl 3 rfl) ?_
    refine lv_aload_n hx hb dX3_down_6 rfl (lv_at hl 0 rfl) ?_
    refine va_get (D := D) (ci := 3) (v := .int (nI n)) (C := RX3) (T := TX3) (N := 5) hx hb hts in_X3 hown hK hP 0 rfl rfl 1 (by decide) (hts _ q230) (fun _ h9 => h9) rfl dX3_down_7 ?_
    refine nn_ge (tgt := 40) hx hb dX3_down_10 (by decide) (by omega) (by omega) (fun c_10 => ?_) (fun c_10 => ?_)
    · exact kk bs ls (M_dnE hok h1 h2 (fun i hi hz => h3 i (by omega) hz)) (lv_sub hl [0, 1, 2] rfl)
    · refine lv_aload_n hx hb dX3_down_13 rfl (lv_at hl 0 rfl) ?_
      refine va_get (D := D) (ci := 3) (v := .ref hB) (C := RX3) (T := TX3) (N := 5) hx hb hts in_X3 hown hK hP 0 rfl rfl 0 (by decide) (hts _ q229) (fun _ h9 => h9) rfl dX3_down_14 ?_
      refine lv_iload_n hx hb dX3_down_17 rfl (lv_at hl 3 rfl) ?_
      refine nn_iald hx hb hK hP 1 0 rfl rfl (by omega) (by omega) dX3_down_18 ?_
      refine lv_iload_n hx hb dX3_down_19 rfl (lv_at hl 1 rfl) ?_
      refine lv_icmp_gt (tgt := 34) hx hb dX3_down_20 (by decide) (fun c_20 => ?_) (fun c_20 => ?_)
      · refine lv_iinc (v := (nI (k + 1))) (lv' := [(3, .int (nI (k + 1))), (0, .ref hM), (1, .int v), (2, .int bs)]) hx hb dX3_down_34 hl (k := 3) rfl (nI_1 _) (by decide) rfl (fun ls hl => ?_)
        refine lv_goto (tgt := 5) hx hb dX3_down_37 (by decide) ?_
        exact ih (k + 1) bs ls (by omega) (by omega) h1 h2 (fun i hi hz => by
          by_cases e : i = k
          · subst e; rw [Int32.lt_iff_toInt_lt] at c_20; omega
          · exact h3 i (by omega) hz) (lv_sub hl [1, 2, 3, 0] rfl)
      · refine lv_iload_n hx hb dX3_down_23 rfl (lv_at hl 2 rfl) ?_
        refine lv_aload_n hx hb dX3_down_24 rfl (lv_at hl 0 rfl) ?_
        refine va_get (D := D) (ci := 3) (v := .ref hB) (C := RX3) (T := TX3) (N := 5) hx hb hts in_X3 hown hK hP 0 rfl rfl 0 (by decide) (hts _ q229) (fun _ h9 => h9) rfl dX3_down_25 ?_
        refine lv_iload_n hx hb dX3_down_28 rfl (lv_at hl 3 rfl) ?_
        refine nn_iald hx hb hK hP 1 0 rfl rfl (by omega) (by omega) dX3_down_29 ?_
        refine rr_maxI hx hb hml hl.1 hown hts q259 (Nat.le_of_ble_eq_true rfl) (Nat.le_of_ble_eq_true rfl) (Nat.le_of_ble_eq_true rfl) (Nat.le_of_ble_eq_true rfl) dX3_down_30 ?_
        refine lv_istore_n (lv' := [(2, .int (mxI bs (b k))), (0, .ref hM), (1, .int v), (3, .int (nI k))]) hx hb dX3_down_33 rfl hl (by decide) rfl (fun ls hl => ?_)
        refine lv_iinc (v := (nI (k + 1))) (lv' := [(3, .int (nI (k + 1))), (2, .int (mxI bs (b k))), (0, .ref hM), (1, .int v)]) hx hb dX3_down_34 hl (k := 3) rfl (nI_1 _) (by decide) rfl (fun ls hl => ?_)
        refine lv_goto (tgt := 5) hx hb dX3_down_37 (by decide) ?_
        have hbk : S (b k) = true := (hok _).mpr ⟨k, c_10, rfl⟩
        have hmx := mxI_dn h1 h2 hbk (by rw [Int32.lt_iff_toInt_lt] at c_20; omega)
        exact ih (k + 1) (mxI bs (b k)) ls (by omega) (by omega) hmx.1 hmx.2.1 (fun i hi hz => by
          by_cases e : i = k
          · subst e; exact hmx.2.2.2
          · have := h3 i (by omega) hz; omega) (lv_sub hl [2, 3, 1, 0] rfl)
set_option maxHeartbeats 4000000 in
set_option maxRecDepth 100000 in
theorem met_X3_down (l : Launch) (D : va_G) (hM hB : Nat) (d : ClassId) (b : Nat → Int32) (n : Nat) (ti lo hi : Int32) (sz : Nat) (v : Int32) {S : Int32 → Bool} (hok : M_ok S n b) (hn : n ≤ 187) (hmi : S (-2147483648) = true) (hma : S 2147483647 = true) : rr_RI l D yX3_down wsX3_down ({ frames := 1, cells := 0, slots := 0, locals := 20 }) [.ref hM, .int v] [(d, .int)] [(hM, .inr (3, [.ref hB, .int (nI n), .int ti, .int lo, .int hi])), (hB, .inl (d, 187, .inl b))] sz (fun r => IsDn S v.toInt r) := by
  refine Met.ofW (cc := cX3_down) (maxL := 4) (ret := (some .int)) (by decide) rfl ?_
  intro p e s m args below meth c s₁ B hml hv
  obtain ⟨rfl, hsz, hP, hK⟩ := hv
  have hx := B.exec
  have hb := B.bytes
  have hr := B.returns
  have hts := atoms_spec (ws := wsX3_down) B.pre
  have hts : ∀ w ∈ lw_all, w.before _ s = true := fun w h => hts w (List.mem_cons_of_mem _ h)
  have hown : s.vm.findClass RX3 = some m.cls := findClass_of_methodNamed B.named
  have hlocks := B.notSynchronized
  subst hsz
  generalize hAe : va_A [] s.heap.size = A
  have hA : ∀ q : Nat, s.heap.size ≤ q → A q := fun q h => by rw [← hAe]; exact Or.inr h
  have hS : va_S A s.heap s.heap [] := va_S.rf
  have hP : va_P D vwCl [(hM, .inr (3, [.ref hB, .int (nI n), .int ti, .int lo, .int hi])), (hB, .inl (d, 187, .inl b))] s.heap := hP
  have hK : va_K D vwCl [(d, .int)] s := hK
  have hl := lv_entry ([.ref hM, .int v]) (n := 4) (Nat.le_of_ble_eq_true rfl)
  rw [lg_entry_eq]
  generalize (lg_sl ([.ref hM, .int v]) ++ List.replicate (4 - (lg_sl ([.ref hM, .int v])).length) Slot.unset).toArray = ls at hl ⊢
  have hl : lv_has ls 4 [(0, .ref hM), (1, .int v)] := hl
  refine lv_ldc (v := (-2147483648)) hx hb hown (hts _ q258) dX3_down_0 ?_
  refine lv_istore_n (lv' := [(2, .int (-2147483648)), (0, .ref hM), (1, .int v)]) hx hb dX3_down_2 rfl hl (by decide) rfl (fun ls hl => ?_)
  refine lv_iconst (v := 0) hx hb dX3_down_3 (by decide) ?_
  refine rr_reti (y := (nI 0)) (rfl) ?_
  refine lv_istore_n (lv' := [(3, .int (nI 0)), (2, .int (-2147483648)), (0, .ref hM), (1, .int v)]) hx hb dX3_down_4 rfl hl (by decide) rfl (fun ls hl => ?_)
  refine X3_down_loop hx hb hts hown hml hok hn hK hP (fun bs ls hbs hl => ?_) (n + 1) 0 (-2147483648) ls (by omega) (by omega) hmi (m_ge32 v) (fun i hi => absurd hi (Nat.not_lt_zero _)) (lv_sub hl [2, 3, 1, 0] rfl)
  refine lv_iload_n hx hb dX3_down_40 rfl (lv_at hl 2 rfl) ?_
  exact W.iret hx hb hr (rr_endo hbs hS) hS.2.2 dX3_down_41
abbrev wsX3_up : List Cond := ws_ yX3_up cX3_up 4 (some .int)
set_option maxHeartbeats 4000000 in
set_option maxRecDepth 100000 in
theorem X3_up_loop {p : Program} {l : Launch} {e : Env} {s : State} {m : MethodId} {args : Array Value} {below : List Frame} {meth : Method} {c : Code} {H : Heap} {locs : List Loc} {Q : State → Prop} (hx : p.tables.exec = Jvm.exec) (hb : c.code = cX3_up) (hts : ∀ w ∈ lw_all, w.before args s = true) (hown : s.vm.findClass RX3 = some m.cls) (hml : c.maxLocals = 4) {D : va_G} {hM hB n : Nat} {d : ClassId} {b : Nat → Int32} {ti lo hi v : Int32} {S : Int32 → Bool} (hok : M_ok S n b) (hn : n ≤ 187) (hK : va_K D vwCl [(d, .int)] s) (hP : va_P D vwCl [(hM, .inr (3, [.ref hB, .int (nI n), .int ti, .int lo, .int hi])), (hB, .inl (d, 187, .inl b))] H)
    (kk : ∀ (bs : Int32) (ls : Array Slot), IsUp S v.toInt bs → lv_has ls 4 [(0, .ref hM), (1, .int v), (2, .int bs)] → W p l e (headSpec wsX3_up ({ frames := 1, cells := 0, slots := 0, locals := 20 })).room s m args below meth c H locs 0 0 Q (F0 m 40 ls [])) :
    ∀ (f k : Nat) (bs : Int32) (ls : Array Slot), n - k < f → k ≤ n → S bs = true → v.toInt ≤ bs.toInt → (∀ i, i < k → v.toInt ≤ (b i).toInt → bs.toInt ≤ (b i).toInt) → lv_has ls 4 [(0, .ref hM), (1, .int v), (2, .int bs), (3, .int (nI k))] → W p l e (headSpec wsX3_up ({ frames := 1, cells := 0, slots := 0, locals := 20 })).room s m args below meth c H locs 0 0 Q (F0 m 5 ls []) := by
  intro f
  induction f with
  | zero => intro k bs ls h; omega
  | succ f ih =>
    intro k bs ls hf hk h1 h2 h3 hl
    refine lv_iload_n hx hb dX3_up_5 rfl (lv_at hl 3 rfl) ?_
    refine lv_aload_n hx hb dX3_up_6 rfl (lv_at hl 0 rfl) ?_
    refine va_get (D := D) (ci := 3) (v := .int (nI n)) (C := RX3) (T := TX3) (N := 5) hx hb hts in_X3 hown hK hP 0 rfl rfl 1 (by decide) (hts _ q230) (fun _ h9 => h9) rfl dX3_up_7 ?_
    refine nn_ge (tgt := 40) hx hb dX3_up_10 (by decide) (by omega) (by omega) (fun c_10 => ?_) (fun c_10 => ?_)
    · exact kk bs ls (M_upE hok h1 h2 (fun i hi hz => h3 i (by omega) hz)) (lv_sub hl [0, 1, 2] rfl)
    · refine lv_aload_n hx hb dX3_up_13 rfl (lv_at hl 0 rfl) ?_
      refine va_get (D := D) (ci := 3) (v := .ref hB) (C := RX3) (T := TX3) (N := 5) hx hb hts in_X3 hown hK hP 0 rfl rfl 0 (by decide) (hts _ q229) (fun _ h9 => h9) rfl dX3_up_14 ?_
      refine lv_iload_n hx hb dX3_up_17 rfl (lv_at hl 3 rfl) ?_
      refine nn_iald hx hb hK hP 1 0 rfl rfl (by omega) (by omega) dX3_up_18 ?_
      refine lv_iload_n hx hb dX3_up_19 rfl (lv_at hl 1 rfl) ?_
      refine lv_icmp_lt (tgt := 34) hx hb dX3_up_20 (by decide) (fun c_20 => ?_) (fun c_20 => ?_)
      · refine lv_iinc (v := (nI (k + 1))) (lv' := [(3, .int (nI (k + 1))), (0, .ref hM), (1, .int v), (2, .int bs)]) hx hb dX3_up_34 hl (k := 3) rfl (nI_1 _) (by decide) rfl (fun ls hl => ?_)
        refine lv_goto (tgt := 5) hx hb dX3_up_37 (by decide) ?_
        exact ih (k + 1) bs ls (by omega) (by omega) h1 h2 (fun i hi hz => by
          by_cases e : i = k
          · subst e; rw [Int32.lt_iff_toInt_lt] at c_20; omega
          · exact h3 i (by omega) hz) (lv_sub hl [1, 2, 3, 0] rfl)
      · refine lv_iload_n hx hb dX3_up_23 rfl (lv_at hl 2 rfl) ?_
        refine lv_aload_n hx hb dX3_up_24 rfl (lv_at hl 0 rfl) ?_
        refine va_get (D := D) (ci := 3) (v := .ref hB) (C := RX3) (T := TX3) (N := 5) hx hb hts in_X3 hown hK hP 0 rfl rfl 0 (by decide) (hts _ q229) (fun _ h9 => h9) rfl dX3_up_25 ?_
        refine lv_iload_n hx hb dX3_up_28 rfl (lv_at hl 3 rfl) ?_
        refine nn_iald hx hb hK hP 1 0 rfl rfl (by omega) (by omega) dX3_up_29 ?_
        refine rr_minI hx hb hml hl.1 hown hts q267 (Nat.le_of_ble_eq_true rfl) (Nat.le_of_ble_eq_true rfl) (Nat.le_of_ble_eq_true rfl) (Nat.le_of_ble_eq_true rfl) dX3_up_30 ?_
        refine lv_istore_n (lv' := [(2, .int (mnI bs (b k))), (0, .ref hM), (1, .int v), (3, .int (nI k))]) hx hb dX3_up_33 rfl hl (by decide) rfl (fun ls hl => ?_)
        refine lv_iinc (v := (nI (k + 1))) (lv' := [(3, .int (nI (k + 1))), (2, .int (mnI bs (b k))), (0, .ref hM), (1, .int v)]) hx hb dX3_up_34 hl (k := 3) rfl (nI_1 _) (by decide) rfl (fun ls hl => ?_)
        refine lv_goto (tgt := 5) hx hb dX3_up_37 (by decide) ?_
        have hbk : S (b k) = true := (hok _).mpr ⟨k, c_10, rfl⟩
        have hmx := mnI_up h1 h2 hbk (by rw [Int32.lt_iff_toInt_lt] at c_20; omega)
        exact ih (k + 1) (mnI bs (b k)) ls (by omega) (by omega) hmx.1 hmx.2.1 (fun i hi hz => by
          by_cases e : i = k
          · subst e; exact hmx.2.2.2
          · have := h3 i (by omega) hz; omega) (lv_sub hl [2, 3, 1, 0] rfl)
set_option maxHeartbeats 4000000 in
set_option maxRecDepth 100000 in
theorem met_X3_up (l : Launch) (D : va_G) (hM hB : Nat) (d : ClassId) (b : Nat → Int32) (n : Nat) (ti lo hi : Int32) (sz : Nat) (v : Int32) {S : Int32 → Bool} (hok : M_ok S n b) (hn : n ≤ 187) (hmi : S (-2147483648) = true) (hma : S 2147483647 = true) : rr_RI l D yX3_up wsX3_up ({ frames := 1, cells := 0, slots := 0, locals := 20 }) [.ref hM, .int v] [(d, .int)] [(hM, .inr (3, [.ref hB, .int (nI n), .int ti, .int lo, .int hi])), (hB, .inl (d, 187, .inl b))] sz (fun r => IsUp S v.toInt r) := by
  refine Met.ofW (cc := cX3_up) (maxL := 4) (ret := (some .int)) (by decide) rfl ?_
  intro p e s m args below meth c s₁ B hml hv
  obtain ⟨rfl, hsz, hP, hK⟩ := hv
  have hx := B.exec
  have hb := B.bytes
  have hr := B.returns
  have hts := atoms_spec (ws := wsX3_up) B.pre
  have hts : ∀ w ∈ lw_all, w.before _ s = true := fun w h => hts w (List.mem_cons_of_mem _ h)
  have hown : s.vm.findClass RX3 = some m.cls := findClass_of_methodNamed B.named
  have hlocks := B.notSynchronized
  subst hsz
  generalize hAe : va_A [] s.heap.size = A
  have hA : ∀ q : Nat, s.heap.size ≤ q → A q := fun q h => by rw [← hAe]; exact Or.inr h
  have hS : va_S A s.heap s.heap [] := va_S.rf
  have hP : va_P D vwCl [(hM, .inr (3, [.ref hB, .int (nI n), .int ti, .int lo, .int hi])), (hB, .inl (d, 187, .inl b))] s.heap := hP
  have hK : va_K D vwCl [(d, .int)] s := hK
  have hl := lv_entry ([.ref hM, .int v]) (n := 4) (Nat.le_of_ble_eq_true rfl)
  rw [lg_entry_eq]
  generalize (lg_sl ([.ref hM, .int v]) ++ List.replicate (4 - (lg_sl ([.ref hM, .int v])).length) Slot.unset).toArray = ls at hl ⊢
  have hl : lv_has ls 4 [(0, .ref hM), (1, .int v)] := hl
  refine lv_ldc (v := 2147483647) hx hb hown (hts _ q266) dX3_up_0 ?_
  refine lv_istore_n (lv' := [(2, .int 2147483647), (0, .ref hM), (1, .int v)]) hx hb dX3_up_2 rfl hl (by decide) rfl (fun ls hl => ?_)
  refine lv_iconst (v := 0) hx hb dX3_up_3 (by decide) ?_
  refine rr_reti (y := (nI 0)) (rfl) ?_
  refine lv_istore_n (lv' := [(3, .int (nI 0)), (2, .int 2147483647), (0, .ref hM), (1, .int v)]) hx hb dX3_up_4 rfl hl (by decide) rfl (fun ls hl => ?_)
  refine X3_up_loop hx hb hts hown hml hok hn hK hP (fun bs ls hbs hl => ?_) (n + 1) 0 2147483647 ls (by omega) (by omega) hma (m_le32 v) (fun i hi => absurd hi (Nat.not_lt_zero _)) (lv_sub hl [2, 3, 1, 0] rfl)
  refine lv_iload_n hx hb dX3_up_40 rfl (lv_at hl 2 rfl) ?_
  exact W.iret hx hb hr (rr_endo hbs hS) hS.2.2 dX3_up_41
abbrev wsX3_isRange : List Cond := ws_ yX3_isRange cX3_isRange 3 (some .boolean)
set_option maxHeartbeats 4000000 in
set_option maxRecDepth 100000 in
theorem met_X3_isRange (l : Launch) (D : va_G) (hM hB : Nat) (d : ClassId) (b : Nat → Int32) (n : Nat) (ti lo hi : Int32) (sz : Nat) (l0 h0 : Int32) {S : Int32 → Bool} (hok : M_ok S n b) (hn : n ≤ 187) (hmi : S (-2147483648) = true) (hma : S 2147483647 = true) : rr_RI l D yX3_isRange wsX3_isRange ({ frames := 2, cells := 0, slots := 0, locals := 43 }) [.ref hM, .int l0, .int h0] [(d, .int)] [(hM, .inr (3, [.ref hB, .int (nI n), .int ti, .int lo, .int hi])), (hB, .inl (d, 187, .inl b))] sz (fun r => r = if rng S l0 h0 = true then 1 else 0) := by
  refine Met.ofW (cc := cX3_isRange) (maxL := 3) (ret := (some .boolean)) (by decide) rfl ?_
  intro p e s m args below meth c s₁ B hml hv
  obtain ⟨rfl, hsz, hP, hK⟩ := hv
  have hx := B.exec
  have hb := B.bytes
  have hr := B.returns
  have hts := atoms_spec (ws := wsX3_isRange) B.pre
  have hts : ∀ w ∈ lw_all, w.before _ s = true := fun w h => hts w (List.mem_cons_of_mem _ h)
  have hown : s.vm.findClass RX3 = some m.cls := findClass_of_methodNamed B.named
  have hlocks := B.notSynchronized
  subst hsz
  generalize hAe : va_A [] s.heap.size = A
  have hA : ∀ q : Nat, s.heap.size ≤ q → A q := fun q h => by rw [← hAe]; exact Or.inr h
  have hS : va_S A s.heap s.heap [] := va_S.rf
  have hP : va_P D vwCl [(hM, .inr (3, [.ref hB, .int (nI n), .int ti, .int lo, .int hi])), (hB, .inl (d, 187, .inl b))] s.heap := hP
  have hK : va_K D vwCl [(d, .int)] s := hK
  have hl := lv_entry ([.ref hM, .int l0, .int h0]) (n := 3) (Nat.le_of_ble_eq_true rfl)
  rw [lg_entry_eq]
  generalize (lg_sl ([.ref hM, .int l0, .int h0]) ++ List.replicate (3 - (lg_sl ([.ref hM, .int l0, .int h0])).length) Slot.unset).toArray = ls at hl ⊢
  have hl : lv_has ls 3 [(0, .ref hM), (1, .int l0), (2, .int h0)] := hl
  refine lv_iload_n hx hb dX3_isRange_0 rfl (lv_at hl 1 rfl) ?_
  refine lv_iload_n hx hb dX3_isRange_1 rfl (lv_at hl 2 rfl) ?_
  refine lv_icmp_gt (tgt := 27) hx hb dX3_isRange_2 (by decide) (fun c_2 => ?_) (fun c_2 => ?_)
  · refine lv_iconst (v := 0) hx hb dX3_isRange_27 (by decide) ?_
    exact W.zret (v := 0) hx hb hr rfl (rr_endo (by rw [if_neg (rng_no c_2)]) hS) hS.2.2 dX3_isRange_28
  · refine lv_aload_n hx hb dX3_isRange_5 rfl (lv_at hl 0 rfl) ?_
    refine lv_iload_n hx hb dX3_isRange_6 rfl (lv_at hl 1 rfl) ?_
    refine rr_callo (va_runV (As := [.int l0]) (rest := []) ⟨hx, hb, hml, hown, hts⟩ (met_X3_down l D hM hB d b n ti lo hi s.heap.size l0 hok hn hmi hma) (cwV 1 hts (lw_V q276 q255 q256 q22 q257) rfl rfl rfl (by decide +kernel) ⟨Nat.le_of_ble_eq_true rfl, Nat.le_of_ble_eq_true rfl⟩) ⟨rr_blindO, va_recv hK hP (ci := 3) (q0 := 0) rfl rfl, rr_preO (hP.sub (ws' := [(hM, .inr (3, [.ref hB, .int (nI n), .int ti, .int lo, .int hi])), (hB, .inl (d, 187, .inl b))]) [0, 1] rfl) (hK.sub (tys' := [(d, .int)]) [0] rfl)⟩ rfl rfl hl.1 rfl (lv_room (Nat.le_of_ble_eq_true rfl)) dX3_isRange_7 ⟨Nat.le_of_ble_eq_true rfl, Nat.le_of_ble_eq_true rfl⟩) hP hS hA (fun r_down H locs hw_down hP hS => ?_)
    refine lv_iload_n hx hb dX3_isRange_10 rfl (lv_at hl 1 rfl) ?_
    refine lv_icmp_ne (tgt := 27) hx hb dX3_isRange_11 (by decide) (fun c_11 => ?_) (fun c_11 => ?_)
    · refine lv_iconst (v := 0) hx hb dX3_isRange_27 (by decide) ?_
      exact W.zret (v := 0) hx hb hr rfl (rr_endo (by rw [if_neg (fun q => c_11 (hw_down.self.mpr (rng_iff.mp q).2.1))]) hS) hS.2.2 dX3_isRange_28
    · refine lv_aload_n hx hb dX3_isRange_14 rfl (lv_at hl 0 rfl) ?_
      refine lv_iload_n hx hb dX3_isRange_15 rfl (lv_at hl 2 rfl) ?_
      refine rr_callo (va_runV (As := [.int h0]) (rest := []) ⟨hx, hb, hml, hown, hts⟩ (met_X3_up l D hM hB d b n ti lo hi H.size h0 hok hn hmi hma) (cwV 1 hts (lw_V q277 q263 q264 q22 q265) rfl rfl rfl (by decide +kernel) ⟨Nat.le_of_ble_eq_true rfl, Nat.le_of_ble_eq_true rfl⟩) ⟨rr_blindO, va_recv hK hP (ci := 3) (q0 := 0) rfl rfl, rr_preO (hP.sub (ws' := [(hM, .inr (3, [.ref hB, .int (nI n), .int ti, .int lo, .int hi])), (hB, .inl (d, 187, .inl b))]) [0, 1] rfl) (hK.sub (tys' := [(d, .int)]) [0] rfl)⟩ rfl rfl hl.1 rfl (lv_room (Nat.le_of_ble_eq_true rfl)) dX3_isRange_16 ⟨Nat.le_of_ble_eq_true rfl, Nat.le_of_ble_eq_true rfl⟩) hP hS hA (fun r_up H locs hw_up hP hS => ?_)
      refine lv_iload_n hx hb dX3_isRange_19 rfl (lv_at hl 2 rfl) ?_
      refine lv_icmp_ne (tgt := 27) hx hb dX3_isRange_20 (by decide) (fun c_20 => ?_) (fun c_20 => ?_)
      · refine lv_iconst (v := 0) hx hb dX3_isRange_27 (by decide) ?_
        exact W.zret (v := 0) hx hb hr rfl (rr_endo (by rw [if_neg (fun q => c_20 (hw_up.self.mpr (rng_iff.mp q).2.2))]) hS) hS.2.2 dX3_isRange_28
      · refine lv_iconst (v := 1) hx hb dX3_isRange_23 (by decide) ?_
        refine lv_goto (tgt := 28) hx hb dX3_isRange_24 (by decide) ?_
        exact W.zret (v := 1) hx hb hr rfl (rr_endo (by rw [if_pos (rng_of c_2 (hw_down.self.mp c_11) (hw_up.self.mp c_20))]) hS) hS.2.2 dX3_isRange_28
end
section
abbrev wsX3_tell : List Cond := ws_ yX3_tell cX3_tell 6 (some .int)
set_option maxHeartbeats 4000000 in
set_option maxRecDepth 100000 in
theorem met_X3_tell (l : Launch) (D : va_G) (hM hB : Nat) (d : ClassId) (b : Nat → Int32) (n : Nat) (ti lo hi : Int32) (sz : Nat) (x y : Int64) {S : Int32 → Bool} (hok : M_ok S n b) (hn : n ≤ 187) (hmi : S (-2147483648) = true) (hma : S 2147483647 = true) : rr_CI l D yX3_tell wsX3_tell ({ frames := 2, cells := 0, slots := 0, locals := 43 }) [.ref hM, .long x, .long y] [(d, .int)] [(hM, .inr (3, [.ref hB, .int (nI n), .int ti, .int lo, .int hi])), (hB, .inl (d, 187, .inl b))] sz (fun (r : Int32) (u : Int32 × Int32) => r = 1 ∧ TellR S x y u.1 u.2) (fun _ => [(d, .int)]) (fun u => [(hM, .inr (3, [.ref hB, .int (nI n), .int ti, .int u.1, .int u.2])), (hB, .inl (d, 187, .inl b))]) 0 0 := by
  refine Met.ofW (cc := cX3_tell) (maxL := 6) (ret := (some .int)) (by decide) rfl ?_
  intro p e s m args below meth c s₁ B hml hv
  obtain ⟨rfl, hsz, hP, hK, hD0⟩ := hv
  have hx := B.exec
  have hb := B.bytes
  have hr := B.returns
  have hts := atoms_spec (ws := wsX3_tell) B.pre
  have hts : ∀ w ∈ lw_all, w.before _ s = true := fun w h => hts w (List.mem_cons_of_mem _ h)
  have hown : s.vm.findClass RX3 = some m.cls := findClass_of_methodNamed B.named
  have hlocks := B.notSynchronized
  subst hsz
  have hD := hD0.self (sz := s.heap.size)
  generalize hAe : va_A [(hM, .inr (3, [.ref hB, .int (nI n), .int ti, .int lo, .int hi])), (hB, .inl (d, 187, .inl b))] s.heap.size = A at hD ⊢
  have hA : ∀ q : Nat, s.heap.size ≤ q → A q := fun q h => by rw [← hAe]; exact Or.inr h
  have hS : va_S A s.heap s.heap [] := va_S.rf
  have hP : va_P D vwCl [(hM, .inr (3, [.ref hB, .int (nI n), .int ti, .int lo, .int hi])), (hB, .inl (d, 187, .inl b))] s.heap := hP
  have hK : va_K D vwCl [(d, .int)] s := hK
  have hl := lv_entry ([.ref hM, .long x, .long y]) (n := 6) (Nat.le_of_ble_eq_true rfl)
  rw [lg_entry_eq]
  generalize (lg_sl ([.ref hM, .long x, .long y]) ++ List.replicate (6 - (lg_sl ([.ref hM, .long x, .long y])).length) Slot.unset).toArray = ls at hl ⊢
  have hl : lv_has ls 6 [(0, .ref hM), (1, .long x), (3, .long y)] := hl
  refine lv_lload_n hx hb dX3_tell_0 rfl (lv_at hl 1 rfl) ?_
  refine lv_ldc2 (v := (-2147483648)) hx hb hown (hts _ q221) dX3_tell_1 ?_
  refine lc_lt (tgt := 20) hx hb dX3_tell_4 dX3_tell_5 (by decide) (fun c_4 => ?_) (fun c_4 => ?_)
  · refine lv_iconst (v := 0) hx hb dX3_tell_20 (by decide) ?_
    refine lv_istore (lv' := [(5, .int 0), (0, .ref hM), (1, .long x), (3, .long y)]) hx hb dX3_tell_21 hl (by decide) rfl (fun ls hl => ?_)
    refine lv_aload_n hx hb dX3_tell_23 rfl (lv_at hl 1 rfl) ?_
    refine lv_iload hx hb dX3_tell_24 (lv_at hl 0 rfl) ?_
    refine lv_if_eq (tgt := 38) hx hb dX3_tell_26 (by decide) (fun c_26 => ?_) (fun c_26 => absurd rfl c_26)
    refine lv_ldc (v := (-2147483648)) hx hb hown (hts _ q258) dX3_tell_38 ?_
    refine va_put (D := D) (ci := 3) (v := .int (-2147483648)) (ty := .int) (C := RX3) (T := TX3) (N := 5) hx hb hts in_X3 tyX3 tyX3_ok nmX3 hown hK hP hD hS 0 rfl rfl 3 (by decide) (hts _ q232) (fun _ h9 => h9) rfl (by decide +kernel) rfl rfl (Nat.le_of_ble_eq_true rfl) dX3_tell_40 (fun H locs hP hD hS => ?_)
    have hP : va_P D vwCl [(hM, .inr (3, [.ref hB, .int (nI n), .int ti, .int (-2147483648), .int hi])), (hB, .inl (d, 187, .inl b))] H := hP
    have hD : va_D A [(hM, .inr (3, [.ref hB, .int (nI n), .int ti, .int (-2147483648), .int hi])), (hB, .inl (d, 187, .inl b))] := hD
    refine lv_aload_n hx hb dX3_tell_43 rfl (lv_at hl 1 rfl) ?_
    refine lv_iload hx hb dX3_tell_44 (lv_at hl 0 rfl) ?_
    refine lv_if_eq (tgt := 58) hx hb dX3_tell_46 (by decide) (fun c_46 => ?_) (fun c_46 => absurd rfl c_46)
    refine lv_ldc (v := 2147483647) hx hb hown (hts _ q266) dX3_tell_58 ?_
    refine va_put (D := D) (ci := 3) (v := .int 2147483647) (ty := .int) (C := RX3) (T := TX3) (N := 5) hx hb hts in_X3 tyX3 tyX3_ok nmX3 hown hK hP hD hS 0 rfl rfl 4 (by decide) (hts _ q233) (fun _ h9 => h9) rfl (by decide +kernel) rfl rfl (Nat.le_of_ble_eq_true rfl) dX3_tell_60 (fun H locs hP hD hS => ?_)
    have hP : va_P D vwCl [(hM, .inr (3, [.ref hB, .int (nI n), .int ti, .int (-2147483648), .int 2147483647])), (hB, .inl (d, 187, .inl b))] H := hP
    have hD : va_D A [(hM, .inr (3, [.ref hB, .int (nI n), .int ti, .int (-2147483648), .int 2147483647])), (hB, .inl (d, 187, .inl b))] := hD
    refine lv_iconst (v := 1) hx hb dX3_tell_63 (by decide) ?_
    exact W.iret hx hb hr (rr_endi (-2147483648, 2147483647) ⟨rfl, TellR_lo c_4⟩ hP hK hD hS) hS.2.2 dX3_tell_64
  · refine lv_lload_n hx hb dX3_tell_8 rfl (lv_at hl 2 rfl) ?_
    refine lv_ldc2 (v := 2147483647) hx hb hown (hts _ q226) dX3_tell_9 ?_
    refine lc_gt (tgt := 20) hx hb dX3_tell_12 dX3_tell_13 (by decide) (fun c_12 => ?_) (fun c_12 => ?_)
    · refine lv_iconst (v := 0) hx hb dX3_tell_20 (by decide) ?_
      refine lv_istore (lv' := [(5, .int 0), (0, .ref hM), (1, .long x), (3, .long y)]) hx hb dX3_tell_21 hl (by decide) rfl (fun ls hl => ?_)
      refine lv_aload_n hx hb dX3_tell_23 rfl (lv_at hl 1 rfl) ?_
      refine lv_iload hx hb dX3_tell_24 (lv_at hl 0 rfl) ?_
      refine lv_if_eq (tgt := 38) hx hb dX3_tell_26 (by decide) (fun c_26 => ?_) (fun c_26 => absurd rfl c_26)
      refine lv_ldc (v := (-2147483648)) hx hb hown (hts _ q258) dX3_tell_38 ?_
      refine va_put (D := D) (ci := 3) (v := .int (-2147483648)) (ty := .int) (C := RX3) (T := TX3) (N := 5) hx hb hts in_X3 tyX3 tyX3_ok nmX3 hown hK hP hD hS 0 rfl rfl 3 (by decide) (hts _ q232) (fun _ h9 => h9) rfl (by decide +kernel) rfl rfl (Nat.le_of_ble_eq_true rfl) dX3_tell_40 (fun H locs hP hD hS => ?_)
      have hP : va_P D vwCl [(hM, .inr (3, [.ref hB, .int (nI n), .int ti, .int (-2147483648), .int hi])), (hB, .inl (d, 187, .inl b))] H := hP
      have hD : va_D A [(hM, .inr (3, [.ref hB, .int (nI n), .int ti, .int (-2147483648), .int hi])), (hB, .inl (d, 187, .inl b))] := hD
      refine lv_aload_n hx hb dX3_tell_43 rfl (lv_at hl 1 rfl) ?_
      refine lv_iload hx hb dX3_tell_44 (lv_at hl 0 rfl) ?_
      refine lv_if_eq (tgt := 58) hx hb dX3_tell_46 (by decide) (fun c_46 => ?_) (fun c_46 => absurd rfl c_46)
      refine lv_ldc (v := 2147483647) hx hb hown (hts _ q266) dX3_tell_58 ?_
      refine va_put (D := D) (ci := 3) (v := .int 2147483647) (ty := .int) (C := RX3) (T := TX3) (N := 5) hx hb hts in_X3 tyX3 tyX3_ok nmX3 hown hK hP hD hS 0 rfl rfl 4 (by decide) (hts _ q233) (fun _ h9 => h9) rfl (by decide +kernel) rfl rfl (Nat.le_of_ble_eq_true rfl) dX3_tell_60 (fun H locs hP hD hS => ?_)
      have hP : va_P D vwCl [(hM, .inr (3, [.ref hB, .int (nI n), .int ti, .int (-2147483648), .int 2147483647])), (hB, .inl (d, 187, .inl b))] H := hP
      have hD : va_D A [(hM, .inr (3, [.ref hB, .int (nI n), .int ti, .int (-2147483648), .int 2147483647])), (hB, .inl (d, 187, .inl b))] := hD
      refine lv_iconst (v := 1) hx hb dX3_tell_63 (by decide) ?_
      exact W.iret hx hb hr (rr_endi (-2147483648, 2147483647) ⟨rfl, TellR_hi c_12⟩ hP hK hD hS) hS.2.2 dX3_tell_64
    · refine lv_iconst (v := 1) hx hb dX3_tell_16 (by decide) ?_
      refine lv_goto (tgt := 21) hx hb dX3_tell_17 (by decide) ?_
      refine lv_istore (lv' := [(5, .int 1), (0, .ref hM), (1, .long x), (3, .long y)]) hx hb dX3_tell_21 hl (by decide) rfl (fun ls hl => ?_)
      refine lv_aload_n hx hb dX3_tell_23 rfl (lv_at hl 1 rfl) ?_
      refine lv_iload hx hb dX3_tell_24 (lv_at hl 0 rfl) ?_
      refine lv_if_eq (tgt := 38) hx hb dX3_tell_26 (by decide) (fun c_26 => absurd c_26 (by decide)) (fun c_26 => ?_)
      refine lv_aload_n hx hb dX3_tell_29 rfl (lv_at hl 1 rfl) ?_
      refine lv_lload_n hx hb dX3_tell_30 rfl (lv_at hl 2 rfl) ?_
      refine lv_l2i hx hb dX3_tell_31 rfl ?_
      refine rr_callo (va_runV (As := [.int x.toInt32]) (rest := [.ref hM]) ⟨hx, hb, hml, hown, hts⟩ (met_X3_down l D hM hB d b n ti lo hi s.heap.size x.toInt32 hok hn hmi hma) (cwV 1 hts (lw_V q276 q255 q256 q22 q257) rfl rfl rfl (by decide +kernel) ⟨Nat.le_of_ble_eq_true rfl, Nat.le_of_ble_eq_true rfl⟩) ⟨rr_blindO, va_recv hK hP (ci := 3) (q0 := 0) rfl rfl, rr_preO (hP.sub (ws' := [(hM, .inr (3, [.ref hB, .int (nI n), .int ti, .int lo, .int hi])), (hB, .inl (d, 187, .inl b))]) [0, 1] rfl) (hK.sub (tys' := [(d, .int)]) [0] rfl)⟩ rfl rfl hl.1 rfl (lv_room (Nat.le_of_ble_eq_true rfl)) dX3_tell_32 ⟨Nat.le_of_ble_eq_true rfl, Nat.le_of_ble_eq_true rfl⟩) hP hS hA (fun r_down H locs hw_down hP hS => ?_)
      refine lv_goto (tgt := 40) hx hb dX3_tell_35 (by decide) ?_
      refine va_put (D := D) (ci := 3) (v := .int r_down) (ty := .int) (C := RX3) (T := TX3) (N := 5) hx hb hts in_X3 tyX3 tyX3_ok nmX3 hown hK hP hD hS 0 rfl rfl 3 (by decide) (hts _ q232) (fun _ h9 => h9) rfl (by decide +kernel) rfl rfl (Nat.le_of_ble_eq_true rfl) dX3_tell_40 (fun H locs hP hD hS => ?_)
      have hP : va_P D vwCl [(hM, .inr (3, [.ref hB, .int (nI n), .int ti, .int r_down, .int hi])), (hB, .inl (d, 187, .inl b))] H := hP
      have hD : va_D A [(hM, .inr (3, [.ref hB, .int (nI n), .int ti, .int r_down, .int hi])), (hB, .inl (d, 187, .inl b))] := hD
      refine lv_aload_n hx hb dX3_tell_43 rfl (lv_at hl 1 rfl) ?_
      refine lv_iload hx hb dX3_tell_44 (lv_at hl 0 rfl) ?_
      refine lv_if_eq (tgt := 58) hx hb dX3_tell_46 (by decide) (fun c_46 => absurd c_46 (by decide)) (fun c_46 => ?_)
      refine lv_aload_n hx hb dX3_tell_49 rfl (lv_at hl 1 rfl) ?_
      refine lv_lload_n hx hb dX3_tell_50 rfl (lv_at hl 3 rfl) ?_
      refine lv_l2i hx hb dX3_tell_51 rfl ?_
      refine rr_callo (va_runV (As := [.int y.toInt32]) (rest := [.ref hM]) ⟨hx, hb, hml, hown, hts⟩ (met_X3_up l D hM hB d b n ti r_down hi H.size y.toInt32 hok hn hmi hma) (cwV 1 hts (lw_V q277 q263 q264 q22 q265) rfl rfl rfl (by decide +kernel) ⟨Nat.le_of_ble_eq_true rfl, Nat.le_of_ble_eq_true rfl⟩) ⟨rr_blindO, va_recv hK hP (ci := 3) (q0 := 0) rfl rfl, rr_preO (hP.sub (ws' := [(hM, .inr (3, [.ref hB, .int (nI n), .int ti, .int r_down, .int hi])), (hB, .inl (d, 187, .inl b))]) [0, 1] rfl) (hK.sub (tys' := [(d, .int)]) [0] rfl)⟩ rfl rfl hl.1 rfl (lv_room (Nat.le_of_ble_eq_true rfl)) dX3_tell_52 ⟨Nat.le_of_ble_eq_true rfl, Nat.le_of_ble_eq_true rfl⟩) hP hS hA (fun r_up H locs hw_up hP hS => ?_)
      refine lv_goto (tgt := 60) hx hb dX3_tell_55 (by decide) ?_
      refine va_put (D := D) (ci := 3) (v := .int r_up) (ty := .int) (C := RX3) (T := TX3) (N := 5) hx hb hts in_X3 tyX3 tyX3_ok nmX3 hown hK hP hD hS 0 rfl rfl 4 (by decide) (hts _ q233) (fun _ h9 => h9) rfl (by decide +kernel) rfl rfl (Nat.le_of_ble_eq_true rfl) dX3_tell_60 (fun H locs hP hD hS => ?_)
      have hP : va_P D vwCl [(hM, .inr (3, [.ref hB, .int (nI n), .int ti, .int r_down, .int r_up])), (hB, .inl (d, 187, .inl b))] H := hP
      have hD : va_D A [(hM, .inr (3, [.ref hB, .int (nI n), .int ti, .int r_down, .int r_up])), (hB, .inl (d, 187, .inl b))] := hD
      refine lv_iconst (v := 1) hx hb dX3_tell_63 (by decide) ?_
      exact W.iret hx hb hr (rr_endi (r_down, r_up) ⟨rfl, TellR_in c_4 c_12 hw_down hw_up⟩ hP hK hD hS) hS.2.2 dX3_tell_64
abbrev wsX3_tellAll : List Cond := ws_ yX3_tellAll cX3_tellAll 1 (some .int)
set_option maxHeartbeats 4000000 in
set_option maxRecDepth 100000 in
theorem met_X3_tellAll (l : Launch) (D : va_G) (hM hB : Nat) (d : ClassId) (b : Nat → Int32) (n : Nat) (ti lo hi : Int32) (sz : Nat) {S : Int32 → Bool} (hok : M_ok S n b) (hn : n ≤ 187) (hmi : S (-2147483648) = true) (hma : S 2147483647 = true) : rr_CI l D yX3_tellAll wsX3_tellAll ({ frames := 3, cells := 0, slots := 0, locals := 68 }) [.ref hM] [(d, .int)] [(hM, .inr (3, [.ref hB, .int (nI n), .int ti, .int lo, .int hi])), (hB, .inl (d, 187, .inl b))] sz (fun (r : Int32) (u : Int32 × Int32) => r = 1 ∧ TellR S allQ.1 allQ.2 u.1 u.2) (fun _ => [(d, .int)]) (fun u => [(hM, .inr (3, [.ref hB, .int (nI n), .int ti, .int u.1, .int u.2])), (hB, .inl (d, 187, .inl b))]) 0 0 := by
  refine Met.ofW (cc := cX3_tellAll) (maxL := 1) (ret := (some .int)) (by decide) rfl ?_
  intro p e s m args below meth c s₁ B hml hv
  obtain ⟨rfl, hsz, hP, hK, hD0⟩ := hv
  have hx := B.exec
  have hb := B.bytes
  have hr := B.returns
  have hts := atoms_spec (ws := wsX3_tellAll) B.pre
  have hts : ∀ w ∈ lw_all, w.before _ s = true := fun w h => hts w (List.mem_cons_of_mem _ h)
  have hown : s.vm.findClass RX3 = some m.cls := findClass_of_methodNamed B.named
  have hlocks := B.notSynchronized
  subst hsz
  have hD := hD0.self (sz := s.heap.size)
  generalize hAe : va_A [(hM, .inr (3, [.ref hB, .int (nI n), .int ti, .int lo, .int hi])), (hB, .inl (d, 187, .inl b))] s.heap.size = A at hD ⊢
  have hA : ∀ q : Nat, s.heap.size ≤ q → A q := fun q h => by rw [← hAe]; exact Or.inr h
  have hS : va_S A s.heap s.heap [] := va_S.rf
  have hP : va_P D vwCl [(hM, .inr (3, [.ref hB, .int (nI n), .int ti, .int lo, .int hi])), (hB, .inl (d, 187, .inl b))] s.heap := hP
  have hK : va_K D vwCl [(d, .int)] s := hK
  have hl := lv_entry ([.ref hM]) (n := 1) (Nat.le_of_ble_eq_true rfl)
  rw [lg_entry_eq]
  generalize (lg_sl ([.ref hM]) ++ List.replicate (1 - (lg_sl ([.ref hM])).length) Slot.unset).toArray = ls at hl ⊢
  have hl : lv_has ls 1 [(0, .ref hM)] := hl
  refine lv_aload_n hx hb dX3_tellAll_0 rfl (lv_at hl 0 rfl) ?_
  refine lv_ldc2 (v := (-2147483648)) hx hb hown (hts _ q221) dX3_tellAll_1 ?_
  refine lv_ldc2 (v := 2147483647) hx hb hown (hts _ q226) dX3_tellAll_4 ?_
  refine rr_calli (wc := [(hM, .inr (3, [.ref hB, .int (nI n), .int ti, .int lo, .int hi])), (hB, .inl (d, 187, .inl b))]) (wr := []) (va_runV (As := [.long (-2147483648), .long 2147483647]) (rest := []) ⟨hx, hb, hml, hown, hts⟩ (met_X3_tell l D hM hB d b n ti lo hi s.heap.size (-2147483648) 2147483647 hok hn hmi hma) (cwV 2 hts (lw_V q278 q280 qs10 q22 q281) rfl rfl rfl (by decide +kernel) ⟨Nat.le_of_ble_eq_true rfl, Nat.le_of_ble_eq_true rfl⟩) ⟨rr_blind, va_recv hK hP (ci := 3) (q0 := 0) rfl rfl, rr_pre (hP.sub (ws' := [(hM, .inr (3, [.ref hB, .int (nI n), .int ti, .int lo, .int hi])), (hB, .inl (d, 187, .inl b))]) [0, 1] rfl) (hK.sub (tys' := [(d, .int)]) [0] rfl) (hD.sub (ws' := [(hM, .inr (3, [.ref hB, .int (nI n), .int ti, .int lo, .int hi])), (hB, .inl (d, 187, .inl b))]) [0, 1] (by decide) rfl)⟩ rfl rfl hl.1 rfl (lv_room (Nat.le_of_ble_eq_true rfl)) dX3_tellAll_7 ⟨Nat.le_of_ble_eq_true rfl, Nat.le_of_ble_eq_true rfl⟩) hK hP hD hS hA [0, 1] [] rfl rfl (by decide) (by decide) (fun rt u_122 H locs hwt hP hD hK hS => ?_)
  obtain ⟨lo1, hi1⟩ := u_122
  have hP : va_P D vwCl [(hM, .inr (3, [.ref hB, .int (nI n), .int ti, .int lo1, .int hi1])), (hB, .inl (d, 187, .inl b))] H := hP
  have hD : va_D A [(hM, .inr (3, [.ref hB, .int (nI n), .int ti, .int lo1, .int hi1])), (hB, .inl (d, 187, .inl b))] := hD
  have hK : va_K D vwCl [(d, .int)] s := hK.sub (tys' := [(d, .int)]) [0] rfl
  exact W.iret hx hb hr (rr_endi (lo1, hi1) hwt hP hK hD hS) hS.2.2 dX3_tellAll_10
abbrev wsX3_tellLeast : List Cond := ws_ yX3_tellLeast cX3_tellLeast 9 (some .int)
set_option maxHeartbeats 4000000 in
set_option maxRecDepth 100000 in
theorem met_X3_tellLeast (l : Launch) (D : va_G) (hM hB : Nat) (d : ClassId) (b : Nat → Int32) (n : Nat) (ti lo hi : Int32) (sz : Nat) (a0 b0 c0 d0 : Int64) {S : Int32 → Bool} (hok : M_ok S n b) (hn : n ≤ 187) (hmi : S (-2147483648) = true) (hma : S 2147483647 = true) : rr_CI l D yX3_tellLeast wsX3_tellLeast ({ frames := 3, cells := 0, slots := 0, locals := 68 }) [.ref hM, .long a0, .long b0, .long c0, .long d0] [(d, .int)] [(hM, .inr (3, [.ref hB, .int (nI n), .int ti, .int lo, .int hi])), (hB, .inl (d, 187, .inl b))] sz (fun (r : Int32) (u : Int32 × Int32) => r = 1 ∧ TellR S (mnL (mnL a0 b0) (mnL c0 d0)) (mxL (mxL a0 b0) (mxL c0 d0)) u.1 u.2) (fun _ => [(d, .int)]) (fun u => [(hM, .inr (3, [.ref hB, .int (nI n), .int ti, .int u.1, .int u.2])), (hB, .inl (d, 187, .inl b))]) 0 0 := by
  refine Met.ofW (cc := cX3_tellLeast) (maxL := 9) (ret := (some .int)) (by decide) rfl ?_
  intro p e s m args below meth c s₁ B hml hv
  obtain ⟨rfl, hsz, hP, hK, hD0⟩ := hv
  have hx := B.exec
  have hb := B.bytes
  have hr := B.returns
  have hts := atoms_spec (ws := wsX3_tellLeast) B.pre
  have hts : ∀ w ∈ lw_all, w.before _ s = true := fun w h => hts w (List.mem_cons_of_mem _ h)
  have hown : s.vm.findClass RX3 = some m.cls := findClass_of_methodNamed B.named
  have hlocks := B.notSynchronized
  subst hsz
  have hD := hD0.self (sz := s.heap.size)
  generalize hAe : va_A [(hM, .inr (3, [.ref hB, .int (nI n), .int ti, .int lo, .int hi])), (hB, .inl (d, 187, .inl b))] s.heap.size = A at hD ⊢
  have hA : ∀ q : Nat, s.heap.size ≤ q → A q := fun q h => by rw [← hAe]; exact Or.inr h
  have hS : va_S A s.heap s.heap [] := va_S.rf
  have hP : va_P D vwCl [(hM, .inr (3, [.ref hB, .int (nI n), .int ti, .int lo, .int hi])), (hB, .inl (d, 187, .inl b))] s.heap := hP
  have hK : va_K D vwCl [(d, .int)] s := hK
  have hl := lv_entry ([.ref hM, .long a0, .long b0, .long c0, .long d0]) (n := 9) (Nat.le_of_ble_eq_true rfl)
  rw [lg_entry_eq]
  generalize (lg_sl ([.ref hM, .long a0, .long b0, .long c0, .long d0]) ++ List.replicate (9 - (lg_sl ([.ref hM, .long a0, .long b0, .long c0, .long d0])).length) Slot.unset).toArray = ls at hl ⊢
  have hl : lv_has ls 9 [(0, .ref hM), (1, .long a0), (3, .long b0), (5, .long c0), (7, .long d0)] := hl
  refine lv_aload_n hx hb dX3_tellLeast_0 rfl (lv_at hl 0 rfl) ?_
  refine lv_lload_n hx hb dX3_tellLeast_1 rfl (lv_at hl 1 rfl) ?_
  refine lv_lload_n hx hb dX3_tellLeast_2 rfl (lv_at hl 2 rfl) ?_
  refine rr_minL hx hb hml hl.1 hown hts q290 (Nat.le_of_ble_eq_true rfl) (Nat.le_of_ble_eq_true rfl) (Nat.le_of_ble_eq_true rfl) (Nat.le_of_ble_eq_true rfl) dX3_tellLeast_3 ?_
  refine lv_lload hx hb dX3_tellLeast_6 (lv_at hl 3 rfl) ?_
  refine lv_lload hx hb dX3_tellLeast_8 (lv_at hl 4 rfl) ?_
  refine rr_minL hx hb hml hl.1 hown hts q290 (Nat.le_of_ble_eq_true rfl) (Nat.le_of_ble_eq_true rfl) (Nat.le_of_ble_eq_true rfl) (Nat.le_of_ble_eq_true rfl) dX3_tellLeast_10 ?_
  refine rr_minL hx hb hml hl.1 hown hts q290 (Nat.le_of_ble_eq_true rfl) (Nat.le_of_ble_eq_true rfl) (Nat.le_of_ble_eq_true rfl) (Nat.le_of_ble_eq_true rfl) dX3_tellLeast_13 ?_
  refine lv_lload_n hx hb dX3_tellLeast_16 rfl (lv_at hl 1 rfl) ?_
  refine lv_lload_n hx hb dX3_tellLeast_17 rfl (lv_at hl 2 rfl) ?_
  refine rr_maxL hx hb hml hl.1 hown hts q291 (Nat.le_of_ble_eq_true rfl) (Nat.le_of_ble_eq_true rfl) (Nat.le_of_ble_eq_true rfl) (Nat.le_of_ble_eq_true rfl) dX3_tellLeast_18 ?_
  refine lv_lload hx hb dX3_tellLeast_21 (lv_at hl 3 rfl) ?_
  refine lv_lload hx hb dX3_tellLeast_23 (lv_at hl 4 rfl) ?_
  refine rr_maxL hx hb hml hl.1 hown hts q291 (Nat.le_of_ble_eq_true rfl) (Nat.le_of_ble_eq_true rfl) (Nat.le_of_ble_eq_true rfl) (Nat.le_of_ble_eq_true rfl) dX3_tellLeast_25 ?_
  refine rr_maxL hx hb hml hl.1 hown hts q291 (Nat.le_of_ble_eq_true rfl) (Nat.le_of_ble_eq_true rfl) (Nat.le_of_ble_eq_true rfl) (Nat.le_of_ble_eq_true rfl) dX3_tellLeast_28 ?_
  refine rr_calli (wc := [(hM, .inr (3, [.ref hB, .int (nI n), .int ti, .int lo, .int hi])), (hB, .inl (d, 187, .inl b))]) (wr := []) (va_runV (As := [.long (mnL (mnL a0 b0) (mnL c0 d0)), .long (mxL (mxL a0 b0) (mxL c0 d0))]) (rest := []) ⟨hx, hb, hml, hown, hts⟩ (met_X3_tell l D hM hB d b n ti lo hi s.heap.size (mnL (mnL a0 b0) (mnL c0 d0)) (mxL (mxL a0 b0) (mxL c0 d0)) hok hn hmi hma) (cwV 2 hts (lw_V q278 q280 qs10 q22 q281) rfl rfl rfl (by decide +kernel) ⟨Nat.le_of_ble_eq_true rfl, Nat.le_of_ble_eq_true rfl⟩) ⟨rr_blind, va_recv hK hP (ci := 3) (q0 := 0) rfl rfl, rr_pre (hP.sub (ws' := [(hM, .inr (3, [.ref hB, .int (nI n), .int ti, .int lo, .int hi])), (hB, .inl (d, 187, .inl b))]) [0, 1] rfl) (hK.sub (tys' := [(d, .int)]) [0] rfl) (hD.sub (ws' := [(hM, .inr (3, [.ref hB, .int (nI n), .int ti, .int lo, .int hi])), (hB, .inl (d, 187, .inl b))]) [0, 1] (by decide) rfl)⟩ rfl rfl hl.1 rfl (lv_room (Nat.le_of_ble_eq_true rfl)) dX3_tellLeast_31 ⟨Nat.le_of_ble_eq_true rfl, Nat.le_of_ble_eq_true rfl⟩) hK hP hD hS hA [0, 1] [] rfl rfl (by decide) (by decide) (fun rt u_123 H locs hwt hP hD hK hS => ?_)
  obtain ⟨lo1, hi1⟩ := u_123
  have hP : va_P D vwCl [(hM, .inr (3, [.ref hB, .int (nI n), .int ti, .int lo1, .int hi1])), (hB, .inl (d, 187, .inl b))] H := hP
  have hD : va_D A [(hM, .inr (3, [.ref hB, .int (nI n), .int ti, .int lo1, .int hi1])), (hB, .inl (d, 187, .inl b))] := hD
  have hK : va_K D vwCl [(d, .int)] s := hK.sub (tys' := [(d, .int)]) [0] rfl
  exact W.iret hx hb hr (rr_endi (lo1, hi1) hwt hP hK hD hS) hS.2.2 dX3_tellLeast_34
abbrev wsX3_negate : List Cond := ws_ yX3_negate cX3_negate 4 (some .boolean)
set_option maxHeartbeats 4000000 in
set_option maxRecDepth 100000 in
theorem met_X3_negate (l : Launch) (D : va_G) (hM hB : Nat) (d : ClassId) (b : Nat → Int32) (n : Nat) (ti lo hi : Int32) (sz : Nat) (l0 h0 : Int32) {S : Int32 → Bool} (hok : M_ok S n b) (hn : n ≤ 187) (hmi : S (-2147483648) = true) (hma : S 2147483647 = true) : rr_CI l D yX3_negate wsX3_negate ({ frames := 3, cells := 0, slots := 0, locals := 68 }) [.ref hM, .int l0, .int h0] [(d, .int)] [(hM, .inr (3, [.ref hB, .int (nI n), .int ti, .int lo, .int hi])), (hB, .inl (d, 187, .inl b))] sz (fun (r : Int32) (u : Int32 × Int32) => XNeg S (TellR S) l0 h0 lo hi r u.1 u.2) (fun _ => [(d, .int)]) (fun u => [(hM, .inr (3, [.ref hB, .int (nI n), .int ti, .int u.1, .int u.2])), (hB, .inl (d, 187, .inl b))]) 0 0 := by
  refine Met.ofW (cc := cX3_negate) (maxL := 4) (ret := (some .boolean)) (by decide) rfl ?_
  intro p e s m args below meth c s₁ B hml hv
  obtain ⟨rfl, hsz, hP, hK, hD0⟩ := hv
  have hx := B.exec
  have hb := B.bytes
  have hr := B.returns
  have hts := atoms_spec (ws := wsX3_negate) B.pre
  have hts : ∀ w ∈ lw_all, w.before _ s = true := fun w h => hts w (List.mem_cons_of_mem _ h)
  have hown : s.vm.findClass RX3 = some m.cls := findClass_of_methodNamed B.named
  have hlocks := B.notSynchronized
  subst hsz
  have hD := hD0.self (sz := s.heap.size)
  generalize hAe : va_A [(hM, .inr (3, [.ref hB, .int (nI n), .int ti, .int lo, .int hi])), (hB, .inl (d, 187, .inl b))] s.heap.size = A at hD ⊢
  have hA : ∀ q : Nat, s.heap.size ≤ q → A q := fun q h => by rw [← hAe]; exact Or.inr h
  have hS : va_S A s.heap s.heap [] := va_S.rf
  have hP : va_P D vwCl [(hM, .inr (3, [.ref hB, .int (nI n), .int ti, .int lo, .int hi])), (hB, .inl (d, 187, .inl b))] s.heap := hP
  have hK : va_K D vwCl [(d, .int)] s := hK
  have hl := lv_entry ([.ref hM, .int l0, .int h0]) (n := 4) (Nat.le_of_ble_eq_true rfl)
  rw [lg_entry_eq]
  generalize (lg_sl ([.ref hM, .int l0, .int h0]) ++ List.replicate (4 - (lg_sl ([.ref hM, .int l0, .int h0])).length) Slot.unset).toArray = ls at hl ⊢
  have hl : lv_has ls 4 [(0, .ref hM), (1, .int l0), (2, .int h0)] := hl
  refine lv_aload_n hx hb dX3_negate_0 rfl (lv_at hl 0 rfl) ?_
  refine lv_iload_n hx hb dX3_negate_1 rfl (lv_at hl 1 rfl) ?_
  refine lv_iload_n hx hb dX3_negate_2 rfl (lv_at hl 2 rfl) ?_
  refine rr_callo (va_runV (As := [.int l0, .int h0]) (rest := []) ⟨hx, hb, hml, hown, hts⟩ (met_X3_isRange l D hM hB d b n ti lo hi s.heap.size l0 h0 hok hn hmi hma) (cwV 2 hts (lw_V q272 q274 qs9 q22 q275) rfl rfl rfl (by decide +kernel) ⟨Nat.le_of_ble_eq_true rfl, Nat.le_of_ble_eq_true rfl⟩) ⟨rr_blindO, va_recv hK hP (ci := 3) (q0 := 0) rfl rfl, rr_preO (hP.sub (ws' := [(hM, .inr (3, [.ref hB, .int (nI n), .int ti, .int lo, .int hi])), (hB, .inl (d, 187, .inl b))]) [0, 1] rfl) (hK.sub (tys' := [(d, .int)]) [0] rfl)⟩ rfl rfl hl.1 rfl (lv_room (Nat.le_of_ble_eq_true rfl)) dX3_negate_3 ⟨Nat.le_of_ble_eq_true rfl, Nat.le_of_ble_eq_true rfl⟩) hP hS hA (fun r1 H locs hi1' hP hS => ?_)
  refine lv_if_ne (tgt := 11) hx hb dX3_negate_6 (by decide) (fun c_6 => ?_) (fun c_6 => ?_)
  · refine lv_aload_n hx hb dX3_negate_11 rfl (lv_at hl 0 rfl) ?_
    refine lv_iload_n hx hb dX3_negate_12 rfl (lv_at hl 2 rfl) ?_
    refine lv_i2l hx hb dX3_negate_13 rfl ?_
    refine lv_lneg hx hb dX3_negate_14 ?_
    refine lv_iload_n hx hb dX3_negate_15 rfl (lv_at hl 1 rfl) ?_
    refine lv_i2l hx hb dX3_negate_16 rfl ?_
    refine lv_lneg hx hb dX3_negate_17 ?_
    refine rr_calli (wc := [(hM, .inr (3, [.ref hB, .int (nI n), .int ti, .int lo, .int hi])), (hB, .inl (d, 187, .inl b))]) (wr := []) (va_runV (As := [.long (-h0.toInt64), .long (-l0.toInt64)]) (rest := []) ⟨hx, hb, hml, hown, hts⟩ (met_X3_tell l D hM hB d b n ti lo hi H.size (-h0.toInt64) (-l0.toInt64) hok hn hmi hma) (cwV 2 hts (lw_V q278 q280 qs10 q22 q281) rfl rfl rfl (by decide +kernel) ⟨Nat.le_of_ble_eq_true rfl, Nat.le_of_ble_eq_true rfl⟩) ⟨rr_blind, va_recv hK hP (ci := 3) (q0 := 0) rfl rfl, rr_pre (hP.sub (ws' := [(hM, .inr (3, [.ref hB, .int (nI n), .int ti, .int lo, .int hi])), (hB, .inl (d, 187, .inl b))]) [0, 1] rfl) (hK.sub (tys' := [(d, .int)]) [0] rfl) (hD.sub (ws' := [(hM, .inr (3, [.ref hB, .int (nI n), .int ti, .int lo, .int hi])), (hB, .inl (d, 187, .inl b))]) [0, 1] (by decide) rfl)⟩ rfl rfl hl.1 rfl (lv_room (Nat.le_of_ble_eq_true rfl)) dX3_negate_18 ⟨Nat.le_of_ble_eq_true rfl, Nat.le_of_ble_eq_true rfl⟩) hK hP hD hS hA [0, 1] [] rfl rfl (by decide) (by decide) (fun rt u_124 H locs hwt hP hD hK hS => ?_)
    obtain ⟨lo1, hi1⟩ := u_124
    have hP : va_P D vwCl [(hM, .inr (3, [.ref hB, .int (nI n), .int ti, .int lo1, .int hi1])), (hB, .inl (d, 187, .inl b))] H := hP
    have hD : va_D A [(hM, .inr (3, [.ref hB, .int (nI n), .int ti, .int lo1, .int hi1])), (hB, .inl (d, 187, .inl b))] := hD
    have hK : va_K D vwCl [(d, .int)] s := hK.sub (tys' := [(d, .int)]) [0] rfl
    refine lv_istore_n (lv' := [(3, .int rt), (0, .ref hM), (1, .int l0), (2, .int h0)]) hx hb dX3_negate_21 rfl hl (by decide) rfl (fun ls hl => ?_)
    refine lv_iload_n hx hb dX3_negate_22 rfl (lv_at hl 0 rfl) ?_
    refine lv_iconst (v := 1) hx hb dX3_negate_23 (by decide) ?_
    refine lv_icmp_ne (tgt := 31) hx hb dX3_negate_24 (by decide) (fun c_24 => absurd hwt.1 c_24) (fun c_24 => ?_)
    refine lv_iconst (v := 1) hx hb dX3_negate_27 (by decide) ?_
    refine lv_goto (tgt := 32) hx hb dX3_negate_28 (by decide) ?_
    exact W.zret (v := 1) hx hb hr rfl (rr_endi (lo1, hi1) (by unfold XNeg; rw [if_pos (Decidable.byContradiction (fun q => c_6 (by rw [hi1', if_neg q])))]; exact ⟨rfl, hwt.2⟩) hP hK hD hS) hS.2.2 dX3_negate_32
  · refine lv_iconst (v := 0) hx hb dX3_negate_9 (by decide) ?_
    exact W.zret (v := 0) hx hb hr rfl (rr_endi (lo, hi) (by unfold XNeg; rw [if_neg (fun q => absurd (hi1'.symm.trans c_6) (by rw [if_pos q]; decide))]; exact ⟨rfl, rfl, rfl⟩) hP hK hD hS) hS.2.2 dX3_negate_10
def mdlRs (l h : Int32) (m n : Int64) : Option (Int64 × Int64) := if m = 0 ∧ n = 0 then none else some (if l < 0 then (mxL l.toInt64 (-(mxL (abL m) (abL n) - 1)), if 0 < h then mnL h.toInt64 (mxL (abL m) (abL n) - 1) else 0) else (0, mnL h.toInt64 (mxL (abL m) (abL n) - 1)))
abbrev wsX3_rest : List Cond := ws_ yX3_rest cX3_rest 9 (some .int)
set_option maxHeartbeats 4000000 in
set_option maxRecDepth 100000 in
theorem met_X3_rest (l : Launch) (D : va_G) (hM hB : Nat) (d : ClassId) (b : Nat → Int32) (n : Nat) (ti lo hi : Int32) (sz : Nat) (l0 h0 : Int32) (m1 n1 : Int64) {S : Int32 → Bool} (hok : M_ok S n b) (hn : n ≤ 187) (hmi : S (-2147483648) = true) (hma : S 2147483647 = true) : rr_CI l D yX3_rest wsX3_rest ({ frames := 3, cells := 0, slots := 0, locals := 68 }) [.ref hM, .int l0, .int h0, .long m1, .long n1] [(d, .int)] [(hM, .inr (3, [.ref hB, .int (nI n), .int ti, .int lo, .int hi])), (hB, .inl (d, 187, .inl b))] sz (fun (r : Int32) (u : Int32 × Int32) => WorkR (TellR S) (mdlRs l0 h0 m1 n1) lo hi r u.1 u.2) (fun _ => [(d, .int)]) (fun u => [(hM, .inr (3, [.ref hB, .int (nI n), .int ti, .int u.1, .int u.2])), (hB, .inl (d, 187, .inl b))]) 0 0 := by
  refine Met.ofW (cc := cX3_rest) (maxL := 9) (ret := (some .int)) (by decide) rfl ?_
  intro p e s m args below meth c s₁ B hml hv
  obtain ⟨rfl, hsz, hP, hK, hD0⟩ := hv
  have hx := B.exec
  have hb := B.bytes
  have hr := B.returns
  have hts := atoms_spec (ws := wsX3_rest) B.pre
  have hts : ∀ w ∈ lw_all, w.before _ s = true := fun w h => hts w (List.mem_cons_of_mem _ h)
  have hown : s.vm.findClass RX3 = some m.cls := findClass_of_methodNamed B.named
  have hlocks := B.notSynchronized
  subst hsz
  have hD := hD0.self (sz := s.heap.size)
  generalize hAe : va_A [(hM, .inr (3, [.ref hB, .int (nI n), .int ti, .int lo, .int hi])), (hB, .inl (d, 187, .inl b))] s.heap.size = A at hD ⊢
  have hA : ∀ q : Nat, s.heap.size ≤ q → A q := fun q h => by rw [← hAe]; exact Or.inr h
  have hS : va_S A s.heap s.heap [] := va_S.rf
  have hP : va_P D vwCl [(hM, .inr (3, [.ref hB, .int (nI n), .int ti, .int lo, .int hi])), (hB, .inl (d, 187, .inl b))] s.heap := hP
  have hK : va_K D vwCl [(d, .int)] s := hK
  have hl := lv_entry ([.ref hM, .int l0, .int h0, .long m1, .long n1]) (n := 9) (Nat.le_of_ble_eq_true rfl)
  rw [lg_entry_eq]
  generalize (lg_sl ([.ref hM, .int l0, .int h0, .long m1, .long n1]) ++ List.replicate (9 - (lg_sl ([.ref hM, .int l0, .int h0, .long m1, .long n1])).length) Slot.unset).toArray = ls at hl ⊢
  have hl : lv_has ls 9 [(0, .ref hM), (1, .int l0), (2, .int h0), (3, .long m1), (5, .long n1)] := hl
  refine lv_lload_n hx hb dX3_rest_0 rfl (lv_at hl 3 rfl) ?_
  refine lv_lconst (v := 0) hx hb dX3_rest_1 (by decide) ?_
  refine lc_ne (tgt := 15) hx hb dX3_rest_2 dX3_rest_3 (by decide) (fun c_2 => ?_) (fun c_2 => ?_)
  · refine lv_lload_n hx hb dX3_rest_15 rfl (lv_at hl 3 rfl) ?_
    refine rr_absL hx hb hml hl.1 hown hts q302 (Nat.le_of_ble_eq_true rfl) (Nat.le_of_ble_eq_true rfl) (Nat.le_of_ble_eq_true rfl) (Nat.le_of_ble_eq_true rfl) dX3_rest_16 ?_
    refine lv_lload hx hb dX3_rest_19 (lv_at hl 4 rfl) ?_
    refine rr_absL hx hb hml hl.1 hown hts q302 (Nat.le_of_ble_eq_true rfl) (Nat.le_of_ble_eq_true rfl) (Nat.le_of_ble_eq_true rfl) (Nat.le_of_ble_eq_true rfl) dX3_rest_21 ?_
    refine rr_maxL hx hb hml hl.1 hown hts q291 (Nat.le_of_ble_eq_true rfl) (Nat.le_of_ble_eq_true rfl) (Nat.le_of_ble_eq_true rfl) (Nat.le_of_ble_eq_true rfl) dX3_rest_24 ?_
    refine lv_lconst (v := 1) hx hb dX3_rest_27 (by decide) ?_
    refine lv_lsub hx hb dX3_rest_28 ?_
    refine lv_lstore (lv' := [(7, .long ((mxL (abL m1) (abL n1)) - 1)), (0, .ref hM), (1, .int l0), (2, .int h0), (3, .long m1), (5, .long n1)]) hx hb dX3_rest_29 hl (by decide) rfl (fun ls hl => ?_)
    refine lv_iload_n hx hb dX3_rest_31 rfl (lv_at hl 2 rfl) ?_
    refine lv_if_lt (tgt := 48) hx hb dX3_rest_32 (by decide) (fun c_32 => ?_) (fun c_32 => ?_)
    · refine lv_aload_n hx hb dX3_rest_48 rfl (lv_at hl 1 rfl) ?_
      refine lv_iload_n hx hb dX3_rest_49 rfl (lv_at hl 2 rfl) ?_
      refine lv_i2l hx hb dX3_rest_50 rfl ?_
      refine lv_lload hx hb dX3_rest_51 (lv_at hl 0 rfl) ?_
      refine lv_lneg hx hb dX3_rest_53 ?_
      refine rr_maxL hx hb hml hl.1 hown hts q291 (Nat.le_of_ble_eq_true rfl) (Nat.le_of_ble_eq_true rfl) (Nat.le_of_ble_eq_true rfl) (Nat.le_of_ble_eq_true rfl) dX3_rest_54 ?_
      refine lv_iload_n hx hb dX3_rest_57 rfl (lv_at hl 3 rfl) ?_
      refine lv_if_gt (tgt := 65) hx hb dX3_rest_58 (by decide) (fun c_58 => ?_) (fun c_58 => ?_)
      · refine lv_iload_n hx hb dX3_rest_65 rfl (lv_at hl 3 rfl) ?_
        refine lv_i2l hx hb dX3_rest_66 rfl ?_
        refine lv_lload hx hb dX3_rest_67 (lv_at hl 0 rfl) ?_
        refine rr_minL hx hb hml hl.1 hown hts q290 (Nat.le_of_ble_eq_true rfl) (Nat.le_of_ble_eq_true rfl) (Nat.le_of_ble_eq_true rfl) (Nat.le_of_ble_eq_true rfl) dX3_rest_69 ?_
        refine rr_calli (wc := [(hM, .inr (3, [.ref hB, .int (nI n), .int ti, .int lo, .int hi])), (hB, .inl (d, 187, .inl b))]) (wr := []) (va_runV (As := [.long (mxL l0.toInt64 (-((mxL (abL m1) (abL n1)) - 1))), .long (mnL h0.toInt64 ((mxL (abL m1) (abL n1)) - 1))]) (rest := []) ⟨hx, hb, hml, hown, hts⟩ (met_X3_tell l D hM hB d b n ti lo hi s.heap.size (mxL l0.toInt64 (-((mxL (abL m1) (abL n1)) - 1))) (mnL h0.toInt64 ((mxL (abL m1) (abL n1)) - 1)) hok hn hmi hma) (cwV 2 hts (lw_V q278 q280 qs10 q22 q281) rfl rfl rfl (by decide +kernel) ⟨Nat.le_of_ble_eq_true rfl, Nat.le_of_ble_eq_true rfl⟩) ⟨rr_blind, va_recv hK hP (ci := 3) (q0 := 0) rfl rfl, rr_pre (hP.sub (ws' := [(hM, .inr (3, [.ref hB, .int (nI n), .int ti, .int lo, .int hi])), (hB, .inl (d, 187, .inl b))]) [0, 1] rfl) (hK.sub (tys' := [(d, .int)]) [0] rfl) (hD.sub (ws' := [(hM, .inr (3, [.ref hB, .int (nI n), .int ti, .int lo, .int hi])), (hB, .inl (d, 187, .inl b))]) [0, 1] (by decide) rfl)⟩ rfl rfl hl.1 rfl (lv_room (Nat.le_of_ble_eq_true rfl)) dX3_rest_72 ⟨Nat.le_of_ble_eq_true rfl, Nat.le_of_ble_eq_true rfl⟩) hK hP hD hS hA [0, 1] [] rfl rfl (by decide) (by decide) (fun rt u_125 H locs hwt hP hD hK hS => ?_)
        obtain ⟨lo1, hi1⟩ := u_125
        have hP : va_P D vwCl [(hM, .inr (3, [.ref hB, .int (nI n), .int ti, .int lo1, .int hi1])), (hB, .inl (d, 187, .inl b))] H := hP
        have hD : va_D A [(hM, .inr (3, [.ref hB, .int (nI n), .int ti, .int lo1, .int hi1])), (hB, .inl (d, 187, .inl b))] := hD
        have hK : va_K D vwCl [(d, .int)] s := hK.sub (tys' := [(d, .int)]) [0] rfl
        exact W.iret hx hb hr (rr_endi (lo1, hi1) (by unfold mdlRs; rw [if_neg (fun q => c_2 q.1), if_pos c_32, if_pos c_58]; exact hwt) hP hK hD hS) hS.2.2 dX3_rest_75
      · refine lv_lconst (v := 0) hx hb dX3_rest_61 (by decide) ?_
        refine lv_goto (tgt := 72) hx hb dX3_rest_62 (by decide) ?_
        refine rr_calli (wc := [(hM, .inr (3, [.ref hB, .int (nI n), .int ti, .int lo, .int hi])), (hB, .inl (d, 187, .inl b))]) (wr := []) (va_runV (As := [.long (mxL l0.toInt64 (-((mxL (abL m1) (abL n1)) - 1))), .long 0]) (rest := []) ⟨hx, hb, hml, hown, hts⟩ (met_X3_tell l D hM hB d b n ti lo hi s.heap.size (mxL l0.toInt64 (-((mxL (abL m1) (abL n1)) - 1))) 0 hok hn hmi hma) (cwV 2 hts (lw_V q278 q280 qs10 q22 q281) rfl rfl rfl (by decide +kernel) ⟨Nat.le_of_ble_eq_true rfl, Nat.le_of_ble_eq_true rfl⟩) ⟨rr_blind, va_recv hK hP (ci := 3) (q0 := 0) rfl rfl, rr_pre (hP.sub (ws' := [(hM, .inr (3, [.ref hB, .int (nI n), .int ti, .int lo, .int hi])), (hB, .inl (d, 187, .inl b))]) [0, 1] rfl) (hK.sub (tys' := [(d, .int)]) [0] rfl) (hD.sub (ws' := [(hM, .inr (3, [.ref hB, .int (nI n), .int ti, .int lo, .int hi])), (hB, .inl (d, 187, .inl b))]) [0, 1] (by decide) rfl)⟩ rfl rfl hl.1 rfl (lv_room (Nat.le_of_ble_eq_true rfl)) dX3_rest_72 ⟨Nat.le_of_ble_eq_true rfl, Nat.le_of_ble_eq_true rfl⟩) hK hP hD hS hA [0, 1] [] rfl rfl (by decide) (by decide) (fun rt u_126 H locs hwt hP hD hK hS => ?_)
        obtain ⟨lo1, hi1⟩ := u_126
        have hP : va_P D vwCl [(hM, .inr (3, [.ref hB, .int (nI n), .int ti, .int lo1, .int hi1])), (hB, .inl (d, 187, .inl b))] H := hP
        have hD : va_D A [(hM, .inr (3, [.ref hB, .int (nI n), .int ti, .int lo1, .int hi1])), (hB, .inl (d, 187, .inl b))] := hD
        have hK : va_K D vwCl [(d, .int)] s := hK.sub (tys' := [(d, .int)]) [0] rfl
        exact W.iret hx hb hr (rr_endi (lo1, hi1) (by unfold mdlRs; rw [if_neg (fun q => c_2 q.1), if_pos c_32, if_neg c_58]; exact hwt) hP hK hD hS) hS.2.2 dX3_rest_75
    · refine lv_aload_n hx hb dX3_rest_35 rfl (lv_at hl 1 rfl) ?_
      refine lv_lconst (v := 0) hx hb dX3_rest_36 (by decide) ?_
      refine lv_iload_n hx hb dX3_rest_37 rfl (lv_at hl 3 rfl) ?_
      refine lv_i2l hx hb dX3_rest_38 rfl ?_
      refine lv_lload hx hb dX3_rest_39 (lv_at hl 0 rfl) ?_
      refine rr_minL hx hb hml hl.1 hown hts q290 (Nat.le_of_ble_eq_true rfl) (Nat.le_of_ble_eq_true rfl) (Nat.le_of_ble_eq_true rfl) (Nat.le_of_ble_eq_true rfl) dX3_rest_41 ?_
      refine rr_calli (wc := [(hM, .inr (3, [.ref hB, .int (nI n), .int ti, .int lo, .int hi])), (hB, .inl (d, 187, .inl b))]) (wr := []) (va_runV (As := [.long 0, .long (mnL h0.toInt64 ((mxL (abL m1) (abL n1)) - 1))]) (rest := []) ⟨hx, hb, hml, hown, hts⟩ (met_X3_tell l D hM hB d b n ti lo hi s.heap.size 0 (mnL h0.toInt64 ((mxL (abL m1) (abL n1)) - 1)) hok hn hmi hma) (cwV 2 hts (lw_V q278 q280 qs10 q22 q281) rfl rfl rfl (by decide +kernel) ⟨Nat.le_of_ble_eq_true rfl, Nat.le_of_ble_eq_true rfl⟩) ⟨rr_blind, va_recv hK hP (ci := 3) (q0 := 0) rfl rfl, rr_pre (hP.sub (ws' := [(hM, .inr (3, [.ref hB, .int (nI n), .int ti, .int lo, .int hi])), (hB, .inl (d, 187, .inl b))]) [0, 1] rfl) (hK.sub (tys' := [(d, .int)]) [0] rfl) (hD.sub (ws' := [(hM, .inr (3, [.ref hB, .int (nI n), .int ti, .int lo, .int hi])), (hB, .inl (d, 187, .inl b))]) [0, 1] (by decide) rfl)⟩ rfl rfl hl.1 rfl (lv_room (Nat.le_of_ble_eq_true rfl)) dX3_rest_44 ⟨Nat.le_of_ble_eq_true rfl, Nat.le_of_ble_eq_true rfl⟩) hK hP hD hS hA [0, 1] [] rfl rfl (by decide) (by decide) (fun rt u_127 H locs hwt hP hD hK hS => ?_)
      obtain ⟨lo1, hi1⟩ := u_127
      have hP : va_P D vwCl [(hM, .inr (3, [.ref hB, .int (nI n), .int ti, .int lo1, .int hi1])), (hB, .inl (d, 187, .inl b))] H := hP
      have hD : va_D A [(hM, .inr (3, [.ref hB, .int (nI n), .int ti, .int lo1, .int hi1])), (hB, .inl (d, 187, .inl b))] := hD
      have hK : va_K D vwCl [(d, .int)] s := hK.sub (tys' := [(d, .int)]) [0] rfl
      exact W.iret hx hb hr (rr_endi (lo1, hi1) (by unfold mdlRs; rw [if_neg (fun q => c_2 q.1), if_neg c_32]; exact hwt) hP hK hD hS) hS.2.2 dX3_rest_47
  · refine lv_lload hx hb dX3_rest_6 (lv_at hl 4 rfl) ?_
    refine lv_lconst (v := 0) hx hb dX3_rest_8 (by decide) ?_
    refine lc_ne (tgt := 15) hx hb dX3_rest_9 dX3_rest_10 (by decide) (fun c_9 => ?_) (fun c_9 => ?_)
    · refine lv_lload_n hx hb dX3_rest_15 rfl (lv_at hl 3 rfl) ?_
      refine rr_absL hx hb hml hl.1 hown hts q302 (Nat.le_of_ble_eq_true rfl) (Nat.le_of_ble_eq_true rfl) (Nat.le_of_ble_eq_true rfl) (Nat.le_of_ble_eq_true rfl) dX3_rest_16 ?_
      refine lv_lload hx hb dX3_rest_19 (lv_at hl 4 rfl) ?_
      refine rr_absL hx hb hml hl.1 hown hts q302 (Nat.le_of_ble_eq_true rfl) (Nat.le_of_ble_eq_true rfl) (Nat.le_of_ble_eq_true rfl) (Nat.le_of_ble_eq_true rfl) dX3_rest_21 ?_
      refine rr_maxL hx hb hml hl.1 hown hts q291 (Nat.le_of_ble_eq_true rfl) (Nat.le_of_ble_eq_true rfl) (Nat.le_of_ble_eq_true rfl) (Nat.le_of_ble_eq_true rfl) dX3_rest_24 ?_
      refine lv_lconst (v := 1) hx hb dX3_rest_27 (by decide) ?_
      refine lv_lsub hx hb dX3_rest_28 ?_
      refine lv_lstore (lv' := [(7, .long ((mxL (abL m1) (abL n1)) - 1)), (0, .ref hM), (1, .int l0), (2, .int h0), (3, .long m1), (5, .long n1)]) hx hb dX3_rest_29 hl (by decide) rfl (fun ls hl => ?_)
      refine lv_iload_n hx hb dX3_rest_31 rfl (lv_at hl 2 rfl) ?_
      refine lv_if_lt (tgt := 48) hx hb dX3_rest_32 (by decide) (fun c_32 => ?_) (fun c_32 => ?_)
      · refine lv_aload_n hx hb dX3_rest_48 rfl (lv_at hl 1 rfl) ?_
        refine lv_iload_n hx hb dX3_rest_49 rfl (lv_at hl 2 rfl) ?_
        refine lv_i2l hx hb dX3_rest_50 rfl ?_
        refine lv_lload hx hb dX3_rest_51 (lv_at hl 0 rfl) ?_
        refine lv_lneg hx hb dX3_rest_53 ?_
        refine rr_maxL hx hb hml hl.1 hown hts q291 (Nat.le_of_ble_eq_true rfl) (Nat.le_of_ble_eq_true rfl) (Nat.le_of_ble_eq_true rfl) (Nat.le_of_ble_eq_true rfl) dX3_rest_54 ?_
        refine lv_iload_n hx hb dX3_rest_57 rfl (lv_at hl 3 rfl) ?_
        refine lv_if_gt (tgt := 65) hx hb dX3_rest_58 (by decide) (fun c_58 => ?_) (fun c_58 => ?_)
        · refine lv_iload_n hx hb dX3_rest_65 rfl (lv_at hl 3 rfl) ?_
          refine lv_i2l hx hb dX3_rest_66 rfl ?_
          refine lv_lload hx hb dX3_rest_67 (lv_at hl 0 rfl) ?_
          refine rr_minL hx hb hml hl.1 hown hts q290 (Nat.le_of_ble_eq_true rfl) (Nat.le_of_ble_eq_true rfl) (Nat.le_of_ble_eq_true rfl) (Nat.le_of_ble_eq_true rfl) dX3_rest_69 ?_
          refine rr_calli (wc := [(hM, .inr (3, [.ref hB, .int (nI n), .int ti, .int lo, .int hi])), (hB, .inl (d, 187, .inl b))]) (wr := []) (va_runV (As := [.long (mxL l0.toInt64 (-((mxL (abL m1) (abL n1)) - 1))), .long (mnL h0.toInt64 ((mxL (abL m1) (abL n1)) - 1))]) (rest := []) ⟨hx, hb, hml, hown, hts⟩ (met_X3_tell l D hM hB d b n ti lo hi s.heap.size (mxL l0.toInt64 (-((mxL (abL m1) (abL n1)) - 1))) (mnL h0.toInt64 ((mxL (abL m1) (abL n1)) - 1)) hok hn hmi hma) (cwV 2 hts (lw_V q278 q280 qs10 q22 q281) rfl rfl rfl (by decide +kernel) ⟨Nat.le_of_ble_eq_true rfl, Nat.le_of_ble_eq_true rfl⟩) ⟨rr_blind, va_recv hK hP (ci := 3) (q0 := 0) rfl rfl, rr_pre (hP.sub (ws' := [(hM, .inr (3, [.ref hB, .int (nI n), .int ti, .int lo, .int hi])), (hB, .inl (d, 187, .inl b))]) [0, 1] rfl) (hK.sub (tys' := [(d, .int)]) [0] rfl) (hD.sub (ws' := [(hM, .inr (3, [.ref hB, .int (nI n), .int ti, .int lo, .int hi])), (hB, .inl (d, 187, .inl b))]) [0, 1] (by decide) rfl)⟩ rfl rfl hl.1 rfl (lv_room (Nat.le_of_ble_eq_true rfl)) dX3_rest_72 ⟨Nat.le_of_ble_eq_true rfl, Nat.le_of_ble_eq_true rfl⟩) hK hP hD hS hA [0, 1] [] rfl rfl (by decide) (by decide) (fun rt u_128 H locs hwt hP hD hK hS => ?_)
          obtain ⟨lo1, hi1⟩ := u_128
          have hP : va_P D vwCl [(hM, .inr (3, [.ref hB, .int (nI n), .int ti, .int lo1, .int hi1])), (hB, .inl (d, 187, .inl b))] H := hP
          have hD : va_D A [(hM, .inr (3, [.ref hB, .int (nI n), .int ti, .int lo1, .int hi1])), (hB, .inl (d, 187, .inl b))] := hD
          have hK : va_K D vwCl [(d, .int)] s := hK.sub (tys' := [(d, .int)]) [0] rfl
          exact W.iret hx hb hr (rr_endi (lo1, hi1) (by unfold mdlRs; rw [if_neg (fun q => c_9 q.2), if_pos c_32, if_pos c_58]; exact hwt) hP hK hD hS) hS.2.2 dX3_rest_75
        · refine lv_lconst (v := 0) hx hb dX3_rest_61 (by decide) ?_
          refine lv_goto (tgt := 72) hx hb dX3_rest_62 (by decide) ?_
          refine rr_calli (wc := [(hM, .inr (3, [.ref hB, .int (nI n), .int ti, .int lo, .int hi])), (hB, .inl (d, 187, .inl b))]) (wr := []) (va_runV (As := [.long (mxL l0.toInt64 (-((mxL (abL m1) (abL n1)) - 1))), .long 0]) (rest := []) ⟨hx, hb, hml, hown, hts⟩ (met_X3_tell l D hM hB d b n ti lo hi s.heap.size (mxL l0.toInt64 (-((mxL (abL m1) (abL n1)) - 1))) 0 hok hn hmi hma) (cwV 2 hts (lw_V q278 q280 qs10 q22 q281) rfl rfl rfl (by decide +kernel) ⟨Nat.le_of_ble_eq_true rfl, Nat.le_of_ble_eq_true rfl⟩) ⟨rr_blind, va_recv hK hP (ci := 3) (q0 := 0) rfl rfl, rr_pre (hP.sub (ws' := [(hM, .inr (3, [.ref hB, .int (nI n), .int ti, .int lo, .int hi])), (hB, .inl (d, 187, .inl b))]) [0, 1] rfl) (hK.sub (tys' := [(d, .int)]) [0] rfl) (hD.sub (ws' := [(hM, .inr (3, [.ref hB, .int (nI n), .int ti, .int lo, .int hi])), (hB, .inl (d, 187, .inl b))]) [0, 1] (by decide) rfl)⟩ rfl rfl hl.1 rfl (lv_room (Nat.le_of_ble_eq_true rfl)) dX3_rest_72 ⟨Nat.le_of_ble_eq_true rfl, Nat.le_of_ble_eq_true rfl⟩) hK hP hD hS hA [0, 1] [] rfl rfl (by decide) (by decide) (fun rt u_129 H locs hwt hP hD hK hS => ?_)
          obtain ⟨lo1, hi1⟩ := u_129
          have hP : va_P D vwCl [(hM, .inr (3, [.ref hB, .int (nI n), .int ti, .int lo1, .int hi1])), (hB, .inl (d, 187, .inl b))] H := hP
          have hD : va_D A [(hM, .inr (3, [.ref hB, .int (nI n), .int ti, .int lo1, .int hi1])), (hB, .inl (d, 187, .inl b))] := hD
          have hK : va_K D vwCl [(d, .int)] s := hK.sub (tys' := [(d, .int)]) [0] rfl
          exact W.iret hx hb hr (rr_endi (lo1, hi1) (by unfold mdlRs; rw [if_neg (fun q => c_9 q.2), if_pos c_32, if_neg c_58]; exact hwt) hP hK hD hS) hS.2.2 dX3_rest_75
      · refine lv_aload_n hx hb dX3_rest_35 rfl (lv_at hl 1 rfl) ?_
        refine lv_lconst (v := 0) hx hb dX3_rest_36 (by decide) ?_
        refine lv_iload_n hx hb dX3_rest_37 rfl (lv_at hl 3 rfl) ?_
        refine lv_i2l hx hb dX3_rest_38 rfl ?_
        refine lv_lload hx hb dX3_rest_39 (lv_at hl 0 rfl) ?_
        refine rr_minL hx hb hml hl.1 hown hts q290 (Nat.le_of_ble_eq_true rfl) (Nat.le_of_ble_eq_true rfl) (Nat.le_of_ble_eq_true rfl) (Nat.le_of_ble_eq_true rfl) dX3_rest_41 ?_
        refine rr_calli (wc := [(hM, .inr (3, [.ref hB, .int (nI n), .int ti, .int lo, .int hi])), (hB, .inl (d, 187, .inl b))]) (wr := []) (va_runV (As := [.long 0, .long (mnL h0.toInt64 ((mxL (abL m1) (abL n1)) - 1))]) (rest := []) ⟨hx, hb, hml, hown, hts⟩ (met_X3_tell l D hM hB d b n ti lo hi s.heap.size 0 (mnL h0.toInt64 ((mxL (abL m1) (abL n1)) - 1)) hok hn hmi hma) (cwV 2 hts (lw_V q278 q280 qs10 q22 q281) rfl rfl rfl (by decide +kernel) ⟨Nat.le_of_ble_eq_true rfl, Nat.le_of_ble_eq_true rfl⟩) ⟨rr_blind, va_recv hK hP (ci := 3) (q0 := 0) rfl rfl, rr_pre (hP.sub (ws' := [(hM, .inr (3, [.ref hB, .int (nI n), .int ti, .int lo, .int hi])), (hB, .inl (d, 187, .inl b))]) [0, 1] rfl) (hK.sub (tys' := [(d, .int)]) [0] rfl) (hD.sub (ws' := [(hM, .inr (3, [.ref hB, .int (nI n), .int ti, .int lo, .int hi])), (hB, .inl (d, 187, .inl b))]) [0, 1] (by decide) rfl)⟩ rfl rfl hl.1 rfl (lv_room (Nat.le_of_ble_eq_true rfl)) dX3_rest_44 ⟨Nat.le_of_ble_eq_true rfl, Nat.le_of_ble_eq_true rfl⟩) hK hP hD hS hA [0, 1] [] rfl rfl (by decide) (by decide) (fun rt u_130 H locs hwt hP hD hK hS => ?_)
        obtain ⟨lo1, hi1⟩ := u_130
        have hP : va_P D vwCl [(hM, .inr (3, [.ref hB, .int (nI n), .int ti, .int lo1, .int hi1])), (hB, .inl (d, 187, .inl b))] H := hP
        have hD : va_D A [(hM, .inr (3, [.ref hB, .int (nI n), .int ti, .int lo1, .int hi1])), (hB, .inl (d, 187, .inl b))] := hD
        have hK : va_K D vwCl [(d, .int)] s := hK.sub (tys' := [(d, .int)]) [0] rfl
        exact W.iret hx hb hr (rr_endi (lo1, hi1) (by unfold mdlRs; rw [if_neg (fun q => c_9 q.2), if_neg c_32]; exact hwt) hP hK hD hS) hS.2.2 dX3_rest_47
    · refine lv_iconst (v := 0) hx hb dX3_rest_13 (by decide) ?_
      exact W.iret hx hb hr (rr_endi (lo, hi) (by unfold mdlRs; rw [if_pos ⟨c_2, c_9⟩]; exact ⟨rfl, rfl, rfl⟩) hP hK hD hS) hS.2.2 dX3_rest_14
set_option maxHeartbeats 4000000 in
set_option maxRecDepth 100000 in
theorem X3_ones_loop {p : Program} {l : Launch} {e : Env} {R : Room} {s : State} {m : MethodId} {args : Array Value} {below : List Frame} {meth : Method} {c : Code} {H : Heap} {locs : List Loc} {cells slots : Nat} {Q : State → Prop} (hx : p.tables.exec = Jvm.exec) (hb : c.code = cX3_ones) (hts : ∀ w ∈ lw_all, w.before args s = true) (hown : s.vm.findClass RX3 = some m.cls) {v : Int32} :
    ∀ (f k : Nat) (mo : Int64) (ls : Array Slot), k + f = 33 → mo = lN (2 ^ k - 1) → (∀ ls : Array Slot, lv_has ls 3 [(0, .int v), (1, .long (on1 f mo v.toInt64 v.toInt64))] → W p l e R s m args below meth c H locs cells slots Q (F0 m 20 ls [])) → lv_has ls 3 [(0, .int v), (1, .long mo)] → W p l e R s m args below meth c H locs cells slots Q (F0 m 2 ls []) := by
  intro f
  induction f with
  | zero =>
    intro k mo ls hk ek kk hl
    obtain rfl : k = 33 := by omega
    have c1 : ¬ mo < v.toInt64 := by rw [ek]; exact on1_top (w_i64le v)
    refine lv_lload_n hx hb dX3_ones_2 rfl (lv_at hl 1 rfl) ?_
    refine lv_iload_n hx hb dX3_ones_3 rfl (lv_at hl 0 rfl) ?_
    refine lv_i2l hx hb dX3_ones_4 rfl ?_
    refine lc_ge (tgt := 20) hx hb dX3_ones_5 dX3_ones_6 (by decide) (fun c_5 => ?_) (fun c_5 => absurd (fun_not c_5) c1)
    exact kk ls (lv_sub hl [0, 1] rfl)
  | succ f ih =>
    intro k mo ls hk ek kk hl
    refine lv_lload_n hx hb dX3_ones_2 rfl (lv_at hl 1 rfl) ?_
    refine lv_iload_n hx hb dX3_ones_3 rfl (lv_at hl 0 rfl) ?_
    refine lv_i2l hx hb dX3_ones_4 rfl ?_
    refine lc_ge (tgt := 20) hx hb dX3_ones_5 dX3_ones_6 (by decide) (fun c_5 => ?_) (fun c_5 => ?_)
    · rw [on1_stop (fun q => q.elim (fun z => fun_not2 c_5 z) (fun z => fun_not2 c_5 z))] at kk
      exact kk ls (lv_sub hl [0, 1] rfl)
    · refine lv_ldc2 (v := 2) hx hb hown (hts _ q310) dX3_ones_9 ?_
      refine lv_lload_n hx hb dX3_ones_12 rfl (lv_at hl 1 rfl) ?_
      refine lv_lmul hx hb dX3_ones_13 ?_
      refine lv_lconst (v := 1) hx hb dX3_ones_14 (by decide) ?_
      refine lv_ladd hx hb dX3_ones_15 ?_
      refine lv_lstore_n (lv' := [(1, .long ((2 * mo) + 1)), (0, .int v)]) hx hb dX3_ones_16 rfl hl (by decide) rfl (fun ls hl => ?_)
      refine lv_goto (tgt := 2) hx hb dX3_ones_17 (by decide) ?_
      exact ih (k + 1) _ ls (by omega) (by rw [ek]; exact on1_step (by omega)) (fun ls hl => by
        have q := kk ls
        rw [on1_go (Or.inl (fun_not c_5))] at q
        exact q hl) (lv_sub hl [1, 0] rfl)
abbrev wsX3_ones : List Cond := ws_ yX3_ones cX3_ones 3 (some .long)
set_option maxHeartbeats 4000000 in
set_option maxRecDepth 100000 in
theorem met_X3_ones (l : Launch) (D : va_G) (sz : Nat) (v : Int32) : rr_RL l D yX3_ones wsX3_ones ({ frames := 0, cells := 0, slots := 0, locals := 0 }) [.int v] [] [] sz (fun r => r = on1 33 0 v.toInt64 v.toInt64) := by
  refine Met.ofW (cc := cX3_ones) (maxL := 3) (ret := (some .long)) (by decide) rfl ?_
  intro p e s m args below meth c s₁ B hml hv
  obtain ⟨rfl, hsz, hP, hK⟩ := hv
  have hx := B.exec
  have hb := B.bytes
  have hr := B.returns
  have hts := atoms_spec (ws := wsX3_ones) B.pre
  have hts : ∀ w ∈ lw_all, w.before _ s = true := fun w h => hts w (List.mem_cons_of_mem _ h)
  have hown : s.vm.findClass RX3 = some m.cls := findClass_of_methodNamed B.named
  have hlocks := B.notSynchronized
  subst hsz
  generalize hAe : va_A [] s.heap.size = A
  have hA : ∀ q : Nat, s.heap.size ≤ q → A q := fun q h => by rw [← hAe]; exact Or.inr h
  have hS : va_S A s.heap s.heap [] := va_S.rf
  have hP : va_P D vwCl [] s.heap := hP
  have hK : va_K D vwCl [] s := hK
  have hl := lv_entry ([.int v]) (n := 3) (Nat.le_of_ble_eq_true rfl)
  rw [lg_entry_eq]
  generalize (lg_sl ([.int v]) ++ List.replicate (3 - (lg_sl ([.int v])).length) Slot.unset).toArray = ls at hl ⊢
  have hl : lv_has ls 3 [(0, .int v)] := hl
  refine lv_lconst (v := 0) hx hb dX3_ones_0 (by decide) ?_
  refine lv_lstore_n (lv' := [(1, .long 0), (0, .int v)]) hx hb dX3_ones_1 rfl hl (by decide) rfl (fun ls hl => ?_)
  refine X3_ones_loop hx hb hts hown 33 0 0 ls (by omega) rfl (fun ls hl => ?_) (lv_sub hl [1, 0] rfl)
  refine lv_lload_n hx hb dX3_ones_20 rfl (lv_at hl 1 rfl) ?_
  exact W.lret hx hb hr (rr_endl (by exact rfl) hS) hS.2.2 dX3_ones_21
end
section
abbrev wsX3_quotient : List Cond := ws_ yX3_quotient cX3_quotient 12 (some .int)
set_option maxHeartbeats 4000000 in
set_option maxRecDepth 100000 in
theorem X3_quot_49 {p : Program} {l : Launch} {e : Env} {s : State} {m : MethodId} {args : Array Value} {below : List Frame} {meth : Method} {c : Code} {H : Heap} {locs : List Loc} {Q : State → Prop} (hx : p.tables.exec = Jvm.exec) (hb : c.code = cX3_quotient) (hts : ∀ w ∈ lw_all, w.before args s = true) (hown : s.vm.findClass RX3 = some m.cls) (hml : c.maxLocals = 12) {hM : Nat} {l0 h0 m0 n0 kv : Int32} {le gr dv : Int64} {ls : Array Slot} (hl : lv_has ls 12 [(0, .ref hM), (1, .int l0), (2, .int h0), (3, .int m0), (4, .int n0), (5, .long le), (7, .long gr), (9, .int kv)])
    (kk : ∀ (ls : Array Slot) (q : Int64 × Int64), qst l0.toInt64 h0.toInt64 (mdB m0.toInt64 n0.toInt64 dv) dv (le, gr) = q → lv_has ls 12 [(0, .ref hM), (1, .int l0), (2, .int h0), (3, .int m0), (4, .int n0), (5, .long q.1), (7, .long q.2), (9, .int kv)] → W p l e (headSpec wsX3_quotient ({ frames := 3, cells := 0, slots := 0, locals := 68 })).room s m args below meth c H locs 0 0 Q (F0 m 118 ls [])) : W p l e (headSpec wsX3_quotient ({ frames := 3, cells := 0, slots := 0, locals := 68 })).room s m args below meth c H locs 0 0 Q (F0 m 49 ls [.long dv]) := by
  refine lv_lstore (lv' := [(10, .long dv), (0, .ref hM), (1, .int l0), (2, .int h0), (3, .int m0), (4, .int n0), (5, .long le), (7, .long gr), (9, .int kv)]) hx hb dX3_quotient_49 hl (by decide) rfl (fun ls hl => ?_)
  refine lv_lload hx hb dX3_quotient_51 (lv_at hl 0 rfl) ?_
  refine lv_lconst (v := 0) hx hb dX3_quotient_53 (by decide) ?_
  refine lc_eq (tgt := 118) hx hb dX3_quotient_54 dX3_quotient_55 (by decide) (fun c_54 => ?_) (fun c_54 => ?_)
  · exact kk ls _ (qst_f (decide_eq_false (fun q => q.1 c_54))) (lv_sub hl [1, 2, 3, 4, 5, 6, 7, 8] rfl)
  · refine lv_lload hx hb dX3_quotient_58 (lv_at hl 0 rfl) ?_
    refine lv_iload_n hx hb dX3_quotient_60 rfl (lv_at hl 4 rfl) ?_
    refine lv_i2l hx hb dX3_quotient_61 rfl ?_
    refine lc_lt (tgt := 118) hx hb dX3_quotient_62 dX3_quotient_63 (by decide) (fun c_62 => ?_) (fun c_62 => ?_)
    · exact kk ls _ (qst_f (decide_eq_false (fun q => q.2.1 c_62))) (lv_sub hl [1, 2, 3, 4, 5, 6, 7, 8] rfl)
    · refine lv_lload hx hb dX3_quotient_66 (lv_at hl 0 rfl) ?_
      refine lv_iload hx hb dX3_quotient_68 (lv_at hl 5 rfl) ?_
      refine lv_i2l hx hb dX3_quotient_70 rfl ?_
      refine lc_le (tgt := 78) hx hb dX3_quotient_71 dX3_quotient_72 (by decide) (fun c_71 => ?_) (fun c_71 => ?_)
      · refine lv_lload hx hb dX3_quotient_78 (lv_at hl 6 rfl) ?_
        refine lv_iload_n hx hb dX3_quotient_80 rfl (lv_at hl 2 rfl) ?_
        refine lv_i2l hx hb dX3_quotient_81 rfl ?_
        refine lv_lload hx hb dX3_quotient_82 (lv_at hl 0 rfl) ?_
        refine lv_ldiv hx hb dX3_quotient_84 (c_54) ?_
        refine lv_iload_n hx hb dX3_quotient_85 rfl (lv_at hl 3 rfl) ?_
        refine lv_i2l hx hb dX3_quotient_86 rfl ?_
        refine lv_lload hx hb dX3_quotient_87 (lv_at hl 0 rfl) ?_
        refine lv_ldiv hx hb dX3_quotient_89 (c_54) ?_
        refine rr_minL hx hb hml hl.1 hown hts q290 (Nat.le_of_ble_eq_true rfl) (Nat.le_of_ble_eq_true rfl) (Nat.le_of_ble_eq_true rfl) (Nat.le_of_ble_eq_true rfl) dX3_quotient_90 ?_
        refine rr_minL hx hb hml hl.1 hown hts q290 (Nat.le_of_ble_eq_true rfl) (Nat.le_of_ble_eq_true rfl) (Nat.le_of_ble_eq_true rfl) (Nat.le_of_ble_eq_true rfl) dX3_quotient_93 ?_
        refine lv_lstore (lv' := [(5, .long (mnL le (mnL (l0.toInt64 / dv) (h0.toInt64 / dv)))), (10, .long dv), (0, .ref hM), (1, .int l0), (2, .int h0), (3, .int m0), (4, .int n0), (7, .long gr), (9, .int kv)]) hx hb dX3_quotient_96 hl (by decide) rfl (fun ls hl => ?_)
        refine lv_lload hx hb dX3_quotient_98 (lv_at hl 7 rfl) ?_
        refine lv_iload_n hx hb dX3_quotient_100 rfl (lv_at hl 3 rfl) ?_
        refine lv_i2l hx hb dX3_quotient_101 rfl ?_
        refine lv_lload hx hb dX3_quotient_102 (lv_at hl 1 rfl) ?_
        refine lv_ldiv hx hb dX3_quotient_104 (c_54) ?_
        refine lv_iload_n hx hb dX3_quotient_105 rfl (lv_at hl 4 rfl) ?_
        refine lv_i2l hx hb dX3_quotient_106 rfl ?_
        refine lv_lload hx hb dX3_quotient_107 (lv_at hl 1 rfl) ?_
        refine lv_ldiv hx hb dX3_quotient_109 (c_54) ?_
        refine rr_maxL hx hb hml hl.1 hown hts q291 (Nat.le_of_ble_eq_true rfl) (Nat.le_of_ble_eq_true rfl) (Nat.le_of_ble_eq_true rfl) (Nat.le_of_ble_eq_true rfl) dX3_quotient_110 ?_
        refine rr_maxL hx hb hml hl.1 hown hts q291 (Nat.le_of_ble_eq_true rfl) (Nat.le_of_ble_eq_true rfl) (Nat.le_of_ble_eq_true rfl) (Nat.le_of_ble_eq_true rfl) dX3_quotient_113 ?_
        refine lv_lstore (lv' := [(7, .long (mxL gr (mxL (l0.toInt64 / dv) (h0.toInt64 / dv)))), (5, .long (mnL le (mnL (l0.toInt64 / dv) (h0.toInt64 / dv)))), (10, .long dv), (0, .ref hM), (1, .int l0), (2, .int h0), (3, .int m0), (4, .int n0), (9, .int kv)]) hx hb dX3_quotient_116 hl (by decide) rfl (fun ls hl => ?_)
        exact kk ls _ (qst_t (decide_eq_true ⟨c_54, c_62, fun z => fun_not2 c_71 z⟩)) (lv_sub hl [3, 4, 5, 6, 7, 1, 0, 8] rfl)
      · refine lv_goto (tgt := 118) hx hb dX3_quotient_75 (by decide) ?_
        exact kk ls _ (qst_f (decide_eq_false (fun q => q.2.2 (fun_not c_71)))) (lv_sub hl [1, 2, 3, 4, 5, 6, 7, 8] rfl)
set_option maxHeartbeats 4000000 in
set_option maxRecDepth 100000 in
theorem met_X3_quotient (l : Launch) (D : va_G) (hM hB : Nat) (d : ClassId) (b : Nat → Int32) (n : Nat) (ti lo hi : Int32) (sz : Nat) (l0 h0 m0 n0 : Int32) {S : Int32 → Bool} (hok : M_ok S n b) (hn : n ≤ 187) (hmi : S (-2147483648) = true) (hma : S 2147483647 = true) : rr_CI l D yX3_quotient wsX3_quotient ({ frames := 3, cells := 0, slots := 0, locals := 68 }) [.ref hM, .int l0, .int h0, .int m0, .int n0] [(d, .int)] [(hM, .inr (3, [.ref hB, .int (nI n), .int ti, .int lo, .int hi])), (hB, .inl (d, 187, .inl b))] sz (fun (r : Int32) (u : Int32 × Int32) => WorkR (TellR S) (mdlOp 3 l0 h0 m0 n0) lo hi r u.1 u.2) (fun _ => [(d, .int)]) (fun u => [(hM, .inr (3, [.ref hB, .int (nI n), .int ti, .int u.1, .int u.2])), (hB, .inl (d, 187, .inl b))]) 0 0 := by
  refine Met.ofW (cc := cX3_quotient) (maxL := 12) (ret := (some .int)) (by decide) rfl ?_
  intro p e s m args below meth c s₁ B hml hv
  obtain ⟨rfl, hsz, hP, hK, hD0⟩ := hv
  have hx := B.exec
  have hb := B.bytes
  have hr := B.returns
  have hts := atoms_spec (ws := wsX3_quotient) B.pre
  have hts : ∀ w ∈ lw_all, w.before _ s = true := fun w h => hts w (List.mem_cons_of_mem _ h)
  have hown : s.vm.findClass RX3 = some m.cls := findClass_of_methodNamed B.named
  have hlocks := B.notSynchronized
  subst hsz
  have hD := hD0.self (sz := s.heap.size)
  generalize hAe : va_A [(hM, .inr (3, [.ref hB, .int (nI n), .int ti, .int lo, .int hi])), (hB, .inl (d, 187, .inl b))] s.heap.size = A at hD ⊢
  have hA : ∀ q : Nat, s.heap.size ≤ q → A q := fun q h => by rw [← hAe]; exact Or.inr h
  have hS : va_S A s.heap s.heap [] := va_S.rf
  have hP : va_P D vwCl [(hM, .inr (3, [.ref hB, .int (nI n), .int ti, .int lo, .int hi])), (hB, .inl (d, 187, .inl b))] s.heap := hP
  have hK : va_K D vwCl [(d, .int)] s := hK
  have hl := lv_entry ([.ref hM, .int l0, .int h0, .int m0, .int n0]) (n := 12) (Nat.le_of_ble_eq_true rfl)
  rw [lg_entry_eq]
  generalize (lg_sl ([.ref hM, .int l0, .int h0, .int m0, .int n0]) ++ List.replicate (12 - (lg_sl ([.ref hM, .int l0, .int h0, .int m0, .int n0])).length) Slot.unset).toArray = ls at hl ⊢
  have hl : lv_has ls 12 [(0, .ref hM), (1, .int l0), (2, .int h0), (3, .int m0), (4, .int n0)] := hl
  refine lv_ldc2 (v := 9223372036854775807) hx hb hown (hts _ q296) dX3_quotient_0 ?_
  refine lv_lstore (lv' := [(5, .long 9223372036854775807), (0, .ref hM), (1, .int l0), (2, .int h0), (3, .int m0), (4, .int n0)]) hx hb dX3_quotient_3 hl (by decide) rfl (fun ls hl => ?_)
  refine lv_ldc2 (v := (-9223372036854775808)) hx hb hown (hts _ q297) dX3_quotient_5 ?_
  refine lv_lstore (lv' := [(7, .long (-9223372036854775808)), (5, .long 9223372036854775807), (0, .ref hM), (1, .int l0), (2, .int h0), (3, .int m0), (4, .int n0)]) hx hb dX3_quotient_8 hl (by decide) rfl (fun ls hl => ?_)
  refine lv_iconst (v := 0) hx hb dX3_quotient_10 (by decide) ?_
  refine lv_istore (lv' := [(9, .int 0), (7, .long (-9223372036854775808)), (5, .long 9223372036854775807), (0, .ref hM), (1, .int l0), (2, .int h0), (3, .int m0), (4, .int n0)]) hx hb dX3_quotient_11 hl (by decide) rfl (fun ls hl => ?_)
  refine lv_iload hx hb dX3_quotient_13 (lv_at hl 0 rfl) ?_
  refine lv_iconst (v := 4) hx hb dX3_quotient_15 (by decide) ?_
  refine lv_icmp_ge (tgt := 124) hx hb dX3_quotient_16 (by decide) (fun c_16 => absurd c_16 (by decide)) (fun c_16 => ?_)
  refine lv_iload hx hb dX3_quotient_19 (lv_at hl 0 rfl) ?_
  refine lv_iconst (v := 2) hx hb dX3_quotient_21 (by decide) ?_
  refine lv_icmp_ge (tgt := 35) hx hb dX3_quotient_22 (by decide) (fun c_22 => absurd c_22 (by decide)) (fun c_22 => ?_)
  refine lv_iconst (v := 2) hx hb dX3_quotient_25 (by decide) ?_
  refine lv_iload hx hb dX3_quotient_26 (lv_at hl 0 rfl) ?_
  refine lv_imul hx hb dX3_quotient_28 ?_
  refine lv_iconst (v := 1) hx hb dX3_quotient_29 (by decide) ?_
  refine lv_isub hx hb dX3_quotient_30 ?_
  refine rr_reti (y := (-1)) (by decide) ?_
  refine lv_i2l hx hb dX3_quotient_31 rfl ?_
  refine rr_retl (y := (-1)) (by decide) ?_
  refine lv_goto (tgt := 49) hx hb dX3_quotient_32 (by decide) ?_
  refine X3_quot_49 hx hb hts hown hml (lv_sub hl [3, 4, 5, 6, 7, 2, 1, 0] rfl) (fun ls q1 e1 hl => ?_)
  refine lv_iinc (v := 1) (lv' := [(9, .int 1), (0, .ref hM), (1, .int l0), (2, .int h0), (3, .int m0), (4, .int n0), (5, .long q1.1), (7, .long q1.2)]) hx hb dX3_quotient_118 hl (k := 7) rfl (by decide) (by decide) rfl (fun ls hl => ?_)
  refine lv_goto (tgt := 13) hx hb dX3_quotient_121 (by decide) ?_
  refine lv_iload hx hb dX3_quotient_13 (lv_at hl 0 rfl) ?_
  refine lv_iconst (v := 4) hx hb dX3_quotient_15 (by decide) ?_
  refine lv_icmp_ge (tgt := 124) hx hb dX3_quotient_16 (by decide) (fun c_16 => absurd c_16 (by decide)) (fun c_16 => ?_)
  refine lv_iload hx hb dX3_quotient_19 (lv_at hl 0 rfl) ?_
  refine lv_iconst (v := 2) hx hb dX3_quotient_21 (by decide) ?_
  refine lv_icmp_ge (tgt := 35) hx hb dX3_quotient_22 (by decide) (fun c_22 => absurd c_22 (by decide)) (fun c_22 => ?_)
  refine lv_iconst (v := 2) hx hb dX3_quotient_25 (by decide) ?_
  refine lv_iload hx hb dX3_quotient_26 (lv_at hl 0 rfl) ?_
  refine lv_imul hx hb dX3_quotient_28 ?_
  refine lv_iconst (v := 1) hx hb dX3_quotient_29 (by decide) ?_
  refine lv_isub hx hb dX3_quotient_30 ?_
  refine rr_reti (y := 1) (by decide) ?_
  refine lv_i2l hx hb dX3_quotient_31 rfl ?_
  refine rr_retl (y := 1) (by decide) ?_
  refine lv_goto (tgt := 49) hx hb dX3_quotient_32 (by decide) ?_
  refine X3_quot_49 hx hb hts hown hml (lv_sub hl [1, 2, 3, 4, 5, 6, 7, 0] rfl) (fun ls q2 e2 hl => ?_)
  refine lv_iinc (v := 2) (lv' := [(9, .int 2), (0, .ref hM), (1, .int l0), (2, .int h0), (3, .int m0), (4, .int n0), (5, .long q2.1), (7, .long q2.2)]) hx hb dX3_quotient_118 hl (k := 7) rfl (by decide) (by decide) rfl (fun ls hl => ?_)
  refine lv_goto (tgt := 13) hx hb dX3_quotient_121 (by decide) ?_
  refine lv_iload hx hb dX3_quotient_13 (lv_at hl 0 rfl) ?_
  refine lv_iconst (v := 4) hx hb dX3_quotient_15 (by decide) ?_
  refine lv_icmp_ge (tgt := 124) hx hb dX3_quotient_16 (by decide) (fun c_16 => absurd c_16 (by decide)) (fun c_16 => ?_)
  refine lv_iload hx hb dX3_quotient_19 (lv_at hl 0 rfl) ?_
  refine lv_iconst (v := 2) hx hb dX3_quotient_21 (by decide) ?_
  refine lv_icmp_ge (tgt := 35) hx hb dX3_quotient_22 (by decide) (fun c_22 => ?_) (fun c_22 => absurd (by decide) c_22)
  refine lv_iload hx hb dX3_quotient_35 (lv_at hl 0 rfl) ?_
  refine lv_iconst (v := 2) hx hb dX3_quotient_37 (by decide) ?_
  refine lv_icmp_ne (tgt := 46) hx hb dX3_quotient_38 (by decide) (fun c_38 => absurd (by decide) c_38) (fun c_38 => ?_)
  refine lv_iload_n hx hb dX3_quotient_41 rfl (lv_at hl 4 rfl) ?_
  refine lv_i2l hx hb dX3_quotient_42 rfl ?_
  refine lv_goto (tgt := 49) hx hb dX3_quotient_43 (by decide) ?_
  refine X3_quot_49 hx hb hts hown hml (lv_sub hl [1, 2, 3, 4, 5, 6, 7, 0] rfl) (fun ls q3 e3 hl => ?_)
  refine lv_iinc (v := 3) (lv' := [(9, .int 3), (0, .ref hM), (1, .int l0), (2, .int h0), (3, .int m0), (4, .int n0), (5, .long q3.1), (7, .long q3.2)]) hx hb dX3_quotient_118 hl (k := 7) rfl (by decide) (by decide) rfl (fun ls hl => ?_)
  refine lv_goto (tgt := 13) hx hb dX3_quotient_121 (by decide) ?_
  refine lv_iload hx hb dX3_quotient_13 (lv_at hl 0 rfl) ?_
  refine lv_iconst (v := 4) hx hb dX3_quotient_15 (by decide) ?_
  refine lv_icmp_ge (tgt := 124) hx hb dX3_quotient_16 (by decide) (fun c_16 => absurd c_16 (by decide)) (fun c_16 => ?_)
  refine lv_iload hx hb dX3_quotient_19 (lv_at hl 0 rfl) ?_
  refine lv_iconst (v := 2) hx hb dX3_quotient_21 (by decide) ?_
  refine lv_icmp_ge (tgt := 35) hx hb dX3_quotient_22 (by decide) (fun c_22 => ?_) (fun c_22 => absurd (by decide) c_22)
  refine lv_iload hx hb dX3_quotient_35 (lv_at hl 0 rfl) ?_
  refine lv_iconst (v := 2) hx hb dX3_quotient_37 (by decide) ?_
  refine lv_icmp_ne (tgt := 46) hx hb dX3_quotient_38 (by decide) (fun c_38 => ?_) (fun c_38 => absurd c_38 (by decide))
  refine lv_iload hx hb dX3_quotient_46 (lv_at hl 5 rfl) ?_
  refine lv_i2l hx hb dX3_quotient_48 rfl ?_
  refine X3_quot_49 hx hb hts hown hml (lv_sub hl [1, 2, 3, 4, 5, 6, 7, 0] rfl) (fun ls q4 e4 hl => ?_)
  refine lv_iinc (v := 4) (lv' := [(9, .int 4), (0, .ref hM), (1, .int l0), (2, .int h0), (3, .int m0), (4, .int n0), (5, .long q4.1), (7, .long q4.2)]) hx hb dX3_quotient_118 hl (k := 7) rfl (by decide) (by decide) rfl (fun ls hl => ?_)
  refine lv_goto (tgt := 13) hx hb dX3_quotient_121 (by decide) ?_
  refine lv_iload hx hb dX3_quotient_13 (lv_at hl 0 rfl) ?_
  refine lv_iconst (v := 4) hx hb dX3_quotient_15 (by decide) ?_
  refine lv_icmp_ge (tgt := 124) hx hb dX3_quotient_16 (by decide) (fun c_16 => ?_) (fun c_16 => absurd (by decide) c_16)
  refine lv_lload hx hb dX3_quotient_124 (lv_at hl 6 rfl) ?_
  refine lv_lload hx hb dX3_quotient_126 (lv_at hl 7 rfl) ?_
  refine lc_le (tgt := 136) hx hb dX3_quotient_128 dX3_quotient_129 (by decide) (fun c_128 => ?_) (fun c_128 => ?_)
  · refine lv_aload_n hx hb dX3_quotient_136 rfl (lv_at hl 1 rfl) ?_
    refine lv_lload hx hb dX3_quotient_137 (lv_at hl 6 rfl) ?_
    refine lv_lload hx hb dX3_quotient_139 (lv_at hl 7 rfl) ?_
    refine rr_calli (wc := [(hM, .inr (3, [.ref hB, .int (nI n), .int ti, .int lo, .int hi])), (hB, .inl (d, 187, .inl b))]) (wr := []) (va_runV (As := [.long q4.1, .long q4.2]) (rest := []) ⟨hx, hb, hml, hown, hts⟩ (met_X3_tell l D hM hB d b n ti lo hi s.heap.size q4.1 q4.2 hok hn hmi hma) (cwV 2 hts (lw_V q278 q280 qs10 q22 q281) rfl rfl rfl (by decide +kernel) ⟨Nat.le_of_ble_eq_true rfl, Nat.le_of_ble_eq_true rfl⟩) ⟨rr_blind, va_recv hK hP (ci := 3) (q0 := 0) rfl rfl, rr_pre (hP.sub (ws' := [(hM, .inr (3, [.ref hB, .int (nI n), .int ti, .int lo, .int hi])), (hB, .inl (d, 187, .inl b))]) [0, 1] rfl) (hK.sub (tys' := [(d, .int)]) [0] rfl) (hD.sub (ws' := [(hM, .inr (3, [.ref hB, .int (nI n), .int ti, .int lo, .int hi])), (hB, .inl (d, 187, .inl b))]) [0, 1] (by decide) rfl)⟩ rfl rfl hl.1 rfl (lv_room (Nat.le_of_ble_eq_true rfl)) dX3_quotient_141 ⟨Nat.le_of_ble_eq_true rfl, Nat.le_of_ble_eq_true rfl⟩) hK hP hD hS hA [0, 1] [] rfl rfl (by decide) (by decide) (fun rt u_131 H locs hwt hP hD hK hS => ?_)
    obtain ⟨lo1, hi1⟩ := u_131
    have hP : va_P D vwCl [(hM, .inr (3, [.ref hB, .int (nI n), .int ti, .int lo1, .int hi1])), (hB, .inl (d, 187, .inl b))] H := hP
    have hD : va_D A [(hM, .inr (3, [.ref hB, .int (nI n), .int ti, .int lo1, .int hi1])), (hB, .inl (d, 187, .inl b))] := hD
    have hK : va_K D vwCl [(d, .int)] s := hK.sub (tys' := [(d, .int)]) [0] rfl
    have eq : mdlQ l0.toInt64 h0.toInt64 m0.toInt64 n0.toInt64 = q4 := by unfold mdlQ; rw [show q00 = (9223372036854775807, -9223372036854775808) from rfl, e1, e2, e3, e4]
    exact W.iret hx hb hr (rr_endi (lo1, hi1) (by show WorkR _ (if _ ≤ _ then _ else _) _ _ _ _ _; rw [eq, if_pos c_128]; exact hwt) hP hK hD hS) hS.2.2 dX3_quotient_144
  · refine lv_iconst (v := 0) hx hb dX3_quotient_132 (by decide) ?_
    refine lv_goto (tgt := 144) hx hb dX3_quotient_133 (by decide) ?_
    have eq : mdlQ l0.toInt64 h0.toInt64 m0.toInt64 n0.toInt64 = q4 := by unfold mdlQ; rw [show q00 = (9223372036854775807, -9223372036854775808) from rfl, e1, e2, e3, e4]
    exact W.iret hx hb hr (rr_endi (lo, hi) (by show WorkR _ (if _ ≤ _ then _ else _) _ _ _ _ _; rw [eq, if_neg c_128]; exact ⟨rfl, rfl, rfl⟩) hP hK hD hS) hS.2.2 dX3_quotient_144
end
section
abbrev wsX3_work : List Cond := ws_ yX3_work cX3_work 8 (some .int)
theorem i_not {x : Int32} (q : ¬ 0 ≤ x) : x < 0 := by
  rw [Int32.le_iff_toInt_le] at q
  rw [Int32.lt_iff_toInt_lt]
  omega
theorem i_not2 {x : Int32} (q : 0 ≤ x) (z : x < 0) : False := by
  rw [Int32.le_iff_toInt_le] at q
  rw [Int32.lt_iff_toInt_lt] at z
  omega
set_option maxHeartbeats 4000000 in
set_option maxRecDepth 100000 in
theorem X3_work_0 {p : Program} {l : Launch} {e : Env} {s : State} {m : MethodId} {args : Array Value} {below : List Frame} {meth : Method} {c : Code} {H : Heap} {locs : List Loc} {Q : State → Prop} (hx : p.tables.exec = Jvm.exec) (hb : c.code = cX3_work) (hts : ∀ w ∈ lw_all, w.before args s = true) (hown : s.vm.findClass RX3 = some m.cls) (hml : c.maxLocals = 8) {D : va_G} {hM hB n : Nat} {d : ClassId} {b : Nat → Int32} {ti lo hi l0 h0 m0 n0 : Int32} {S : Int32 → Bool} (hok : M_ok S n b) (hn : n ≤ 187) (hmi : S (-2147483648) = true) (hma : S 2147483647 = true) {A : Nat → Prop} {H0 : Heap} (hK : va_K D vwCl [(d, .int)] s) (hP : va_P D vwCl [(hM, .inr (3, [.ref hB, .int (nI n), .int ti, .int lo, .int hi])), (hB, .inl (d, 187, .inl b))] H) (hD : va_D A [(hM, .inr (3, [.ref hB, .int (nI n), .int ti, .int lo, .int hi])), (hB, .inl (d, 187, .inl b))]) (hS : va_S A H0 H locs) (hA : ∀ q : Nat, H0.size ≤ q → A q) {ls : Array Slot} (hl : lv_has ls 8 [(0, .ref hM), (1, .int (nI 0)), (2, .int l0), (3, .int h0), (4, .int m0), (5, .int n0)])
    (kk : ∀ (r lo2 hi2 : Int32) (H : Heap) (locs : List Loc) (ls : Array Slot) (pc : Nat), decode cX3_work pc = .ok (.ireturn, 1) → WorkR (TellR S) (mdlOp 0 l0 h0 m0 n0) lo hi r lo2 hi2 → va_P D vwCl [(hM, .inr (3, [.ref hB, .int (nI n), .int ti, .int lo2, .int hi2])), (hB, .inl (d, 187, .inl b))] H → va_D A [(hM, .inr (3, [.ref hB, .int (nI n), .int ti, .int lo2, .int hi2])), (hB, .inl (d, 187, .inl b))] → va_S A H0 H locs → W p l e (headSpec wsX3_work ({ frames := 4, cells := 0, slots := 0, locals := 99 })).room s m args below meth c H locs 0 0 Q (F0 m pc ls [.int r])) : W p l e (headSpec wsX3_work ({ frames := 4, cells := 0, slots := 0, locals := 99 })).room s m args below meth c H locs 0 0 Q (F0 m 32 ls []) := by
  refine lv_iload_n hx hb dX3_work_32 rfl (lv_at hl 1 rfl) ?_
  refine lv_tableIn (off := 51) (tgt := 84) hx hb dX3_work_33 (by decide) (by decide) rfl (by decide) ?_
  refine lv_aload_n hx hb dX3_work_84 rfl (lv_at hl 0 rfl) ?_
  refine lv_iload_n hx hb dX3_work_85 rfl (lv_at hl 2 rfl) ?_
  refine lv_i2l hx hb dX3_work_86 rfl ?_
  refine lv_iload hx hb dX3_work_87 (lv_at hl 4 rfl) ?_
  refine lv_i2l hx hb dX3_work_89 rfl ?_
  refine lv_ladd hx hb dX3_work_90 ?_
  refine lv_iload_n hx hb dX3_work_91 rfl (lv_at hl 3 rfl) ?_
  refine lv_i2l hx hb dX3_work_92 rfl ?_
  refine lv_iload hx hb dX3_work_93 (lv_at hl 5 rfl) ?_
  refine lv_i2l hx hb dX3_work_95 rfl ?_
  refine lv_ladd hx hb dX3_work_96 ?_
  refine rr_calli (wc := [(hM, .inr (3, [.ref hB, .int (nI n), .int ti, .int lo, .int hi])), (hB, .inl (d, 187, .inl b))]) (wr := []) (va_runV (As := [.long (l0.toInt64 + m0.toInt64), .long (h0.toInt64 + n0.toInt64)]) (rest := []) ⟨hx, hb, hml, hown, hts⟩ (met_X3_tell l D hM hB d b n ti lo hi H.size (l0.toInt64 + m0.toInt64) (h0.toInt64 + n0.toInt64) hok hn hmi hma) (cwV 2 hts (lw_V q278 q280 qs10 q22 q281) rfl rfl rfl (by decide +kernel) ⟨Nat.le_of_ble_eq_true rfl, Nat.le_of_ble_eq_true rfl⟩) ⟨rr_blind, va_recv hK hP (ci := 3) (q0 := 0) rfl rfl, rr_pre (hP.sub (ws' := [(hM, .inr (3, [.ref hB, .int (nI n), .int ti, .int lo, .int hi])), (hB, .inl (d, 187, .inl b))]) [0, 1] rfl) (hK.sub (tys' := [(d, .int)]) [0] rfl) (hD.sub (ws' := [(hM, .inr (3, [.ref hB, .int (nI n), .int ti, .int lo, .int hi])), (hB, .inl (d, 187, .inl b))]) [0, 1] (by decide) rfl)⟩ rfl rfl hl.1 rfl (lv_room (Nat.le_of_ble_eq_true rfl)) dX3_work_97 ⟨Nat.le_of_ble_eq_true rfl, Nat.le_of_ble_eq_true rfl⟩) hK hP hD hS hA [0, 1] [] rfl rfl (by decide) (by decide) (fun rt u_132 H locs hwt hP hD hK hS => ?_)
  obtain ⟨lo1, hi1⟩ := u_132
  have hP : va_P D vwCl [(hM, .inr (3, [.ref hB, .int (nI n), .int ti, .int lo1, .int hi1])), (hB, .inl (d, 187, .inl b))] H := hP
  have hD : va_D A [(hM, .inr (3, [.ref hB, .int (nI n), .int ti, .int lo1, .int hi1])), (hB, .inl (d, 187, .inl b))] := hD
  have hK : va_K D vwCl [(d, .int)] s := hK.sub (tys' := [(d, .int)]) [0] rfl
  exact kk rt lo1 hi1 H locs ls 100 dX3_work_100 (hwt) hP hD hS
set_option maxHeartbeats 4000000 in
set_option maxRecDepth 100000 in
theorem X3_work_1 {p : Program} {l : Launch} {e : Env} {s : State} {m : MethodId} {args : Array Value} {below : List Frame} {meth : Method} {c : Code} {H : Heap} {locs : List Loc} {Q : State → Prop} (hx : p.tables.exec = Jvm.exec) (hb : c.code = cX3_work) (hts : ∀ w ∈ lw_all, w.before args s = true) (hown : s.vm.findClass RX3 = some m.cls) (hml : c.maxLocals = 8) {D : va_G} {hM hB n : Nat} {d : ClassId} {b : Nat → Int32} {ti lo hi l0 h0 m0 n0 : Int32} {S : Int32 → Bool} (hok : M_ok S n b) (hn : n ≤ 187) (hmi : S (-2147483648) = true) (hma : S 2147483647 = true) {A : Nat → Prop} {H0 : Heap} (hK : va_K D vwCl [(d, .int)] s) (hP : va_P D vwCl [(hM, .inr (3, [.ref hB, .int (nI n), .int ti, .int lo, .int hi])), (hB, .inl (d, 187, .inl b))] H) (hD : va_D A [(hM, .inr (3, [.ref hB, .int (nI n), .int ti, .int lo, .int hi])), (hB, .inl (d, 187, .inl b))]) (hS : va_S A H0 H locs) (hA : ∀ q : Nat, H0.size ≤ q → A q) {ls : Array Slot} (hl : lv_has ls 8 [(0, .ref hM), (1, .int (nI 1)), (2, .int l0), (3, .int h0), (4, .int m0), (5, .int n0)])
    (kk : ∀ (r lo2 hi2 : Int32) (H : Heap) (locs : List Loc) (ls : Array Slot) (pc : Nat), decode cX3_work pc = .ok (.ireturn, 1) → WorkR (TellR S) (mdlOp 1 l0 h0 m0 n0) lo hi r lo2 hi2 → va_P D vwCl [(hM, .inr (3, [.ref hB, .int (nI n), .int ti, .int lo2, .int hi2])), (hB, .inl (d, 187, .inl b))] H → va_D A [(hM, .inr (3, [.ref hB, .int (nI n), .int ti, .int lo2, .int hi2])), (hB, .inl (d, 187, .inl b))] → va_S A H0 H locs → W p l e (headSpec wsX3_work ({ frames := 4, cells := 0, slots := 0, locals := 99 })).room s m args below meth c H locs 0 0 Q (F0 m pc ls [.int r])) : W p l e (headSpec wsX3_work ({ frames := 4, cells := 0, slots := 0, locals := 99 })).room s m args below meth c H locs 0 0 Q (F0 m 32 ls []) := by
  refine lv_iload_n hx hb dX3_work_32 rfl (lv_at hl 1 rfl) ?_
  refine lv_tableIn (off := 68) (tgt := 101) hx hb dX3_work_33 (by decide) (by decide) rfl (by decide) ?_
  refine lv_aload_n hx hb dX3_work_101 rfl (lv_at hl 0 rfl) ?_
  refine lv_iload_n hx hb dX3_work_102 rfl (lv_at hl 2 rfl) ?_
  refine lv_i2l hx hb dX3_work_103 rfl ?_
  refine lv_iload hx hb dX3_work_104 (lv_at hl 5 rfl) ?_
  refine lv_i2l hx hb dX3_work_106 rfl ?_
  refine lv_lsub hx hb dX3_work_107 ?_
  refine lv_iload_n hx hb dX3_work_108 rfl (lv_at hl 3 rfl) ?_
  refine lv_i2l hx hb dX3_work_109 rfl ?_
  refine lv_iload hx hb dX3_work_110 (lv_at hl 4 rfl) ?_
  refine lv_i2l hx hb dX3_work_112 rfl ?_
  refine lv_lsub hx hb dX3_work_113 ?_
  refine rr_calli (wc := [(hM, .inr (3, [.ref hB, .int (nI n), .int ti, .int lo, .int hi])), (hB, .inl (d, 187, .inl b))]) (wr := []) (va_runV (As := [.long (l0.toInt64 - n0.toInt64), .long (h0.toInt64 - m0.toInt64)]) (rest := []) ⟨hx, hb, hml, hown, hts⟩ (met_X3_tell l D hM hB d b n ti lo hi H.size (l0.toInt64 - n0.toInt64) (h0.toInt64 - m0.toInt64) hok hn hmi hma) (cwV 2 hts (lw_V q278 q280 qs10 q22 q281) rfl rfl rfl (by decide +kernel) ⟨Nat.le_of_ble_eq_true rfl, Nat.le_of_ble_eq_true rfl⟩) ⟨rr_blind, va_recv hK hP (ci := 3) (q0 := 0) rfl rfl, rr_pre (hP.sub (ws' := [(hM, .inr (3, [.ref hB, .int (nI n), .int ti, .int lo, .int hi])), (hB, .inl (d, 187, .inl b))]) [0, 1] rfl) (hK.sub (tys' := [(d, .int)]) [0] rfl) (hD.sub (ws' := [(hM, .inr (3, [.ref hB, .int (nI n), .int ti, .int lo, .int hi])), (hB, .inl (d, 187, .inl b))]) [0, 1] (by decide) rfl)⟩ rfl rfl hl.1 rfl (lv_room (Nat.le_of_ble_eq_true rfl)) dX3_work_114 ⟨Nat.le_of_ble_eq_true rfl, Nat.le_of_ble_eq_true rfl⟩) hK hP hD hS hA [0, 1] [] rfl rfl (by decide) (by decide) (fun rt u_133 H locs hwt hP hD hK hS => ?_)
  obtain ⟨lo1, hi1⟩ := u_133
  have hP : va_P D vwCl [(hM, .inr (3, [.ref hB, .int (nI n), .int ti, .int lo1, .int hi1])), (hB, .inl (d, 187, .inl b))] H := hP
  have hD : va_D A [(hM, .inr (3, [.ref hB, .int (nI n), .int ti, .int lo1, .int hi1])), (hB, .inl (d, 187, .inl b))] := hD
  have hK : va_K D vwCl [(d, .int)] s := hK.sub (tys' := [(d, .int)]) [0] rfl
  exact kk rt lo1 hi1 H locs ls 117 dX3_work_117 (hwt) hP hD hS
set_option maxHeartbeats 4000000 in
set_option maxRecDepth 100000 in
theorem X3_work_2 {p : Program} {l : Launch} {e : Env} {s : State} {m : MethodId} {args : Array Value} {below : List Frame} {meth : Method} {c : Code} {H : Heap} {locs : List Loc} {Q : State → Prop} (hx : p.tables.exec = Jvm.exec) (hb : c.code = cX3_work) (hts : ∀ w ∈ lw_all, w.before args s = true) (hown : s.vm.findClass RX3 = some m.cls) (hml : c.maxLocals = 8) {D : va_G} {hM hB n : Nat} {d : ClassId} {b : Nat → Int32} {ti lo hi l0 h0 m0 n0 : Int32} {S : Int32 → Bool} (hok : M_ok S n b) (hn : n ≤ 187) (hmi : S (-2147483648) = true) (hma : S 2147483647 = true) {A : Nat → Prop} {H0 : Heap} (hK : va_K D vwCl [(d, .int)] s) (hP : va_P D vwCl [(hM, .inr (3, [.ref hB, .int (nI n), .int ti, .int lo, .int hi])), (hB, .inl (d, 187, .inl b))] H) (hD : va_D A [(hM, .inr (3, [.ref hB, .int (nI n), .int ti, .int lo, .int hi])), (hB, .inl (d, 187, .inl b))]) (hS : va_S A H0 H locs) (hA : ∀ q : Nat, H0.size ≤ q → A q) {ls : Array Slot} (hl : lv_has ls 8 [(0, .ref hM), (1, .int (nI 2)), (2, .int l0), (3, .int h0), (4, .int m0), (5, .int n0)])
    (kk : ∀ (r lo2 hi2 : Int32) (H : Heap) (locs : List Loc) (ls : Array Slot) (pc : Nat), decode cX3_work pc = .ok (.ireturn, 1) → WorkR (TellR S) (mdlOp 2 l0 h0 m0 n0) lo hi r lo2 hi2 → va_P D vwCl [(hM, .inr (3, [.ref hB, .int (nI n), .int ti, .int lo2, .int hi2])), (hB, .inl (d, 187, .inl b))] H → va_D A [(hM, .inr (3, [.ref hB, .int (nI n), .int ti, .int lo2, .int hi2])), (hB, .inl (d, 187, .inl b))] → va_S A H0 H locs → W p l e (headSpec wsX3_work ({ frames := 4, cells := 0, slots := 0, locals := 99 })).room s m args below meth c H locs 0 0 Q (F0 m pc ls [.int r])) : W p l e (headSpec wsX3_work ({ frames := 4, cells := 0, slots := 0, locals := 99 })).room s m args below meth c H locs 0 0 Q (F0 m 32 ls []) := by
  refine lv_iload_n hx hb dX3_work_32 rfl (lv_at hl 1 rfl) ?_
  refine lv_tableIn (off := 85) (tgt := 118) hx hb dX3_work_33 (by decide) (by decide) rfl (by decide) ?_
  refine lv_aload_n hx hb dX3_work_118 rfl (lv_at hl 0 rfl) ?_
  refine lv_iload_n hx hb dX3_work_119 rfl (lv_at hl 2 rfl) ?_
  refine lv_i2l hx hb dX3_work_120 rfl ?_
  refine lv_iload hx hb dX3_work_121 (lv_at hl 4 rfl) ?_
  refine lv_i2l hx hb dX3_work_123 rfl ?_
  refine lv_lmul hx hb dX3_work_124 ?_
  refine lv_iload_n hx hb dX3_work_125 rfl (lv_at hl 2 rfl) ?_
  refine lv_i2l hx hb dX3_work_126 rfl ?_
  refine lv_iload hx hb dX3_work_127 (lv_at hl 5 rfl) ?_
  refine lv_i2l hx hb dX3_work_129 rfl ?_
  refine lv_lmul hx hb dX3_work_130 ?_
  refine lv_iload_n hx hb dX3_work_131 rfl (lv_at hl 3 rfl) ?_
  refine lv_i2l hx hb dX3_work_132 rfl ?_
  refine lv_iload hx hb dX3_work_133 (lv_at hl 4 rfl) ?_
  refine lv_i2l hx hb dX3_work_135 rfl ?_
  refine lv_lmul hx hb dX3_work_136 ?_
  refine lv_iload_n hx hb dX3_work_137 rfl (lv_at hl 3 rfl) ?_
  refine lv_i2l hx hb dX3_work_138 rfl ?_
  refine lv_iload hx hb dX3_work_139 (lv_at hl 5 rfl) ?_
  refine lv_i2l hx hb dX3_work_141 rfl ?_
  refine lv_lmul hx hb dX3_work_142 ?_
  refine rr_calli (wc := [(hM, .inr (3, [.ref hB, .int (nI n), .int ti, .int lo, .int hi])), (hB, .inl (d, 187, .inl b))]) (wr := []) (va_runV (As := [.long (l0.toInt64 * m0.toInt64), .long (l0.toInt64 * n0.toInt64), .long (h0.toInt64 * m0.toInt64), .long (h0.toInt64 * n0.toInt64)]) (rest := []) ⟨hx, hb, hml, hown, hts⟩ (met_X3_tellLeast l D hM hB d b n ti lo hi H.size (l0.toInt64 * m0.toInt64) (l0.toInt64 * n0.toInt64) (h0.toInt64 * m0.toInt64) (h0.toInt64 * n0.toInt64) hok hn hmi hma) (cwV 4 hts (lw_V q286 q288 qs11 q22 q289) rfl rfl rfl (by decide +kernel) ⟨Nat.le_of_ble_eq_true rfl, Nat.le_of_ble_eq_true rfl⟩) ⟨rr_blind, va_recv hK hP (ci := 3) (q0 := 0) rfl rfl, rr_pre (hP.sub (ws' := [(hM, .inr (3, [.ref hB, .int (nI n), .int ti, .int lo, .int hi])), (hB, .inl (d, 187, .inl b))]) [0, 1] rfl) (hK.sub (tys' := [(d, .int)]) [0] rfl) (hD.sub (ws' := [(hM, .inr (3, [.ref hB, .int (nI n), .int ti, .int lo, .int hi])), (hB, .inl (d, 187, .inl b))]) [0, 1] (by decide) rfl)⟩ rfl rfl hl.1 rfl (lv_room (Nat.le_of_ble_eq_true rfl)) dX3_work_143 ⟨Nat.le_of_ble_eq_true rfl, Nat.le_of_ble_eq_true rfl⟩) hK hP hD hS hA [0, 1] [] rfl rfl (by decide) (by decide) (fun rt u_134 H locs hwt hP hD hK hS => ?_)
  obtain ⟨lo1, hi1⟩ := u_134
  have hP : va_P D vwCl [(hM, .inr (3, [.ref hB, .int (nI n), .int ti, .int lo1, .int hi1])), (hB, .inl (d, 187, .inl b))] H := hP
  have hD : va_D A [(hM, .inr (3, [.ref hB, .int (nI n), .int ti, .int lo1, .int hi1])), (hB, .inl (d, 187, .inl b))] := hD
  have hK : va_K D vwCl [(d, .int)] s := hK.sub (tys' := [(d, .int)]) [0] rfl
  exact kk rt lo1 hi1 H locs ls 146 dX3_work_146 (hwt) hP hD hS
set_option maxHeartbeats 4000000 in
set_option maxRecDepth 100000 in
theorem X3_work_3 {p : Program} {l : Launch} {e : Env} {s : State} {m : MethodId} {args : Array Value} {below : List Frame} {meth : Method} {c : Code} {H : Heap} {locs : List Loc} {Q : State → Prop} (hx : p.tables.exec = Jvm.exec) (hb : c.code = cX3_work) (hts : ∀ w ∈ lw_all, w.before args s = true) (hown : s.vm.findClass RX3 = some m.cls) (hml : c.maxLocals = 8) {D : va_G} {hM hB n : Nat} {d : ClassId} {b : Nat → Int32} {ti lo hi l0 h0 m0 n0 : Int32} {S : Int32 → Bool} (hok : M_ok S n b) (hn : n ≤ 187) (hmi : S (-2147483648) = true) (hma : S 2147483647 = true) {A : Nat → Prop} {H0 : Heap} (hK : va_K D vwCl [(d, .int)] s) (hP : va_P D vwCl [(hM, .inr (3, [.ref hB, .int (nI n), .int ti, .int lo, .int hi])), (hB, .inl (d, 187, .inl b))] H) (hD : va_D A [(hM, .inr (3, [.ref hB, .int (nI n), .int ti, .int lo, .int hi])), (hB, .inl (d, 187, .inl b))]) (hS : va_S A H0 H locs) (hA : ∀ q : Nat, H0.size ≤ q → A q) {ls : Array Slot} (hl : lv_has ls 8 [(0, .ref hM), (1, .int (nI 3)), (2, .int l0), (3, .int h0), (4, .int m0), (5, .int n0)])
    (kk : ∀ (r lo2 hi2 : Int32) (H : Heap) (locs : List Loc) (ls : Array Slot) (pc : Nat), decode cX3_work pc = .ok (.ireturn, 1) → WorkR (TellR S) (mdlOp 3 l0 h0 m0 n0) lo hi r lo2 hi2 → va_P D vwCl [(hM, .inr (3, [.ref hB, .int (nI n), .int ti, .int lo2, .int hi2])), (hB, .inl (d, 187, .inl b))] H → va_D A [(hM, .inr (3, [.ref hB, .int (nI n), .int ti, .int lo2, .int hi2])), (hB, .inl (d, 187, .inl b))] → va_S A H0 H locs → W p l e (headSpec wsX3_work ({ frames := 4, cells := 0, slots := 0, locals := 99 })).room s m args below meth c H locs 0 0 Q (F0 m pc ls [.int r])) : W p l e (headSpec wsX3_work ({ frames := 4, cells := 0, slots := 0, locals := 99 })).room s m args below meth c H locs 0 0 Q (F0 m 32 ls []) := by
  refine lv_iload_n hx hb dX3_work_32 rfl (lv_at hl 1 rfl) ?_
  refine lv_tableIn (off := 114) (tgt := 147) hx hb dX3_work_33 (by decide) (by decide) rfl (by decide) ?_
  refine lv_aload_n hx hb dX3_work_147 rfl (lv_at hl 0 rfl) ?_
  refine lv_iload_n hx hb dX3_work_148 rfl (lv_at hl 2 rfl) ?_
  refine lv_iload_n hx hb dX3_work_149 rfl (lv_at hl 3 rfl) ?_
  refine lv_iload hx hb dX3_work_150 (lv_at hl 4 rfl) ?_
  refine lv_iload hx hb dX3_work_152 (lv_at hl 5 rfl) ?_
  refine rr_calli (wc := [(hM, .inr (3, [.ref hB, .int (nI n), .int ti, .int lo, .int hi])), (hB, .inl (d, 187, .inl b))]) (wr := []) (va_runV (As := [.int l0, .int h0, .int m0, .int n0]) (rest := []) ⟨hx, hb, hml, hown, hts⟩ (met_X3_quotient l D hM hB d b n ti lo hi H.size l0 h0 m0 n0 hok hn hmi hma) (cwV 4 hts (lw_V q292 q294 qs12 q22 q295) rfl rfl rfl (by decide +kernel) ⟨Nat.le_of_ble_eq_true rfl, Nat.le_of_ble_eq_true rfl⟩) ⟨rr_blind, va_recv hK hP (ci := 3) (q0 := 0) rfl rfl, rr_pre (hP.sub (ws' := [(hM, .inr (3, [.ref hB, .int (nI n), .int ti, .int lo, .int hi])), (hB, .inl (d, 187, .inl b))]) [0, 1] rfl) (hK.sub (tys' := [(d, .int)]) [0] rfl) (hD.sub (ws' := [(hM, .inr (3, [.ref hB, .int (nI n), .int ti, .int lo, .int hi])), (hB, .inl (d, 187, .inl b))]) [0, 1] (by decide) rfl)⟩ rfl rfl hl.1 rfl (lv_room (Nat.le_of_ble_eq_true rfl)) dX3_work_154 ⟨Nat.le_of_ble_eq_true rfl, Nat.le_of_ble_eq_true rfl⟩) hK hP hD hS hA [0, 1] [] rfl rfl (by decide) (by decide) (fun rt u_135 H locs hwt hP hD hK hS => ?_)
  obtain ⟨lo1, hi1⟩ := u_135
  have hP : va_P D vwCl [(hM, .inr (3, [.ref hB, .int (nI n), .int ti, .int lo1, .int hi1])), (hB, .inl (d, 187, .inl b))] H := hP
  have hD : va_D A [(hM, .inr (3, [.ref hB, .int (nI n), .int ti, .int lo1, .int hi1])), (hB, .inl (d, 187, .inl b))] := hD
  have hK : va_K D vwCl [(d, .int)] s := hK.sub (tys' := [(d, .int)]) [0] rfl
  exact kk rt lo1 hi1 H locs ls 157 dX3_work_157 (hwt) hP hD hS
set_option maxHeartbeats 4000000 in
set_option maxRecDepth 100000 in
theorem X3_work_4 {p : Program} {l : Launch} {e : Env} {s : State} {m : MethodId} {args : Array Value} {below : List Frame} {meth : Method} {c : Code} {H : Heap} {locs : List Loc} {Q : State → Prop} (hx : p.tables.exec = Jvm.exec) (hb : c.code = cX3_work) (hts : ∀ w ∈ lw_all, w.before args s = true) (hown : s.vm.findClass RX3 = some m.cls) (hml : c.maxLocals = 8) {D : va_G} {hM hB n : Nat} {d : ClassId} {b : Nat → Int32} {ti lo hi l0 h0 m0 n0 : Int32} {S : Int32 → Bool} (hok : M_ok S n b) (hn : n ≤ 187) (hmi : S (-2147483648) = true) (hma : S 2147483647 = true) {A : Nat → Prop} {H0 : Heap} (hK : va_K D vwCl [(d, .int)] s) (hP : va_P D vwCl [(hM, .inr (3, [.ref hB, .int (nI n), .int ti, .int lo, .int hi])), (hB, .inl (d, 187, .inl b))] H) (hD : va_D A [(hM, .inr (3, [.ref hB, .int (nI n), .int ti, .int lo, .int hi])), (hB, .inl (d, 187, .inl b))]) (hS : va_S A H0 H locs) (hA : ∀ q : Nat, H0.size ≤ q → A q) {ls : Array Slot} (hl : lv_has ls 8 [(0, .ref hM), (1, .int (nI 4)), (2, .int l0), (3, .int h0), (4, .int m0), (5, .int n0)])
    (kk : ∀ (r lo2 hi2 : Int32) (H : Heap) (locs : List Loc) (ls : Array Slot) (pc : Nat), decode cX3_work pc = .ok (.ireturn, 1) → WorkR (TellR S) (mdlOp 4 l0 h0 m0 n0) lo hi r lo2 hi2 → va_P D vwCl [(hM, .inr (3, [.ref hB, .int (nI n), .int ti, .int lo2, .int hi2])), (hB, .inl (d, 187, .inl b))] H → va_D A [(hM, .inr (3, [.ref hB, .int (nI n), .int ti, .int lo2, .int hi2])), (hB, .inl (d, 187, .inl b))] → va_S A H0 H locs → W p l e (headSpec wsX3_work ({ frames := 4, cells := 0, slots := 0, locals := 99 })).room s m args below meth c H locs 0 0 Q (F0 m pc ls [.int r])) : W p l e (headSpec wsX3_work ({ frames := 4, cells := 0, slots := 0, locals := 99 })).room s m args below meth c H locs 0 0 Q (F0 m 32 ls []) := by
  refine lv_iload_n hx hb dX3_work_32 rfl (lv_at hl 1 rfl) ?_
  refine lv_tableIn (off := 125) (tgt := 158) hx hb dX3_work_33 (by decide) (by decide) rfl (by decide) ?_
  refine lv_aload_n hx hb dX3_work_158 rfl (lv_at hl 0 rfl) ?_
  refine lv_iload_n hx hb dX3_work_159 rfl (lv_at hl 2 rfl) ?_
  refine lv_iload_n hx hb dX3_work_160 rfl (lv_at hl 3 rfl) ?_
  refine lv_iload hx hb dX3_work_161 (lv_at hl 4 rfl) ?_
  refine lv_i2l hx hb dX3_work_163 rfl ?_
  refine lv_iload hx hb dX3_work_164 (lv_at hl 5 rfl) ?_
  refine lv_i2l hx hb dX3_work_166 rfl ?_
  refine rr_calli (wc := [(hM, .inr (3, [.ref hB, .int (nI n), .int ti, .int lo, .int hi])), (hB, .inl (d, 187, .inl b))]) (wr := []) (va_runV (As := [.int l0, .int h0, .long m0.toInt64, .long n0.toInt64]) (rest := []) ⟨hx, hb, hml, hown, hts⟩ (met_X3_rest l D hM hB d b n ti lo hi H.size l0 h0 m0.toInt64 n0.toInt64 hok hn hmi hma) (cwV 4 hts (lw_V q298 q300 qs13 q22 q301) rfl rfl rfl (by decide +kernel) ⟨Nat.le_of_ble_eq_true rfl, Nat.le_of_ble_eq_true rfl⟩) ⟨rr_blind, va_recv hK hP (ci := 3) (q0 := 0) rfl rfl, rr_pre (hP.sub (ws' := [(hM, .inr (3, [.ref hB, .int (nI n), .int ti, .int lo, .int hi])), (hB, .inl (d, 187, .inl b))]) [0, 1] rfl) (hK.sub (tys' := [(d, .int)]) [0] rfl) (hD.sub (ws' := [(hM, .inr (3, [.ref hB, .int (nI n), .int ti, .int lo, .int hi])), (hB, .inl (d, 187, .inl b))]) [0, 1] (by decide) rfl)⟩ rfl rfl hl.1 rfl (lv_room (Nat.le_of_ble_eq_true rfl)) dX3_work_167 ⟨Nat.le_of_ble_eq_true rfl, Nat.le_of_ble_eq_true rfl⟩) hK hP hD hS hA [0, 1] [] rfl rfl (by decide) (by decide) (fun rt u_136 H locs hwt hP hD hK hS => ?_)
  obtain ⟨lo1, hi1⟩ := u_136
  have hP : va_P D vwCl [(hM, .inr (3, [.ref hB, .int (nI n), .int ti, .int lo1, .int hi1])), (hB, .inl (d, 187, .inl b))] H := hP
  have hD : va_D A [(hM, .inr (3, [.ref hB, .int (nI n), .int ti, .int lo1, .int hi1])), (hB, .inl (d, 187, .inl b))] := hD
  have hK : va_K D vwCl [(d, .int)] s := hK.sub (tys' := [(d, .int)]) [0] rfl
  exact kk rt lo1 hi1 H locs ls 170 dX3_work_170 (hwt) hP hD hS
set_option maxHeartbeats 4000000 in
set_option maxRecDepth 100000 in
theorem X3_work_5 {p : Program} {l : Launch} {e : Env} {s : State} {m : MethodId} {args : Array Value} {below : List Frame} {meth : Method} {c : Code} {H : Heap} {locs : List Loc} {Q : State → Prop} (hx : p.tables.exec = Jvm.exec) (hb : c.code = cX3_work) (hts : ∀ w ∈ lw_all, w.before args s = true) (hown : s.vm.findClass RX3 = some m.cls) (hml : c.maxLocals = 8) {D : va_G} {hM hB n : Nat} {d : ClassId} {b : Nat → Int32} {ti lo hi l0 h0 m0 n0 : Int32} {S : Int32 → Bool} (hok : M_ok S n b) (hn : n ≤ 187) (hmi : S (-2147483648) = true) (hma : S 2147483647 = true) {A : Nat → Prop} {H0 : Heap} (hK : va_K D vwCl [(d, .int)] s) (hP : va_P D vwCl [(hM, .inr (3, [.ref hB, .int (nI n), .int ti, .int lo, .int hi])), (hB, .inl (d, 187, .inl b))] H) (hD : va_D A [(hM, .inr (3, [.ref hB, .int (nI n), .int ti, .int lo, .int hi])), (hB, .inl (d, 187, .inl b))]) (hS : va_S A H0 H locs) (hA : ∀ q : Nat, H0.size ≤ q → A q) {ls : Array Slot} (hl : lv_has ls 8 [(0, .ref hM), (1, .int (nI 5)), (2, .int l0), (3, .int h0), (4, .int m0), (5, .int n0)])
    (kk : ∀ (r lo2 hi2 : Int32) (H : Heap) (locs : List Loc) (ls : Array Slot) (pc : Nat), decode cX3_work pc = .ok (.ireturn, 1) → WorkR (TellR S) (mdlOp 5 l0 h0 m0 n0) lo hi r lo2 hi2 → va_P D vwCl [(hM, .inr (3, [.ref hB, .int (nI n), .int ti, .int lo2, .int hi2])), (hB, .inl (d, 187, .inl b))] H → va_D A [(hM, .inr (3, [.ref hB, .int (nI n), .int ti, .int lo2, .int hi2])), (hB, .inl (d, 187, .inl b))] → va_S A H0 H locs → W p l e (headSpec wsX3_work ({ frames := 4, cells := 0, slots := 0, locals := 99 })).room s m args below meth c H locs 0 0 Q (F0 m pc ls [.int r])) : W p l e (headSpec wsX3_work ({ frames := 4, cells := 0, slots := 0, locals := 99 })).room s m args below meth c H locs 0 0 Q (F0 m 32 ls []) := by
  refine lv_iload_n hx hb dX3_work_32 rfl (lv_at hl 1 rfl) ?_
  refine lv_tableIn (off := 138) (tgt := 171) hx hb dX3_work_33 (by decide) (by decide) rfl (by decide) ?_
  refine lv_iload_n hx hb dX3_work_171 rfl (lv_at hl 2 rfl) ?_
  refine lv_if_ge (tgt := 185) hx hb dX3_work_172 (by decide) (fun c_172 => ?_) (fun c_172 => ?_)
  · refine lv_aload_n hx hb dX3_work_185 rfl (lv_at hl 0 rfl) ?_
    refine lv_lconst (v := 0) hx hb dX3_work_186 (by decide) ?_
    refine lv_iload_n hx hb dX3_work_187 rfl (lv_at hl 2 rfl) ?_
    refine lv_if_ge (tgt := 197) hx hb dX3_work_188 (by decide) (fun c_188 => ?_) (fun c_188 => absurd c_172 c_188)
    refine lv_iload hx hb dX3_work_197 (lv_at hl 4 rfl) ?_
    refine lv_if_ge (tgt := 207) hx hb dX3_work_199 (by decide) (fun c_199 => ?_) (fun c_199 => ?_)
    · refine lv_iload_n hx hb dX3_work_207 rfl (lv_at hl 3 rfl) ?_
      refine lv_iload hx hb dX3_work_208 (lv_at hl 5 rfl) ?_
      refine rr_minI hx hb hml hl.1 hown hts q267 (Nat.le_of_ble_eq_true rfl) (Nat.le_of_ble_eq_true rfl) (Nat.le_of_ble_eq_true rfl) (Nat.le_of_ble_eq_true rfl) dX3_work_210 ?_
      refine lv_i2l hx hb dX3_work_213 rfl ?_
      refine rr_calli (wc := [(hM, .inr (3, [.ref hB, .int (nI n), .int ti, .int lo, .int hi])), (hB, .inl (d, 187, .inl b))]) (wr := []) (va_runV (As := [.long 0, .long ((mnI h0 n0).toInt64)]) (rest := []) ⟨hx, hb, hml, hown, hts⟩ (met_X3_tell l D hM hB d b n ti lo hi H.size 0 ((mnI h0 n0).toInt64) hok hn hmi hma) (cwV 2 hts (lw_V q278 q280 qs10 q22 q281) rfl rfl rfl (by decide +kernel) ⟨Nat.le_of_ble_eq_true rfl, Nat.le_of_ble_eq_true rfl⟩) ⟨rr_blind, va_recv hK hP (ci := 3) (q0 := 0) rfl rfl, rr_pre (hP.sub (ws' := [(hM, .inr (3, [.ref hB, .int (nI n), .int ti, .int lo, .int hi])), (hB, .inl (d, 187, .inl b))]) [0, 1] rfl) (hK.sub (tys' := [(d, .int)]) [0] rfl) (hD.sub (ws' := [(hM, .inr (3, [.ref hB, .int (nI n), .int ti, .int lo, .int hi])), (hB, .inl (d, 187, .inl b))]) [0, 1] (by decide) rfl)⟩ rfl rfl hl.1 rfl (lv_room (Nat.le_of_ble_eq_true rfl)) dX3_work_214 ⟨Nat.le_of_ble_eq_true rfl, Nat.le_of_ble_eq_true rfl⟩) hK hP hD hS hA [0, 1] [] rfl rfl (by decide) (by decide) (fun rt u_137 H locs hwt hP hD hK hS => ?_)
      obtain ⟨lo1, hi1⟩ := u_137
      have hP : va_P D vwCl [(hM, .inr (3, [.ref hB, .int (nI n), .int ti, .int lo1, .int hi1])), (hB, .inl (d, 187, .inl b))] H := hP
      have hD : va_D A [(hM, .inr (3, [.ref hB, .int (nI n), .int ti, .int lo1, .int hi1])), (hB, .inl (d, 187, .inl b))] := hD
      have hK : va_K D vwCl [(d, .int)] s := hK.sub (tys' := [(d, .int)]) [0] rfl
      exact kk rt lo1 hi1 H locs ls 217 dX3_work_217 (by show WorkR _ (some (if _ then _ else _)) _ _ _ _ _; rw [if_neg (fun q => i_not2 c_172 q.1), if_neg (fun q => i_not2 c_172 q), if_neg (fun q => i_not2 c_199 q)]; exact hwt) hP hD hS
    · refine lv_iload_n hx hb dX3_work_202 rfl (lv_at hl 3 rfl) ?_
      refine lv_i2l hx hb dX3_work_203 rfl ?_
      refine lv_goto (tgt := 214) hx hb dX3_work_204 (by decide) ?_
      refine rr_calli (wc := [(hM, .inr (3, [.ref hB, .int (nI n), .int ti, .int lo, .int hi])), (hB, .inl (d, 187, .inl b))]) (wr := []) (va_runV (As := [.long 0, .long h0.toInt64]) (rest := []) ⟨hx, hb, hml, hown, hts⟩ (met_X3_tell l D hM hB d b n ti lo hi H.size 0 h0.toInt64 hok hn hmi hma) (cwV 2 hts (lw_V q278 q280 qs10 q22 q281) rfl rfl rfl (by decide +kernel) ⟨Nat.le_of_ble_eq_true rfl, Nat.le_of_ble_eq_true rfl⟩) ⟨rr_blind, va_recv hK hP (ci := 3) (q0 := 0) rfl rfl, rr_pre (hP.sub (ws' := [(hM, .inr (3, [.ref hB, .int (nI n), .int ti, .int lo, .int hi])), (hB, .inl (d, 187, .inl b))]) [0, 1] rfl) (hK.sub (tys' := [(d, .int)]) [0] rfl) (hD.sub (ws' := [(hM, .inr (3, [.ref hB, .int (nI n), .int ti, .int lo, .int hi])), (hB, .inl (d, 187, .inl b))]) [0, 1] (by decide) rfl)⟩ rfl rfl hl.1 rfl (lv_room (Nat.le_of_ble_eq_true rfl)) dX3_work_214 ⟨Nat.le_of_ble_eq_true rfl, Nat.le_of_ble_eq_true rfl⟩) hK hP hD hS hA [0, 1] [] rfl rfl (by decide) (by decide) (fun rt u_138 H locs hwt hP hD hK hS => ?_)
      obtain ⟨lo1, hi1⟩ := u_138
      have hP : va_P D vwCl [(hM, .inr (3, [.ref hB, .int (nI n), .int ti, .int lo1, .int hi1])), (hB, .inl (d, 187, .inl b))] H := hP
      have hD : va_D A [(hM, .inr (3, [.ref hB, .int (nI n), .int ti, .int lo1, .int hi1])), (hB, .inl (d, 187, .inl b))] := hD
      have hK : va_K D vwCl [(d, .int)] s := hK.sub (tys' := [(d, .int)]) [0] rfl
      exact kk rt lo1 hi1 H locs ls 217 dX3_work_217 (by show WorkR _ (some (if _ then _ else _)) _ _ _ _ _; rw [if_neg (fun q => i_not2 c_172 q.1), if_neg (fun q => i_not2 c_172 q), if_pos (i_not c_199)]; exact hwt) hP hD hS
  · refine lv_iload hx hb dX3_work_175 (lv_at hl 4 rfl) ?_
    refine lv_if_ge (tgt := 185) hx hb dX3_work_177 (by decide) (fun c_177 => ?_) (fun c_177 => ?_)
    · refine lv_aload_n hx hb dX3_work_185 rfl (lv_at hl 0 rfl) ?_
      refine lv_lconst (v := 0) hx hb dX3_work_186 (by decide) ?_
      refine lv_iload_n hx hb dX3_work_187 rfl (lv_at hl 2 rfl) ?_
      refine lv_if_ge (tgt := 197) hx hb dX3_work_188 (by decide) (fun c_188 => absurd c_188 c_172) (fun c_188 => ?_)
      refine lv_iload hx hb dX3_work_191 (lv_at hl 5 rfl) ?_
      refine lv_i2l hx hb dX3_work_193 rfl ?_
      refine lv_goto (tgt := 214) hx hb dX3_work_194 (by decide) ?_
      refine rr_calli (wc := [(hM, .inr (3, [.ref hB, .int (nI n), .int ti, .int lo, .int hi])), (hB, .inl (d, 187, .inl b))]) (wr := []) (va_runV (As := [.long 0, .long n0.toInt64]) (rest := []) ⟨hx, hb, hml, hown, hts⟩ (met_X3_tell l D hM hB d b n ti lo hi H.size 0 n0.toInt64 hok hn hmi hma) (cwV 2 hts (lw_V q278 q280 qs10 q22 q281) rfl rfl rfl (by decide +kernel) ⟨Nat.le_of_ble_eq_true rfl, Nat.le_of_ble_eq_true rfl⟩) ⟨rr_blind, va_recv hK hP (ci := 3) (q0 := 0) rfl rfl, rr_pre (hP.sub (ws' := [(hM, .inr (3, [.ref hB, .int (nI n), .int ti, .int lo, .int hi])), (hB, .inl (d, 187, .inl b))]) [0, 1] rfl) (hK.sub (tys' := [(d, .int)]) [0] rfl) (hD.sub (ws' := [(hM, .inr (3, [.ref hB, .int (nI n), .int ti, .int lo, .int hi])), (hB, .inl (d, 187, .inl b))]) [0, 1] (by decide) rfl)⟩ rfl rfl hl.1 rfl (lv_room (Nat.le_of_ble_eq_true rfl)) dX3_work_214 ⟨Nat.le_of_ble_eq_true rfl, Nat.le_of_ble_eq_true rfl⟩) hK hP hD hS hA [0, 1] [] rfl rfl (by decide) (by decide) (fun rt u_139 H locs hwt hP hD hK hS => ?_)
      obtain ⟨lo1, hi1⟩ := u_139
      have hP : va_P D vwCl [(hM, .inr (3, [.ref hB, .int (nI n), .int ti, .int lo1, .int hi1])), (hB, .inl (d, 187, .inl b))] H := hP
      have hD : va_D A [(hM, .inr (3, [.ref hB, .int (nI n), .int ti, .int lo1, .int hi1])), (hB, .inl (d, 187, .inl b))] := hD
      have hK : va_K D vwCl [(d, .int)] s := hK.sub (tys' := [(d, .int)]) [0] rfl
      exact kk rt lo1 hi1 H locs ls 217 dX3_work_217 (by show WorkR _ (some (if _ then _ else _)) _ _ _ _ _; rw [if_neg (fun q => i_not2 c_177 q.2), if_pos (i_not c_172)]; exact hwt) hP hD hS
    · refine lv_aload_n hx hb dX3_work_180 rfl (lv_at hl 0 rfl) ?_
      refine rr_calli (wc := [(hM, .inr (3, [.ref hB, .int (nI n), .int ti, .int lo, .int hi])), (hB, .inl (d, 187, .inl b))]) (wr := []) (va_runV (As := []) (rest := []) ⟨hx, hb, hml, hown, hts⟩ (met_X3_tellAll l D hM hB d b n ti lo hi H.size  hok hn hmi hma) (cwV 0 hts (lw_V q303 q305 qs14 q22 q306) rfl rfl rfl (by decide +kernel) ⟨Nat.le_of_ble_eq_true rfl, Nat.le_of_ble_eq_true rfl⟩) ⟨rr_blind, va_recv hK hP (ci := 3) (q0 := 0) rfl rfl, rr_pre (hP.sub (ws' := [(hM, .inr (3, [.ref hB, .int (nI n), .int ti, .int lo, .int hi])), (hB, .inl (d, 187, .inl b))]) [0, 1] rfl) (hK.sub (tys' := [(d, .int)]) [0] rfl) (hD.sub (ws' := [(hM, .inr (3, [.ref hB, .int (nI n), .int ti, .int lo, .int hi])), (hB, .inl (d, 187, .inl b))]) [0, 1] (by decide) rfl)⟩ rfl rfl hl.1 rfl (lv_room (Nat.le_of_ble_eq_true rfl)) dX3_work_181 ⟨Nat.le_of_ble_eq_true rfl, Nat.le_of_ble_eq_true rfl⟩) hK hP hD hS hA [0, 1] [] rfl rfl (by decide) (by decide) (fun rt u_140 H locs hwt hP hD hK hS => ?_)
      obtain ⟨lo1, hi1⟩ := u_140
      have hP : va_P D vwCl [(hM, .inr (3, [.ref hB, .int (nI n), .int ti, .int lo1, .int hi1])), (hB, .inl (d, 187, .inl b))] H := hP
      have hD : va_D A [(hM, .inr (3, [.ref hB, .int (nI n), .int ti, .int lo1, .int hi1])), (hB, .inl (d, 187, .inl b))] := hD
      have hK : va_K D vwCl [(d, .int)] s := hK.sub (tys' := [(d, .int)]) [0] rfl
      exact kk rt lo1 hi1 H locs ls 184 dX3_work_184 (by show WorkR _ (some (if _ then _ else _)) _ _ _ _ _; rw [if_pos ⟨i_not c_172, i_not c_177⟩]; exact hwt) hP hD hS
set_option maxHeartbeats 4000000 in
set_option maxRecDepth 100000 in
theorem X3_work_6 {p : Program} {l : Launch} {e : Env} {s : State} {m : MethodId} {args : Array Value} {below : List Frame} {meth : Method} {c : Code} {H : Heap} {locs : List Loc} {Q : State → Prop} (hx : p.tables.exec = Jvm.exec) (hb : c.code = cX3_work) (hts : ∀ w ∈ lw_all, w.before args s = true) (hown : s.vm.findClass RX3 = some m.cls) (hml : c.maxLocals = 8) {D : va_G} {hM hB n : Nat} {d : ClassId} {b : Nat → Int32} {ti lo hi l0 h0 m0 n0 : Int32} {S : Int32 → Bool} (hok : M_ok S n b) (hn : n ≤ 187) (hmi : S (-2147483648) = true) (hma : S 2147483647 = true) {A : Nat → Prop} {H0 : Heap} (hK : va_K D vwCl [(d, .int)] s) (hP : va_P D vwCl [(hM, .inr (3, [.ref hB, .int (nI n), .int ti, .int lo, .int hi])), (hB, .inl (d, 187, .inl b))] H) (hD : va_D A [(hM, .inr (3, [.ref hB, .int (nI n), .int ti, .int lo, .int hi])), (hB, .inl (d, 187, .inl b))]) (hS : va_S A H0 H locs) (hA : ∀ q : Nat, H0.size ≤ q → A q) {ls : Array Slot} (hl : lv_has ls 8 [(0, .ref hM), (1, .int (nI 6)), (2, .int l0), (3, .int h0), (4, .int m0), (5, .int n0)])
    (kk : ∀ (r lo2 hi2 : Int32) (H : Heap) (locs : List Loc) (ls : Array Slot) (pc : Nat), decode cX3_work pc = .ok (.ireturn, 1) → WorkR (TellR S) (mdlOp 6 l0 h0 m0 n0) lo hi r lo2 hi2 → va_P D vwCl [(hM, .inr (3, [.ref hB, .int (nI n), .int ti, .int lo2, .int hi2])), (hB, .inl (d, 187, .inl b))] H → va_D A [(hM, .inr (3, [.ref hB, .int (nI n), .int ti, .int lo2, .int hi2])), (hB, .inl (d, 187, .inl b))] → va_S A H0 H locs → W p l e (headSpec wsX3_work ({ frames := 4, cells := 0, slots := 0, locals := 99 })).room s m args below meth c H locs 0 0 Q (F0 m pc ls [.int r])) : W p l e (headSpec wsX3_work ({ frames := 4, cells := 0, slots := 0, locals := 99 })).room s m args below meth c H locs 0 0 Q (F0 m 32 ls []) := by
  refine lv_iload_n hx hb dX3_work_32 rfl (lv_at hl 1 rfl) ?_
  refine lv_tableIn (off := 185) (tgt := 218) hx hb dX3_work_33 (by decide) (by decide) rfl (by decide) ?_
  refine lv_iload_n hx hb dX3_work_218 rfl (lv_at hl 2 rfl) ?_
  refine lv_if_lt (tgt := 227) hx hb dX3_work_219 (by decide) (fun c_219 => ?_) (fun c_219 => ?_)
  · refine lv_aload_n hx hb dX3_work_227 rfl (lv_at hl 0 rfl) ?_
    refine rr_calli (wc := [(hM, .inr (3, [.ref hB, .int (nI n), .int ti, .int lo, .int hi])), (hB, .inl (d, 187, .inl b))]) (wr := []) (va_runV (As := []) (rest := []) ⟨hx, hb, hml, hown, hts⟩ (met_X3_tellAll l D hM hB d b n ti lo hi H.size  hok hn hmi hma) (cwV 0 hts (lw_V q303 q305 qs14 q22 q306) rfl rfl rfl (by decide +kernel) ⟨Nat.le_of_ble_eq_true rfl, Nat.le_of_ble_eq_true rfl⟩) ⟨rr_blind, va_recv hK hP (ci := 3) (q0 := 0) rfl rfl, rr_pre (hP.sub (ws' := [(hM, .inr (3, [.ref hB, .int (nI n), .int ti, .int lo, .int hi])), (hB, .inl (d, 187, .inl b))]) [0, 1] rfl) (hK.sub (tys' := [(d, .int)]) [0] rfl) (hD.sub (ws' := [(hM, .inr (3, [.ref hB, .int (nI n), .int ti, .int lo, .int hi])), (hB, .inl (d, 187, .inl b))]) [0, 1] (by decide) rfl)⟩ rfl rfl hl.1 rfl (lv_room (Nat.le_of_ble_eq_true rfl)) dX3_work_228 ⟨Nat.le_of_ble_eq_true rfl, Nat.le_of_ble_eq_true rfl⟩) hK hP hD hS hA [0, 1] [] rfl rfl (by decide) (by decide) (fun rt u_141 H locs hwt hP hD hK hS => ?_)
    obtain ⟨lo1, hi1⟩ := u_141
    have hP : va_P D vwCl [(hM, .inr (3, [.ref hB, .int (nI n), .int ti, .int lo1, .int hi1])), (hB, .inl (d, 187, .inl b))] H := hP
    have hD : va_D A [(hM, .inr (3, [.ref hB, .int (nI n), .int ti, .int lo1, .int hi1])), (hB, .inl (d, 187, .inl b))] := hD
    have hK : va_K D vwCl [(d, .int)] s := hK.sub (tys' := [(d, .int)]) [0] rfl
    exact kk rt lo1 hi1 H locs ls 231 dX3_work_231 (by show WorkR _ (some (if _ then _ else _)) _ _ _ _ _; rw [if_pos (Or.inl c_219)]; exact hwt) hP hD hS
  · refine lv_iload hx hb dX3_work_222 (lv_at hl 4 rfl) ?_
    refine lv_if_ge (tgt := 232) hx hb dX3_work_224 (by decide) (fun c_224 => ?_) (fun c_224 => ?_)
    · refine lv_aload_n hx hb dX3_work_232 rfl (lv_at hl 0 rfl) ?_
      refine lv_lconst (v := 0) hx hb dX3_work_233 (by decide) ?_
      refine lv_iload_n hx hb dX3_work_234 rfl (lv_at hl 3 rfl) ?_
      refine lv_iload hx hb dX3_work_235 (lv_at hl 5 rfl) ?_
      refine rr_maxI hx hb hml hl.1 hown hts q259 (Nat.le_of_ble_eq_true rfl) (Nat.le_of_ble_eq_true rfl) (Nat.le_of_ble_eq_true rfl) (Nat.le_of_ble_eq_true rfl) dX3_work_237 ?_
      refine rr_calll (va_runS (As := [.int (mxI h0 n0)]) (rest := [.long 0, .ref hM]) ⟨hx, hb, hml, hown, hts⟩ (met_X3_ones l D H.size (mxI h0 n0)) (va_cwS 1 hts (lw_S q307 q308 q22 q309) rfl rfl rfl (by decide +kernel) ⟨Nat.le_of_ble_eq_true rfl, Nat.le_of_ble_eq_true rfl⟩) ⟨rr_blindO, rr_preO (hP.sub (ws' := []) [] rfl) (hK.sub (tys' := []) [] rfl)⟩ rfl rfl hl.1 rfl (lv_room (Nat.le_of_ble_eq_true rfl)) dX3_work_240 ⟨Nat.le_of_ble_eq_true rfl, Nat.le_of_ble_eq_true rfl⟩) hP hS hA (fun ro H locs hwo hP hS => ?_)
      refine rr_calli (wc := [(hM, .inr (3, [.ref hB, .int (nI n), .int ti, .int lo, .int hi])), (hB, .inl (d, 187, .inl b))]) (wr := []) (va_runV (As := [.long 0, .long ro]) (rest := []) ⟨hx, hb, hml, hown, hts⟩ (met_X3_tell l D hM hB d b n ti lo hi H.size 0 ro hok hn hmi hma) (cwV 2 hts (lw_V q278 q280 qs10 q22 q281) rfl rfl rfl (by decide +kernel) ⟨Nat.le_of_ble_eq_true rfl, Nat.le_of_ble_eq_true rfl⟩) ⟨rr_blind, va_recv hK hP (ci := 3) (q0 := 0) rfl rfl, rr_pre (hP.sub (ws' := [(hM, .inr (3, [.ref hB, .int (nI n), .int ti, .int lo, .int hi])), (hB, .inl (d, 187, .inl b))]) [0, 1] rfl) (hK.sub (tys' := [(d, .int)]) [0] rfl) (hD.sub (ws' := [(hM, .inr (3, [.ref hB, .int (nI n), .int ti, .int lo, .int hi])), (hB, .inl (d, 187, .inl b))]) [0, 1] (by decide) rfl)⟩ rfl rfl hl.1 rfl (lv_room (Nat.le_of_ble_eq_true rfl)) dX3_work_243 ⟨Nat.le_of_ble_eq_true rfl, Nat.le_of_ble_eq_true rfl⟩) hK hP hD hS hA [0, 1] [] rfl rfl (by decide) (by decide) (fun rt u_142 H locs hwt hP hD hK hS => ?_)
      obtain ⟨lo1, hi1⟩ := u_142
      have hP : va_P D vwCl [(hM, .inr (3, [.ref hB, .int (nI n), .int ti, .int lo1, .int hi1])), (hB, .inl (d, 187, .inl b))] H := hP
      have hD : va_D A [(hM, .inr (3, [.ref hB, .int (nI n), .int ti, .int lo1, .int hi1])), (hB, .inl (d, 187, .inl b))] := hD
      have hK : va_K D vwCl [(d, .int)] s := hK.sub (tys' := [(d, .int)]) [0] rfl
      exact kk rt lo1 hi1 H locs ls 246 dX3_work_246 (by show WorkR _ (some (if _ then _ else _)) _ _ _ _ _; rw [if_neg (fun q => q.elim c_219 (fun z => i_not2 c_224 z))]; rw [hwo] at hwt; exact hwt) hP hD hS
    · refine lv_aload_n hx hb dX3_work_227 rfl (lv_at hl 0 rfl) ?_
      refine rr_calli (wc := [(hM, .inr (3, [.ref hB, .int (nI n), .int ti, .int lo, .int hi])), (hB, .inl (d, 187, .inl b))]) (wr := []) (va_runV (As := []) (rest := []) ⟨hx, hb, hml, hown, hts⟩ (met_X3_tellAll l D hM hB d b n ti lo hi H.size  hok hn hmi hma) (cwV 0 hts (lw_V q303 q305 qs14 q22 q306) rfl rfl rfl (by decide +kernel) ⟨Nat.le_of_ble_eq_true rfl, Nat.le_of_ble_eq_true rfl⟩) ⟨rr_blind, va_recv hK hP (ci := 3) (q0 := 0) rfl rfl, rr_pre (hP.sub (ws' := [(hM, .inr (3, [.ref hB, .int (nI n), .int ti, .int lo, .int hi])), (hB, .inl (d, 187, .inl b))]) [0, 1] rfl) (hK.sub (tys' := [(d, .int)]) [0] rfl) (hD.sub (ws' := [(hM, .inr (3, [.ref hB, .int (nI n), .int ti, .int lo, .int hi])), (hB, .inl (d, 187, .inl b))]) [0, 1] (by decide) rfl)⟩ rfl rfl hl.1 rfl (lv_room (Nat.le_of_ble_eq_true rfl)) dX3_work_228 ⟨Nat.le_of_ble_eq_true rfl, Nat.le_of_ble_eq_true rfl⟩) hK hP hD hS hA [0, 1] [] rfl rfl (by decide) (by decide) (fun rt u_143 H locs hwt hP hD hK hS => ?_)
      obtain ⟨lo1, hi1⟩ := u_143
      have hP : va_P D vwCl [(hM, .inr (3, [.ref hB, .int (nI n), .int ti, .int lo1, .int hi1])), (hB, .inl (d, 187, .inl b))] H := hP
      have hD : va_D A [(hM, .inr (3, [.ref hB, .int (nI n), .int ti, .int lo1, .int hi1])), (hB, .inl (d, 187, .inl b))] := hD
      have hK : va_K D vwCl [(d, .int)] s := hK.sub (tys' := [(d, .int)]) [0] rfl
      exact kk rt lo1 hi1 H locs ls 231 dX3_work_231 (by show WorkR _ (some (if _ then _ else _)) _ _ _ _ _; rw [if_pos (Or.inr (i_not c_224))]; exact hwt) hP hD hS
set_option maxHeartbeats 4000000 in
set_option maxRecDepth 100000 in
theorem X3_work_7 {p : Program} {l : Launch} {e : Env} {s : State} {m : MethodId} {args : Array Value} {below : List Frame} {meth : Method} {c : Code} {H : Heap} {locs : List Loc} {Q : State → Prop} (hx : p.tables.exec = Jvm.exec) (hb : c.code = cX3_work) (hts : ∀ w ∈ lw_all, w.before args s = true) (hown : s.vm.findClass RX3 = some m.cls) (hml : c.maxLocals = 8) {D : va_G} {hM hB n : Nat} {d : ClassId} {b : Nat → Int32} {ti lo hi l0 h0 m0 n0 : Int32} {S : Int32 → Bool} (hok : M_ok S n b) (hn : n ≤ 187) (hmi : S (-2147483648) = true) (hma : S 2147483647 = true) {A : Nat → Prop} {H0 : Heap} (hK : va_K D vwCl [(d, .int)] s) (hP : va_P D vwCl [(hM, .inr (3, [.ref hB, .int (nI n), .int ti, .int lo, .int hi])), (hB, .inl (d, 187, .inl b))] H) (hD : va_D A [(hM, .inr (3, [.ref hB, .int (nI n), .int ti, .int lo, .int hi])), (hB, .inl (d, 187, .inl b))]) (hS : va_S A H0 H locs) (hA : ∀ q : Nat, H0.size ≤ q → A q) {ls : Array Slot} (hl : lv_has ls 8 [(0, .ref hM), (1, .int (nI 7)), (2, .int l0), (3, .int h0), (4, .int m0), (5, .int n0)])
    (kk : ∀ (r lo2 hi2 : Int32) (H : Heap) (locs : List Loc) (ls : Array Slot) (pc : Nat), decode cX3_work pc = .ok (.ireturn, 1) → WorkR (TellR S) (mdlOp 7 l0 h0 m0 n0) lo hi r lo2 hi2 → va_P D vwCl [(hM, .inr (3, [.ref hB, .int (nI n), .int ti, .int lo2, .int hi2])), (hB, .inl (d, 187, .inl b))] H → va_D A [(hM, .inr (3, [.ref hB, .int (nI n), .int ti, .int lo2, .int hi2])), (hB, .inl (d, 187, .inl b))] → va_S A H0 H locs → W p l e (headSpec wsX3_work ({ frames := 4, cells := 0, slots := 0, locals := 99 })).room s m args below meth c H locs 0 0 Q (F0 m pc ls [.int r])) : W p l e (headSpec wsX3_work ({ frames := 4, cells := 0, slots := 0, locals := 99 })).room s m args below meth c H locs 0 0 Q (F0 m 32 ls []) := by
  refine lv_iload_n hx hb dX3_work_32 rfl (lv_at hl 1 rfl) ?_
  refine lv_tableIn (off := 185) (tgt := 218) hx hb dX3_work_33 (by decide) (by decide) rfl (by decide) ?_
  refine lv_iload_n hx hb dX3_work_218 rfl (lv_at hl 2 rfl) ?_
  refine lv_if_lt (tgt := 227) hx hb dX3_work_219 (by decide) (fun c_219 => ?_) (fun c_219 => ?_)
  · refine lv_aload_n hx hb dX3_work_227 rfl (lv_at hl 0 rfl) ?_
    refine rr_calli (wc := [(hM, .inr (3, [.ref hB, .int (nI n), .int ti, .int lo, .int hi])), (hB, .inl (d, 187, .inl b))]) (wr := []) (va_runV (As := []) (rest := []) ⟨hx, hb, hml, hown, hts⟩ (met_X3_tellAll l D hM hB d b n ti lo hi H.size  hok hn hmi hma) (cwV 0 hts (lw_V q303 q305 qs14 q22 q306) rfl rfl rfl (by decide +kernel) ⟨Nat.le_of_ble_eq_true rfl, Nat.le_of_ble_eq_true rfl⟩) ⟨rr_blind, va_recv hK hP (ci := 3) (q0 := 0) rfl rfl, rr_pre (hP.sub (ws' := [(hM, .inr (3, [.ref hB, .int (nI n), .int ti, .int lo, .int hi])), (hB, .inl (d, 187, .inl b))]) [0, 1] rfl) (hK.sub (tys' := [(d, .int)]) [0] rfl) (hD.sub (ws' := [(hM, .inr (3, [.ref hB, .int (nI n), .int ti, .int lo, .int hi])), (hB, .inl (d, 187, .inl b))]) [0, 1] (by decide) rfl)⟩ rfl rfl hl.1 rfl (lv_room (Nat.le_of_ble_eq_true rfl)) dX3_work_228 ⟨Nat.le_of_ble_eq_true rfl, Nat.le_of_ble_eq_true rfl⟩) hK hP hD hS hA [0, 1] [] rfl rfl (by decide) (by decide) (fun rt u_144 H locs hwt hP hD hK hS => ?_)
    obtain ⟨lo1, hi1⟩ := u_144
    have hP : va_P D vwCl [(hM, .inr (3, [.ref hB, .int (nI n), .int ti, .int lo1, .int hi1])), (hB, .inl (d, 187, .inl b))] H := hP
    have hD : va_D A [(hM, .inr (3, [.ref hB, .int (nI n), .int ti, .int lo1, .int hi1])), (hB, .inl (d, 187, .inl b))] := hD
    have hK : va_K D vwCl [(d, .int)] s := hK.sub (tys' := [(d, .int)]) [0] rfl
    exact kk rt lo1 hi1 H locs ls 231 dX3_work_231 (by show WorkR _ (some (if _ then _ else _)) _ _ _ _ _; rw [if_pos (Or.inl c_219)]; exact hwt) hP hD hS
  · refine lv_iload hx hb dX3_work_222 (lv_at hl 4 rfl) ?_
    refine lv_if_ge (tgt := 232) hx hb dX3_work_224 (by decide) (fun c_224 => ?_) (fun c_224 => ?_)
    · refine lv_aload_n hx hb dX3_work_232 rfl (lv_at hl 0 rfl) ?_
      refine lv_lconst (v := 0) hx hb dX3_work_233 (by decide) ?_
      refine lv_iload_n hx hb dX3_work_234 rfl (lv_at hl 3 rfl) ?_
      refine lv_iload hx hb dX3_work_235 (lv_at hl 5 rfl) ?_
      refine rr_maxI hx hb hml hl.1 hown hts q259 (Nat.le_of_ble_eq_true rfl) (Nat.le_of_ble_eq_true rfl) (Nat.le_of_ble_eq_true rfl) (Nat.le_of_ble_eq_true rfl) dX3_work_237 ?_
      refine rr_calll (va_runS (As := [.int (mxI h0 n0)]) (rest := [.long 0, .ref hM]) ⟨hx, hb, hml, hown, hts⟩ (met_X3_ones l D H.size (mxI h0 n0)) (va_cwS 1 hts (lw_S q307 q308 q22 q309) rfl rfl rfl (by decide +kernel) ⟨Nat.le_of_ble_eq_true rfl, Nat.le_of_ble_eq_true rfl⟩) ⟨rr_blindO, rr_preO (hP.sub (ws' := []) [] rfl) (hK.sub (tys' := []) [] rfl)⟩ rfl rfl hl.1 rfl (lv_room (Nat.le_of_ble_eq_true rfl)) dX3_work_240 ⟨Nat.le_of_ble_eq_true rfl, Nat.le_of_ble_eq_true rfl⟩) hP hS hA (fun ro H locs hwo hP hS => ?_)
      refine rr_calli (wc := [(hM, .inr (3, [.ref hB, .int (nI n), .int ti, .int lo, .int hi])), (hB, .inl (d, 187, .inl b))]) (wr := []) (va_runV (As := [.long 0, .long ro]) (rest := []) ⟨hx, hb, hml, hown, hts⟩ (met_X3_tell l D hM hB d b n ti lo hi H.size 0 ro hok hn hmi hma) (cwV 2 hts (lw_V q278 q280 qs10 q22 q281) rfl rfl rfl (by decide +kernel) ⟨Nat.le_of_ble_eq_true rfl, Nat.le_of_ble_eq_true rfl⟩) ⟨rr_blind, va_recv hK hP (ci := 3) (q0 := 0) rfl rfl, rr_pre (hP.sub (ws' := [(hM, .inr (3, [.ref hB, .int (nI n), .int ti, .int lo, .int hi])), (hB, .inl (d, 187, .inl b))]) [0, 1] rfl) (hK.sub (tys' := [(d, .int)]) [0] rfl) (hD.sub (ws' := [(hM, .inr (3, [.ref hB, .int (nI n), .int ti, .int lo, .int hi])), (hB, .inl (d, 187, .inl b))]) [0, 1] (by decide) rfl)⟩ rfl rfl hl.1 rfl (lv_room (Nat.le_of_ble_eq_true rfl)) dX3_work_243 ⟨Nat.le_of_ble_eq_true rfl, Nat.le_of_ble_eq_true rfl⟩) hK hP hD hS hA [0, 1] [] rfl rfl (by decide) (by decide) (fun rt u_145 H locs hwt hP hD hK hS => ?_)
      obtain ⟨lo1, hi1⟩ := u_145
      have hP : va_P D vwCl [(hM, .inr (3, [.ref hB, .int (nI n), .int ti, .int lo1, .int hi1])), (hB, .inl (d, 187, .inl b))] H := hP
      have hD : va_D A [(hM, .inr (3, [.ref hB, .int (nI n), .int ti, .int lo1, .int hi1])), (hB, .inl (d, 187, .inl b))] := hD
      have hK : va_K D vwCl [(d, .int)] s := hK.sub (tys' := [(d, .int)]) [0] rfl
      exact kk rt lo1 hi1 H locs ls 246 dX3_work_246 (by show WorkR _ (some (if _ then _ else _)) _ _ _ _ _; rw [if_neg (fun q => q.elim c_219 (fun z => i_not2 c_224 z))]; rw [hwo] at hwt; exact hwt) hP hD hS
    · refine lv_aload_n hx hb dX3_work_227 rfl (lv_at hl 0 rfl) ?_
      refine rr_calli (wc := [(hM, .inr (3, [.ref hB, .int (nI n), .int ti, .int lo, .int hi])), (hB, .inl (d, 187, .inl b))]) (wr := []) (va_runV (As := []) (rest := []) ⟨hx, hb, hml, hown, hts⟩ (met_X3_tellAll l D hM hB d b n ti lo hi H.size  hok hn hmi hma) (cwV 0 hts (lw_V q303 q305 qs14 q22 q306) rfl rfl rfl (by decide +kernel) ⟨Nat.le_of_ble_eq_true rfl, Nat.le_of_ble_eq_true rfl⟩) ⟨rr_blind, va_recv hK hP (ci := 3) (q0 := 0) rfl rfl, rr_pre (hP.sub (ws' := [(hM, .inr (3, [.ref hB, .int (nI n), .int ti, .int lo, .int hi])), (hB, .inl (d, 187, .inl b))]) [0, 1] rfl) (hK.sub (tys' := [(d, .int)]) [0] rfl) (hD.sub (ws' := [(hM, .inr (3, [.ref hB, .int (nI n), .int ti, .int lo, .int hi])), (hB, .inl (d, 187, .inl b))]) [0, 1] (by decide) rfl)⟩ rfl rfl hl.1 rfl (lv_room (Nat.le_of_ble_eq_true rfl)) dX3_work_228 ⟨Nat.le_of_ble_eq_true rfl, Nat.le_of_ble_eq_true rfl⟩) hK hP hD hS hA [0, 1] [] rfl rfl (by decide) (by decide) (fun rt u_146 H locs hwt hP hD hK hS => ?_)
      obtain ⟨lo1, hi1⟩ := u_146
      have hP : va_P D vwCl [(hM, .inr (3, [.ref hB, .int (nI n), .int ti, .int lo1, .int hi1])), (hB, .inl (d, 187, .inl b))] H := hP
      have hD : va_D A [(hM, .inr (3, [.ref hB, .int (nI n), .int ti, .int lo1, .int hi1])), (hB, .inl (d, 187, .inl b))] := hD
      have hK : va_K D vwCl [(d, .int)] s := hK.sub (tys' := [(d, .int)]) [0] rfl
      exact kk rt lo1 hi1 H locs ls 231 dX3_work_231 (by show WorkR _ (some (if _ then _ else _)) _ _ _ _ _; rw [if_pos (Or.inr (i_not c_224))]; exact hwt) hP hD hS
set_option maxHeartbeats 4000000 in
set_option maxRecDepth 100000 in
theorem X3_work_8 {p : Program} {l : Launch} {e : Env} {s : State} {m : MethodId} {args : Array Value} {below : List Frame} {meth : Method} {c : Code} {H : Heap} {locs : List Loc} {Q : State → Prop} (hx : p.tables.exec = Jvm.exec) (hb : c.code = cX3_work) (hts : ∀ w ∈ lw_all, w.before args s = true) (hown : s.vm.findClass RX3 = some m.cls) (hml : c.maxLocals = 8) {D : va_G} {hM hB n : Nat} {d : ClassId} {b : Nat → Int32} {ti lo hi l0 h0 m0 n0 : Int32} {S : Int32 → Bool} (hok : M_ok S n b) (hn : n ≤ 187) (hmi : S (-2147483648) = true) (hma : S 2147483647 = true) {A : Nat → Prop} {H0 : Heap} (hK : va_K D vwCl [(d, .int)] s) (hP : va_P D vwCl [(hM, .inr (3, [.ref hB, .int (nI n), .int ti, .int lo, .int hi])), (hB, .inl (d, 187, .inl b))] H) (hD : va_D A [(hM, .inr (3, [.ref hB, .int (nI n), .int ti, .int lo, .int hi])), (hB, .inl (d, 187, .inl b))]) (hS : va_S A H0 H locs) (hA : ∀ q : Nat, H0.size ≤ q → A q) {ls : Array Slot} (hl : lv_has ls 8 [(0, .ref hM), (1, .int (nI 8)), (2, .int l0), (3, .int h0), (4, .int m0), (5, .int n0)])
    (kk : ∀ (r lo2 hi2 : Int32) (H : Heap) (locs : List Loc) (ls : Array Slot) (pc : Nat), decode cX3_work pc = .ok (.ireturn, 1) → WorkR (TellR S) (mdlOp 8 l0 h0 m0 n0) lo hi r lo2 hi2 → va_P D vwCl [(hM, .inr (3, [.ref hB, .int (nI n), .int ti, .int lo2, .int hi2])), (hB, .inl (d, 187, .inl b))] H → va_D A [(hM, .inr (3, [.ref hB, .int (nI n), .int ti, .int lo2, .int hi2])), (hB, .inl (d, 187, .inl b))] → va_S A H0 H locs → W p l e (headSpec wsX3_work ({ frames := 4, cells := 0, slots := 0, locals := 99 })).room s m args below meth c H locs 0 0 Q (F0 m pc ls [.int r])) : W p l e (headSpec wsX3_work ({ frames := 4, cells := 0, slots := 0, locals := 99 })).room s m args below meth c H locs 0 0 Q (F0 m 32 ls []) := by
  refine lv_iload_n hx hb dX3_work_32 rfl (lv_at hl 1 rfl) ?_
  refine lv_tableIn (off := 214) (tgt := 247) hx hb dX3_work_33 (by decide) (by decide) rfl (by decide) ?_
  refine lv_iload hx hb dX3_work_247 (lv_at hl 4 rfl) ?_
  refine lv_iload hx hb dX3_work_249 (lv_at hl 5 rfl) ?_
  refine lv_icmp_eq (tgt := 259) hx hb dX3_work_251 (by decide) (fun c_251 => ?_) (fun c_251 => ?_)
  · refine lv_lconst (v := 1) hx hb dX3_work_259 (by decide) ?_
    refine lv_iload hx hb dX3_work_260 (lv_at hl 4 rfl) ?_
    refine lv_bipush (v := 31) hx hb dX3_work_262 (by decide) ?_
    refine lv_iand hx hb dX3_work_264 ?_
    refine lv_lshl hx hb dX3_work_265 rfl ?_
    refine lv_lstore (lv' := [(6, .long (1 <<< ((m0 &&& 31).toInt64 &&& 63))), (0, .ref hM), (1, .int (nI 8)), (2, .int l0), (3, .int h0), (4, .int m0), (5, .int n0)]) hx hb dX3_work_266 hl (by decide) rfl (fun ls hl => ?_)
    refine lv_aload_n hx hb dX3_work_268 rfl (lv_at hl 1 rfl) ?_
    refine lv_iload_n hx hb dX3_work_269 rfl (lv_at hl 3 rfl) ?_
    refine lv_i2l hx hb dX3_work_270 rfl ?_
    refine lv_lload hx hb dX3_work_271 (lv_at hl 0 rfl) ?_
    refine lv_lmul hx hb dX3_work_273 ?_
    refine lv_iload_n hx hb dX3_work_274 rfl (lv_at hl 4 rfl) ?_
    refine lv_i2l hx hb dX3_work_275 rfl ?_
    refine lv_lload hx hb dX3_work_276 (lv_at hl 0 rfl) ?_
    refine lv_lmul hx hb dX3_work_278 ?_
    refine rr_calli (wc := [(hM, .inr (3, [.ref hB, .int (nI n), .int ti, .int lo, .int hi])), (hB, .inl (d, 187, .inl b))]) (wr := []) (va_runV (As := [.long (l0.toInt64 * (1 <<< ((m0 &&& 31).toInt64 &&& 63))), .long (h0.toInt64 * (1 <<< ((m0 &&& 31).toInt64 &&& 63)))]) (rest := []) ⟨hx, hb, hml, hown, hts⟩ (met_X3_tell l D hM hB d b n ti lo hi H.size (l0.toInt64 * (1 <<< ((m0 &&& 31).toInt64 &&& 63))) (h0.toInt64 * (1 <<< ((m0 &&& 31).toInt64 &&& 63))) hok hn hmi hma) (cwV 2 hts (lw_V q278 q280 qs10 q22 q281) rfl rfl rfl (by decide +kernel) ⟨Nat.le_of_ble_eq_true rfl, Nat.le_of_ble_eq_true rfl⟩) ⟨rr_blind, va_recv hK hP (ci := 3) (q0 := 0) rfl rfl, rr_pre (hP.sub (ws' := [(hM, .inr (3, [.ref hB, .int (nI n), .int ti, .int lo, .int hi])), (hB, .inl (d, 187, .inl b))]) [0, 1] rfl) (hK.sub (tys' := [(d, .int)]) [0] rfl) (hD.sub (ws' := [(hM, .inr (3, [.ref hB, .int (nI n), .int ti, .int lo, .int hi])), (hB, .inl (d, 187, .inl b))]) [0, 1] (by decide) rfl)⟩ rfl rfl hl.1 rfl (lv_room (Nat.le_of_ble_eq_true rfl)) dX3_work_279 ⟨Nat.le_of_ble_eq_true rfl, Nat.le_of_ble_eq_true rfl⟩) hK hP hD hS hA [0, 1] [] rfl rfl (by decide) (by decide) (fun rt u_147 H locs hwt hP hD hK hS => ?_)
    obtain ⟨lo1, hi1⟩ := u_147
    have hP : va_P D vwCl [(hM, .inr (3, [.ref hB, .int (nI n), .int ti, .int lo1, .int hi1])), (hB, .inl (d, 187, .inl b))] H := hP
    have hD : va_D A [(hM, .inr (3, [.ref hB, .int (nI n), .int ti, .int lo1, .int hi1])), (hB, .inl (d, 187, .inl b))] := hD
    have hK : va_K D vwCl [(d, .int)] s := hK.sub (tys' := [(d, .int)]) [0] rfl
    exact kk rt lo1 hi1 H locs ls 282 dX3_work_282 (by show WorkR _ (some (if _ then _ else _)) _ _ _ _ _; rw [if_pos c_251]; exact hwt) hP hD hS
  · refine lv_aload_n hx hb dX3_work_254 rfl (lv_at hl 0 rfl) ?_
    refine rr_calli (wc := [(hM, .inr (3, [.ref hB, .int (nI n), .int ti, .int lo, .int hi])), (hB, .inl (d, 187, .inl b))]) (wr := []) (va_runV (As := []) (rest := []) ⟨hx, hb, hml, hown, hts⟩ (met_X3_tellAll l D hM hB d b n ti lo hi H.size  hok hn hmi hma) (cwV 0 hts (lw_V q303 q305 qs14 q22 q306) rfl rfl rfl (by decide +kernel) ⟨Nat.le_of_ble_eq_true rfl, Nat.le_of_ble_eq_true rfl⟩) ⟨rr_blind, va_recv hK hP (ci := 3) (q0 := 0) rfl rfl, rr_pre (hP.sub (ws' := [(hM, .inr (3, [.ref hB, .int (nI n), .int ti, .int lo, .int hi])), (hB, .inl (d, 187, .inl b))]) [0, 1] rfl) (hK.sub (tys' := [(d, .int)]) [0] rfl) (hD.sub (ws' := [(hM, .inr (3, [.ref hB, .int (nI n), .int ti, .int lo, .int hi])), (hB, .inl (d, 187, .inl b))]) [0, 1] (by decide) rfl)⟩ rfl rfl hl.1 rfl (lv_room (Nat.le_of_ble_eq_true rfl)) dX3_work_255 ⟨Nat.le_of_ble_eq_true rfl, Nat.le_of_ble_eq_true rfl⟩) hK hP hD hS hA [0, 1] [] rfl rfl (by decide) (by decide) (fun rt u_148 H locs hwt hP hD hK hS => ?_)
    obtain ⟨lo1, hi1⟩ := u_148
    have hP : va_P D vwCl [(hM, .inr (3, [.ref hB, .int (nI n), .int ti, .int lo1, .int hi1])), (hB, .inl (d, 187, .inl b))] H := hP
    have hD : va_D A [(hM, .inr (3, [.ref hB, .int (nI n), .int ti, .int lo1, .int hi1])), (hB, .inl (d, 187, .inl b))] := hD
    have hK : va_K D vwCl [(d, .int)] s := hK.sub (tys' := [(d, .int)]) [0] rfl
    exact kk rt lo1 hi1 H locs ls 258 dX3_work_258 (by show WorkR _ (some (if _ then _ else _)) _ _ _ _ _; rw [if_neg c_251]; exact hwt) hP hD hS
set_option maxHeartbeats 4000000 in
set_option maxRecDepth 100000 in
theorem X3_work_9 {p : Program} {l : Launch} {e : Env} {s : State} {m : MethodId} {args : Array Value} {below : List Frame} {meth : Method} {c : Code} {H : Heap} {locs : List Loc} {Q : State → Prop} (hx : p.tables.exec = Jvm.exec) (hb : c.code = cX3_work) (hts : ∀ w ∈ lw_all, w.before args s = true) (hown : s.vm.findClass RX3 = some m.cls) (hml : c.maxLocals = 8) {D : va_G} {hM hB n : Nat} {d : ClassId} {b : Nat → Int32} {ti lo hi l0 h0 m0 n0 : Int32} {S : Int32 → Bool} (hok : M_ok S n b) (hn : n ≤ 187) (hmi : S (-2147483648) = true) (hma : S 2147483647 = true) {A : Nat → Prop} {H0 : Heap} (hK : va_K D vwCl [(d, .int)] s) (hP : va_P D vwCl [(hM, .inr (3, [.ref hB, .int (nI n), .int ti, .int lo, .int hi])), (hB, .inl (d, 187, .inl b))] H) (hD : va_D A [(hM, .inr (3, [.ref hB, .int (nI n), .int ti, .int lo, .int hi])), (hB, .inl (d, 187, .inl b))]) (hS : va_S A H0 H locs) (hA : ∀ q : Nat, H0.size ≤ q → A q) {ls : Array Slot} (hl : lv_has ls 8 [(0, .ref hM), (1, .int (nI 9)), (2, .int l0), (3, .int h0), (4, .int m0), (5, .int n0)])
    (kk : ∀ (r lo2 hi2 : Int32) (H : Heap) (locs : List Loc) (ls : Array Slot) (pc : Nat), decode cX3_work pc = .ok (.ireturn, 1) → WorkR (TellR S) (mdlOp 9 l0 h0 m0 n0) lo hi r lo2 hi2 → va_P D vwCl [(hM, .inr (3, [.ref hB, .int (nI n), .int ti, .int lo2, .int hi2])), (hB, .inl (d, 187, .inl b))] H → va_D A [(hM, .inr (3, [.ref hB, .int (nI n), .int ti, .int lo2, .int hi2])), (hB, .inl (d, 187, .inl b))] → va_S A H0 H locs → W p l e (headSpec wsX3_work ({ frames := 4, cells := 0, slots := 0, locals := 99 })).room s m args below meth c H locs 0 0 Q (F0 m pc ls [.int r])) : W p l e (headSpec wsX3_work ({ frames := 4, cells := 0, slots := 0, locals := 99 })).room s m args below meth c H locs 0 0 Q (F0 m 32 ls []) := by
  refine lv_iload_n hx hb dX3_work_32 rfl (lv_at hl 1 rfl) ?_
  refine lv_tableOut (tgt := 283) hx hb dX3_work_33 (by decide) (by decide) ?_
  refine lv_iload hx hb dX3_work_283 (lv_at hl 4 rfl) ?_
  refine lv_iload hx hb dX3_work_285 (lv_at hl 5 rfl) ?_
  refine lv_icmp_ne (tgt := 311) hx hb dX3_work_287 (by decide) (fun c_287 => ?_) (fun c_287 => ?_)
  · refine lv_aload_n hx hb dX3_work_311 rfl (lv_at hl 0 rfl) ?_
    refine lv_iload_n hx hb dX3_work_312 rfl (lv_at hl 2 rfl) ?_
    refine lv_iconst (v := 0) hx hb dX3_work_313 (by decide) ?_
    refine rr_minI hx hb hml hl.1 hown hts q267 (Nat.le_of_ble_eq_true rfl) (Nat.le_of_ble_eq_true rfl) (Nat.le_of_ble_eq_true rfl) (Nat.le_of_ble_eq_true rfl) dX3_work_314 ?_
    refine lv_i2l hx hb dX3_work_317 rfl ?_
    refine lv_iload_n hx hb dX3_work_318 rfl (lv_at hl 3 rfl) ?_
    refine lv_iconst (v := (-1)) hx hb dX3_work_319 (by decide) ?_
    refine rr_maxI hx hb hml hl.1 hown hts q259 (Nat.le_of_ble_eq_true rfl) (Nat.le_of_ble_eq_true rfl) (Nat.le_of_ble_eq_true rfl) (Nat.le_of_ble_eq_true rfl) dX3_work_320 ?_
    refine lv_i2l hx hb dX3_work_323 rfl ?_
    refine rr_calli (wc := [(hM, .inr (3, [.ref hB, .int (nI n), .int ti, .int lo, .int hi])), (hB, .inl (d, 187, .inl b))]) (wr := []) (va_runV (As := [.long ((mnI l0 0).toInt64), .long ((mxI h0 (-1)).toInt64)]) (rest := []) ⟨hx, hb, hml, hown, hts⟩ (met_X3_tell l D hM hB d b n ti lo hi H.size ((mnI l0 0).toInt64) ((mxI h0 (-1)).toInt64) hok hn hmi hma) (cwV 2 hts (lw_V q278 q280 qs10 q22 q281) rfl rfl rfl (by decide +kernel) ⟨Nat.le_of_ble_eq_true rfl, Nat.le_of_ble_eq_true rfl⟩) ⟨rr_blind, va_recv hK hP (ci := 3) (q0 := 0) rfl rfl, rr_pre (hP.sub (ws' := [(hM, .inr (3, [.ref hB, .int (nI n), .int ti, .int lo, .int hi])), (hB, .inl (d, 187, .inl b))]) [0, 1] rfl) (hK.sub (tys' := [(d, .int)]) [0] rfl) (hD.sub (ws' := [(hM, .inr (3, [.ref hB, .int (nI n), .int ti, .int lo, .int hi])), (hB, .inl (d, 187, .inl b))]) [0, 1] (by decide) rfl)⟩ rfl rfl hl.1 rfl (lv_room (Nat.le_of_ble_eq_true rfl)) dX3_work_324 ⟨Nat.le_of_ble_eq_true rfl, Nat.le_of_ble_eq_true rfl⟩) hK hP hD hS hA [0, 1] [] rfl rfl (by decide) (by decide) (fun rt u_149 H locs hwt hP hD hK hS => ?_)
    obtain ⟨lo1, hi1⟩ := u_149
    have hP : va_P D vwCl [(hM, .inr (3, [.ref hB, .int (nI n), .int ti, .int lo1, .int hi1])), (hB, .inl (d, 187, .inl b))] H := hP
    have hD : va_D A [(hM, .inr (3, [.ref hB, .int (nI n), .int ti, .int lo1, .int hi1])), (hB, .inl (d, 187, .inl b))] := hD
    have hK : va_K D vwCl [(d, .int)] s := hK.sub (tys' := [(d, .int)]) [0] rfl
    exact kk rt lo1 hi1 H locs ls 327 dX3_work_327 (by show WorkR _ (some (if _ then _ else _)) _ _ _ _ _; rw [if_neg c_287]; exact hwt) hP hD hS
  · refine lv_aload_n hx hb dX3_work_290 rfl (lv_at hl 0 rfl) ?_
    refine lv_iload_n hx hb dX3_work_291 rfl (lv_at hl 2 rfl) ?_
    refine lv_iload hx hb dX3_work_292 (lv_at hl 4 rfl) ?_
    refine lv_bipush (v := 31) hx hb dX3_work_294 (by decide) ?_
    refine lv_iand hx hb dX3_work_296 ?_
    refine lv_ishr hx hb dX3_work_297 ?_
    refine lv_i2l hx hb dX3_work_298 rfl ?_
    refine lv_iload_n hx hb dX3_work_299 rfl (lv_at hl 3 rfl) ?_
    refine lv_iload hx hb dX3_work_300 (lv_at hl 4 rfl) ?_
    refine lv_bipush (v := 31) hx hb dX3_work_302 (by decide) ?_
    refine lv_iand hx hb dX3_work_304 ?_
    refine lv_ishr hx hb dX3_work_305 ?_
    refine lv_i2l hx hb dX3_work_306 rfl ?_
    refine rr_calli (wc := [(hM, .inr (3, [.ref hB, .int (nI n), .int ti, .int lo, .int hi])), (hB, .inl (d, 187, .inl b))]) (wr := []) (va_runV (As := [.long ((l0 >>> ((m0 &&& 31) &&& 31)).toInt64), .long ((h0 >>> ((m0 &&& 31) &&& 31)).toInt64)]) (rest := []) ⟨hx, hb, hml, hown, hts⟩ (met_X3_tell l D hM hB d b n ti lo hi H.size ((l0 >>> ((m0 &&& 31) &&& 31)).toInt64) ((h0 >>> ((m0 &&& 31) &&& 31)).toInt64) hok hn hmi hma) (cwV 2 hts (lw_V q278 q280 qs10 q22 q281) rfl rfl rfl (by decide +kernel) ⟨Nat.le_of_ble_eq_true rfl, Nat.le_of_ble_eq_true rfl⟩) ⟨rr_blind, va_recv hK hP (ci := 3) (q0 := 0) rfl rfl, rr_pre (hP.sub (ws' := [(hM, .inr (3, [.ref hB, .int (nI n), .int ti, .int lo, .int hi])), (hB, .inl (d, 187, .inl b))]) [0, 1] rfl) (hK.sub (tys' := [(d, .int)]) [0] rfl) (hD.sub (ws' := [(hM, .inr (3, [.ref hB, .int (nI n), .int ti, .int lo, .int hi])), (hB, .inl (d, 187, .inl b))]) [0, 1] (by decide) rfl)⟩ rfl rfl hl.1 rfl (lv_room (Nat.le_of_ble_eq_true rfl)) dX3_work_307 ⟨Nat.le_of_ble_eq_true rfl, Nat.le_of_ble_eq_true rfl⟩) hK hP hD hS hA [0, 1] [] rfl rfl (by decide) (by decide) (fun rt u_150 H locs hwt hP hD hK hS => ?_)
    obtain ⟨lo1, hi1⟩ := u_150
    have hP : va_P D vwCl [(hM, .inr (3, [.ref hB, .int (nI n), .int ti, .int lo1, .int hi1])), (hB, .inl (d, 187, .inl b))] H := hP
    have hD : va_D A [(hM, .inr (3, [.ref hB, .int (nI n), .int ti, .int lo1, .int hi1])), (hB, .inl (d, 187, .inl b))] := hD
    have hK : va_K D vwCl [(d, .int)] s := hK.sub (tys' := [(d, .int)]) [0] rfl
    exact kk rt lo1 hi1 H locs ls 310 dX3_work_310 (by show WorkR _ (some (if _ then _ else _)) _ _ _ _ _; rw [if_pos c_287]; exact hwt) hP hD hS
set_option maxHeartbeats 4000000 in
set_option maxRecDepth 100000 in
theorem met_X3_work (l : Launch) (D : va_G) (hM hB : Nat) (d : ClassId) (b : Nat → Int32) (n : Nat) (ti lo hi : Int32) (sz : Nat) (op l0 h0 m0 n0 : Int32) {S : Int32 → Bool} (hok : M_ok S n b) (hn : n ≤ 187) (hmi : S (-2147483648) = true) (hma : S 2147483647 = true) : rr_CI l D yX3_work wsX3_work ({ frames := 4, cells := 0, slots := 0, locals := 99 }) [.ref hM, .int op, .int l0, .int h0, .int m0, .int n0] [(d, .int)] [(hM, .inr (3, [.ref hB, .int (nI n), .int ti, .int lo, .int hi])), (hB, .inl (d, 187, .inl b))] sz (fun (r : Int32) (u : Int32 × Int32) => XWork S (TellR S) (mdlOp op.toNatClampNeg l0 h0 m0 n0) op l0 h0 m0 n0 lo hi r u.1 u.2) (fun _ => [(d, .int)]) (fun u => [(hM, .inr (3, [.ref hB, .int (nI n), .int ti, .int u.1, .int u.2])), (hB, .inl (d, 187, .inl b))]) 0 0 := by
  refine Met.ofW (cc := cX3_work) (maxL := 8) (ret := (some .int)) (by decide) rfl ?_
  intro p e s m args below meth c s₁ B hml hv
  obtain ⟨rfl, hsz, hP, hK, hD0⟩ := hv
  have hx := B.exec
  have hb := B.bytes
  have hr := B.returns
  have hts := atoms_spec (ws := wsX3_work) B.pre
  have hts : ∀ w ∈ lw_all, w.before _ s = true := fun w h => hts w (List.mem_cons_of_mem _ h)
  have hown : s.vm.findClass RX3 = some m.cls := findClass_of_methodNamed B.named
  have hlocks := B.notSynchronized
  subst hsz
  have hD := hD0.self (sz := s.heap.size)
  generalize hAe : va_A [(hM, .inr (3, [.ref hB, .int (nI n), .int ti, .int lo, .int hi])), (hB, .inl (d, 187, .inl b))] s.heap.size = A at hD ⊢
  have hA : ∀ q : Nat, s.heap.size ≤ q → A q := fun q h => by rw [← hAe]; exact Or.inr h
  have hS : va_S A s.heap s.heap [] := va_S.rf
  have hP : va_P D vwCl [(hM, .inr (3, [.ref hB, .int (nI n), .int ti, .int lo, .int hi])), (hB, .inl (d, 187, .inl b))] s.heap := hP
  have hK : va_K D vwCl [(d, .int)] s := hK
  have hl := lv_entry ([.ref hM, .int op, .int l0, .int h0, .int m0, .int n0]) (n := 8) (Nat.le_of_ble_eq_true rfl)
  rw [lg_entry_eq]
  generalize (lg_sl ([.ref hM, .int op, .int l0, .int h0, .int m0, .int n0]) ++ List.replicate (8 - (lg_sl ([.ref hM, .int op, .int l0, .int h0, .int m0, .int n0])).length) Slot.unset).toArray = ls at hl ⊢
  have hl : lv_has ls 8 [(0, .ref hM), (1, .int op), (2, .int l0), (3, .int h0), (4, .int m0), (5, .int n0)] := hl
  refine lv_iload_n hx hb dX3_work_0 rfl (lv_at hl 1 rfl) ?_
  refine lv_if_lt (tgt := 30) hx hb dX3_work_1 (by decide) (fun c_1 => ?_) (fun c_1 => ?_)
  · refine lv_iconst (v := (-1)) hx hb dX3_work_30 (by decide) ?_
    exact W.iret hx hb hr (rr_endi (lo, hi) (by unfold XWork; rw [if_neg (fun q => (okW_iff.mp q).1 c_1)]; exact ⟨rfl, rfl, rfl⟩) hP hK hD hS) hS.2.2 dX3_work_31
  · refine lv_iload_n hx hb dX3_work_4 rfl (lv_at hl 1 rfl) ?_
    refine lv_bipush (v := 9) hx hb dX3_work_5 (by decide) ?_
    refine lv_icmp_gt (tgt := 30) hx hb dX3_work_7 (by decide) (fun c_7 => ?_) (fun c_7 => ?_)
    · refine lv_iconst (v := (-1)) hx hb dX3_work_30 (by decide) ?_
      exact W.iret hx hb hr (rr_endi (lo, hi) (by unfold XWork; rw [if_neg (fun q => (okW_iff.mp q).2.1 c_7)]; exact ⟨rfl, rfl, rfl⟩) hP hK hD hS) hS.2.2 dX3_work_31
    · refine lv_aload_n hx hb dX3_work_10 rfl (lv_at hl 0 rfl) ?_
      refine lv_iload_n hx hb dX3_work_11 rfl (lv_at hl 2 rfl) ?_
      refine lv_iload_n hx hb dX3_work_12 rfl (lv_at hl 3 rfl) ?_
      refine rr_callo (va_runV (As := [.int l0, .int h0]) (rest := []) ⟨hx, hb, hml, hown, hts⟩ (met_X3_isRange l D hM hB d b n ti lo hi s.heap.size l0 h0 hok hn hmi hma) (cwV 2 hts (lw_V q272 q274 qs9 q22 q275) rfl rfl rfl (by decide +kernel) ⟨Nat.le_of_ble_eq_true rfl, Nat.le_of_ble_eq_true rfl⟩) ⟨rr_blindO, va_recv hK hP (ci := 3) (q0 := 0) rfl rfl, rr_preO (hP.sub (ws' := [(hM, .inr (3, [.ref hB, .int (nI n), .int ti, .int lo, .int hi])), (hB, .inl (d, 187, .inl b))]) [0, 1] rfl) (hK.sub (tys' := [(d, .int)]) [0] rfl)⟩ rfl rfl hl.1 rfl (lv_room (Nat.le_of_ble_eq_true rfl)) dX3_work_13 ⟨Nat.le_of_ble_eq_true rfl, Nat.le_of_ble_eq_true rfl⟩) hP hS hA (fun r1 H locs hi1' hP hS => ?_)
      refine lv_if_eq (tgt := 30) hx hb dX3_work_16 (by decide) (fun c_16 => ?_) (fun c_16 => ?_)
      · refine lv_iconst (v := (-1)) hx hb dX3_work_30 (by decide) ?_
        exact W.iret hx hb hr (rr_endi (lo, hi) (by unfold XWork; rw [if_neg (fun q => absurd (hi1'.symm.trans c_16) (by rw [if_pos (okW_iff.mp q).2.2.1]; decide))]; exact ⟨rfl, rfl, rfl⟩) hP hK hD hS) hS.2.2 dX3_work_31
      · refine lv_aload_n hx hb dX3_work_19 rfl (lv_at hl 0 rfl) ?_
        refine lv_iload hx hb dX3_work_20 (lv_at hl 4 rfl) ?_
        refine lv_iload hx hb dX3_work_22 (lv_at hl 5 rfl) ?_
        refine rr_callo (va_runV (As := [.int m0, .int n0]) (rest := []) ⟨hx, hb, hml, hown, hts⟩ (met_X3_isRange l D hM hB d b n ti lo hi H.size m0 n0 hok hn hmi hma) (cwV 2 hts (lw_V q272 q274 qs9 q22 q275) rfl rfl rfl (by decide +kernel) ⟨Nat.le_of_ble_eq_true rfl, Nat.le_of_ble_eq_true rfl⟩) ⟨rr_blindO, va_recv hK hP (ci := 3) (q0 := 0) rfl rfl, rr_preO (hP.sub (ws' := [(hM, .inr (3, [.ref hB, .int (nI n), .int ti, .int lo, .int hi])), (hB, .inl (d, 187, .inl b))]) [0, 1] rfl) (hK.sub (tys' := [(d, .int)]) [0] rfl)⟩ rfl rfl hl.1 rfl (lv_room (Nat.le_of_ble_eq_true rfl)) dX3_work_24 ⟨Nat.le_of_ble_eq_true rfl, Nat.le_of_ble_eq_true rfl⟩) hP hS hA (fun r2 H locs hi2' hP hS => ?_)
        refine lv_if_ne (tgt := 32) hx hb dX3_work_27 (by decide) (fun c_27 => ?_) (fun c_27 => ?_)
        · have g1 : rng S l0 h0 = true := Decidable.byContradiction (fun q => c_16 (by rw [hi1', if_neg q]))
          have g2 : rng S m0 n0 = true := Decidable.byContradiction (fun q => c_27 (by rw [hi2', if_neg q]))
          obtain ⟨j, hj, rfl⟩ := nI_of2 (x := op) (M := 9) (n := 9) (by decide) c_1 (Int32.not_lt.mp c_7)
          have g3 : okW S (nI j) l0 h0 m0 n0 = true := okW_iff.mpr ⟨c_1, c_7, g1, g2⟩
          have g4 : (nI j).toNatClampNeg = j := nI_clamp (by omega)
          rcases (show j = 0 ∨ j = 1 ∨ j = 2 ∨ j = 3 ∨ j = 4 ∨ j = 5 ∨ j = 6 ∨ j = 7 ∨ j = 8 ∨ j = 9 by omega) with rfl | rfl | rfl | rfl | rfl | rfl | rfl | rfl | rfl | rfl
          · exact X3_work_0 hx hb hts hown hml hok hn hmi hma hK hP hD hS hA (lv_sub hl [0, 1, 2, 3, 4, 5] rfl) (fun r lo2 hi2 H locs ls pc hpc hwk hP hD hS => W.iret hx hb hr (rr_endi (lo2, hi2) (by unfold XWork; rw [if_pos g3, g4]; exact hwk) hP hK hD hS) hS.2.2 hpc)
          · exact X3_work_1 hx hb hts hown hml hok hn hmi hma hK hP hD hS hA (lv_sub hl [0, 1, 2, 3, 4, 5] rfl) (fun r lo2 hi2 H locs ls pc hpc hwk hP hD hS => W.iret hx hb hr (rr_endi (lo2, hi2) (by unfold XWork; rw [if_pos g3, g4]; exact hwk) hP hK hD hS) hS.2.2 hpc)
          · exact X3_work_2 hx hb hts hown hml hok hn hmi hma hK hP hD hS hA (lv_sub hl [0, 1, 2, 3, 4, 5] rfl) (fun r lo2 hi2 H locs ls pc hpc hwk hP hD hS => W.iret hx hb hr (rr_endi (lo2, hi2) (by unfold XWork; rw [if_pos g3, g4]; exact hwk) hP hK hD hS) hS.2.2 hpc)
          · exact X3_work_3 hx hb hts hown hml hok hn hmi hma hK hP hD hS hA (lv_sub hl [0, 1, 2, 3, 4, 5] rfl) (fun r lo2 hi2 H locs ls pc hpc hwk hP hD hS => W.iret hx hb hr (rr_endi (lo2, hi2) (by unfold XWork; rw [if_pos g3, g4]; exact hwk) hP hK hD hS) hS.2.2 hpc)
          · exact X3_work_4 hx hb hts hown hml hok hn hmi hma hK hP hD hS hA (lv_sub hl [0, 1, 2, 3, 4, 5] rfl) (fun r lo2 hi2 H locs ls pc hpc hwk hP hD hS => W.iret hx hb hr (rr_endi (lo2, hi2) (by unfold XWork; rw [if_pos g3, g4]; exact hwk) hP hK hD hS) hS.2.2 hpc)
          · exact X3_work_5 hx hb hts hown hml hok hn hmi hma hK hP hD hS hA (lv_sub hl [0, 1, 2, 3, 4, 5] rfl) (fun r lo2 hi2 H locs ls pc hpc hwk hP hD hS => W.iret hx hb hr (rr_endi (lo2, hi2) (by unfold XWork; rw [if_pos g3, g4]; exact hwk) hP hK hD hS) hS.2.2 hpc)
          · exact X3_work_6 hx hb hts hown hml hok hn hmi hma hK hP hD hS hA (lv_sub hl [0, 1, 2, 3, 4, 5] rfl) (fun r lo2 hi2 H locs ls pc hpc hwk hP hD hS => W.iret hx hb hr (rr_endi (lo2, hi2) (by unfold XWork; rw [if_pos g3, g4]; exact hwk) hP hK hD hS) hS.2.2 hpc)
          · exact X3_work_7 hx hb hts hown hml hok hn hmi hma hK hP hD hS hA (lv_sub hl [0, 1, 2, 3, 4, 5] rfl) (fun r lo2 hi2 H locs ls pc hpc hwk hP hD hS => W.iret hx hb hr (rr_endi (lo2, hi2) (by unfold XWork; rw [if_pos g3, g4]; exact hwk) hP hK hD hS) hS.2.2 hpc)
          · exact X3_work_8 hx hb hts hown hml hok hn hmi hma hK hP hD hS hA (lv_sub hl [0, 1, 2, 3, 4, 5] rfl) (fun r lo2 hi2 H locs ls pc hpc hwk hP hD hS => W.iret hx hb hr (rr_endi (lo2, hi2) (by unfold XWork; rw [if_pos g3, g4]; exact hwk) hP hK hD hS) hS.2.2 hpc)
          · exact X3_work_9 hx hb hts hown hml hok hn hmi hma hK hP hD hS hA (lv_sub hl [0, 1, 2, 3, 4, 5] rfl) (fun r lo2 hi2 H locs ls pc hpc hwk hP hD hS => W.iret hx hb hr (rr_endi (lo2, hi2) (by unfold XWork; rw [if_pos g3, g4]; exact hwk) hP hK hD hS) hS.2.2 hpc)
        · refine lv_iconst (v := (-1)) hx hb dX3_work_30 (by decide) ?_
          exact W.iret hx hb hr (rr_endi (lo, hi) (by unfold XWork; rw [if_neg (fun q => absurd (hi2'.symm.trans c_27) (by rw [if_pos (okW_iff.mp q).2.2.2]; decide))]; exact ⟨rfl, rfl, rfl⟩) hP hK hD hS) hS.2.2 dX3_work_31
end
section
/-! OWN ROWS: the plain law: what the class computes for 'work' (by longs) is what the reference computes (by ints), and its two ends are in order -/
theorem mnL_t (x y : Int64) : (mnL x y).toInt = min x.toInt y.toInt := by
  unfold mnL
  split
  · rename_i q
    rw [Int64.lt_iff_toInt_lt] at q
    omega
  · rename_i q
    rw [Int64.lt_iff_toInt_lt] at q
    omega
theorem mxL_t (x y : Int64) : (mxL x y).toInt = max x.toInt y.toInt := by
  unfold mxL
  split
  · rename_i q
    rw [Int64.lt_iff_toInt_lt] at q
    omega
  · rename_i q
    rw [Int64.lt_iff_toInt_lt] at q
    omega
theorem mnI_t (x y : Int32) : (mnI x y).toInt = min x.toInt y.toInt := by
  unfold mnI
  split
  · rename_i q
    rw [Int32.lt_iff_toInt_lt] at q
    omega
  · rename_i q
    rw [Int32.lt_iff_toInt_lt] at q
    omega
theorem mxI_t (x y : Int32) : (mxI x y).toInt = max x.toInt y.toInt := by
  unfold mxI
  split
  · rename_i q
    rw [Int32.lt_iff_toInt_lt] at q
    omega
  · rename_i q
    rw [Int32.lt_iff_toInt_lt] at q
    omega
theorem z_64 : (0 : Int64).toInt = 0 := by decide
theorem z_32 : (0 : Int32).toInt = 0 := by decide
theorem n1_64 : (-1 : Int64).toInt = -1 := by decide
theorem n1_32 : (-1 : Int32).toInt = -1 := by decide
theorem e64 {x y : Int64} (h : x.toInt = y.toInt) : x = y := Int64.toInt_inj.mp h
theorem l64 {x y : Int64} : x ≤ y ↔ x.toInt ≤ y.toInt := Int64.le_iff_toInt_le
theorem t64 {x y : Int64} : x < y ↔ x.toInt < y.toInt := Int64.lt_iff_toInt_lt
theorem b32 (v : Int32) : -2147483648 ≤ v.toInt ∧ v.toInt ≤ 2147483647 := by
  have h1 := v.le_toInt
  have h2 := v.toInt_lt
  omega
theorem add64 {x y : Int64} (h1 : -9223372036854775808 ≤ x.toInt + y.toInt) (h2 : x.toInt + y.toInt ≤ 9223372036854775807) : (x + y).toInt = x.toInt + y.toInt := by
  rw [Int64.toInt_add]
  exact Int.bmod_eq_of_le (by omega) (by omega)
theorem sub64 {x y : Int64} (h1 : -9223372036854775808 ≤ x.toInt - y.toInt) (h2 : x.toInt - y.toInt ≤ 9223372036854775807) : (x - y).toInt = x.toInt - y.toInt := by
  rw [Int64.toInt_sub]
  exact Int.bmod_eq_of_le (by omega) (by omega)
theorem neg64 {x : Int64} (h1 : -9223372036854775807 ≤ x.toInt) : (-x).toInt = -x.toInt := by
  have h2 := x.toInt_lt
  rw [Int64.toInt_neg]
  exact Int.bmod_eq_of_le (by omega) (by omega)
theorem mul64 {x y : Int64} (h1 : -9223372036854775808 ≤ x.toInt * y.toInt) (h2 : x.toInt * y.toInt ≤ 9223372036854775807) : (x * y).toInt = x.toInt * y.toInt := by
  rw [Int64.toInt_mul]
  exact Int.bmod_eq_of_le (by omega) (by omega)
theorem qst_comm (l h : Int64) (b1 b2 : Bool) (d1 d2 : Int64) (q : Int64 × Int64) : qst l h b1 d1 (qst l h b2 d2 q) = qst l h b2 d2 (qst l h b1 d1 q) := by
  cases b1
  · rw [qst_f rfl, qst_f (q := q) rfl]
  · cases b2
    · rw [qst_f (b := false) rfl, qst_f (b := false) rfl]
    · simp only [qst_t]
      refine Prod.ext (e64 ?_) (e64 ?_)
      · simp only [mnL_t]; omega
      · simp only [mxL_t]; omega
theorem qst_le (l h : Int64) (b : Bool) (d : Int64) {q : Int64 × Int64} (hq : q.1 ≤ q.2) : (qst l h b d q).1 ≤ (qst l h b d q).2 := by
  cases b
  · rw [qst_f rfl]; exact hq
  · rw [qst_t rfl, l64]
    simp only [mnL_t, mxL_t]
    omega
theorem qst_le1 (l h : Int64) {b : Bool} (d : Int64) (q : Int64 × Int64) (hb : b = true) : (qst l h b d q).1 ≤ (qst l h b d q).2 := by
  rw [qst_t hb, l64]
  simp only [mnL_t, mxL_t]
  omega
theorem md_m {m n : Int64} (h : m ≤ n) : mdB m n m = decide (m ≠ 0) := by
  rw [l64] at h
  unfold mdB
  apply decide_eq_decide.mpr
  simp only [t64]
  constructor
  · exact fun q => q.1
  · exact fun q => ⟨q, by omega, by omega⟩
theorem md_n {m n : Int64} (h : m ≤ n) : mdB m n n = decide (n ≠ 0) := by
  rw [l64] at h
  unfold mdB
  apply decide_eq_decide.mpr
  simp only [t64]
  constructor
  · exact fun q => q.1
  · exact fun q => ⟨q, by omega, by omega⟩
theorem md_1 (m n : Int64) : mdB m n 1 = decide (m ≤ 1 ∧ 1 ≤ n) := by
  unfold mdB
  apply decide_eq_decide.mpr
  simp only [t64, l64]
  constructor
  · intro q; exact ⟨by omega, by omega⟩
  · intro q; exact ⟨by decide, by omega, by omega⟩
theorem md_n1 (m n : Int64) : mdB m n (-1) = decide (m ≤ -1 ∧ -1 ≤ n) := by
  unfold mdB
  apply decide_eq_decide.mpr
  simp only [t64, l64]
  constructor
  · intro q; exact ⟨by omega, by omega⟩
  · intro q; exact ⟨by decide, by omega, by omega⟩
theorem sysQ_eq (l h : Int64) {m n : Int64} (hmn : m ≤ n) : sysQ l h m n = mdlQ l h m n := by
  unfold sysQ mdlQ
  rw [md_m hmn, md_n hmn, md_1, md_n1]
  rw [qst_comm l h (decide (m ≤ -1 ∧ -1 ≤ n)) (decide (n ≠ 0)), qst_comm l h (decide (m ≤ 1 ∧ 1 ≤ n)) (decide (n ≠ 0)), qst_comm l h (decide (m ≤ -1 ∧ -1 ≤ n)) (decide (m ≠ 0)), qst_comm l h (decide (m ≤ 1 ∧ 1 ≤ n)) (decide (m ≠ 0))]
theorem mdlQ_le (l h : Int64) {m n : Int64} (hmn : m ≤ n) (h0 : ¬ (m = 0 ∧ n = 0)) : (mdlQ l h m n).1 ≤ (mdlQ l h m n).2 := by
  unfold mdlQ
  by_cases q : n = 0
  · have q2 : ¬ m = 0 := fun z => h0 ⟨z, q⟩
    exact qst_le _ _ _ _ (qst_le1 _ _ _ _ (by rw [md_m hmn]; exact decide_eq_true q2))
  · exact qst_le1 _ _ _ _ (by rw [md_n hmn]; exact decide_eq_true q)
theorem mdlQ_00 (l h : Int64) : mdlQ l h 0 0 = q00 := by
  unfold mdlQ
  rw [qst_f (b := mdB 0 0 0) (by decide), qst_f (b := mdB 0 0 0) (by decide), qst_f (b := mdB 0 0 1) (by decide), qst_f (b := mdB 0 0 (-1)) (by decide)]
theorem i64_lt0 (x : Int32) : x.toInt64 < 0 ↔ x < 0 := by
  rw [t64, Int32.lt_iff_toInt_lt, Int32.toInt_toInt64, z_64, z_32]
theorem i64_gt0 (x : Int32) : 0 < x.toInt64 ↔ 0 < x := by
  rw [t64, Int32.lt_iff_toInt_lt, Int32.toInt_toInt64, z_64, z_32]
theorem i64_eq (x y : Int32) : x.toInt64 = y.toInt64 ↔ x = y := by
  constructor
  · intro q
    have := congrArg Int64.toInt q
    rw [Int32.toInt_toInt64, Int32.toInt_toInt64] at this
    exact Int32.toInt_inj.mp this
  · intro q; rw [q]
theorem mn_64 (x y : Int32) : mnL x.toInt64 y.toInt64 = (mnI x y).toInt64 := e64 (by rw [mnL_t, Int32.toInt_toInt64, Int32.toInt_toInt64, Int32.toInt_toInt64, mnI_t])
theorem mx_64 (x y : Int32) : mxL x.toInt64 y.toInt64 = (mxI x y).toInt64 := e64 (by rw [mxL_t, Int32.toInt_toInt64, Int32.toInt_toInt64, Int32.toInt_toInt64, mxI_t])
theorem on1_max (f : Nat) : ∀ (mo h n : Int64), on1 f mo h n = on1 f mo (mxL h n) (mxL h n) := by
  induction f with
  | zero => intro mo h n; rfl
  | succ f ih =>
    intro mo h n
    by_cases q : mo < h ∨ mo < n
    · rw [on1_go q, on1_go (by rw [t64, mxL_t]; rw [t64, t64] at q; omega)]
      exact ih _ _ _
    · rw [on1_stop q, on1_stop (by rw [t64, mxL_t]; rw [t64, t64] at q; omega)]
theorem on1_pow (f : Nat) : ∀ (k : Nat) (h n : Int64), k + f ≤ 33 → ∃ j, j ≤ 33 ∧ on1 f (lN (2 ^ k - 1)) h n = lN (2 ^ j - 1) := by
  induction f with
  | zero => intro k h n hk; exact ⟨k, by omega, rfl⟩
  | succ f ih =>
    intro k h n hk
    by_cases q : lN (2 ^ k - 1) < h ∨ lN (2 ^ k - 1) < n
    · rw [on1_go q, on1_step (by omega)]
      exact ih (k + 1) h n (by omega)
    · rw [on1_stop q]
      exact ⟨k, by omega, rfl⟩
theorem on1_ge (h n : Int64) : 0 ≤ on1 33 0 h n := by
  obtain ⟨j, hj, e⟩ := on1_pow 33 0 h n (by omega)
  have e2 : on1 33 0 h n = lN (2 ^ j - 1) := e
  have h3 : 2 ^ j ≤ 2 ^ 33 := Nat.pow_le_pow_right (by decide) hj
  rw [e2, l64, z_64, pk_lT (by omega)]
  omega
theorem sh_k (m : Int32) : ∃ k : Nat, k < 32 ∧ m &&& 31 = nI k := pk_andE m 5 (by decide)
theorem sh_32 : ∀ k, k < 32 → ((nI k &&& 31).toBitVec.smod 32).toNat = k := by decide
theorem sh_64 : ∀ k, k < 32 → (((nI k).toInt64 &&& 63).toBitVec.smod 64).toNat = k := by decide
theorem sh_1 : ∀ k, k < 32 → ((1 : Int64) <<< ((nI k).toInt64 &&& 63)) = lN (2 ^ k) := by decide
theorem shr64 (a s : Int64) (k : Nat) (hs : (s.toBitVec.smod 64).toNat = k) : (a >>> s).toInt = a.toInt >>> k := by
  show (a.toBitVec.sshiftRight (s.toBitVec.smod 64).toNat).toInt = _
  rw [hs, BitVec.toInt_sshiftRight]
  rfl
theorem shr_eq (x m : Int32) : x.toInt64 >>> ((m &&& 31).toInt64 &&& 63) = (x >>> ((m &&& 31) &&& 31)).toInt64 := by
  obtain ⟨k, hk, e⟩ := sh_k m
  rw [e]
  exact e64 (by rw [shr64 _ _ k (sh_64 k hk), Int32.toInt_toInt64, Int32.toInt_toInt64, pk_shr _ _ k (sh_32 k hk)])
theorem shr_le {x y : Int32} (m : Int32) (h : x ≤ y) : (x >>> ((m &&& 31) &&& 31)).toInt64 ≤ (y >>> ((m &&& 31) &&& 31)).toInt64 := by
  obtain ⟨k, hk, e⟩ := sh_k m
  rw [e, l64, Int32.toInt_toInt64, Int32.toInt_toInt64, pk_shr _ _ k (sh_32 k hk), pk_shr _ _ k (sh_32 k hk), Int.shiftRight_eq_div_pow, Int.shiftRight_eq_div_pow]
  exact Int.ediv_le_ediv (by exact Int.natCast_pos.mpr (Nat.two_pow_pos k)) (Int32.le_iff_toInt_le.mp h)
theorem shB_t (m : Int32) : 1 ≤ (shB m).toInt ∧ (shB m).toInt ≤ 2147483648 := by
  obtain ⟨k, hk, e⟩ := sh_k m
  unfold shB
  rw [e, sh_1 k hk]
  have h1 : 2 ^ k ≤ 2 ^ 31 := Nat.pow_le_pow_right (by decide) (by omega)
  have h2 : 0 < 2 ^ k := Nat.two_pow_pos k
  rw [pk_lT (by omega)]
  omega
theorem shB_mul (x m : Int32) : (x.toInt64 * shB m).toInt = x.toInt * (shB m).toInt := by
  have hb := shB_t m
  have hx := b32 x
  have h1 : x.toInt * (shB m).toInt ≤ 2147483647 * (shB m).toInt := Int.mul_le_mul_of_nonneg_right hx.2 (by omega)
  have h2 : -2147483648 * (shB m).toInt ≤ x.toInt * (shB m).toInt := Int.mul_le_mul_of_nonneg_right hx.1 (by omega)
  rw [mul64 (by rw [Int32.toInt_toInt64]; omega) (by rw [Int32.toInt_toInt64]; omega), Int32.toInt_toInt64]
theorem shB_le {x y : Int32} (m : Int32) (h : x ≤ y) : x.toInt64 * shB m ≤ y.toInt64 * shB m := by
  have hb := shB_t m
  rw [l64, shB_mul, shB_mul]
  exact Int.mul_le_mul_of_nonneg_right (Int32.le_iff_toInt_le.mp h) (by omega)
theorem pr_le (l h m n : Int64) : prLo l h m n ≤ prHi l h m n := by
  unfold prLo prHi
  rw [l64]
  simp only [mnL_t, mxL_t]
  omega
theorem pr_b {x y : Int64} (b : Int64) (h : x * b ≤ y * b) : prLo x y b b = x * b ∧ prHi x y b b = y * b := by
  rw [l64] at h
  unfold prLo prHi
  constructor
  · apply e64; simp only [mnL_t]; omega
  · apply e64; simp only [mxL_t]; omega
theorem abL_t {x : Int64} (h : -9223372036854775807 ≤ x.toInt) : (abL x).toInt = max x.toInt (-x.toInt) := by
  unfold abL
  split
  · rename_i q
    rw [t64, z_64] at q
    omega
  · rename_i q
    rw [t64, z_64] at q
    rw [neg64 h]
    omega
/-- the most that a remainder may be -/
theorem mo_t {m n : Int32} (h0 : ¬ (m.toInt64 = 0 ∧ n.toInt64 = 0)) : 0 ≤ (mxL (abL m.toInt64) (abL n.toInt64) - 1).toInt ∧ (mxL (abL m.toInt64) (abL n.toInt64) - 1).toInt ≤ 2147483647 := by
  have hm := b32 m
  have hn := b32 n
  have em : (abL m.toInt64).toInt = max m.toInt (-m.toInt) := by rw [abL_t (by rw [Int32.toInt_toInt64]; omega), Int32.toInt_toInt64]
  have en : (abL n.toInt64).toInt = max n.toInt (-n.toInt) := by rw [abL_t (by rw [Int32.toInt_toInt64]; omega), Int32.toInt_toInt64]
  have e : (mxL (abL m.toInt64) (abL n.toInt64)).toInt = max (max m.toInt (-m.toInt)) (max n.toInt (-n.toInt)) := by rw [mxL_t, em, en]
  have e0 : ¬ (m.toInt = 0 ∧ n.toInt = 0) := fun q => h0 ⟨e64 (by rw [Int32.toInt_toInt64, z_64]; exact q.1), e64 (by rw [Int32.toInt_toInt64, z_64]; exact q.2)⟩
  have e1 : (1 : Int64).toInt = 1 := by decide
  rw [sub64 (by rw [e, e1]; omega) (by rw [e, e1]; omega), e, e1]
  omega
theorem op_eq (j : Nat) (hj : j < 10) {l h m n : Int32} (hlh : l ≤ h) (hmn : m ≤ n) : sysOp j l.toInt64 h.toInt64 m.toInt64 n.toInt64 = mdlOp j l h m n := by
  have hmn64 : m.toInt64 ≤ n.toInt64 := by rw [l64, Int32.toInt_toInt64, Int32.toInt_toInt64]; exact Int32.le_iff_toInt_le.mp hmn
  rcases (show j = 0 ∨ j = 1 ∨ j = 2 ∨ j = 3 ∨ j = 4 ∨ j = 5 ∨ j = 6 ∨ j = 7 ∨ j = 8 ∨ j = 9 by omega) with rfl | rfl | rfl | rfl | rfl | rfl | rfl | rfl | rfl | rfl
  · rfl
  · rfl
  · rfl
  · show (if m.toInt64 = 0 ∧ n.toInt64 = 0 then none else some (sysQ l.toInt64 h.toInt64 m.toInt64 n.toInt64)) = (if (mdlQ l.toInt64 h.toInt64 m.toInt64 n.toInt64).1 ≤ (mdlQ l.toInt64 h.toInt64 m.toInt64 n.toInt64).2 then some (mdlQ l.toInt64 h.toInt64 m.toInt64 n.toInt64) else none)
    by_cases q : m.toInt64 = 0 ∧ n.toInt64 = 0
    · rw [if_pos q, q.1, q.2, mdlQ_00, if_neg (by decide)]
    · rw [if_neg q, if_pos (mdlQ_le _ _ hmn64 q), sysQ_eq _ _ hmn64]
  · show (if m.toInt64 = 0 ∧ n.toInt64 = 0 then none else some (rsLo l.toInt64 _, rsHi l.toInt64 h.toInt64 _)) = (if m.toInt64 = 0 ∧ n.toInt64 = 0 then none else some _)
    by_cases q : m.toInt64 = 0 ∧ n.toInt64 = 0
    · rw [if_pos q, if_pos q]
    · rw [if_neg q, if_neg q]
      unfold rsLo rsHi
      by_cases q2 : l < 0
      · rw [if_pos q2, if_pos ((i64_lt0 l).mpr q2), if_pos ((i64_lt0 l).mpr q2)]
        by_cases q3 : 0 < h
        · rw [if_pos q3, if_pos ((i64_gt0 h).mpr q3)]
        · rw [if_neg q3, if_neg (fun z => q3 ((i64_gt0 h).mp z))]
      · rw [if_neg q2, if_neg (fun z => q2 ((i64_lt0 l).mp z)), if_neg (fun z => q2 ((i64_lt0 l).mp z))]
  · show some (if l.toInt64 < 0 ∧ m.toInt64 < 0 then allQ else (0, if l.toInt64 < 0 then n.toInt64 else if m.toInt64 < 0 then h.toInt64 else mnL h.toInt64 n.toInt64)) = some (if l < 0 ∧ m < 0 then allQ else (0, if l < 0 then n.toInt64 else if m < 0 then h.toInt64 else (mnI h n).toInt64))
    simp only [i64_lt0, mn_64]
  · show some (if l.toInt64 < 0 ∨ m.toInt64 < 0 then allQ else (0, on1 33 0 h.toInt64 n.toInt64)) = some (if l < 0 ∨ m < 0 then allQ else (0, on1 33 0 (mxI h n).toInt64 (mxI h n).toInt64))
    rw [on1_max, mx_64]
    simp only [i64_lt0]
  · show some (if l.toInt64 < 0 ∨ m.toInt64 < 0 then allQ else (0, on1 33 0 h.toInt64 n.toInt64)) = some (if l < 0 ∨ m < 0 then allQ else (0, on1 33 0 (mxI h n).toInt64 (mxI h n).toInt64))
    rw [on1_max, mx_64]
    simp only [i64_lt0]
  · show some (if m.toInt64 = n.toInt64 then (prLo l.toInt64 h.toInt64 (shB m.toInt64.toInt32) (shB m.toInt64.toInt32), prHi l.toInt64 h.toInt64 (shB m.toInt64.toInt32) (shB m.toInt64.toInt32)) else allQ) = some (if m = n then (l.toInt64 * shB m, h.toInt64 * shB m) else allQ)
    rw [m_32, (pr_b _ (shB_le m hlh)).1, (pr_b _ (shB_le m hlh)).2]
    simp only [i64_eq]
  · show some (if m.toInt64 = n.toInt64 then (l.toInt64 >>> ((m.toInt64.toInt32 &&& 31).toInt64 &&& 63), h.toInt64 >>> ((m.toInt64.toInt32 &&& 31).toInt64 &&& 63)) else (mnL l.toInt64 0, mxL h.toInt64 (-1))) = some (if m = n then ((l >>> ((m &&& 31) &&& 31)).toInt64, (h >>> ((m &&& 31) &&& 31)).toInt64) else ((mnI l 0).toInt64, (mxI h (-1)).toInt64))
    rw [m_32, shr_eq, shr_eq, show mnL l.toInt64 0 = (mnI l 0).toInt64 from mn_64 l 0, show mxL h.toInt64 (-1) = (mxI h (-1)).toInt64 from mx_64 h (-1)]
    simp only [i64_eq]
theorem op_le (j : Nat) (hj : j < 10) {l h m n : Int32} (hlh : l ≤ h) (hmn : m ≤ n) {q : Int64 × Int64} (e : mdlOp j l h m n = some q) : q.1 ≤ q.2 := by
  have bl := b32 l
  have bh := b32 h
  have bm := b32 m
  have bn := b32 n
  have o1 := Int32.le_iff_toInt_le.mp hlh
  have o2 := Int32.le_iff_toInt_le.mp hmn
  rcases (show j = 0 ∨ j = 1 ∨ j = 2 ∨ j = 3 ∨ j = 4 ∨ j = 5 ∨ j = 6 ∨ j = 7 ∨ j = 8 ∨ j = 9 by omega) with rfl | rfl | rfl | rfl | rfl | rfl | rfl | rfl | rfl | rfl
  · cases e
    show l.toInt64 + m.toInt64 ≤ h.toInt64 + n.toInt64
    rw [l64, add64 (by simp only [Int32.toInt_toInt64]; omega) (by simp only [Int32.toInt_toInt64]; omega), add64 (by simp only [Int32.toInt_toInt64]; omega) (by simp only [Int32.toInt_toInt64]; omega)]
    simp only [Int32.toInt_toInt64]
    omega
  · cases e
    show l.toInt64 - n.toInt64 ≤ h.toInt64 - m.toInt64
    rw [l64, sub64 (by simp only [Int32.toInt_toInt64]; omega) (by simp only [Int32.toInt_toInt64]; omega), sub64 (by simp only [Int32.toInt_toInt64]; omega) (by simp only [Int32.toInt_toInt64]; omega)]
    simp only [Int32.toInt_toInt64]
    omega
  · cases e
    exact pr_le _ _ _ _
  · have e2 : (if (mdlQ l.toInt64 h.toInt64 m.toInt64 n.toInt64).1 ≤ (mdlQ l.toInt64 h.toInt64 m.toInt64 n.toInt64).2 then some (mdlQ l.toInt64 h.toInt64 m.toInt64 n.toInt64) else none) = some q := e
    by_cases z : (mdlQ l.toInt64 h.toInt64 m.toInt64 n.toInt64).1 ≤ (mdlQ l.toInt64 h.toInt64 m.toInt64 n.toInt64).2
    · rw [if_pos z] at e2
      cases e2
      exact z
    · rw [if_neg z] at e2
      cases e2
  · have e2 : mdlRs l h m.toInt64 n.toInt64 = some q := e
    unfold mdlRs at e2
    by_cases z : m.toInt64 = 0 ∧ n.toInt64 = 0
    · rw [if_pos z] at e2
      cases e2
    · rw [if_neg z] at e2
      have hmo := mo_t z
      have hng : (-(mxL (abL m.toInt64) (abL n.toInt64) - 1)).toInt = -(mxL (abL m.toInt64) (abL n.toInt64) - 1).toInt := neg64 (by omega)
      by_cases z2 : l < 0
      · rw [if_pos z2] at e2
        have z4 := Int32.lt_iff_toInt_lt.mp z2
        rw [z_32] at z4
        by_cases z3 : 0 < h
        · rw [if_pos z3] at e2
          cases e2
          have z5 := Int32.lt_iff_toInt_lt.mp z3
          rw [z_32] at z5
          rw [l64, mxL_t, mnL_t, hng, Int32.toInt_toInt64, Int32.toInt_toInt64]
          omega
        · rw [if_neg z3] at e2
          cases e2
          rw [l64, mxL_t, hng, Int32.toInt_toInt64, z_64]
          omega
      · rw [if_neg z2] at e2
        cases e2
        rw [Int32.lt_iff_toInt_lt, z_32] at z2
        rw [l64, mnL_t, Int32.toInt_toInt64, z_64]
        omega
  · have e2 : some (if l < 0 ∧ m < 0 then allQ else (0, if l < 0 then n.toInt64 else if m < 0 then h.toInt64 else (mnI h n).toInt64)) = some q := e
    by_cases z : l < 0 ∧ m < 0
    · rw [if_pos z] at e2
      cases e2
      decide
    · rw [if_neg z] at e2
      cases e2
      rw [Int32.lt_iff_toInt_lt, Int32.lt_iff_toInt_lt, z_32] at z
      show (0 : Int64) ≤ (if l < 0 then n.toInt64 else if m < 0 then h.toInt64 else (mnI h n).toInt64)
      split
      · rename_i z1
        rw [Int32.lt_iff_toInt_lt, z_32] at z1
        rw [l64, z_64, Int32.toInt_toInt64]
        omega
      · rename_i z1
        rw [Int32.lt_iff_toInt_lt, z_32] at z1
        split
        · rw [l64, z_64, Int32.toInt_toInt64]
          omega
        · rename_i z2
          rw [Int32.lt_iff_toInt_lt, z_32] at z2
          rw [l64, z_64, Int32.toInt_toInt64, mnI_t]
          omega
  · have e2 : some (if l < 0 ∨ m < 0 then allQ else (0, on1 33 0 (mxI h n).toInt64 (mxI h n).toInt64)) = some q := e
    by_cases z : l < 0 ∨ m < 0
    · rw [if_pos z] at e2
      cases e2
      decide
    · rw [if_neg z] at e2
      cases e2
      exact on1_ge _ _
  · have e2 : some (if l < 0 ∨ m < 0 then allQ else (0, on1 33 0 (mxI h n).toInt64 (mxI h n).toInt64)) = some q := e
    by_cases z : l < 0 ∨ m < 0
    · rw [if_pos z] at e2
      cases e2
      decide
    · rw [if_neg z] at e2
      cases e2
      exact on1_ge _ _
  · have e2 : some (if m = n then (l.toInt64 * shB m, h.toInt64 * shB m) else allQ) = some q := e
    by_cases z : m = n
    · rw [if_pos z] at e2
      cases e2
      exact shB_le m hlh
    · rw [if_neg z] at e2
      cases e2
      decide
  · have e2 : some (if m = n then ((l >>> ((m &&& 31) &&& 31)).toInt64, (h >>> ((m &&& 31) &&& 31)).toInt64) else ((mnI l 0).toInt64, (mxI h (-1)).toInt64)) = some q := e
    by_cases z : m = n
    · rw [if_pos z] at e2
      cases e2
      exact shr_le m hlh
    · rw [if_neg z] at e2
      cases e2
      rw [l64, Int32.toInt_toInt64, Int32.toInt_toInt64, mnI_t, mxI_t, z_32, n1_32]
      omega
/-- 'work' of both answers and leaves the same -/
theorem work_eq {S : Int32 → Bool} {op l h m n lo hi r lo2 hi2 r3 lo3 hi3 : Int32} (h1 : XWork S (PutR S) (sysOp op.toNatClampNeg l.toInt64 h.toInt64 m.toInt64 n.toInt64) op l h m n lo hi r lo2 hi2) (h2 : XWork S (TellR S) (mdlOp op.toNatClampNeg l h m n) op l h m n lo hi r3 lo3 hi3) : r = r3 ∧ lo2 = lo3 ∧ hi2 = hi3 := by
  unfold XWork at h1 h2
  by_cases q : okW S op l h m n = true
  · rw [if_pos q] at h1 h2
    obtain ⟨g1, g2, g3, g4⟩ := okW_iff.mp q
    have hlh := (rng_iff.mp g3).1
    have hmn := (rng_iff.mp g4).1
    obtain ⟨j, hj, e⟩ := nI_of2 (x := op) (M := 9) (n := 9) (by decide) g1 (Int32.not_lt.mp g2)
    have ej : op.toNatClampNeg = j := by rw [e]; exact nI_clamp (by omega)
    rw [ej] at h1 h2
    rw [op_eq j (by omega) hlh hmn] at h1
    cases eo : mdlOp j l h m n with
    | none =>
      rw [eo] at h1 h2
      obtain ⟨a1, a2, a3⟩ := h1
      obtain ⟨b1, b2, b3⟩ := h2
      exact ⟨by rw [a1, b1], by rw [a2, b2], by rw [a3, b3]⟩
    | some z =>
      rw [eo] at h1 h2
      obtain ⟨a1, a2⟩ := h1
      obtain ⟨b1, b2⟩ := h2
      have u := PutR.uniq a2 (TellR.put (op_le j (by omega) hlh hmn eo) b2)
      exact ⟨by rw [a1, b1], u.1, u.2⟩
  · rw [if_neg q] at h1 h2
    obtain ⟨a1, a2, a3⟩ := h1
    obtain ⟨b1, b2, b3⟩ := h2
    exact ⟨by rw [a1, b1], by rw [a2, b2], by rw [a3, b3]⟩
theorem neg_eq {S : Int32 → Bool} {l h lo hi r lo2 hi2 r3 lo3 hi3 : Int32} (h1 : XNeg S (PutR S) l h lo hi r lo2 hi2) (h2 : XNeg S (TellR S) l h lo hi r3 lo3 hi3) : r = r3 ∧ lo2 = lo3 ∧ hi2 = hi3 := by
  unfold XNeg at h1 h2
  by_cases q : rng S l h = true
  · rw [if_pos q] at h1 h2
    have hlh := (rng_iff.mp q).1
    have bl := b32 l
    have bh := b32 h
    have o1 := Int32.le_iff_toInt_le.mp hlh
    have u := PutR.uniq h1.2 (TellR.put (by rw [l64, neg64 (by rw [Int32.toInt_toInt64]; omega), neg64 (by rw [Int32.toInt_toInt64]; omega), Int32.toInt_toInt64, Int32.toInt_toInt64]; omega) h2.2)
    exact ⟨by rw [h1.1, h2.1], u.1, u.2⟩
  · rw [if_neg q] at h1 h2
    obtain ⟨a1, a2, a3⟩ := h1
    obtain ⟨b1, b2, b3⟩ := h2
    exact ⟨by rw [a1, b1], by rw [a2, b2], by rw [a3, b3]⟩
theorem sA3_mono {S : Int32 → Bool} {v w : Int32} (h : S w = true) : sA3 S v w = true := by
  have h1 : sA2 S v w = true := by
    unfold sA2
    split
    · exact sAdd_iff.mpr (Or.inl h)
    · exact sAdd_iff.mpr (Or.inl (sAdd_iff.mpr (Or.inl h)))
  unfold sA3
  split
  · exact h1
  · exact sAdd_iff.mpr (Or.inl h1)
theorem arS_mono {k : Nat} {S : Int32 → Bool} {v w : Int32} (h : S w = true) : arS k S v w = true := by
  unfold arS
  split
  · exact h
  · exact sA3_mono h
theorem cA3_le (S : Int32 → Bool) (v : Int32) : cA3 S v ≤ 3 := by
  unfold cA3
  have h1 := sCnt_le S v
  have h2 := sCnt_le (sAdd S v) (v - 1)
  have h3 := sCnt_le (sA2 S v) (v + 1)
  split <;> split <;> omega
theorem arK_le {k : Nat} (h : k ≤ 60) : arK k ≤ 60 := by
  unfold arK
  split <;> omega
theorem arN_le {k n : Nat} {S : Int32 → Bool} {v : Int32} (h : n ≤ 7 + 3 * k) : arN k S v n ≤ 7 + 3 * arK k := by
  have := cA3_le S v
  unfold arN arK
  by_cases q : k = 60
  · rw [if_pos q, if_pos q]; exact h
  · rw [if_neg q, if_neg q]; omega
end
section
/-! THE CLAIM OUT OF ONE WALK OF THE LAW'S BODY. Your part is whole_start (and what it stands on); all else here is the same for every law, but numbers. -/
def R_law : String := "RangeRulesLaw"
def lw_P (b : Addr) (xs : List Int32) (args : Array Value) (s : State) : Prop := args = #[.ref b] ∧ s.IntsAt b xs ∧ xs.length ≤ 384 ∧ (Jvm.Cond.and given_1 narrow_1).before args s = true
def lw_Q (_ : Array Value) (s : State) (o : Outcome) (t : State) : Prop := o = .returned (some (.int 1)) ∧ Framed s o t [] 600000 7302250
def lw_Z (below : List Frame) (a : Array Value) (s : State) : State → Prop := fun t => ∃ o, t.status = .running ∧ Ended t below o ∧ lw_Q a s o t
/-- the law's own end, with 1 on the stack, nothing written that was there before, its room as the claim has it -/
theorem lw_ret {p : Program} {l : Launch} {e : Env} {s : State} {m : MethodId} {below : List Frame} {meth : Method} {c : Code} {b : Nat} (hx : p.tables.exec = Jvm.exec) (hb : c.code = code) (hr : meth.sig.returnType = ret) (hlocks : meth.locks = false) {pc : Nat} {H : Heap} {ls : Array Slot} (hdg : decode code pc = .ok (.ireturn, 1)) : W p l e room_1 s m #[Value.ref b] below meth c H [] 600000 7302250 (lw_Z below #[Value.ref b] s) (F0 m pc ls [.int 1]) := by
  intro T hT X
  obtain ⟨fs, hret, hrun, hended, hW, hframe⟩ := X.leave (v := some (.int 1)) (hlocks := hlocks) (fun h => by rw [hr] at h; cases h)
  have hmeth' : T.vm.method? m = some meth := X.method'
  refine ⟨T.setFrames fs, ?_, .returned (some (.int 1)), hrun, hended, rfl, ⟨_, rfl⟩, hW, hframe⟩
  jvm_step X.here [X.here.top, hx, hb, hdg, hmeth', hr, ret, narrow_b1]
  (try refine ⟨rfl, ?_⟩); (try refine ⟨rfl, ?_⟩)
  first | (intro acts; rw [hret _ acts rfl rfl rfl]) | rw [hret _ _ rfl rfl rfl]
  exact Steps.refl _
/-- what holds at the law's entry: the machine, the code, the tables' words (any of lw_tbl by 'hts w (by decide +kernel)'), the script of L ints xs at the cell b, what the Statement gives of the start (any of its parts by flat_of_before) -/
def lw_At (p : Program) (s : State) (m : MethodId) (meth : Method) (c : Code) (b L : Nat) (xs : Nat → Int32) : Prop :=
  p.tables.exec = Jvm.exec ∧ c.code = code ∧ meth.sig.returnType = ret ∧ c.maxLocals = 4 ∧ s.vm.findClass R_law = some m.cls ∧ (∀ w ∈ lw_tbl, w.before #[Value.ref b] s = true) ∧ va_X b L xs s s.heap ∧ b < s.heap.size ∧ meth.locks = false ∧ (Jvm.Cond.and given_1 narrow_1).before #[Value.ref b] s = true
end
section
section RRLAW
variable {p : Program} {l : Launch} {e : Env} {R : Room} {s : State} {m : MethodId} {args : Array Value} {below : List Frame} {meth : Method} {c : Code} {H : Heap} {locs : List Loc} {cells slots : Nat} {Q : State → Prop}
variable {pc : Nat} {ls : Array Slot} {rest : List Value} {A : Nat → Prop} {H0 : Heap} {cc : ByteArray}
theorem nn_sld (hexec : p.tables.exec = Jvm.exec) (hb : c.code = cc) {b L : Nat} {xs : Nat → Int32} (hX : va_X b L xs s H0) (hbl : b < H0.size) (hbA : ¬ A b) (hS : va_S A H0 H locs) {i : Nat} (hi : i < L) (hL : L < 2 ^ 31) (hdg : decode cc pc = .ok (.iaload, 1))
    (kk : W p l e R s m args below meth c H locs cells slots Q (F0 m (pc + 1) ls (.int (xs i) :: rest))) : W p l e R s m args below meth c H locs cells slots Q (F0 m pc ls (.int (nI i) :: .ref b :: rest)) := by
  refine va_sld hexec hb hX hbl hbA hS (vp_in_nI hi hL) hdg ?_
  rw [nI_clamp (Nat.lt_trans hi hL)]
  exact kk
end RRLAW
theorem law_lim {L i : Nat} (hL : L ≤ 384) (hi : i ≤ 384) : nI L - 6 < nI i ↔ L < i + 6 := by
  rw [Int32.lt_iff_toInt_lt, nI_toInt (by omega)]
  have e : (nI L - 6).toInt = (L : Int) - 6 := pk_sub_toInt (a := L) (b := 6) (by omega) (by omega)
  rw [e]
  omega
set_option maxHeartbeats 4000000 in
set_option maxRecDepth 100000 in
theorem law_loop {p : Program} {l : Launch} {e : Env} {s : State} {m : MethodId} {below : List Frame} {meth : Method} {c : Code} {sc L : Nat} {xs : Nat → Int32} (hL : L ≤ 384) (hx : p.tables.exec = Jvm.exec) (hb : c.code = cL_law) (hr : meth.sig.returnType = ret) (hlocks : meth.locks = false) (hml : c.maxLocals = 4) (hown : s.vm.findClass R_law = some m.cls) (hts : ∀ w ∈ lw_all, w.before #[Value.ref sc] s = true) (hX : va_X sc L xs s s.heap) (hbl : sc < s.heap.size) {A : Nat → Prop} (hA : ∀ q : Nat, s.heap.size ≤ q → A q) (hAq : ∀ q : Nat, A q → s.heap.size ≤ q) (hbA : ¬ A sc) {D : va_G} {ho pA hT hM hB : Nat} {dB : ClassId} :
    ∀ (f t k n N : Nat) (S : Int32 → Bool) (a mb : Nat → Int32) (hR : Nat) (d : ClassId) (lo hi : Int32) (le gr : Int64) (H : Heap) (locs : List Loc) (ls : Array Slot), t + f = 65 → 6 * t ≤ L → T_ok S n a → M_ok S n mb → n ≤ N → N ≤ 512 → 1 ≤ N → k ≤ 60 → n ≤ 7 + 3 * k → S (-2147483648) = true → S 2147483647 = true → va_K D vwCl [(d, .int), (dB, .int)] s → va_P D vwCl [(ho, .inr (0, [.ref hT, .ref pA, .int (nI k)])), (pA, .inr (2, [.ref hT, .int lo, .int hi, .long le, .long gr])), (hT, .inr (1, [.ref hR, .int (nI n)])), (hR, .inl (d, N, .inl a)), (hM, .inr (3, [.ref hB, .int (nI n), .int (nI k), .int lo, .int hi])), (hB, .inl (dB, 187, .inl mb))] H → va_D A [(ho, .inr (0, [.ref hT, .ref pA, .int (nI k)])), (pA, .inr (2, [.ref hT, .int lo, .int hi, .long le, .long gr])), (hT, .inr (1, [.ref hR, .int (nI n)])), (hR, .inl (d, N, .inl a)), (hM, .inr (3, [.ref hB, .int (nI n), .int (nI k), .int lo, .int hi])), (hB, .inl (dB, 187, .inl mb))] → va_S A s.heap H locs → lv_has ls 4 [(0, .ref sc), (1, .ref ho), (2, .ref hM), (3, .int (nI (6 * t)))] → W p l e room_1 s m #[Value.ref sc] below meth c H locs (20 + 7 * t) (5000 + 3584 * t) (lw_Z below #[Value.ref sc] s) (F0 m 18 ls []) := by
  intro f
  induction f with
  | zero => intro t k n N S a mb hR d lo hi le gr H locs ls h1 h2; omega
  | succ f ih =>
    intro t k n N S a mb hR d lo hi le gr H locs ls hf ht hok hom hnN hN h1N hk6 hnk hmi hma hK hP hD hS hl
    refine lv_iload_n hx hb dL_law_18 rfl (lv_at hl 3 rfl) ?_
    refine lv_aload_n hx hb dL_law_19 rfl (lv_at hl 0 rfl) ?_
    refine va_slen hx hb hX hbl hbA hS dL_law_20 ?_
    refine rr_reti (y := nI L) rfl ?_
    refine lv_bipush (v := 6) hx hb dL_law_21 (by decide) ?_
    refine lv_isub hx hb dL_law_23 ?_
    refine lv_icmp_gt (tgt := 305) hx hb dL_law_24 (by decide) (fun c_24 => ?_) (fun c_24 => ?_)
    · refine lv_iconst (v := 1) hx hb dL_law_305 (by decide) ?_
      refine va_forget (fun q hq => hAq _ (hS.2.2 q hq)) ?_
      refine W.widen (k := 600000) (n := 7302250) (by omega) (by omega) ?_
      exact lw_ret hx hb hr hlocks dL_law_306
    · rw [law_lim hL (by omega)] at c_24
      refine lv_aload_n hx hb dL_law_27 rfl (lv_at hl 0 rfl) ?_
      refine lv_iload_n hx hb dL_law_28 rfl (lv_at hl 3 rfl) ?_
      refine nn_sld hx hb hX hbl hbA hS (i := (6 * t)) (by omega) (by omega) dL_law_29 ?_
      refine lv_bipush (v := 15) hx hb dL_law_30 (by decide) ?_
      refine lv_iand hx hb dL_law_32 ?_
      obtain ⟨j, hj, ej⟩ := pk_andE (xs (6 * t)) (m := 15) 4 (by decide)
      refine rr_reti (y := nI j) ej ?_
      rcases (show j = 0 ∨ j = 1 ∨ j = 2 ∨ j = 3 ∨ j = 4 ∨ j = 5 ∨ j = 6 ∨ j = 7 ∨ j = 8 ∨ 8 < j by omega) with rfl | rfl | rfl | rfl | rfl | rfl | rfl | rfl | rfl | hj8
      · refine lv_tableIn (off := 51) (tgt := 84) hx hb dL_law_33 (by decide) (by decide) rfl (by decide) ?_
        refine lv_aload_n hx hb dL_law_84 rfl (lv_at hl 1 rfl) ?_
        refine lv_aload_n hx hb dL_law_85 rfl (lv_at hl 0 rfl) ?_
        refine lv_iload_n hx hb dL_law_86 rfl (lv_at hl 3 rfl) ?_
        refine lv_iconst (v := 1) hx hb dL_law_87 (by decide) ?_
        refine lv_iadd hx hb dL_law_88 ?_
        refine rr_reti (y := (nI (6 * t + 1))) (nI_add (6 * t) 1) ?_
        refine nn_sld hx hb hX hbl hbA hS (i := (6 * t + 1)) (by omega) (by omega) dL_law_89 ?_
        refine rr_calli (wc := [(ho, .inr (0, [.ref hT, .ref pA, .int (nI k)])), (pA, .inr (2, [.ref hT, .int lo, .int hi, .long le, .long gr])), (hT, .inr (1, [.ref hR, .int (nI n)])), (hR, .inl (d, N, .inl a))]) (wr := [(hM, .inr (3, [.ref hB, .int (nI n), .int (nI k), .int lo, .int hi])), (hB, .inl (dB, 187, .inl mb))]) (va_runV (As := [.int (xs (6 * t + 1))]) (rest := []) ⟨hx, hb, hml, hown, hts⟩ (met_X0_around l D ho pA lo hi le gr hT hR d N n a k H.size (xs (6 * t + 1)) hok hnN hN h1N hk6 hnk) (cwV 1 hts (lw_V q108 q109 q110 q16 q111) rfl rfl rfl (by decide +kernel) ⟨Nat.le_of_ble_eq_true rfl, Nat.le_of_ble_eq_true rfl⟩) ⟨rr_blind, va_recv hK hP (ci := 0) (q0 := 0) rfl rfl, rr_pre (hP.sub (ws' := [(ho, .inr (0, [.ref hT, .ref pA, .int (nI k)])), (pA, .inr (2, [.ref hT, .int lo, .int hi, .long le, .long gr])), (hT, .inr (1, [.ref hR, .int (nI n)])), (hR, .inl (d, N, .inl a))]) [0, 1, 2, 3] rfl) (hK.sub (tys' := [(d, .int)]) [0] rfl) (hD.sub (ws' := [(ho, .inr (0, [.ref hT, .ref pA, .int (nI k)])), (pA, .inr (2, [.ref hT, .int lo, .int hi, .long le, .long gr])), (hT, .inr (1, [.ref hR, .int (nI n)])), (hR, .inl (d, N, .inl a))]) [0, 1, 2, 3] (by decide) rfl)⟩ rfl rfl hl.1 rfl (lv_room (Nat.le_of_ble_eq_true rfl)) dL_law_90 ⟨by show _ ≤ 600000; omega, by show _ ≤ 7302250; omega⟩) hK hP hD hS hA [0, 1, 2, 3] [4, 5] rfl rfl (by decide) (by decide) (fun r1 u_151 H locs hw1 hP hD hK hS => ?_)
        obtain ⟨hR1, d1, N1, a1⟩ := u_151
        have hP : va_P D vwCl [(hM, .inr (3, [.ref hB, .int (nI n), .int (nI k), .int lo, .int hi])), (hB, .inl (dB, 187, .inl mb)), (ho, .inr (0, [.ref hT, .ref pA, .int (nI (arK k))])), (pA, .inr (2, [.ref hT, .int lo, .int hi, .long le, .long gr])), (hT, .inr (1, [.ref hR1, .int (nI (arN k S (xs (6 * t + 1)) n))])), (hR1, .inl (d1, N1, .inl a1))] H := hP
        have hD : va_D A [(hM, .inr (3, [.ref hB, .int (nI n), .int (nI k), .int lo, .int hi])), (hB, .inl (dB, 187, .inl mb)), (ho, .inr (0, [.ref hT, .ref pA, .int (nI (arK k))])), (pA, .inr (2, [.ref hT, .int lo, .int hi, .long le, .long gr])), (hT, .inr (1, [.ref hR1, .int (nI (arN k S (xs (6 * t + 1)) n))])), (hR1, .inl (d1, N1, .inl a1))] := hD
        have hK : va_K D vwCl [(d, .int), (dB, .int), (d1, .int)] s := hK.sub (tys' := [(d, .int), (dB, .int), (d1, .int)]) [0, 1, 2] rfl
        obtain ⟨hok1, hnN1, hN1, h1N1, er1⟩ := hw1
        have hok1 : T_ok (arS k S (xs (6 * t + 1))) (arN k S (xs (6 * t + 1)) n) a1 := hok1
        have hnN1 : arN k S (xs (6 * t + 1)) n ≤ N1 := hnN1
        have hN1 : N1 ≤ 512 := hN1
        have h1N1 : 1 ≤ N1 := h1N1
        refine lv_aload_n hx hb dL_law_93 rfl (lv_at hl 2 rfl) ?_
        refine lv_aload_n hx hb dL_law_94 rfl (lv_at hl 0 rfl) ?_
        refine lv_iload_n hx hb dL_law_95 rfl (lv_at hl 3 rfl) ?_
        refine lv_iconst (v := 1) hx hb dL_law_96 (by decide) ?_
        refine lv_iadd hx hb dL_law_97 ?_
        refine rr_reti (y := (nI (6 * t + 1))) (nI_add (6 * t) 1) ?_
        refine nn_sld hx hb hX hbl hbA hS (i := (6 * t + 1)) (by omega) (by omega) dL_law_98 ?_
        refine rr_calli (wc := [(hM, .inr (3, [.ref hB, .int (nI n), .int (nI k), .int lo, .int hi])), (hB, .inl (dB, 187, .inl mb))]) (wr := [(ho, .inr (0, [.ref hT, .ref pA, .int (nI (arK k))])), (pA, .inr (2, [.ref hT, .int lo, .int hi, .long le, .long gr])), (hT, .inr (1, [.ref hR1, .int (nI (arN k S (xs (6 * t + 1)) n))])), (hR1, .inl (d1, N1, .inl a1))]) (va_runV (As := [.int (xs (6 * t + 1))]) (rest := [.int r1]) ⟨hx, hb, hml, hown, hts⟩ (met_X3_around l D hM hB dB mb n k lo hi H.size (xs (6 * t + 1)) hom hk6 hnk) (cwV 1 hts (lw_V q246 q247 q248 q22 q249) rfl rfl rfl (by decide +kernel) ⟨Nat.le_of_ble_eq_true rfl, Nat.le_of_ble_eq_true rfl⟩) ⟨rr_blind, va_recv hK hP (ci := 3) (q0 := 0) rfl rfl, rr_pre (hP.sub (ws' := [(hM, .inr (3, [.ref hB, .int (nI n), .int (nI k), .int lo, .int hi])), (hB, .inl (dB, 187, .inl mb))]) [0, 1] rfl) (hK.sub (tys' := [(dB, .int)]) [1] rfl) (hD.sub (ws' := [(hM, .inr (3, [.ref hB, .int (nI n), .int (nI k), .int lo, .int hi])), (hB, .inl (dB, 187, .inl mb))]) [0, 1] (by decide) rfl)⟩ rfl rfl hl.1 rfl (lv_room (Nat.le_of_ble_eq_true rfl)) dL_law_99 ⟨by show _ ≤ 600000; omega, by show _ ≤ 7302250; omega⟩) hK hP hD hS hA [0, 1] [2, 3, 4, 5] rfl rfl (by decide) (by decide) (fun r2 u_152 H locs hw2 hP hD hK hS => ?_)
        obtain ⟨mb1, rfl⟩ : ∃ z, z = u_152 := ⟨_, rfl⟩
        have hP : va_P D vwCl [(ho, .inr (0, [.ref hT, .ref pA, .int (nI (arK k))])), (pA, .inr (2, [.ref hT, .int lo, .int hi, .long le, .long gr])), (hT, .inr (1, [.ref hR1, .int (nI (arN k S (xs (6 * t + 1)) n))])), (hR1, .inl (d1, N1, .inl a1)), (hM, .inr (3, [.ref hB, .int (nI (arN k S (xs (6 * t + 1)) n)), .int (nI (arK k)), .int lo, .int hi])), (hB, .inl (dB, 187, .inl mb1))] H := hP
        have hD : va_D A [(ho, .inr (0, [.ref hT, .ref pA, .int (nI (arK k))])), (pA, .inr (2, [.ref hT, .int lo, .int hi, .long le, .long gr])), (hT, .inr (1, [.ref hR1, .int (nI (arN k S (xs (6 * t + 1)) n))])), (hR1, .inl (d1, N1, .inl a1)), (hM, .inr (3, [.ref hB, .int (nI (arN k S (xs (6 * t + 1)) n)), .int (nI (arK k)), .int lo, .int hi])), (hB, .inl (dB, 187, .inl mb1))] := hD
        have hK : va_K D vwCl [(d, .int), (dB, .int), (d1, .int)] s := hK.sub (tys' := [(d, .int), (dB, .int), (d1, .int)]) [0, 1, 2] rfl
        obtain ⟨hom1, er2⟩ := hw2
        have hom1 : M_ok (arS k S (xs (6 * t + 1))) (arN k S (xs (6 * t + 1)) n) mb1 := hom1
        refine lv_icmp_eq (tgt := 299) hx hb dL_law_102 (by decide) (fun c_102 => ?_) (fun c_102 => absurd (er1.trans er2.symm) c_102)
        refine lv_iinc (v := (nI (6 * t + 6))) (lv' := [(3, .int (nI (6 * t + 6))), (0, .ref sc), (1, .ref ho), (2, .ref hM)]) hx hb dL_law_299 hl (k := 3) rfl (nI_add (6 * t) 6) (by decide) rfl (fun ls hl => ?_)
        refine lv_goto (tgt := 18) hx hb dL_law_302 (by decide) ?_
        refine W.widen (k := 20 + 7 * (t + 1)) (n := 5000 + 3584 * (t + 1)) (by omega) (by omega) ?_
        exact ih (t + 1) (arK k) (arN k S (xs (6 * t + 1)) n) N1 (arS k S (xs (6 * t + 1))) a1 mb1 hR1 d1 lo hi le gr H locs ls (by omega) (by omega) hok1 hom1 hnN1 hN1 h1N1 (arK_le hk6) (arN_le hnk) (arS_mono hmi) (arS_mono hma) (hK.sub (tys' := [(d1, .int), (dB, .int)]) [2, 1] rfl) (hP.sub (ws' := [(ho, .inr (0, [.ref hT, .ref pA, .int (nI (arK k))])), (pA, .inr (2, [.ref hT, .int lo, .int hi, .long le, .long gr])), (hT, .inr (1, [.ref hR1, .int (nI (arN k S (xs (6 * t + 1)) n))])), (hR1, .inl (d1, N1, .inl a1)), (hM, .inr (3, [.ref hB, .int (nI (arN k S (xs (6 * t + 1)) n)), .int (nI (arK k)), .int lo, .int hi])), (hB, .inl (dB, 187, .inl mb1))]) [0, 1, 2, 3, 4, 5] rfl) (hD.sub (ws' := [(ho, .inr (0, [.ref hT, .ref pA, .int (nI (arK k))])), (pA, .inr (2, [.ref hT, .int lo, .int hi, .long le, .long gr])), (hT, .inr (1, [.ref hR1, .int (nI (arN k S (xs (6 * t + 1)) n))])), (hR1, .inl (d1, N1, .inl a1)), (hM, .inr (3, [.ref hB, .int (nI (arN k S (xs (6 * t + 1)) n)), .int (nI (arK k)), .int lo, .int hi])), (hB, .inl (dB, 187, .inl mb1))]) [0, 1, 2, 3, 4, 5] (by decide) rfl) hS (lv_sub hl [1, 2, 3, 0] rfl)
      · refine lv_tableIn (off := 74) (tgt := 107) hx hb dL_law_33 (by decide) (by decide) rfl (by decide) ?_
        refine lv_aload_n hx hb dL_law_107 rfl (lv_at hl 1 rfl) ?_
        refine rr_callv (wc := [(ho, .inr (0, [.ref hT, .ref pA, .int (nI k)])), (pA, .inr (2, [.ref hT, .int lo, .int hi, .long le, .long gr])), (hT, .inr (1, [.ref hR, .int (nI n)])), (hR, .inl (d, N, .inl a))]) (wr := [(hM, .inr (3, [.ref hB, .int (nI n), .int (nI k), .int lo, .int hi])), (hB, .inl (dB, 187, .inl mb))]) (va_runV (As := []) (rest := []) ⟨hx, hb, hml, hown, hts⟩ (met_X0_clear l D ho pA lo hi le gr hT hR d N n a k H.size hN h1N) (cwV 0 hts (lw_V q116 q117 q118 q16 q119) rfl rfl rfl (by decide +kernel) ⟨Nat.le_of_ble_eq_true rfl, Nat.le_of_ble_eq_true rfl⟩) ⟨rr_blind, va_recv hK hP (ci := 0) (q0 := 0) rfl rfl, rr_pre (hP.sub (ws' := [(ho, .inr (0, [.ref hT, .ref pA, .int (nI k)])), (pA, .inr (2, [.ref hT, .int lo, .int hi, .long le, .long gr])), (hT, .inr (1, [.ref hR, .int (nI n)])), (hR, .inl (d, N, .inl a))]) [0, 1, 2, 3] rfl) (hK.sub (tys' := [(d, .int)]) [0] rfl) (hD.sub (ws' := [(ho, .inr (0, [.ref hT, .ref pA, .int (nI k)])), (pA, .inr (2, [.ref hT, .int lo, .int hi, .long le, .long gr])), (hT, .inr (1, [.ref hR, .int (nI n)])), (hR, .inl (d, N, .inl a))]) [0, 1, 2, 3] (by decide) rfl)⟩ rfl rfl hl.1 rfl (lv_room (Nat.le_of_ble_eq_true rfl)) dL_law_108 ⟨by show _ ≤ 600000; omega, by show _ ≤ 7302250; omega⟩) hK hP hD hS hA [0, 1, 2, 3] [4, 5] rfl rfl (by decide) (by decide) (fun u_153 H locs hw1 hP hD hK hS => ?_)
        obtain ⟨hR1, d1, N1, a1⟩ := u_153
        have hP : va_P D vwCl [(hM, .inr (3, [.ref hB, .int (nI n), .int (nI k), .int lo, .int hi])), (hB, .inl (dB, 187, .inl mb)), (ho, .inr (0, [.ref hT, .ref pA, .int (nI 0)])), (pA, .inr (2, [.ref hT, .int lo, .int hi, .long le, .long gr])), (hT, .inr (1, [.ref hR1, .int (nI 7)])), (hR1, .inl (d1, N1, .inl a1))] H := hP
        have hD : va_D A [(hM, .inr (3, [.ref hB, .int (nI n), .int (nI k), .int lo, .int hi])), (hB, .inl (dB, 187, .inl mb)), (ho, .inr (0, [.ref hT, .ref pA, .int (nI 0)])), (pA, .inr (2, [.ref hT, .int lo, .int hi, .long le, .long gr])), (hT, .inr (1, [.ref hR1, .int (nI 7)])), (hR1, .inl (d1, N1, .inl a1))] := hD
        have hK : va_K D vwCl [(d, .int), (dB, .int), (d1, .int)] s := hK.sub (tys' := [(d, .int), (dB, .int), (d1, .int)]) [0, 1, 2] rfl
        have hw1 : T_ok sB7 7 a1 ∧ 7 ≤ N1 ∧ N1 ≤ 512 := hw1
        refine lv_aload_n hx hb dL_law_111 rfl (lv_at hl 2 rfl) ?_
        refine rr_callv (wc := [(hM, .inr (3, [.ref hB, .int (nI n), .int (nI k), .int lo, .int hi])), (hB, .inl (dB, 187, .inl mb))]) (wr := [(ho, .inr (0, [.ref hT, .ref pA, .int (nI 0)])), (pA, .inr (2, [.ref hT, .int lo, .int hi, .long le, .long gr])), (hT, .inr (1, [.ref hR1, .int (nI 7)])), (hR1, .inl (d1, N1, .inl a1))]) (va_runV (As := []) (rest := []) ⟨hx, hb, hml, hown, hts⟩ (met_X3_clear l D hM hB dB mb (nI n) (nI k) lo hi H.size) (cwV 0 hts (lw_V q245 q218 q219 q22 q220) rfl rfl rfl (by decide +kernel) ⟨Nat.le_of_ble_eq_true rfl, Nat.le_of_ble_eq_true rfl⟩) ⟨rr_blind, va_recv hK hP (ci := 3) (q0 := 0) rfl rfl, rr_pre (hP.sub (ws' := [(hM, .inr (3, [.ref hB, .int (nI n), .int (nI k), .int lo, .int hi])), (hB, .inl (dB, 187, .inl mb))]) [0, 1] rfl) (hK.sub (tys' := [(dB, .int)]) [1] rfl) (hD.sub (ws' := [(hM, .inr (3, [.ref hB, .int (nI n), .int (nI k), .int lo, .int hi])), (hB, .inl (dB, 187, .inl mb))]) [0, 1] (by decide) rfl)⟩ rfl rfl hl.1 rfl (lv_room (Nat.le_of_ble_eq_true rfl)) dL_law_112 ⟨by show _ ≤ 600000; omega, by show _ ≤ 7302250; omega⟩) hK hP hD hS hA [0, 1] [2, 3, 4, 5] rfl rfl (by decide) (by decide) (fun u_154 H locs hw2 hP hD hK hS => ?_)
        obtain ⟨mb1, rfl⟩ : ∃ z, z = u_154 := ⟨_, rfl⟩
        have hP : va_P D vwCl [(ho, .inr (0, [.ref hT, .ref pA, .int (nI 0)])), (pA, .inr (2, [.ref hT, .int lo, .int hi, .long le, .long gr])), (hT, .inr (1, [.ref hR1, .int (nI 7)])), (hR1, .inl (d1, N1, .inl a1)), (hM, .inr (3, [.ref hB, .int (nI 7), .int (nI 0), .int lo, .int hi])), (hB, .inl (dB, 187, .inl mb1))] H := hP
        have hD : va_D A [(ho, .inr (0, [.ref hT, .ref pA, .int (nI 0)])), (pA, .inr (2, [.ref hT, .int lo, .int hi, .long le, .long gr])), (hT, .inr (1, [.ref hR1, .int (nI 7)])), (hR1, .inl (d1, N1, .inl a1)), (hM, .inr (3, [.ref hB, .int (nI 7), .int (nI 0), .int lo, .int hi])), (hB, .inl (dB, 187, .inl mb1))] := hD
        have hK : va_K D vwCl [(d, .int), (dB, .int), (d1, .int)] s := hK.sub (tys' := [(d, .int), (dB, .int), (d1, .int)]) [0, 1, 2] rfl
        refine lv_goto (tgt := 299) hx hb dL_law_115 (by decide) ?_
        refine lv_iinc (v := (nI (6 * t + 6))) (lv' := [(3, .int (nI (6 * t + 6))), (0, .ref sc), (1, .ref ho), (2, .ref hM)]) hx hb dL_law_299 hl (k := 3) rfl (nI_add (6 * t) 6) (by decide) rfl (fun ls hl => ?_)
        refine lv_goto (tgt := 18) hx hb dL_law_302 (by decide) ?_
        refine W.widen (k := 20 + 7 * (t + 1)) (n := 5000 + 3584 * (t + 1)) (by omega) (by omega) ?_
        exact ih (t + 1) 0 7 N1 sB7 a1 mb1 hR1 d1 lo hi le gr H locs ls (by omega) (by omega) hw1.1 hw2 hw1.2.1 hw1.2.2 (Nat.le_trans (by decide) hw1.2.1) (by decide) (by decide) sB_min sB_max (hK.sub (tys' := [(d1, .int), (dB, .int)]) [2, 1] rfl) (hP.sub (ws' := [(ho, .inr (0, [.ref hT, .ref pA, .int (nI 0)])), (pA, .inr (2, [.ref hT, .int lo, .int hi, .long le, .long gr])), (hT, .inr (1, [.ref hR1, .int (nI 7)])), (hR1, .inl (d1, N1, .inl a1)), (hM, .inr (3, [.ref hB, .int (nI 7), .int (nI 0), .int lo, .int hi])), (hB, .inl (dB, 187, .inl mb1))]) [0, 1, 2, 3, 4, 5] rfl) (hD.sub (ws' := [(ho, .inr (0, [.ref hT, .ref pA, .int (nI 0)])), (pA, .inr (2, [.ref hT, .int lo, .int hi, .long le, .long gr])), (hT, .inr (1, [.ref hR1, .int (nI 7)])), (hR1, .inl (d1, N1, .inl a1)), (hM, .inr (3, [.ref hB, .int (nI 7), .int (nI 0), .int lo, .int hi])), (hB, .inl (dB, 187, .inl mb1))]) [0, 1, 2, 3, 4, 5] (by decide) rfl) hS (lv_sub hl [1, 2, 3, 0] rfl)
      · refine lv_tableIn (off := 85) (tgt := 118) hx hb dL_law_33 (by decide) (by decide) rfl (by decide) ?_
        refine lv_aload_n hx hb dL_law_118 rfl (lv_at hl 1 rfl) ?_
        refine rr_callo (va_runV (As := []) (rest := []) ⟨hx, hb, hml, hown, hts⟩ (met_X0_size l D ho pA hT hR d N n a k H.size) (cwV 0 hts (lw_V q120 q121 q122 q16 q123) rfl rfl rfl (by decide +kernel) ⟨Nat.le_of_ble_eq_true rfl, Nat.le_of_ble_eq_true rfl⟩) ⟨rr_blindO, va_recv hK hP (ci := 0) (q0 := 0) rfl rfl, rr_preO (hP.sub (ws' := [(ho, .inr (0, [.ref hT, .ref pA, .int (nI k)])), (hT, .inr (1, [.ref hR, .int (nI n)])), (hR, .inl (d, N, .inl a))]) [0, 2, 3] rfl) (hK.sub (tys' := [(d, .int)]) [0] rfl)⟩ rfl rfl hl.1 rfl (lv_room (Nat.le_of_ble_eq_true rfl)) dL_law_119 ⟨by show _ ≤ 600000; omega, by show _ ≤ 7302250; omega⟩) hP hS hA (fun r1 H locs hw1 hP hS => ?_)
        refine lv_aload_n hx hb dL_law_122 rfl (lv_at hl 2 rfl) ?_
        refine rr_callo (va_runV (As := []) (rest := [.int r1]) ⟨hx, hb, hml, hown, hts⟩ (met_X3_size l D hM hB dB mb n (nI k) lo hi H.size) (cwV 0 hts (lw_V q250 q251 q252 q22 q253) rfl rfl rfl (by decide +kernel) ⟨Nat.le_of_ble_eq_true rfl, Nat.le_of_ble_eq_true rfl⟩) ⟨rr_blindO, va_recv hK hP (ci := 3) (q0 := 4) rfl rfl, rr_preO (hP.sub (ws' := [(hM, .inr (3, [.ref hB, .int (nI n), .int (nI k), .int lo, .int hi])), (hB, .inl (dB, 187, .inl mb))]) [4, 5] rfl) (hK.sub (tys' := [(dB, .int)]) [1] rfl)⟩ rfl rfl hl.1 rfl (lv_room (Nat.le_of_ble_eq_true rfl)) dL_law_123 ⟨by show _ ≤ 600000; omega, by show _ ≤ 7302250; omega⟩) hP hS hA (fun r2 H locs hw2 hP hS => ?_)
        refine lv_icmp_eq (tgt := 299) hx hb dL_law_126 (by decide) (fun c_126 => ?_) (fun c_126 => absurd (hw1.trans hw2.symm) c_126)
        refine lv_iinc (v := (nI (6 * t + 6))) (lv' := [(3, .int (nI (6 * t + 6))), (0, .ref sc), (1, .ref ho), (2, .ref hM)]) hx hb dL_law_299 hl (k := 3) rfl (nI_add (6 * t) 6) (by decide) rfl (fun ls hl => ?_)
        refine lv_goto (tgt := 18) hx hb dL_law_302 (by decide) ?_
        refine W.widen (k := 20 + 7 * (t + 1)) (n := 5000 + 3584 * (t + 1)) (by omega) (by omega) ?_
        exact ih (t + 1) k n N S a mb hR d lo hi le gr H locs ls (by omega) (by omega) hok hom hnN hN h1N hk6 hnk hmi hma (hK.sub (tys' := [(d, .int), (dB, .int)]) [0, 1] rfl) (hP.sub (ws' := [(ho, .inr (0, [.ref hT, .ref pA, .int (nI k)])), (pA, .inr (2, [.ref hT, .int lo, .int hi, .long le, .long gr])), (hT, .inr (1, [.ref hR, .int (nI n)])), (hR, .inl (d, N, .inl a)), (hM, .inr (3, [.ref hB, .int (nI n), .int (nI k), .int lo, .int hi])), (hB, .inl (dB, 187, .inl mb))]) [0, 1, 2, 3, 4, 5] rfl) (hD.sub (ws' := [(ho, .inr (0, [.ref hT, .ref pA, .int (nI k)])), (pA, .inr (2, [.ref hT, .int lo, .int hi, .long le, .long gr])), (hT, .inr (1, [.ref hR, .int (nI n)])), (hR, .inl (d, N, .inl a)), (hM, .inr (3, [.ref hB, .int (nI n), .int (nI k), .int lo, .int hi])), (hB, .inl (dB, 187, .inl mb))]) [0, 1, 2, 3, 4, 5] (by decide) rfl) hS (lv_sub hl [1, 2, 3, 0] rfl)
      · refine lv_tableIn (off := 98) (tgt := 131) hx hb dL_law_33 (by decide) (by decide) rfl (by decide) ?_
        refine lv_aload_n hx hb dL_law_131 rfl (lv_at hl 1 rfl) ?_
        refine lv_aload_n hx hb dL_law_132 rfl (lv_at hl 0 rfl) ?_
        refine lv_iload_n hx hb dL_law_133 rfl (lv_at hl 3 rfl) ?_
        refine lv_iconst (v := 1) hx hb dL_law_134 (by decide) ?_
        refine lv_iadd hx hb dL_law_135 ?_
        refine rr_reti (y := (nI (6 * t + 1))) (nI_add (6 * t) 1) ?_
        refine nn_sld hx hb hX hbl hbA hS (i := (6 * t + 1)) (by omega) (by omega) dL_law_136 ?_
        refine rr_callo (va_runV (As := [.int (xs (6 * t + 1))]) (rest := []) ⟨hx, hb, hml, hown, hts⟩ (met_X0_down l D ho pA hT hR d N n a k H.size (xs (6 * t + 1)) hok hnN hN hmi hma) (cwV 1 hts (lw_V q124 q125 q126 q16 q127) rfl rfl rfl (by decide +kernel) ⟨Nat.le_of_ble_eq_true rfl, Nat.le_of_ble_eq_true rfl⟩) ⟨rr_blindO, va_recv hK hP (ci := 0) (q0 := 0) rfl rfl, rr_preO (hP.sub (ws' := [(ho, .inr (0, [.ref hT, .ref pA, .int (nI k)])), (hT, .inr (1, [.ref hR, .int (nI n)])), (hR, .inl (d, N, .inl a))]) [0, 2, 3] rfl) (hK.sub (tys' := [(d, .int)]) [0] rfl)⟩ rfl rfl hl.1 rfl (lv_room (Nat.le_of_ble_eq_true rfl)) dL_law_137 ⟨by show _ ≤ 600000; omega, by show _ ≤ 7302250; omega⟩) hP hS hA (fun r1 H locs hw1 hP hS => ?_)
        refine lv_aload_n hx hb dL_law_140 rfl (lv_at hl 2 rfl) ?_
        refine lv_aload_n hx hb dL_law_141 rfl (lv_at hl 0 rfl) ?_
        refine lv_iload_n hx hb dL_law_142 rfl (lv_at hl 3 rfl) ?_
        refine lv_iconst (v := 1) hx hb dL_law_143 (by decide) ?_
        refine lv_iadd hx hb dL_law_144 ?_
        refine rr_reti (y := (nI (6 * t + 1))) (nI_add (6 * t) 1) ?_
        refine nn_sld hx hb hX hbl hbA hS (i := (6 * t + 1)) (by omega) (by omega) dL_law_145 ?_
        refine rr_callo (va_runV (As := [.int (xs (6 * t + 1))]) (rest := [.int r1]) ⟨hx, hb, hml, hown, hts⟩ (met_X3_down l D hM hB dB mb n (nI k) lo hi H.size (xs (6 * t + 1)) hom (by omega) hmi hma) (cwV 1 hts (lw_V q254 q255 q256 q22 q257) rfl rfl rfl (by decide +kernel) ⟨Nat.le_of_ble_eq_true rfl, Nat.le_of_ble_eq_true rfl⟩) ⟨rr_blindO, va_recv hK hP (ci := 3) (q0 := 4) rfl rfl, rr_preO (hP.sub (ws' := [(hM, .inr (3, [.ref hB, .int (nI n), .int (nI k), .int lo, .int hi])), (hB, .inl (dB, 187, .inl mb))]) [4, 5] rfl) (hK.sub (tys' := [(dB, .int)]) [1] rfl)⟩ rfl rfl hl.1 rfl (lv_room (Nat.le_of_ble_eq_true rfl)) dL_law_146 ⟨by show _ ≤ 600000; omega, by show _ ≤ 7302250; omega⟩) hP hS hA (fun r2 H locs hw2 hP hS => ?_)
        refine lv_icmp_eq (tgt := 299) hx hb dL_law_149 (by decide) (fun c_149 => ?_) (fun c_149 => absurd (IsDn.uniq hw1 hw2) c_149)
        refine lv_iinc (v := (nI (6 * t + 6))) (lv' := [(3, .int (nI (6 * t + 6))), (0, .ref sc), (1, .ref ho), (2, .ref hM)]) hx hb dL_law_299 hl (k := 3) rfl (nI_add (6 * t) 6) (by decide) rfl (fun ls hl => ?_)
        refine lv_goto (tgt := 18) hx hb dL_law_302 (by decide) ?_
        refine W.widen (k := 20 + 7 * (t + 1)) (n := 5000 + 3584 * (t + 1)) (by omega) (by omega) ?_
        exact ih (t + 1) k n N S a mb hR d lo hi le gr H locs ls (by omega) (by omega) hok hom hnN hN h1N hk6 hnk hmi hma (hK.sub (tys' := [(d, .int), (dB, .int)]) [0, 1] rfl) (hP.sub (ws' := [(ho, .inr (0, [.ref hT, .ref pA, .int (nI k)])), (pA, .inr (2, [.ref hT, .int lo, .int hi, .long le, .long gr])), (hT, .inr (1, [.ref hR, .int (nI n)])), (hR, .inl (d, N, .inl a)), (hM, .inr (3, [.ref hB, .int (nI n), .int (nI k), .int lo, .int hi])), (hB, .inl (dB, 187, .inl mb))]) [0, 1, 2, 3, 4, 5] rfl) (hD.sub (ws' := [(ho, .inr (0, [.ref hT, .ref pA, .int (nI k)])), (pA, .inr (2, [.ref hT, .int lo, .int hi, .long le, .long gr])), (hT, .inr (1, [.ref hR, .int (nI n)])), (hR, .inl (d, N, .inl a)), (hM, .inr (3, [.ref hB, .int (nI n), .int (nI k), .int lo, .int hi])), (hB, .inl (dB, 187, .inl mb))]) [0, 1, 2, 3, 4, 5] (by decide) rfl) hS (lv_sub hl [1, 2, 3, 0] rfl)
      · refine lv_tableIn (off := 121) (tgt := 154) hx hb dL_law_33 (by decide) (by decide) rfl (by decide) ?_
        refine lv_aload_n hx hb dL_law_154 rfl (lv_at hl 1 rfl) ?_
        refine lv_aload_n hx hb dL_law_155 rfl (lv_at hl 0 rfl) ?_
        refine lv_iload_n hx hb dL_law_156 rfl (lv_at hl 3 rfl) ?_
        refine lv_iconst (v := 1) hx hb dL_law_157 (by decide) ?_
        refine lv_iadd hx hb dL_law_158 ?_
        refine rr_reti (y := (nI (6 * t + 1))) (nI_add (6 * t) 1) ?_
        refine nn_sld hx hb hX hbl hbA hS (i := (6 * t + 1)) (by omega) (by omega) dL_law_159 ?_
        refine rr_callo (va_runV (As := [.int (xs (6 * t + 1))]) (rest := []) ⟨hx, hb, hml, hown, hts⟩ (met_X0_up l D ho pA hT hR d N n a k H.size (xs (6 * t + 1)) hok hnN hN hmi hma) (cwV 1 hts (lw_V q132 q133 q134 q16 q135) rfl rfl rfl (by decide +kernel) ⟨Nat.le_of_ble_eq_true rfl, Nat.le_of_ble_eq_true rfl⟩) ⟨rr_blindO, va_recv hK hP (ci := 0) (q0 := 0) rfl rfl, rr_preO (hP.sub (ws' := [(ho, .inr (0, [.ref hT, .ref pA, .int (nI k)])), (hT, .inr (1, [.ref hR, .int (nI n)])), (hR, .inl (d, N, .inl a))]) [0, 2, 3] rfl) (hK.sub (tys' := [(d, .int)]) [0] rfl)⟩ rfl rfl hl.1 rfl (lv_room (Nat.le_of_ble_eq_true rfl)) dL_law_160 ⟨by show _ ≤ 600000; omega, by show _ ≤ 7302250; omega⟩) hP hS hA (fun r1 H locs hw1 hP hS => ?_)
        refine lv_aload_n hx hb dL_law_163 rfl (lv_at hl 2 rfl) ?_
        refine lv_aload_n hx hb dL_law_164 rfl (lv_at hl 0 rfl) ?_
        refine lv_iload_n hx hb dL_law_165 rfl (lv_at hl 3 rfl) ?_
        refine lv_iconst (v := 1) hx hb dL_law_166 (by decide) ?_
        refine lv_iadd hx hb dL_law_167 ?_
        refine rr_reti (y := (nI (6 * t + 1))) (nI_add (6 * t) 1) ?_
        refine nn_sld hx hb hX hbl hbA hS (i := (6 * t + 1)) (by omega) (by omega) dL_law_168 ?_
        refine rr_callo (va_runV (As := [.int (xs (6 * t + 1))]) (rest := [.int r1]) ⟨hx, hb, hml, hown, hts⟩ (met_X3_up l D hM hB dB mb n (nI k) lo hi H.size (xs (6 * t + 1)) hom (by omega) hmi hma) (cwV 1 hts (lw_V q262 q263 q264 q22 q265) rfl rfl rfl (by decide +kernel) ⟨Nat.le_of_ble_eq_true rfl, Nat.le_of_ble_eq_true rfl⟩) ⟨rr_blindO, va_recv hK hP (ci := 3) (q0 := 4) rfl rfl, rr_preO (hP.sub (ws' := [(hM, .inr (3, [.ref hB, .int (nI n), .int (nI k), .int lo, .int hi])), (hB, .inl (dB, 187, .inl mb))]) [4, 5] rfl) (hK.sub (tys' := [(dB, .int)]) [1] rfl)⟩ rfl rfl hl.1 rfl (lv_room (Nat.le_of_ble_eq_true rfl)) dL_law_169 ⟨by show _ ≤ 600000; omega, by show _ ≤ 7302250; omega⟩) hP hS hA (fun r2 H locs hw2 hP hS => ?_)
        refine lv_icmp_eq (tgt := 299) hx hb dL_law_172 (by decide) (fun c_172 => ?_) (fun c_172 => absurd (IsUp.uniq hw1 hw2) c_172)
        refine lv_iinc (v := (nI (6 * t + 6))) (lv' := [(3, .int (nI (6 * t + 6))), (0, .ref sc), (1, .ref ho), (2, .ref hM)]) hx hb dL_law_299 hl (k := 3) rfl (nI_add (6 * t) 6) (by decide) rfl (fun ls hl => ?_)
        refine lv_goto (tgt := 18) hx hb dL_law_302 (by decide) ?_
        refine W.widen (k := 20 + 7 * (t + 1)) (n := 5000 + 3584 * (t + 1)) (by omega) (by omega) ?_
        exact ih (t + 1) k n N S a mb hR d lo hi le gr H locs ls (by omega) (by omega) hok hom hnN hN h1N hk6 hnk hmi hma (hK.sub (tys' := [(d, .int), (dB, .int)]) [0, 1] rfl) (hP.sub (ws' := [(ho, .inr (0, [.ref hT, .ref pA, .int (nI k)])), (pA, .inr (2, [.ref hT, .int lo, .int hi, .long le, .long gr])), (hT, .inr (1, [.ref hR, .int (nI n)])), (hR, .inl (d, N, .inl a)), (hM, .inr (3, [.ref hB, .int (nI n), .int (nI k), .int lo, .int hi])), (hB, .inl (dB, 187, .inl mb))]) [0, 1, 2, 3, 4, 5] rfl) (hD.sub (ws' := [(ho, .inr (0, [.ref hT, .ref pA, .int (nI k)])), (pA, .inr (2, [.ref hT, .int lo, .int hi, .long le, .long gr])), (hT, .inr (1, [.ref hR, .int (nI n)])), (hR, .inl (d, N, .inl a)), (hM, .inr (3, [.ref hB, .int (nI n), .int (nI k), .int lo, .int hi])), (hB, .inl (dB, 187, .inl mb))]) [0, 1, 2, 3, 4, 5] (by decide) rfl) hS (lv_sub hl [1, 2, 3, 0] rfl)
      · refine lv_tableIn (off := 144) (tgt := 177) hx hb dL_law_33 (by decide) (by decide) rfl (by decide) ?_
        refine lv_aload_n hx hb dL_law_177 rfl (lv_at hl 1 rfl) ?_
        refine lv_aload_n hx hb dL_law_178 rfl (lv_at hl 0 rfl) ?_
        refine lv_iload_n hx hb dL_law_179 rfl (lv_at hl 3 rfl) ?_
        refine lv_iconst (v := 1) hx hb dL_law_180 (by decide) ?_
        refine lv_iadd hx hb dL_law_181 ?_
        refine rr_reti (y := (nI (6 * t + 1))) (nI_add (6 * t) 1) ?_
        refine nn_sld hx hb hX hbl hbA hS (i := (6 * t + 1)) (by omega) (by omega) dL_law_182 ?_
        refine lv_aload_n hx hb dL_law_183 rfl (lv_at hl 0 rfl) ?_
        refine lv_iload_n hx hb dL_law_184 rfl (lv_at hl 3 rfl) ?_
        refine lv_iconst (v := 2) hx hb dL_law_185 (by decide) ?_
        refine lv_iadd hx hb dL_law_186 ?_
        refine rr_reti (y := (nI (6 * t + 2))) (nI_add (6 * t) 2) ?_
        refine nn_sld hx hb hX hbl hbA hS (i := (6 * t + 2)) (by omega) (by omega) dL_law_187 ?_
        refine lv_aload_n hx hb dL_law_188 rfl (lv_at hl 0 rfl) ?_
        refine lv_iload_n hx hb dL_law_189 rfl (lv_at hl 3 rfl) ?_
        refine lv_iconst (v := 3) hx hb dL_law_190 (by decide) ?_
        refine lv_iadd hx hb dL_law_191 ?_
        refine rr_reti (y := (nI (6 * t + 3))) (nI_add (6 * t) 3) ?_
        refine nn_sld hx hb hX hbl hbA hS (i := (6 * t + 3)) (by omega) (by omega) dL_law_192 ?_
        refine lv_aload_n hx hb dL_law_193 rfl (lv_at hl 0 rfl) ?_
        refine lv_iload_n hx hb dL_law_194 rfl (lv_at hl 3 rfl) ?_
        refine lv_iconst (v := 4) hx hb dL_law_195 (by decide) ?_
        refine lv_iadd hx hb dL_law_196 ?_
        refine rr_reti (y := (nI (6 * t + 4))) (nI_add (6 * t) 4) ?_
        refine nn_sld hx hb hX hbl hbA hS (i := (6 * t + 4)) (by omega) (by omega) dL_law_197 ?_
        refine lv_aload_n hx hb dL_law_198 rfl (lv_at hl 0 rfl) ?_
        refine lv_iload_n hx hb dL_law_199 rfl (lv_at hl 3 rfl) ?_
        refine lv_iconst (v := 5) hx hb dL_law_200 (by decide) ?_
        refine lv_iadd hx hb dL_law_201 ?_
        refine rr_reti (y := (nI (6 * t + 5))) (nI_add (6 * t) 5) ?_
        refine nn_sld hx hb hX hbl hbA hS (i := (6 * t + 5)) (by omega) (by omega) dL_law_202 ?_
        refine rr_calli (wc := [(ho, .inr (0, [.ref hT, .ref pA, .int (nI k)])), (pA, .inr (2, [.ref hT, .int lo, .int hi, .long le, .long gr])), (hT, .inr (1, [.ref hR, .int (nI n)])), (hR, .inl (d, N, .inl a))]) (wr := [(hM, .inr (3, [.ref hB, .int (nI n), .int (nI k), .int lo, .int hi])), (hB, .inl (dB, 187, .inl mb))]) (va_runV (As := [.int (xs (6 * t + 1)), .int (xs (6 * t + 2)), .int (xs (6 * t + 3)), .int (xs (6 * t + 4)), .int (xs (6 * t + 5))]) (rest := []) ⟨hx, hb, hml, hown, hts⟩ (met_X0_work l D ho pA lo hi le gr hT hR d N n a k H.size (xs (6 * t + 1)) (xs (6 * t + 2)) (xs (6 * t + 3)) (xs (6 * t + 4)) (xs (6 * t + 5)) hok hnN hN hmi hma) (cwV 5 hts (lw_V q140 q141 q142 q16 q143) rfl rfl rfl (by decide +kernel) ⟨Nat.le_of_ble_eq_true rfl, Nat.le_of_ble_eq_true rfl⟩) ⟨rr_blind, va_recv hK hP (ci := 0) (q0 := 0) rfl rfl, rr_pre (hP.sub (ws' := [(ho, .inr (0, [.ref hT, .ref pA, .int (nI k)])), (pA, .inr (2, [.ref hT, .int lo, .int hi, .long le, .long gr])), (hT, .inr (1, [.ref hR, .int (nI n)])), (hR, .inl (d, N, .inl a))]) [0, 1, 2, 3] rfl) (hK.sub (tys' := [(d, .int)]) [0] rfl) (hD.sub (ws' := [(ho, .inr (0, [.ref hT, .ref pA, .int (nI k)])), (pA, .inr (2, [.ref hT, .int lo, .int hi, .long le, .long gr])), (hT, .inr (1, [.ref hR, .int (nI n)])), (hR, .inl (d, N, .inl a))]) [0, 1, 2, 3] (by decide) rfl)⟩ rfl rfl hl.1 rfl (lv_room (Nat.le_of_ble_eq_true rfl)) dL_law_203 ⟨by show _ ≤ 600000; omega, by show _ ≤ 7302250; omega⟩) hK hP hD hS hA [0, 1, 2, 3] [4, 5] rfl rfl (by decide) (by decide) (fun r1 u_155 H locs hw1 hP hD hK hS => ?_)
        obtain ⟨lo1, hi1, le1, gr1⟩ := u_155
        have hP : va_P D vwCl [(hM, .inr (3, [.ref hB, .int (nI n), .int (nI k), .int lo, .int hi])), (hB, .inl (dB, 187, .inl mb)), (ho, .inr (0, [.ref hT, .ref pA, .int (nI k)])), (pA, .inr (2, [.ref hT, .int lo1, .int hi1, .long le1, .long gr1])), (hT, .inr (1, [.ref hR, .int (nI n)])), (hR, .inl (d, N, .inl a))] H := hP
        have hD : va_D A [(hM, .inr (3, [.ref hB, .int (nI n), .int (nI k), .int lo, .int hi])), (hB, .inl (dB, 187, .inl mb)), (ho, .inr (0, [.ref hT, .ref pA, .int (nI k)])), (pA, .inr (2, [.ref hT, .int lo1, .int hi1, .long le1, .long gr1])), (hT, .inr (1, [.ref hR, .int (nI n)])), (hR, .inl (d, N, .inl a))] := hD
        have hK : va_K D vwCl [(d, .int), (dB, .int)] s := hK.sub (tys' := [(d, .int), (dB, .int)]) [0, 1] rfl
        refine lv_aload_n hx hb dL_law_206 rfl (lv_at hl 2 rfl) ?_
        refine lv_aload_n hx hb dL_law_207 rfl (lv_at hl 0 rfl) ?_
        refine lv_iload_n hx hb dL_law_208 rfl (lv_at hl 3 rfl) ?_
        refine lv_iconst (v := 1) hx hb dL_law_209 (by decide) ?_
        refine lv_iadd hx hb dL_law_210 ?_
        refine rr_reti (y := (nI (6 * t + 1))) (nI_add (6 * t) 1) ?_
        refine nn_sld hx hb hX hbl hbA hS (i := (6 * t + 1)) (by omega) (by omega) dL_law_211 ?_
        refine lv_aload_n hx hb dL_law_212 rfl (lv_at hl 0 rfl) ?_
        refine lv_iload_n hx hb dL_law_213 rfl (lv_at hl 3 rfl) ?_
        refine lv_iconst (v := 2) hx hb dL_law_214 (by decide) ?_
        refine lv_iadd hx hb dL_law_215 ?_
        refine rr_reti (y := (nI (6 * t + 2))) (nI_add (6 * t) 2) ?_
        refine nn_sld hx hb hX hbl hbA hS (i := (6 * t + 2)) (by omega) (by omega) dL_law_216 ?_
        refine lv_aload_n hx hb dL_law_217 rfl (lv_at hl 0 rfl) ?_
        refine lv_iload_n hx hb dL_law_218 rfl (lv_at hl 3 rfl) ?_
        refine lv_iconst (v := 3) hx hb dL_law_219 (by decide) ?_
        refine lv_iadd hx hb dL_law_220 ?_
        refine rr_reti (y := (nI (6 * t + 3))) (nI_add (6 * t) 3) ?_
        refine nn_sld hx hb hX hbl hbA hS (i := (6 * t + 3)) (by omega) (by omega) dL_law_221 ?_
        refine lv_aload_n hx hb dL_law_222 rfl (lv_at hl 0 rfl) ?_
        refine lv_iload_n hx hb dL_law_223 rfl (lv_at hl 3 rfl) ?_
        refine lv_iconst (v := 4) hx hb dL_law_224 (by decide) ?_
        refine lv_iadd hx hb dL_law_225 ?_
        refine rr_reti (y := (nI (6 * t + 4))) (nI_add (6 * t) 4) ?_
        refine nn_sld hx hb hX hbl hbA hS (i := (6 * t + 4)) (by omega) (by omega) dL_law_226 ?_
        refine lv_aload_n hx hb dL_law_227 rfl (lv_at hl 0 rfl) ?_
        refine lv_iload_n hx hb dL_law_228 rfl (lv_at hl 3 rfl) ?_
        refine lv_iconst (v := 5) hx hb dL_law_229 (by decide) ?_
        refine lv_iadd hx hb dL_law_230 ?_
        refine rr_reti (y := (nI (6 * t + 5))) (nI_add (6 * t) 5) ?_
        refine nn_sld hx hb hX hbl hbA hS (i := (6 * t + 5)) (by omega) (by omega) dL_law_231 ?_
        refine rr_calli (wc := [(hM, .inr (3, [.ref hB, .int (nI n), .int (nI k), .int lo, .int hi])), (hB, .inl (dB, 187, .inl mb))]) (wr := [(ho, .inr (0, [.ref hT, .ref pA, .int (nI k)])), (pA, .inr (2, [.ref hT, .int lo1, .int hi1, .long le1, .long gr1])), (hT, .inr (1, [.ref hR, .int (nI n)])), (hR, .inl (d, N, .inl a))]) (va_runV (As := [.int (xs (6 * t + 1)), .int (xs (6 * t + 2)), .int (xs (6 * t + 3)), .int (xs (6 * t + 4)), .int (xs (6 * t + 5))]) (rest := [.int r1]) ⟨hx, hb, hml, hown, hts⟩ (met_X3_work l D hM hB dB mb n (nI k) lo hi H.size (xs (6 * t + 1)) (xs (6 * t + 2)) (xs (6 * t + 3)) (xs (6 * t + 4)) (xs (6 * t + 5)) hom (by omega) hmi hma) (cwV 5 hts (lw_V q282 q283 q284 q22 q285) rfl rfl rfl (by decide +kernel) ⟨Nat.le_of_ble_eq_true rfl, Nat.le_of_ble_eq_true rfl⟩) ⟨rr_blind, va_recv hK hP (ci := 3) (q0 := 0) rfl rfl, rr_pre (hP.sub (ws' := [(hM, .inr (3, [.ref hB, .int (nI n), .int (nI k), .int lo, .int hi])), (hB, .inl (dB, 187, .inl mb))]) [0, 1] rfl) (hK.sub (tys' := [(dB, .int)]) [1] rfl) (hD.sub (ws' := [(hM, .inr (3, [.ref hB, .int (nI n), .int (nI k), .int lo, .int hi])), (hB, .inl (dB, 187, .inl mb))]) [0, 1] (by decide) rfl)⟩ rfl rfl hl.1 rfl (lv_room (Nat.le_of_ble_eq_true rfl)) dL_law_232 ⟨by show _ ≤ 600000; omega, by show _ ≤ 7302250; omega⟩) hK hP hD hS hA [0, 1] [2, 3, 4, 5] rfl rfl (by decide) (by decide) (fun r2 u_156 H locs hw2 hP hD hK hS => ?_)
        obtain ⟨lo2, hi2⟩ := u_156
        have hP : va_P D vwCl [(ho, .inr (0, [.ref hT, .ref pA, .int (nI k)])), (pA, .inr (2, [.ref hT, .int lo1, .int hi1, .long le1, .long gr1])), (hT, .inr (1, [.ref hR, .int (nI n)])), (hR, .inl (d, N, .inl a)), (hM, .inr (3, [.ref hB, .int (nI n), .int (nI k), .int lo2, .int hi2])), (hB, .inl (dB, 187, .inl mb))] H := hP
        have hD : va_D A [(ho, .inr (0, [.ref hT, .ref pA, .int (nI k)])), (pA, .inr (2, [.ref hT, .int lo1, .int hi1, .long le1, .long gr1])), (hT, .inr (1, [.ref hR, .int (nI n)])), (hR, .inl (d, N, .inl a)), (hM, .inr (3, [.ref hB, .int (nI n), .int (nI k), .int lo2, .int hi2])), (hB, .inl (dB, 187, .inl mb))] := hD
        have hK : va_K D vwCl [(d, .int), (dB, .int)] s := hK.sub (tys' := [(d, .int), (dB, .int)]) [0, 1] rfl
        refine lv_icmp_eq (tgt := 299) hx hb dL_law_235 (by decide) (fun c_235 => ?_) (fun c_235 => absurd ((work_eq hw1 hw2).1) c_235)
        refine lv_iinc (v := (nI (6 * t + 6))) (lv' := [(3, .int (nI (6 * t + 6))), (0, .ref sc), (1, .ref ho), (2, .ref hM)]) hx hb dL_law_299 hl (k := 3) rfl (nI_add (6 * t) 6) (by decide) rfl (fun ls hl => ?_)
        refine lv_goto (tgt := 18) hx hb dL_law_302 (by decide) ?_
        obtain ⟨-, e5, e6⟩ := work_eq hw1 hw2
        subst e5
        subst e6
        refine W.widen (k := 20 + 7 * (t + 1)) (n := 5000 + 3584 * (t + 1)) (by omega) (by omega) ?_
        exact ih (t + 1) k n N S a mb hR d lo1 hi1 le1 gr1 H locs ls (by omega) (by omega) hok hom hnN hN h1N hk6 hnk hmi hma (hK.sub (tys' := [(d, .int), (dB, .int)]) [0, 1] rfl) (hP.sub (ws' := [(ho, .inr (0, [.ref hT, .ref pA, .int (nI k)])), (pA, .inr (2, [.ref hT, .int lo1, .int hi1, .long le1, .long gr1])), (hT, .inr (1, [.ref hR, .int (nI n)])), (hR, .inl (d, N, .inl a)), (hM, .inr (3, [.ref hB, .int (nI n), .int (nI k), .int lo1, .int hi1])), (hB, .inl (dB, 187, .inl mb))]) [0, 1, 2, 3, 4, 5] rfl) (hD.sub (ws' := [(ho, .inr (0, [.ref hT, .ref pA, .int (nI k)])), (pA, .inr (2, [.ref hT, .int lo1, .int hi1, .long le1, .long gr1])), (hT, .inr (1, [.ref hR, .int (nI n)])), (hR, .inl (d, N, .inl a)), (hM, .inr (3, [.ref hB, .int (nI n), .int (nI k), .int lo1, .int hi1])), (hB, .inl (dB, 187, .inl mb))]) [0, 1, 2, 3, 4, 5] (by decide) rfl) hS (lv_sub hl [1, 2, 3, 0] rfl)
      · refine lv_tableIn (off := 207) (tgt := 240) hx hb dL_law_33 (by decide) (by decide) rfl (by decide) ?_
        refine lv_aload_n hx hb dL_law_240 rfl (lv_at hl 1 rfl) ?_
        refine lv_aload_n hx hb dL_law_241 rfl (lv_at hl 0 rfl) ?_
        refine lv_iload_n hx hb dL_law_242 rfl (lv_at hl 3 rfl) ?_
        refine lv_iconst (v := 1) hx hb dL_law_243 (by decide) ?_
        refine lv_iadd hx hb dL_law_244 ?_
        refine rr_reti (y := (nI (6 * t + 1))) (nI_add (6 * t) 1) ?_
        refine nn_sld hx hb hX hbl hbA hS (i := (6 * t + 1)) (by omega) (by omega) dL_law_245 ?_
        refine lv_aload_n hx hb dL_law_246 rfl (lv_at hl 0 rfl) ?_
        refine lv_iload_n hx hb dL_law_247 rfl (lv_at hl 3 rfl) ?_
        refine lv_iconst (v := 2) hx hb dL_law_248 (by decide) ?_
        refine lv_iadd hx hb dL_law_249 ?_
        refine rr_reti (y := (nI (6 * t + 2))) (nI_add (6 * t) 2) ?_
        refine nn_sld hx hb hX hbl hbA hS (i := (6 * t + 2)) (by omega) (by omega) dL_law_250 ?_
        refine rr_calli (wc := [(ho, .inr (0, [.ref hT, .ref pA, .int (nI k)])), (pA, .inr (2, [.ref hT, .int lo, .int hi, .long le, .long gr])), (hT, .inr (1, [.ref hR, .int (nI n)])), (hR, .inl (d, N, .inl a))]) (wr := [(hM, .inr (3, [.ref hB, .int (nI n), .int (nI k), .int lo, .int hi])), (hB, .inl (dB, 187, .inl mb))]) (va_runV (As := [.int (xs (6 * t + 1)), .int (xs (6 * t + 2))]) (rest := []) ⟨hx, hb, hml, hown, hts⟩ (met_X0_negate l D ho pA lo hi le gr hT hR d N n a k H.size (xs (6 * t + 1)) (xs (6 * t + 2)) hok hnN hN hmi hma) (cwV 2 hts (lw_V q195 q196 q197 q16 q198) rfl rfl rfl (by decide +kernel) ⟨Nat.le_of_ble_eq_true rfl, Nat.le_of_ble_eq_true rfl⟩) ⟨rr_blind, va_recv hK hP (ci := 0) (q0 := 0) rfl rfl, rr_pre (hP.sub (ws' := [(ho, .inr (0, [.ref hT, .ref pA, .int (nI k)])), (pA, .inr (2, [.ref hT, .int lo, .int hi, .long le, .long gr])), (hT, .inr (1, [.ref hR, .int (nI n)])), (hR, .inl (d, N, .inl a))]) [0, 1, 2, 3] rfl) (hK.sub (tys' := [(d, .int)]) [0] rfl) (hD.sub (ws' := [(ho, .inr (0, [.ref hT, .ref pA, .int (nI k)])), (pA, .inr (2, [.ref hT, .int lo, .int hi, .long le, .long gr])), (hT, .inr (1, [.ref hR, .int (nI n)])), (hR, .inl (d, N, .inl a))]) [0, 1, 2, 3] (by decide) rfl)⟩ rfl rfl hl.1 rfl (lv_room (Nat.le_of_ble_eq_true rfl)) dL_law_251 ⟨by show _ ≤ 600000; omega, by show _ ≤ 7302250; omega⟩) hK hP hD hS hA [0, 1, 2, 3] [4, 5] rfl rfl (by decide) (by decide) (fun r1 u_157 H locs hw1 hP hD hK hS => ?_)
        obtain ⟨lo1, hi1⟩ := u_157
        have hP : va_P D vwCl [(hM, .inr (3, [.ref hB, .int (nI n), .int (nI k), .int lo, .int hi])), (hB, .inl (dB, 187, .inl mb)), (ho, .inr (0, [.ref hT, .ref pA, .int (nI k)])), (pA, .inr (2, [.ref hT, .int lo1, .int hi1, .long le, .long gr])), (hT, .inr (1, [.ref hR, .int (nI n)])), (hR, .inl (d, N, .inl a))] H := hP
        have hD : va_D A [(hM, .inr (3, [.ref hB, .int (nI n), .int (nI k), .int lo, .int hi])), (hB, .inl (dB, 187, .inl mb)), (ho, .inr (0, [.ref hT, .ref pA, .int (nI k)])), (pA, .inr (2, [.ref hT, .int lo1, .int hi1, .long le, .long gr])), (hT, .inr (1, [.ref hR, .int (nI n)])), (hR, .inl (d, N, .inl a))] := hD
        have hK : va_K D vwCl [(d, .int), (dB, .int)] s := hK.sub (tys' := [(d, .int), (dB, .int)]) [0, 1] rfl
        refine lv_aload_n hx hb dL_law_254 rfl (lv_at hl 2 rfl) ?_
        refine lv_aload_n hx hb dL_law_255 rfl (lv_at hl 0 rfl) ?_
        refine lv_iload_n hx hb dL_law_256 rfl (lv_at hl 3 rfl) ?_
        refine lv_iconst (v := 1) hx hb dL_law_257 (by decide) ?_
        refine lv_iadd hx hb dL_law_258 ?_
        refine rr_reti (y := (nI (6 * t + 1))) (nI_add (6 * t) 1) ?_
        refine nn_sld hx hb hX hbl hbA hS (i := (6 * t + 1)) (by omega) (by omega) dL_law_259 ?_
        refine lv_aload_n hx hb dL_law_260 rfl (lv_at hl 0 rfl) ?_
        refine lv_iload_n hx hb dL_law_261 rfl (lv_at hl 3 rfl) ?_
        refine lv_iconst (v := 2) hx hb dL_law_262 (by decide) ?_
        refine lv_iadd hx hb dL_law_263 ?_
        refine rr_reti (y := (nI (6 * t + 2))) (nI_add (6 * t) 2) ?_
        refine nn_sld hx hb hX hbl hbA hS (i := (6 * t + 2)) (by omega) (by omega) dL_law_264 ?_
        refine rr_calli (wc := [(hM, .inr (3, [.ref hB, .int (nI n), .int (nI k), .int lo, .int hi])), (hB, .inl (dB, 187, .inl mb))]) (wr := [(ho, .inr (0, [.ref hT, .ref pA, .int (nI k)])), (pA, .inr (2, [.ref hT, .int lo1, .int hi1, .long le, .long gr])), (hT, .inr (1, [.ref hR, .int (nI n)])), (hR, .inl (d, N, .inl a))]) (va_runV (As := [.int (xs (6 * t + 1)), .int (xs (6 * t + 2))]) (rest := [.int r1]) ⟨hx, hb, hml, hown, hts⟩ (met_X3_negate l D hM hB dB mb n (nI k) lo hi H.size (xs (6 * t + 1)) (xs (6 * t + 2)) hom (by omega) hmi hma) (cwV 2 hts (lw_V q268 q269 q270 q22 q271) rfl rfl rfl (by decide +kernel) ⟨Nat.le_of_ble_eq_true rfl, Nat.le_of_ble_eq_true rfl⟩) ⟨rr_blind, va_recv hK hP (ci := 3) (q0 := 0) rfl rfl, rr_pre (hP.sub (ws' := [(hM, .inr (3, [.ref hB, .int (nI n), .int (nI k), .int lo, .int hi])), (hB, .inl (dB, 187, .inl mb))]) [0, 1] rfl) (hK.sub (tys' := [(dB, .int)]) [1] rfl) (hD.sub (ws' := [(hM, .inr (3, [.ref hB, .int (nI n), .int (nI k), .int lo, .int hi])), (hB, .inl (dB, 187, .inl mb))]) [0, 1] (by decide) rfl)⟩ rfl rfl hl.1 rfl (lv_room (Nat.le_of_ble_eq_true rfl)) dL_law_265 ⟨by show _ ≤ 600000; omega, by show _ ≤ 7302250; omega⟩) hK hP hD hS hA [0, 1] [2, 3, 4, 5] rfl rfl (by decide) (by decide) (fun r2 u_158 H locs hw2 hP hD hK hS => ?_)
        obtain ⟨lo2, hi2⟩ := u_158
        have hP : va_P D vwCl [(ho, .inr (0, [.ref hT, .ref pA, .int (nI k)])), (pA, .inr (2, [.ref hT, .int lo1, .int hi1, .long le, .long gr])), (hT, .inr (1, [.ref hR, .int (nI n)])), (hR, .inl (d, N, .inl a)), (hM, .inr (3, [.ref hB, .int (nI n), .int (nI k), .int lo2, .int hi2])), (hB, .inl (dB, 187, .inl mb))] H := hP
        have hD : va_D A [(ho, .inr (0, [.ref hT, .ref pA, .int (nI k)])), (pA, .inr (2, [.ref hT, .int lo1, .int hi1, .long le, .long gr])), (hT, .inr (1, [.ref hR, .int (nI n)])), (hR, .inl (d, N, .inl a)), (hM, .inr (3, [.ref hB, .int (nI n), .int (nI k), .int lo2, .int hi2])), (hB, .inl (dB, 187, .inl mb))] := hD
        have hK : va_K D vwCl [(d, .int), (dB, .int)] s := hK.sub (tys' := [(d, .int), (dB, .int)]) [0, 1] rfl
        refine lv_icmp_eq (tgt := 299) hx hb dL_law_268 (by decide) (fun c_268 => ?_) (fun c_268 => absurd ((neg_eq hw1 hw2).1) c_268)
        refine lv_iinc (v := (nI (6 * t + 6))) (lv' := [(3, .int (nI (6 * t + 6))), (0, .ref sc), (1, .ref ho), (2, .ref hM)]) hx hb dL_law_299 hl (k := 3) rfl (nI_add (6 * t) 6) (by decide) rfl (fun ls hl => ?_)
        refine lv_goto (tgt := 18) hx hb dL_law_302 (by decide) ?_
        obtain ⟨-, e5, e6⟩ := neg_eq hw1 hw2
        subst e5
        subst e6
        refine W.widen (k := 20 + 7 * (t + 1)) (n := 5000 + 3584 * (t + 1)) (by omega) (by omega) ?_
        exact ih (t + 1) k n N S a mb hR d lo1 hi1 le gr H locs ls (by omega) (by omega) hok hom hnN hN h1N hk6 hnk hmi hma (hK.sub (tys' := [(d, .int), (dB, .int)]) [0, 1] rfl) (hP.sub (ws' := [(ho, .inr (0, [.ref hT, .ref pA, .int (nI k)])), (pA, .inr (2, [.ref hT, .int lo1, .int hi1, .long le, .long gr])), (hT, .inr (1, [.ref hR, .int (nI n)])), (hR, .inl (d, N, .inl a)), (hM, .inr (3, [.ref hB, .int (nI n), .int (nI k), .int lo1, .int hi1])), (hB, .inl (dB, 187, .inl mb))]) [0, 1, 2, 3, 4, 5] rfl) (hD.sub (ws' := [(ho, .inr (0, [.ref hT, .ref pA, .int (nI k)])), (pA, .inr (2, [.ref hT, .int lo1, .int hi1, .long le, .long gr])), (hT, .inr (1, [.ref hR, .int (nI n)])), (hR, .inl (d, N, .inl a)), (hM, .inr (3, [.ref hB, .int (nI n), .int (nI k), .int lo1, .int hi1])), (hB, .inl (dB, 187, .inl mb))]) [0, 1, 2, 3, 4, 5] (by decide) rfl) hS (lv_sub hl [1, 2, 3, 0] rfl)
      · refine lv_tableIn (off := 240) (tgt := 273) hx hb dL_law_33 (by decide) (by decide) rfl (by decide) ?_
        refine lv_aload_n hx hb dL_law_273 rfl (lv_at hl 1 rfl) ?_
        refine rr_callo (va_runV (As := []) (rest := []) ⟨hx, hb, hml, hown, hts⟩ (met_X0_low l D ho pA lo hi le gr hT k H.size) (cwV 0 hts (lw_V q203 q204 q205 q16 q206) rfl rfl rfl (by decide +kernel) ⟨Nat.le_of_ble_eq_true rfl, Nat.le_of_ble_eq_true rfl⟩) ⟨rr_blindO, va_recv hK hP (ci := 0) (q0 := 0) rfl rfl, rr_preO (hP.sub (ws' := [(ho, .inr (0, [.ref hT, .ref pA, .int (nI k)])), (pA, .inr (2, [.ref hT, .int lo, .int hi, .long le, .long gr]))]) [0, 1] rfl) (hK.sub (tys' := []) [] rfl)⟩ rfl rfl hl.1 rfl (lv_room (Nat.le_of_ble_eq_true rfl)) dL_law_274 ⟨by show _ ≤ 600000; omega, by show _ ≤ 7302250; omega⟩) hP hS hA (fun r1 H locs hw1 hP hS => ?_)
        refine lv_aload_n hx hb dL_law_277 rfl (lv_at hl 2 rfl) ?_
        refine rr_callo (va_runV (As := []) (rest := [.int r1]) ⟨hx, hb, hml, hown, hts⟩ (met_X3_low l D hM hB dB mb n (nI k) lo hi H.size) (cwV 0 hts (lw_V q311 q312 q313 q22 q314) rfl rfl rfl (by decide +kernel) ⟨Nat.le_of_ble_eq_true rfl, Nat.le_of_ble_eq_true rfl⟩) ⟨rr_blindO, va_recv hK hP (ci := 3) (q0 := 4) rfl rfl, rr_preO (hP.sub (ws' := [(hM, .inr (3, [.ref hB, .int (nI n), .int (nI k), .int lo, .int hi])), (hB, .inl (dB, 187, .inl mb))]) [4, 5] rfl) (hK.sub (tys' := [(dB, .int)]) [1] rfl)⟩ rfl rfl hl.1 rfl (lv_room (Nat.le_of_ble_eq_true rfl)) dL_law_278 ⟨by show _ ≤ 600000; omega, by show _ ≤ 7302250; omega⟩) hP hS hA (fun r2 H locs hw2 hP hS => ?_)
        refine lv_icmp_eq (tgt := 299) hx hb dL_law_281 (by decide) (fun c_281 => ?_) (fun c_281 => absurd (hw1.trans hw2.symm) c_281)
        refine lv_iinc (v := (nI (6 * t + 6))) (lv' := [(3, .int (nI (6 * t + 6))), (0, .ref sc), (1, .ref ho), (2, .ref hM)]) hx hb dL_law_299 hl (k := 3) rfl (nI_add (6 * t) 6) (by decide) rfl (fun ls hl => ?_)
        refine lv_goto (tgt := 18) hx hb dL_law_302 (by decide) ?_
        refine W.widen (k := 20 + 7 * (t + 1)) (n := 5000 + 3584 * (t + 1)) (by omega) (by omega) ?_
        exact ih (t + 1) k n N S a mb hR d lo hi le gr H locs ls (by omega) (by omega) hok hom hnN hN h1N hk6 hnk hmi hma (hK.sub (tys' := [(d, .int), (dB, .int)]) [0, 1] rfl) (hP.sub (ws' := [(ho, .inr (0, [.ref hT, .ref pA, .int (nI k)])), (pA, .inr (2, [.ref hT, .int lo, .int hi, .long le, .long gr])), (hT, .inr (1, [.ref hR, .int (nI n)])), (hR, .inl (d, N, .inl a)), (hM, .inr (3, [.ref hB, .int (nI n), .int (nI k), .int lo, .int hi])), (hB, .inl (dB, 187, .inl mb))]) [0, 1, 2, 3, 4, 5] rfl) (hD.sub (ws' := [(ho, .inr (0, [.ref hT, .ref pA, .int (nI k)])), (pA, .inr (2, [.ref hT, .int lo, .int hi, .long le, .long gr])), (hT, .inr (1, [.ref hR, .int (nI n)])), (hR, .inl (d, N, .inl a)), (hM, .inr (3, [.ref hB, .int (nI n), .int (nI k), .int lo, .int hi])), (hB, .inl (dB, 187, .inl mb))]) [0, 1, 2, 3, 4, 5] (by decide) rfl) hS (lv_sub hl [1, 2, 3, 0] rfl)
      · refine lv_tableIn (off := 253) (tgt := 286) hx hb dL_law_33 (by decide) (by decide) rfl (by decide) ?_
        refine lv_aload_n hx hb dL_law_286 rfl (lv_at hl 1 rfl) ?_
        refine rr_callo (va_runV (As := []) (rest := []) ⟨hx, hb, hml, hown, hts⟩ (met_X0_high l D ho pA lo hi le gr hT k H.size) (cwV 0 hts (lw_V q207 q208 q209 q16 q210) rfl rfl rfl (by decide +kernel) ⟨Nat.le_of_ble_eq_true rfl, Nat.le_of_ble_eq_true rfl⟩) ⟨rr_blindO, va_recv hK hP (ci := 0) (q0 := 0) rfl rfl, rr_preO (hP.sub (ws' := [(ho, .inr (0, [.ref hT, .ref pA, .int (nI k)])), (pA, .inr (2, [.ref hT, .int lo, .int hi, .long le, .long gr]))]) [0, 1] rfl) (hK.sub (tys' := []) [] rfl)⟩ rfl rfl hl.1 rfl (lv_room (Nat.le_of_ble_eq_true rfl)) dL_law_287 ⟨by show _ ≤ 600000; omega, by show _ ≤ 7302250; omega⟩) hP hS hA (fun r1 H locs hw1 hP hS => ?_)
        refine lv_aload_n hx hb dL_law_290 rfl (lv_at hl 2 rfl) ?_
        refine rr_callo (va_runV (As := []) (rest := [.int r1]) ⟨hx, hb, hml, hown, hts⟩ (met_X3_high l D hM hB dB mb n (nI k) lo hi H.size) (cwV 0 hts (lw_V q315 q316 q317 q22 q318) rfl rfl rfl (by decide +kernel) ⟨Nat.le_of_ble_eq_true rfl, Nat.le_of_ble_eq_true rfl⟩) ⟨rr_blindO, va_recv hK hP (ci := 3) (q0 := 4) rfl rfl, rr_preO (hP.sub (ws' := [(hM, .inr (3, [.ref hB, .int (nI n), .int (nI k), .int lo, .int hi])), (hB, .inl (dB, 187, .inl mb))]) [4, 5] rfl) (hK.sub (tys' := [(dB, .int)]) [1] rfl)⟩ rfl rfl hl.1 rfl (lv_room (Nat.le_of_ble_eq_true rfl)) dL_law_291 ⟨by show _ ≤ 600000; omega, by show _ ≤ 7302250; omega⟩) hP hS hA (fun r2 H locs hw2 hP hS => ?_)
        refine lv_icmp_eq (tgt := 299) hx hb dL_law_294 (by decide) (fun c_294 => ?_) (fun c_294 => absurd (hw1.trans hw2.symm) c_294)
        refine lv_iinc (v := (nI (6 * t + 6))) (lv' := [(3, .int (nI (6 * t + 6))), (0, .ref sc), (1, .ref ho), (2, .ref hM)]) hx hb dL_law_299 hl (k := 3) rfl (nI_add (6 * t) 6) (by decide) rfl (fun ls hl => ?_)
        refine lv_goto (tgt := 18) hx hb dL_law_302 (by decide) ?_
        refine W.widen (k := 20 + 7 * (t + 1)) (n := 5000 + 3584 * (t + 1)) (by omega) (by omega) ?_
        exact ih (t + 1) k n N S a mb hR d lo hi le gr H locs ls (by omega) (by omega) hok hom hnN hN h1N hk6 hnk hmi hma (hK.sub (tys' := [(d, .int), (dB, .int)]) [0, 1] rfl) (hP.sub (ws' := [(ho, .inr (0, [.ref hT, .ref pA, .int (nI k)])), (pA, .inr (2, [.ref hT, .int lo, .int hi, .long le, .long gr])), (hT, .inr (1, [.ref hR, .int (nI n)])), (hR, .inl (d, N, .inl a)), (hM, .inr (3, [.ref hB, .int (nI n), .int (nI k), .int lo, .int hi])), (hB, .inl (dB, 187, .inl mb))]) [0, 1, 2, 3, 4, 5] rfl) (hD.sub (ws' := [(ho, .inr (0, [.ref hT, .ref pA, .int (nI k)])), (pA, .inr (2, [.ref hT, .int lo, .int hi, .long le, .long gr])), (hT, .inr (1, [.ref hR, .int (nI n)])), (hR, .inl (d, N, .inl a)), (hM, .inr (3, [.ref hB, .int (nI n), .int (nI k), .int lo, .int hi])), (hB, .inl (dB, 187, .inl mb))]) [0, 1, 2, 3, 4, 5] (by decide) rfl) hS (lv_sub hl [1, 2, 3, 0] rfl)
      · refine lv_tableOut (tgt := 299) hx hb dL_law_33 (Or.inr (by rw [nI_toInt (by omega)]; omega)) (by decide) ?_
        refine lv_iinc (v := (nI (6 * t + 6))) (lv' := [(3, .int (nI (6 * t + 6))), (0, .ref sc), (1, .ref ho), (2, .ref hM)]) hx hb dL_law_299 hl (k := 3) rfl (nI_add (6 * t) 6) (by decide) rfl (fun ls hl => ?_)
        refine lv_goto (tgt := 18) hx hb dL_law_302 (by decide) ?_
        refine W.widen (k := 20 + 7 * (t + 1)) (n := 5000 + 3584 * (t + 1)) (by omega) (by omega) ?_
        exact ih (t + 1) k n N S a mb hR d lo hi le gr H locs ls (by omega) (by omega) hok hom hnN hN h1N hk6 hnk hmi hma (hK.sub (tys' := [(d, .int), (dB, .int)]) [0, 1] rfl) (hP.sub (ws' := [(ho, .inr (0, [.ref hT, .ref pA, .int (nI k)])), (pA, .inr (2, [.ref hT, .int lo, .int hi, .long le, .long gr])), (hT, .inr (1, [.ref hR, .int (nI n)])), (hR, .inl (d, N, .inl a)), (hM, .inr (3, [.ref hB, .int (nI n), .int (nI k), .int lo, .int hi])), (hB, .inl (dB, 187, .inl mb))]) [0, 1, 2, 3, 4, 5] rfl) (hD.sub (ws' := [(ho, .inr (0, [.ref hT, .ref pA, .int (nI k)])), (pA, .inr (2, [.ref hT, .int lo, .int hi, .long le, .long gr])), (hT, .inr (1, [.ref hR, .int (nI n)])), (hR, .inl (d, N, .inl a)), (hM, .inr (3, [.ref hB, .int (nI n), .int (nI k), .int lo, .int hi])), (hB, .inl (dB, 187, .inl mb))]) [0, 1, 2, 3, 4, 5] (by decide) rfl) hS (lv_sub hl [1, 2, 3, 0] rfl)
end
section
set_option maxHeartbeats 4000000 in
set_option maxRecDepth 100000 in
theorem whole_start {p : Program} {e : Env} {s : State} {m : MethodId} {below : List Frame} {meth : Method} {c : Code} (l : Launch) {b L : Nat} {xs : Nat → Int32} (hL : L ≤ 384) (C0 : lw_At p s m meth c b L xs) : W p l e room_1 s m #[Value.ref b] below meth c s.heap [] 0 0 (lw_Z below #[Value.ref b] s) (entryFrame m ([Value.ref b] : List Value).toArray 4) := by
  obtain ⟨hx, hb, hr, hml, hown, hts0, hX, hbl, hlocks, hgv⟩ := id C0
  have hts : ∀ w ∈ lw_all, w.before #[Value.ref b] s = true := fun w h => hts0 w (lw_all_tbl h)
  have hNw : va_Nw (Cond.methodLinkNest RX0 9 yX1_init RX0) s := va_Nw.of rfl (hts0 _ q33)
  obtain ⟨A, hAe⟩ : ∃ A : Nat → Prop, A = fun q : Nat => s.heap.size ≤ q := ⟨_, rfl⟩
  have hA : ∀ q : Nat, s.heap.size ≤ q → A q := fun q h => by rw [hAe]; exact h
  have hAq : ∀ q : Nat, A q → s.heap.size ≤ q := fun q h => by rw [hAe] at h; exact h
  have hbA : ¬ A b := fun h => Nat.not_le.mpr hbl (hAq b h)
  obtain ⟨c0, iS0, hKn0⟩ := u_known (C := RX0) (T := TX0) (N := 3) (n := 3) hts in_X0 (hts _ q24)
  obtain ⟨c1, iS1, hKn1⟩ := u_known (C := RX1) (T := TX1) (N := 2) (n := 2) hts in_X1 (hts _ q32)
  obtain ⟨c2, iS2, hKn2⟩ := u_known (C := RX2) (T := TX2) (N := 5) (n := 5) hts in_X2 (hts _ q47)
  obtain ⟨c3, iS3, hKn3⟩ := u_known (C := RX3) (T := TX3) (N := 5) (n := 5) hts in_X3 (hts _ q212)
  obtain ⟨D, hKc⟩ : ∃ D : va_G, ∀ (k : Nat) (q : vw_C), vwCl[k]? = some q → u_Kn s q.1 q.2.1 q.2.2 (D.1 k) (D.2 k) := by
    refine ⟨(fun k => if k = 0 then c0 else if k = 1 then c1 else if k = 2 then c2 else c3, fun k => if k = 0 then iS0 else if k = 1 then iS1 else if k = 2 then iS2 else iS3), ?_⟩
    intro k q hq
    match k, hq with
    | 0, hq => cases hq; exact hKn0
    | 1, hq => cases hq; exact hKn1
    | 2, hq => cases hq; exact hKn2
    | 3, hq => cases hq; exact hKn3
    | k + 4, hq => simp [vwCl] at hq
  have hS : va_S A s.heap s.heap [] := va_S.rf
  have hK : va_K D vwCl [] s := ⟨hKc, fun k q h => by simp at h⟩
  have hP : va_P D vwCl [] s.heap := fun k q h => by simp at h
  have hD : va_D A [] := ⟨fun i j p q h => by simp at h, fun k q h => by simp at h⟩
  have hl := lv_entry ([.ref b]) (n := 4) (Nat.le_of_ble_eq_true rfl)
  rw [lg_entry_eq]
  generalize (lg_sl ([.ref b]) ++ List.replicate (4 - (lg_sl ([.ref b])).length) Slot.unset).toArray = ls at hl ⊢
  have hl : lv_has ls 4 [(0, .ref b)] := hl
  refine va_new (ci := 0) (fs := [.null, .null, .int 0]) (C := RX0) (T := TX0) (N := 3) hx hb hts in_X0 tyX0 tyX0_ok hown (hts _ q23) (hts _ q24) (hts _ q16) hK hP hD hS hA rfl (fun j hj => by rcases (show j = 0 ∨ j = 1 ∨ j = 2 by omega) with rfl | rfl | rfl <;> rfl) (Nat.le_of_ble_eq_true rfl) (Nat.le_of_ble_eq_true rfl) dL_law_0 (fun qo_159 H hP hD hS => ?_)
  have hP : va_P D vwCl [(qo_159, .inr (0, [.null, .null, .int 0]))] H := hP
  have hD : va_D A [(qo_159, .inr (0, [.null, .null, .int 0]))] := hD
  refine lv_dup hx hb dL_law_3 rfl ?_
  refine rr_callv (wc := [(qo_159, .inr (0, [.null, .null, .int 0]))]) (wr := []) (va_runI (As := []) (rest := [.ref qo_159]) ⟨hx, hb, hml, hown, hts⟩ (met_X0_init l D qo_159 H.size) (cwI 0 hts (lw_meth q27) rfl rfl rfl (hts _ q16) (hts _ q25) (hts _ q26) rfl (by decide +kernel) ⟨Nat.le_of_ble_eq_true rfl, Nat.le_of_ble_eq_true rfl⟩) ⟨rr_blindN, rr_preN (hP.sub (ws' := [(qo_159, .inr (0, [.null, .null, .int 0]))]) [0] rfl) (hK.sub (tys' := []) [] rfl) (hD.sub (ws' := [(qo_159, .inr (0, [.null, .null, .int 0]))]) [0] (by decide) rfl) hNw⟩ rfl rfl hl.1 rfl (lv_room (Nat.le_of_ble_eq_true rfl)) dL_law_4 ⟨Nat.le_of_ble_eq_true rfl, Nat.le_of_ble_eq_true rfl⟩) hK hP hD hS hA [0] [] rfl rfl (by decide) (by decide) (fun u_160 H locs hw1 hP hD hK hS => ?_)
  obtain ⟨hT, pA, hR, d, N, a⟩ := u_160
  have hP : va_P D vwCl [(qo_159, .inr (0, [.ref hT, .ref pA, .int (nI 0)])), (pA, .inr (2, [.ref hT, .int 0, .int 0, .long 0, .long 0])), (hT, .inr (1, [.ref hR, .int (nI 7)])), (hR, .inl (d, N, .inl a))] H := hP
  have hD : va_D A [(qo_159, .inr (0, [.ref hT, .ref pA, .int (nI 0)])), (pA, .inr (2, [.ref hT, .int 0, .int 0, .long 0, .long 0])), (hT, .inr (1, [.ref hR, .int (nI 7)])), (hR, .inl (d, N, .inl a))] := hD
  have hK : va_K D vwCl [(d, .int)] s := hK.sub (tys' := [(d, .int)]) [0] rfl
  have hw1 : T_ok sB7 7 a ∧ 7 ≤ N ∧ N ≤ 512 := hw1
  refine lv_astore_n (lv' := [(1, .ref qo_159), (0, .ref b)]) hx hb dL_law_7 rfl hl (by decide) rfl (fun ls hl => ?_)
  refine va_new (ci := 3) (fs := [.null, .int 0, .int 0, .int 0, .int 0]) (C := RX3) (T := TX3) (N := 5) hx hb hts in_X3 tyX3 tyX3_ok hown (hts _ q211) (hts _ q212) (hts _ q22) hK hP hD hS hA rfl (fun j hj => by rcases (show j = 0 ∨ j = 1 ∨ j = 2 ∨ j = 3 ∨ j = 4 by omega) with rfl | rfl | rfl | rfl | rfl <;> rfl) (Nat.le_of_ble_eq_true rfl) (Nat.le_of_ble_eq_true rfl) dL_law_8 (fun qo_161 H hP hD hS => ?_)
  have hP : va_P D vwCl [(qo_159, .inr (0, [.ref hT, .ref pA, .int (nI 0)])), (pA, .inr (2, [.ref hT, .int 0, .int 0, .long 0, .long 0])), (hT, .inr (1, [.ref hR, .int (nI 7)])), (hR, .inl (d, N, .inl a)), (qo_161, .inr (3, [.null, .int 0, .int 0, .int 0, .int 0]))] H := hP
  have hD : va_D A [(qo_159, .inr (0, [.ref hT, .ref pA, .int (nI 0)])), (pA, .inr (2, [.ref hT, .int 0, .int 0, .long 0, .long 0])), (hT, .inr (1, [.ref hR, .int (nI 7)])), (hR, .inl (d, N, .inl a)), (qo_161, .inr (3, [.null, .int 0, .int 0, .int 0, .int 0]))] := hD
  refine lv_dup hx hb dL_law_11 rfl ?_
  refine rr_callv (wc := [(qo_161, .inr (3, [.null, .int 0, .int 0, .int 0, .int 0]))]) (wr := [(qo_159, .inr (0, [.ref hT, .ref pA, .int (nI 0)])), (pA, .inr (2, [.ref hT, .int 0, .int 0, .long 0, .long 0])), (hT, .inr (1, [.ref hR, .int (nI 7)])), (hR, .inl (d, N, .inl a))]) (va_runI (As := []) (rest := [.ref qo_161]) ⟨hx, hb, hml, hown, hts⟩ (met_X3_init l D qo_161 H.size) (cwI 0 hts (lw_meth q215) rfl rfl rfl (hts _ q22) (hts _ q213) (hts _ q214) rfl (by decide +kernel) ⟨Nat.le_of_ble_eq_true rfl, Nat.le_of_ble_eq_true rfl⟩) ⟨rr_blind, rr_pre (hP.sub (ws' := [(qo_161, .inr (3, [.null, .int 0, .int 0, .int 0, .int 0]))]) [4] rfl) (hK.sub (tys' := []) [] rfl) (hD.sub (ws' := [(qo_161, .inr (3, [.null, .int 0, .int 0, .int 0, .int 0]))]) [4] (by decide) rfl)⟩ rfl rfl hl.1 rfl (lv_room (Nat.le_of_ble_eq_true rfl)) dL_law_12 ⟨Nat.le_of_ble_eq_true rfl, Nat.le_of_ble_eq_true rfl⟩) hK hP hD hS hA [4] [0, 1, 2, 3] rfl rfl (by decide) (by decide) (fun u_162 H locs hw2 hP hD hK hS => ?_)
  obtain ⟨hB, dB, mb⟩ := u_162
  have hP : va_P D vwCl [(qo_159, .inr (0, [.ref hT, .ref pA, .int (nI 0)])), (pA, .inr (2, [.ref hT, .int 0, .int 0, .long 0, .long 0])), (hT, .inr (1, [.ref hR, .int (nI 7)])), (hR, .inl (d, N, .inl a)), (qo_161, .inr (3, [.ref hB, .int (nI 7), .int (nI 0), .int 0, .int 0])), (hB, .inl (dB, 187, .inl mb))] H := hP
  have hD : va_D A [(qo_159, .inr (0, [.ref hT, .ref pA, .int (nI 0)])), (pA, .inr (2, [.ref hT, .int 0, .int 0, .long 0, .long 0])), (hT, .inr (1, [.ref hR, .int (nI 7)])), (hR, .inl (d, N, .inl a)), (qo_161, .inr (3, [.ref hB, .int (nI 7), .int (nI 0), .int 0, .int 0])), (hB, .inl (dB, 187, .inl mb))] := hD
  have hK : va_K D vwCl [(d, .int), (dB, .int)] s := hK.sub (tys' := [(d, .int), (dB, .int)]) [0, 1] rfl
  have hw2 : M_ok sB7 7 mb := hw2
  refine lv_astore_n (lv' := [(2, .ref qo_161), (1, .ref qo_159), (0, .ref b)]) hx hb dL_law_15 rfl hl (by decide) rfl (fun ls hl => ?_)
  refine lv_iconst (v := 0) hx hb dL_law_16 (by decide) ?_
  refine rr_reti (y := (nI (6 * 0))) (rfl) ?_
  refine lv_istore_n (lv' := [(3, .int (nI (6 * 0))), (2, .ref qo_161), (1, .ref qo_159), (0, .ref b)]) hx hb dL_law_17 rfl hl (by decide) rfl (fun ls hl => ?_)
  refine W.widen (k := 20 + 7 * 0) (n := 5000 + 3584 * 0) (by omega) (by omega) ?_
  exact law_loop hL hx hb hr hlocks hml hown hts hX hbl hA hAq hbA 65 0 0 7 N sB7 a mb hR d 0 0 0 0 H locs ls rfl (Nat.zero_le _) hw1.1 hw2 hw1.2.1 hw1.2.2 (Nat.le_trans (by decide) hw1.2.1) (by decide) (by decide) sB_min sB_max (hK.sub (tys' := [(d, .int), (dB, .int)]) [0, 1] rfl) (hP.sub (ws' := [(qo_159, .inr (0, [.ref hT, .ref pA, .int (nI 0)])), (pA, .inr (2, [.ref hT, .int 0, .int 0, .long 0, .long 0])), (hT, .inr (1, [.ref hR, .int (nI 7)])), (hR, .inl (d, N, .inl a)), (qo_161, .inr (3, [.ref hB, .int (nI 7), .int (nI 0), .int 0, .int 0])), (hB, .inl (dB, 187, .inl mb))]) [0, 1, 2, 3, 4, 5] rfl) (hD.sub (ws' := [(qo_159, .inr (0, [.ref hT, .ref pA, .int (nI 0)])), (pA, .inr (2, [.ref hT, .int 0, .int 0, .long 0, .long 0])), (hT, .inr (1, [.ref hR, .int (nI 7)])), (hR, .inl (d, N, .inl a)), (qo_161, .inr (3, [.ref hB, .int (nI 7), .int (nI 0), .int 0, .int 0])), (hB, .inl (dB, 187, .inl mb))]) [0, 1, 2, 3, 4, 5] (by decide) rfl) hS (lv_sub hl [3, 2, 1, 0] rfl)
end
section
set_option maxHeartbeats 4000000 in
theorem lw_walk (l : Launch) (b : Addr) (xs : List Int32) : MetFree l x (headSpec (Jvm.Cond.code x code maxLocals ret :: tables_1) room_1) (lw_P b xs) (fun _ _ _ _ _ => True) lw_Q := by
  refine MetFree.of_bodyS (code := code) (maxLocals := maxLocals) (ret := ret) (by decide) ?_ ?_
  · intro args s m h hn
    obtain ⟨meth, c, h1, h2, h3, h4, h5, h6, -, -⟩ := Cond.code_spec hn (atoms_spec (ws := Jvm.Cond.code x code maxLocals ret :: tables_1) h _ List.mem_cons_self)
    exact ⟨meth, c, h1, h2, h3, h4, h5, h6⟩
  · intro p e s m args below meth c s₁ B hml0 hP _
    obtain ⟨rfl, hx, hbd, hgv⟩ := hP
    obtain ⟨scr, harrAt, hlist, hof, hsmall⟩ := hx
    obtain ⟨hcb, hkn, -, -⟩ := State.arrayAt?_spec harrAt
    have hown : s.vm.findClass R_law = some m.cls := findClass_of_methodNamed B.named
    have hts0 : ∀ c ∈ (Jvm.Cond.code x code maxLocals ret :: tables_1), c.before #[Value.ref b] s = true := atoms_spec (ws := Jvm.Cond.code x code maxLocals ret :: tables_1) B.pre
    have hts : ∀ w ∈ lw_tbl, w.before #[Value.ref b] s = true := k2_hts_sels lw_privs (fun w hw => hts0 w (List.mem_cons_of_mem _ hw)) lw_privs_ok
    have hml : c.maxLocals = 4 := B.maxLocals_eq (hts0 _ List.mem_cons_self)
    have X₀ : Stand p l e room_1 s m #[Value.ref b] below meth c s₁ [] 0 0 := Stand.of_body B
    have hh0 : s₁.heap = s.heap := by rw [B.state]; rfl
    have hsz : scr.slots.size = xs.length := by rw [← Array.length_toList, hlist, List.length_map]
    have hval : ∀ j : Nat, j < xs.length → scr.slots[j]? = some (.int (xs.getD j 0)) := fun j hj => by
      rw [← Array.getElem?_toList, hlist]
      simp [hj]
    have hbl : b < s.heap.size := (Array.getElem?_eq_some_iff.mp hcb).1
    have hX : va_X b xs.length (fun j => xs.getD j 0) s s.heap := ⟨scr, hcb, hof, hkn, hsz, hval⟩
    have K : W p l e room_1 s m #[Value.ref b] below meth c s₁.heap [] 0 0 (lw_Z below #[Value.ref b] s) (entryFrame m ([Value.ref b] : List Value).toArray 4) := by
      rw [hh0]
      exact whole_start l hbd ⟨B.exec, B.bytes, B.returns, hml, hown, hts, hX, hbl, B.notSynchronized, hgv⟩
    obtain ⟨t, a1, o, b1, b2, b3⟩ := K s₁ rfl X₀
    exact ⟨t, o, a1, b1, b2, b3⟩
theorem lw_pre_spec {args : Array Value} {s : State} (h : (Jvm.Cond.and given_1 narrow_1).before args s = true) (hr : rest_1_c.before args s = true) : ∃ (b : Addr) (xs : List Int32), lw_P b xs args s := by
  have hs := flat_of_before _ h
  have hq := flat_of_before _ hr
  have hc : (Cond.count 1).before args s = true := hs _ (by decide +kernel)
  have harr : (Cond.arrayOf (.arg 0) .int).before args s = true := hs _ (by decide +kernel)
  have hle : (Cond.le (.length (.arg 0)) (.int 384)).before args s = true := hs _ (by decide +kernel)
  have hlen : (Cond.isInt (.length (.arg 0))).before args s = true := hq _ (by decide +kernel)
  have hall : (Cond.all (.arg 0) (.isInt (.elem (.arg 0) (.index 0)))).before args s = true := hq _ (by decide +kernel)
  obtain ⟨b, xs, hb, hx⟩ := State.ints_of_pre rfl harr hlen hall
  have hsm : xs.length < 2 ^ 31 := hx.choose_spec.2.2.2
  have hev : (Term.length (.arg 0)).eval args s none [] s = some (.int xs.length.toInt32) := hx.length_eval hb
  have hv := Cond.le_ints hev (show (Term.int 384).eval args s none [] s = some (.int 384) from rfl)
  have hd : xs.length.toInt32 ≤ 384 := by
    simpa [Cond.before, Cond.holds, hv] using hle
  have hN : xs.length ≤ 384 := (Int32.ofNat_le_ofNat hsm (by decide)).mp (show Int32.ofNat xs.length ≤ Int32.ofNat 384 from hd)
  exact ⟨b, xs, Cond.one_arg hc (show args[0]? = some (.ref b) from hb), hx, hN, h⟩
theorem lw_comes (l : Launch) : Comes l x (Jvm.Cond.code x code maxLocals ret :: tables_1) room_1 (fun tb e args s => Calls_1 tb e args s ∧ rest_1 tb e args s ∧ Pre_1 tb e args s)
    (fun _ _ args s o t => lw_Q args s o t) := by
  intro p e ha hc hk s m args below hf hfit hheap happ hpre
  obtain ⟨b, xs, hP⟩ := lw_pre_spec hpre.2.2 hpre.2.1
  obtain ⟨k, o, h1, h2, h3, hQ⟩ := lw_walk l b xs p e ha hc hk s m args below hf ((Spec.applies_iff_loose hf).mp happ).1 hP trivial
  exact ⟨k, o, h1, h2, h3, hQ⟩
theorem lw_frame {s t : State} {o : Outcome} {args : Array Value} (h : Framed s o t [] 600000 7302250) :
    Framed s o t (fieldLocs frame_1_writes args s ++ arrayLocs frame_1_arrays args s ++ staticLocs frame_1_statics s) 600000 7302250 := h
theorem lw_limb (L : Cond) (hL : ∀ (args : Array Value) (s t : State), L.after args s (.returned (some (.int 1))) t = true) :
    ArmFor flags0 classFile x code maxLocals ret World_1 tables_1 room_1 Calls_1 rest_1 Pre_1
      (fun tb e a s o t => postC L tb e a s o t ∧ Framed s o t (fieldLocs frame_1_writes a s ++ arrayLocs frame_1_arrays a s ++ staticLocs frame_1_statics s) 600000 7302250) := by
  intro l _ _ _ p e ha hc hk s m args below hf hfit hheap happ hpre
  obtain ⟨k, o, h1, h2, h3, rfl, hF⟩ := lw_comes l p e ha hc hk s m args below hf hfit hheap happ hpre
  exact ⟨k, _, h1, h2, h3, hL args s _, lw_frame hF⟩
theorem i_vc : Claimed_1_1 ∧ Claimed_1_2 := ⟨lw_limb limb_1_1 (fun args s t => by simp [limb_1_1, Cond.after, Cond.holds, Cond.value]), lw_limb limb_1_2 (fun args s t => Cond.after_iff.mpr (by
  first | (rw [show limb_1_2 = Cond.eq .result (.int 1) from rfl, Cond.eq_ints (x := 1) (y := 1) rfl rfl]; simp; done) | (simp [limb_1_2, Cond.value, Term.eval]; done)))⟩
end
