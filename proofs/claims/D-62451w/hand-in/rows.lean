section
-- ===== PART A: goes FIRST, ahead of the names: the tables' words, and 'selects' of the private methods out of them =====
/-- a private method of a class that the tables say can be made, by its rows of tables_1 -/
def lw_okq (q : MethodName × Nat) : Prop := (q.1.cls ≠ "java/lang/invoke/MethodHandle" ∧ q.1.cls ≠ "java/lang/invoke/VarHandle") ∧ Cond.instantiable q.1.cls q.2 ∈ tables_1 ∧ Cond.privateMethod q.1 ∈ tables_1 ∧ Cond.instanceMethod q.1 ∈ tables_1
set_option maxRecDepth 100000
theorem lw_t1 {w : Cond} (h : w ∈ tables_1_1) : w ∈ tables_1 := List.mem_append_left _ h
theorem lw_t2 {w : Cond} (h : w ∈ tables_1_2) : w ∈ tables_1 := List.mem_append_right _ h
theorem lw_p0 : lw_okq (⟨"CreditNetwork", "copyFree", "()V"⟩, 13) := ⟨⟨by decide +kernel, by decide +kernel⟩, lw_t1 (List.mem_of_getElem? (i := 4) rfl), lw_t1 (List.mem_of_getElem? (i := 67) rfl), lw_t1 (List.mem_of_getElem? (i := 68) rfl)⟩
theorem lw_p1 : lw_okq (⟨"CreditNetwork", "send", "(III)I"⟩, 13) := ⟨⟨by decide +kernel, by decide +kernel⟩, lw_t1 (List.mem_of_getElem? (i := 4) rfl), lw_t1 (List.mem_of_getElem? (i := 71) rfl), lw_t1 (List.mem_of_getElem? (i := 72) rfl)⟩
theorem lw_p2 : lw_okq (⟨"CreditNetwork", "findWay", "(II)Z"⟩, 13) := ⟨⟨by decide +kernel, by decide +kernel⟩, lw_t1 (List.mem_of_getElem? (i := 4) rfl), lw_t1 (List.mem_of_getElem? (i := 75) rfl), lw_t1 (List.mem_of_getElem? (i := 76) rfl)⟩
theorem lw_p3 : lw_okq (⟨"CreditNetwork", "narrowest", "(II)I"⟩, 13) := ⟨⟨by decide +kernel, by decide +kernel⟩, lw_t1 (List.mem_of_getElem? (i := 4) rfl), lw_t1 (List.mem_of_getElem? (i := 80) rfl), lw_t1 (List.mem_of_getElem? (i := 81) rfl)⟩
theorem lw_p4 : lw_okq (⟨"CreditNetwork", "push", "(III)V"⟩, 13) := ⟨⟨by decide +kernel, by decide +kernel⟩, lw_t1 (List.mem_of_getElem? (i := 4) rfl), lw_t1 (List.mem_of_getElem? (i := 85) rfl), lw_t1 (List.mem_of_getElem? (i := 86) rfl)⟩
theorem lw_p5 : lw_okq (⟨"CreditNetwork", "keepWork", "()V"⟩, 13) := ⟨⟨by decide +kernel, by decide +kernel⟩, lw_t1 (List.mem_of_getElem? (i := 4) rfl), lw_t1 (List.mem_of_getElem? (i := 89) rfl), lw_t1 (List.mem_of_getElem? (i := 90) rfl)⟩
theorem lw_p6 : lw_okq (⟨"CreditNetwork", "roundAbout", "(II)I"⟩, 13) := ⟨⟨by decide +kernel, by decide +kernel⟩, lw_t1 (List.mem_of_getElem? (i := 4) rfl), lw_t1 (List.mem_of_getElem? (i := 130) rfl), lw_t1 (List.mem_of_getElem? (i := 131) rfl)⟩
theorem lw_p7 : lw_okq (⟨"CreditNetwork", "debt", "(II)I"⟩, 13) := ⟨⟨by decide +kernel, by decide +kernel⟩, lw_t1 (List.mem_of_getElem? (i := 4) rfl), lw_t1 (List.mem_of_getElem? (i := 134) rfl), lw_t1 (List.mem_of_getElem? (i := 135) rfl)⟩
theorem lw_p8 : lw_okq (⟨"CreditNetwork", "findCheapest", "()Z"⟩, 13) := ⟨⟨by decide +kernel, by decide +kernel⟩, lw_t1 (List.mem_of_getElem? (i := 4) rfl), lw_t1 (List.mem_of_getElem? (i := 146) rfl), lw_t1 (List.mem_of_getElem? (i := 147) rfl)⟩
theorem lw_p9 : lw_okq (⟨"CreditNetwork", "relax", "(II)V"⟩, 13) := ⟨⟨by decide +kernel, by decide +kernel⟩, lw_t1 (List.mem_of_getElem? (i := 4) rfl), lw_t1 (List.mem_of_getElem? (i := 150) rfl), lw_t1 (List.mem_of_getElem? (i := 151) rfl)⟩
theorem lw_p10 : lw_okq (⟨"CreditNetwork", "costOf", "(II)I"⟩, 13) := ⟨⟨by decide +kernel, by decide +kernel⟩, lw_t1 (List.mem_of_getElem? (i := 4) rfl), lw_t1 (List.mem_of_getElem? (i := 154) rfl), lw_t1 (List.mem_of_getElem? (i := 155) rfl)⟩
theorem lw_p11 : lw_okq (⟨"CreditNetwork", "narrowestOwed", "(I)I"⟩, 13) := ⟨⟨by decide +kernel, by decide +kernel⟩, lw_t1 (List.mem_of_getElem? (i := 4) rfl), lw_t1 (List.mem_of_getElem? (i := 158) rfl), lw_t1 (List.mem_of_getElem? (i := 159) rfl)⟩
theorem lw_p12 : lw_okq (⟨"CreditNetwork", "sendOne", "(III)V"⟩, 13) := ⟨⟨by decide +kernel, by decide +kernel⟩, lw_t1 (List.mem_of_getElem? (i := 4) rfl), lw_t1 (List.mem_of_getElem? (i := 162) rfl), lw_t1 (List.mem_of_getElem? (i := 163) rfl)⟩
theorem lw_p13 : lw_okq (⟨"CreditNetworkModel", "isPair", "(II)Z"⟩, 10) := ⟨⟨by decide +kernel, by decide +kernel⟩, lw_t1 (List.mem_of_getElem? (i := 171) rfl), lw_t1 (List.mem_of_getElem? (i := 212) rfl), lw_t1 (List.mem_of_getElem? (i := 213) rfl)⟩
theorem lw_p14 : lw_okq (⟨"CreditNetworkModel", "isPossible", "()Z"⟩, 10) := ⟨⟨by decide +kernel, by decide +kernel⟩, lw_t1 (List.mem_of_getElem? (i := 171) rfl), lw_t1 (List.mem_of_getElem? (i := 220) rfl), lw_t1 (List.mem_of_getElem? (i := 221) rfl)⟩
theorem lw_p15 : lw_okq (⟨"CreditNetworkModel", "slack", "(I)I"⟩, 10) := ⟨⟨by decide +kernel, by decide +kernel⟩, lw_t1 (List.mem_of_getElem? (i := 171) rfl), lw_t1 (List.mem_of_getElem? (i := 224) rfl), lw_t1 (List.mem_of_getElem? (i := 225) rfl)⟩
def lw_privs_1 : List (MethodName × Nat) := [(⟨"CreditNetwork", "copyFree", "()V"⟩, 13), (⟨"CreditNetwork", "send", "(III)I"⟩, 13), (⟨"CreditNetwork", "findWay", "(II)Z"⟩, 13), (⟨"CreditNetwork", "narrowest", "(II)I"⟩, 13), (⟨"CreditNetwork", "push", "(III)V"⟩, 13), (⟨"CreditNetwork", "keepWork", "()V"⟩, 13), (⟨"CreditNetwork", "roundAbout", "(II)I"⟩, 13), (⟨"CreditNetwork", "debt", "(II)I"⟩, 13), (⟨"CreditNetwork", "findCheapest", "()Z"⟩, 13), (⟨"CreditNetwork", "relax", "(II)V"⟩, 13), (⟨"CreditNetwork", "costOf", "(II)I"⟩, 13), (⟨"CreditNetwork", "narrowestOwed", "(I)I"⟩, 13), (⟨"CreditNetwork", "sendOne", "(III)V"⟩, 13), (⟨"CreditNetworkModel", "isPair", "(II)Z"⟩, 10), (⟨"CreditNetworkModel", "isPossible", "()Z"⟩, 10), (⟨"CreditNetworkModel", "slack", "(I)I"⟩, 10)]
theorem lw_r1 : ∀ q ∈ lw_privs_1, lw_okq q := List.forall_mem_cons.mpr ⟨lw_p0, List.forall_mem_cons.mpr ⟨lw_p1, List.forall_mem_cons.mpr ⟨lw_p2, List.forall_mem_cons.mpr ⟨lw_p3, List.forall_mem_cons.mpr ⟨lw_p4, List.forall_mem_cons.mpr ⟨lw_p5, List.forall_mem_cons.mpr ⟨lw_p6, List.forall_mem_cons.mpr ⟨lw_p7, List.forall_mem_cons.mpr ⟨lw_p8, List.forall_mem_cons.mpr ⟨lw_p9, List.forall_mem_cons.mpr ⟨lw_p10, List.forall_mem_cons.mpr ⟨lw_p11, List.forall_mem_cons.mpr ⟨lw_p12, List.forall_mem_cons.mpr ⟨lw_p13, List.forall_mem_cons.mpr ⟨lw_p14, List.forall_mem_cons.mpr ⟨lw_p15, fun _ h => absurd h List.not_mem_nil⟩⟩⟩⟩⟩⟩⟩⟩⟩⟩⟩⟩⟩⟩⟩⟩
theorem lw_p16 : lw_okq (⟨"CreditNetworkModel", "in", "(II)Z"⟩, 10) := ⟨⟨by decide +kernel, by decide +kernel⟩, lw_t1 (List.mem_of_getElem? (i := 171) rfl), lw_t1 (List.mem_of_getElem? (i := 228) rfl), lw_t1 (List.mem_of_getElem? (i := 229) rfl)⟩
theorem lw_p17 : lw_okq (⟨"CreditNetworkModel", "leastSlack", "(II)I"⟩, 10) := ⟨⟨by decide +kernel, by decide +kernel⟩, lw_t1 (List.mem_of_getElem? (i := 171) rfl), lw_t1 (List.mem_of_getElem? (i := 236) rfl), lw_t1 (List.mem_of_getElem? (i := 237) rfl)⟩
theorem lw_p18 : lw_okq (⟨"CreditNetworkModel", "payAll", "(I)V"⟩, 10) := ⟨⟨by decide +kernel, by decide +kernel⟩, lw_t1 (List.mem_of_getElem? (i := 171) rfl), lw_t2 (List.mem_of_getElem? (i := 8) rfl), lw_t2 (List.mem_of_getElem? (i := 9) rfl)⟩
theorem lw_p19 : lw_okq (⟨"CreditNetworkModel", "findWays", "()V"⟩, 10) := ⟨⟨by decide +kernel, by decide +kernel⟩, lw_t1 (List.mem_of_getElem? (i := 171) rfl), lw_t2 (List.mem_of_getElem? (i := 45) rfl), lw_t2 (List.mem_of_getElem? (i := 46) rfl)⟩
theorem lw_p20 : lw_okq (⟨"CreditNetworkModel", "room", "(II)I"⟩, 10) := ⟨⟨by decide +kernel, by decide +kernel⟩, lw_t1 (List.mem_of_getElem? (i := 171) rfl), lw_t2 (List.mem_of_getElem? (i := 49) rfl), lw_t2 (List.mem_of_getElem? (i := 50) rfl)⟩
theorem lw_p21 : lw_okq (⟨"CreditNetworkModel", "cheapest", "()I"⟩, 10) := ⟨⟨by decide +kernel, by decide +kernel⟩, lw_t1 (List.mem_of_getElem? (i := 171) rfl), lw_t2 (List.mem_of_getElem? (i := 53) rfl), lw_t2 (List.mem_of_getElem? (i := 54) rfl)⟩
theorem lw_p22 : lw_okq (⟨"CreditNetworkModel", "widthTo", "(I)I"⟩, 10) := ⟨⟨by decide +kernel, by decide +kernel⟩, lw_t1 (List.mem_of_getElem? (i := 171) rfl), lw_t2 (List.mem_of_getElem? (i := 57) rfl), lw_t2 (List.mem_of_getElem? (i := 58) rfl)⟩
theorem lw_p23 : lw_okq (⟨"CreditNetworkModel", "sendTo", "(II)V"⟩, 10) := ⟨⟨by decide +kernel, by decide +kernel⟩, lw_t1 (List.mem_of_getElem? (i := 171) rfl), lw_t2 (List.mem_of_getElem? (i := 61) rfl), lw_t2 (List.mem_of_getElem? (i := 62) rfl)⟩
def lw_privs_2 : List (MethodName × Nat) := [(⟨"CreditNetworkModel", "in", "(II)Z"⟩, 10), (⟨"CreditNetworkModel", "leastSlack", "(II)I"⟩, 10), (⟨"CreditNetworkModel", "payAll", "(I)V"⟩, 10), (⟨"CreditNetworkModel", "findWays", "()V"⟩, 10), (⟨"CreditNetworkModel", "room", "(II)I"⟩, 10), (⟨"CreditNetworkModel", "cheapest", "()I"⟩, 10), (⟨"CreditNetworkModel", "widthTo", "(I)I"⟩, 10), (⟨"CreditNetworkModel", "sendTo", "(II)V"⟩, 10)]
theorem lw_r2 : ∀ q ∈ lw_privs_2, lw_okq q := List.forall_mem_cons.mpr ⟨lw_p16, List.forall_mem_cons.mpr ⟨lw_p17, List.forall_mem_cons.mpr ⟨lw_p18, List.forall_mem_cons.mpr ⟨lw_p19, List.forall_mem_cons.mpr ⟨lw_p20, List.forall_mem_cons.mpr ⟨lw_p21, List.forall_mem_cons.mpr ⟨lw_p22, List.forall_mem_cons.mpr ⟨lw_p23, fun _ h => absurd h List.not_mem_nil⟩⟩⟩⟩⟩⟩⟩⟩
def lw_privs : List (MethodName × Nat) := lw_privs_1 ++ (lw_privs_2)
def lw_tbl : List Cond := k2_sels lw_privs ++ tables_1
theorem lw_privs_ok : ∀ q ∈ lw_privs, lw_okq q := by
  show ∀ q ∈ lw_privs_1 ++ (lw_privs_2), lw_okq q
  exact List.forall_mem_append.mpr ⟨lw_r1, lw_r2⟩
-- ===== ONE list of words for every method: the tables' words that hold all through a run =====
def lw_all : List Cond := lw_tbl.filter goodWord
/-- a word of the tables by its place: claim/WORDS.tsv -/
theorem lw_w {w : Cond} (i : Nat) (h : lw_tbl[i]? = some w) (g : goodWord w = true) : w ∈ lw_all := List.mem_filter.mpr ⟨List.mem_of_getElem? h, g⟩
theorem lw_all_tbl {w : Cond} (h : w ∈ lw_all) : w ∈ lw_tbl := (List.mem_filter.mp h).1
theorem lw_self : GoodIn lw_all lw_all := fun w h => ⟨h, good_of_word (List.mem_filter.mp h).2⟩
/-- a class's field words, by their places -/
theorem lw_in (ws : List Cond) (ps : List Nat) (hp : ws = ps.filterMap (fun i => lw_tbl[i]?)) (hg : ws.all goodWord = true) : ∀ w ∈ ws, w ∈ lw_all := by
  intro w h
  have h1 := List.all_eq_true.mp hg w h
  rw [hp] at h
  obtain ⟨i, -, hi⟩ := List.mem_filterMap.mp h
  exact lw_w i hi h1
/-- the words of a contract for the method y with code b, L locals, answer r -/
abbrev ws_ (y : MethodName) (b : ByteArray) (L : Nat) (r : Option FieldType) : List Cond := Cond.code y b L r :: lw_all
theorem lw_meth {y : MethodName} {b : ByteArray} {L : Nat} {r : Option FieldType} (h : Cond.code y b L r ∈ lw_all) : GoodIn lw_all (ws_ y b L r) := by
  intro w hw
  rcases List.mem_cons.mp hw with e | e
  · rw [e]
    exact lw_self _ h
  · exact lw_self _ e
theorem lw_app {a c : List Cond} (ha : ∀ w ∈ a, w ∈ lw_all) (hc : GoodIn lw_all c) : GoodIn lw_all (a ++ c) := by
  intro w hw
  rcases List.mem_append.mp hw with e | e
  · exact lw_self w (ha w e)
  · exact hc w e
/-- what a call through an object asks: cwV n hts (lw_V ..) -/
theorem lw_V {own : String} {idx : Nat} {C : String} {y : MethodName} {b : ByteArray} {L : Nat} {r : Option FieldType} (h1 : Cond.methodLink own idx y ∈ lw_all) (h2 : Cond.instanceMethod y ∈ lw_all) (h3 : Cond.selects C y y ∈ lw_all) (h4 : Cond.initialized C ∈ lw_all) (h5 : Cond.code y b L r ∈ lw_all) : GoodIn lw_all (wsV own idx C y (ws_ y b L r)) := by
  refine lw_app ?_ (lw_meth h5)
  intro w hw
  simp only [List.mem_cons, List.not_mem_nil, or_false] at hw
  rcases hw with e | e | e | e
  · rw [e]; exact h1
  · rw [e]; exact h2
  · rw [e]; exact h3
  · rw [e]; exact h4
/-- what a static call asks: va_cwS n hts (lw_S ..) -/
theorem lw_S {own : String} {idx : Nat} {y : MethodName} {b : ByteArray} {L : Nat} {r : Option FieldType} (h1 : Cond.methodLink own idx y ∈ lw_all) (h2 : Cond.static y ∈ lw_all) (h3 : Cond.initialized y.cls ∈ lw_all) (h4 : Cond.code y b L r ∈ lw_all) : GoodIn lw_all (va_wsS own idx y (ws_ y b L r)) := by
  refine lw_app ?_ (lw_meth h4)
  intro w hw
  simp only [List.mem_cons, List.not_mem_nil, or_false] at hw
  rcases hw with e | e | e
  · rw [e]; exact h1
  · rw [e]; exact h2
  · rw [e]; exact h3
/-- the words of a contract for a method WITH HANDLERS (hh: its table) -/
abbrev wsW_ (y : MethodName) (b : ByteArray) (L : Nat) (r : Option FieldType) (hh : List (Nat × Nat × Nat × Nat)) : List Cond := Cond.codeWith y b L r hh :: lw_all
theorem lw_methW {y : MethodName} {b : ByteArray} {L : Nat} {r : Option FieldType} {hh : List (Nat × Nat × Nat × Nat)} (h : Cond.codeWith y b L r hh ∈ lw_all) : GoodIn lw_all (wsW_ y b L r hh) := by
  intro w hw
  rcases List.mem_cons.mp hw with e | e
  · rw [e]
    exact lw_self _ h
  · exact lw_self _ e
/-- any list of words by their places (lw_in), good -/
theorem lw_good {ws : List Cond} (h : ∀ w ∈ ws, w ∈ lw_all) : GoodIn lw_all ws := fun w hw => lw_self w (h w hw)
/-- what a call of a method with handlers asks: vx_cwVW n hts (lw_VW ..), vx_cwSW n hts (lw_SW ..) -/
theorem lw_VW {own : String} {idx : Nat} {C : String} {y : MethodName} {b : ByteArray} {L : Nat} {r : Option FieldType} {hh : List (Nat × Nat × Nat × Nat)} (h1 : Cond.methodLink own idx y ∈ lw_all) (h2 : Cond.instanceMethod y ∈ lw_all) (h3 : Cond.selects C y y ∈ lw_all) (h4 : Cond.initialized C ∈ lw_all) (h5 : Cond.codeWith y b L r hh ∈ lw_all) : GoodIn lw_all (wsV own idx C y (wsW_ y b L r hh)) := by
  refine lw_app ?_ (lw_methW h5)
  intro w hw
  simp only [List.mem_cons, List.not_mem_nil, or_false] at hw
  rcases hw with e | e | e | e
  · rw [e]; exact h1
  · rw [e]; exact h2
  · rw [e]; exact h3
  · rw [e]; exact h4
theorem lw_SW {own : String} {idx : Nat} {y : MethodName} {b : ByteArray} {L : Nat} {r : Option FieldType} {hh : List (Nat × Nat × Nat × Nat)} (h1 : Cond.methodLink own idx y ∈ lw_all) (h2 : Cond.static y ∈ lw_all) (h3 : Cond.initialized y.cls ∈ lw_all) (h4 : Cond.codeWith y b L r hh ∈ lw_all) : GoodIn lw_all (va_wsS own idx y (wsW_ y b L r hh)) := by
  refine lw_app ?_ (lw_methW h4)
  intro w hw
  simp only [List.mem_cons, List.not_mem_nil, or_false] at hw
  rcases hw with e | e | e
  · rw [e]; exact h1
  · rw [e]; exact h2
  · rw [e]; exact h3
/-- a word by its place in its run of the tables -/
theorem lw_at {r : List Cond} (hr : ∀ w ∈ r, w ∈ lw_tbl) {w : Cond} (i : Nat) (h : r[i]? = some w) : w ∈ lw_tbl := hr w (List.mem_of_getElem? h)
theorem lw_g {w : Cond} (h : w ∈ lw_tbl) (g : goodWord w = true) : w ∈ lw_all := List.mem_filter.mpr ⟨h, g⟩
theorem lw_ms : ∀ w ∈ k2_sels lw_privs, w ∈ lw_tbl := fun w h => show w ∈ k2_sels lw_privs ++ tables_1 from List.mem_append_left _ h
theorem lw_m1 : ∀ w ∈ tables_1_1, w ∈ lw_tbl := fun w h => show w ∈ k2_sels lw_privs ++ tables_1 from List.mem_append_right (k2_sels lw_privs) (show w ∈ tables_1 from List.mem_append_left _ h)
theorem lw_m2 : ∀ w ∈ tables_1_2, w ∈ lw_tbl := fun w h => show w ∈ k2_sels lw_privs ++ tables_1 from List.mem_append_right (k2_sels lw_privs) (show w ∈ tables_1 from List.mem_append_right _ h)
theorem qs0 : (Cond.selects "CreditNetwork" ⟨"CreditNetwork", "copyFree", "()V"⟩ ⟨"CreditNetwork", "copyFree", "()V"⟩) ∈ lw_all := lw_g (lw_at lw_ms 0 rfl) rfl
theorem qs1 : (Cond.selects "CreditNetwork" ⟨"CreditNetwork", "send", "(III)I"⟩ ⟨"CreditNetwork", "send", "(III)I"⟩) ∈ lw_all := lw_g (lw_at lw_ms 1 rfl) rfl
theorem qs2 : (Cond.selects "CreditNetwork" ⟨"CreditNetwork", "findWay", "(II)Z"⟩ ⟨"CreditNetwork", "findWay", "(II)Z"⟩) ∈ lw_all := lw_g (lw_at lw_ms 2 rfl) rfl
theorem qs3 : (Cond.selects "CreditNetwork" ⟨"CreditNetwork", "narrowest", "(II)I"⟩ ⟨"CreditNetwork", "narrowest", "(II)I"⟩) ∈ lw_all := lw_g (lw_at lw_ms 3 rfl) rfl
theorem qs4 : (Cond.selects "CreditNetwork" ⟨"CreditNetwork", "push", "(III)V"⟩ ⟨"CreditNetwork", "push", "(III)V"⟩) ∈ lw_all := lw_g (lw_at lw_ms 4 rfl) rfl
theorem qs5 : (Cond.selects "CreditNetwork" ⟨"CreditNetwork", "keepWork", "()V"⟩ ⟨"CreditNetwork", "keepWork", "()V"⟩) ∈ lw_all := lw_g (lw_at lw_ms 5 rfl) rfl
theorem qs6 : (Cond.selects "CreditNetwork" ⟨"CreditNetwork", "roundAbout", "(II)I"⟩ ⟨"CreditNetwork", "roundAbout", "(II)I"⟩) ∈ lw_all := lw_g (lw_at lw_ms 6 rfl) rfl
theorem qs7 : (Cond.selects "CreditNetwork" ⟨"CreditNetwork", "debt", "(II)I"⟩ ⟨"CreditNetwork", "debt", "(II)I"⟩) ∈ lw_all := lw_g (lw_at lw_ms 7 rfl) rfl
theorem qs8 : (Cond.selects "CreditNetwork" ⟨"CreditNetwork", "findCheapest", "()Z"⟩ ⟨"CreditNetwork", "findCheapest", "()Z"⟩) ∈ lw_all := lw_g (lw_at lw_ms 8 rfl) rfl
theorem qs9 : (Cond.selects "CreditNetwork" ⟨"CreditNetwork", "relax", "(II)V"⟩ ⟨"CreditNetwork", "relax", "(II)V"⟩) ∈ lw_all := lw_g (lw_at lw_ms 9 rfl) rfl
theorem qs10 : (Cond.selects "CreditNetwork" ⟨"CreditNetwork", "costOf", "(II)I"⟩ ⟨"CreditNetwork", "costOf", "(II)I"⟩) ∈ lw_all := lw_g (lw_at lw_ms 10 rfl) rfl
theorem qs11 : (Cond.selects "CreditNetwork" ⟨"CreditNetwork", "narrowestOwed", "(I)I"⟩ ⟨"CreditNetwork", "narrowestOwed", "(I)I"⟩) ∈ lw_all := lw_g (lw_at lw_ms 11 rfl) rfl
theorem qs12 : (Cond.selects "CreditNetwork" ⟨"CreditNetwork", "sendOne", "(III)V"⟩ ⟨"CreditNetwork", "sendOne", "(III)V"⟩) ∈ lw_all := lw_g (lw_at lw_ms 12 rfl) rfl
theorem qs13 : (Cond.selects "CreditNetworkModel" ⟨"CreditNetworkModel", "isPair", "(II)Z"⟩ ⟨"CreditNetworkModel", "isPair", "(II)Z"⟩) ∈ lw_all := lw_g (lw_at lw_ms 13 rfl) rfl
theorem qs14 : (Cond.selects "CreditNetworkModel" ⟨"CreditNetworkModel", "isPossible", "()Z"⟩ ⟨"CreditNetworkModel", "isPossible", "()Z"⟩) ∈ lw_all := lw_g (lw_at lw_ms 14 rfl) rfl
theorem qs15 : (Cond.selects "CreditNetworkModel" ⟨"CreditNetworkModel", "slack", "(I)I"⟩ ⟨"CreditNetworkModel", "slack", "(I)I"⟩) ∈ lw_all := lw_g (lw_at lw_ms 15 rfl) rfl
theorem qs16 : (Cond.selects "CreditNetworkModel" ⟨"CreditNetworkModel", "in", "(II)Z"⟩ ⟨"CreditNetworkModel", "in", "(II)Z"⟩) ∈ lw_all := lw_g (lw_at lw_ms 16 rfl) rfl
theorem qs17 : (Cond.selects "CreditNetworkModel" ⟨"CreditNetworkModel", "leastSlack", "(II)I"⟩ ⟨"CreditNetworkModel", "leastSlack", "(II)I"⟩) ∈ lw_all := lw_g (lw_at lw_ms 17 rfl) rfl
theorem qs18 : (Cond.selects "CreditNetworkModel" ⟨"CreditNetworkModel", "payAll", "(I)V"⟩ ⟨"CreditNetworkModel", "payAll", "(I)V"⟩) ∈ lw_all := lw_g (lw_at lw_ms 18 rfl) rfl
theorem qs19 : (Cond.selects "CreditNetworkModel" ⟨"CreditNetworkModel", "findWays", "()V"⟩ ⟨"CreditNetworkModel", "findWays", "()V"⟩) ∈ lw_all := lw_g (lw_at lw_ms 19 rfl) rfl
theorem qs20 : (Cond.selects "CreditNetworkModel" ⟨"CreditNetworkModel", "room", "(II)I"⟩ ⟨"CreditNetworkModel", "room", "(II)I"⟩) ∈ lw_all := lw_g (lw_at lw_ms 20 rfl) rfl
theorem qs21 : (Cond.selects "CreditNetworkModel" ⟨"CreditNetworkModel", "cheapest", "()I"⟩ ⟨"CreditNetworkModel", "cheapest", "()I"⟩) ∈ lw_all := lw_g (lw_at lw_ms 21 rfl) rfl
theorem qs22 : (Cond.selects "CreditNetworkModel" ⟨"CreditNetworkModel", "widthTo", "(I)I"⟩ ⟨"CreditNetworkModel", "widthTo", "(I)I"⟩) ∈ lw_all := lw_g (lw_at lw_ms 22 rfl) rfl
theorem qs23 : (Cond.selects "CreditNetworkModel" ⟨"CreditNetworkModel", "sendTo", "(II)V"⟩ ⟨"CreditNetworkModel", "sendTo", "(II)V"⟩) ∈ lw_all := lw_g (lw_at lw_ms 23 rfl) rfl
end
section
set_option maxRecDepth 100000
/-! java/lang/Object -/
def RJ0 : String := "java/lang/Object"
abbrev cJ0_init : ByteArray := object_method_1_code
def yJ0_init : MethodName := ⟨RJ0, "<init>", "()V"⟩
theorem dJ0_init_0 : decode cJ0_init 0 = .ok (.return_, 1) := by decide +kernel
theorem q33 : (Jvm.Cond.instanceMethod ({ cls := "java/lang/Object", name := "<init>", desc := "()V" } : Jvm.MethodName)) ∈ lw_all := lw_g (lw_at lw_m1 9 rfl) rfl
theorem q34 : (Jvm.Cond.code ({ cls := "java/lang/Object", name := "<init>", desc := "()V" } : Jvm.MethodName) object_method_1_code (1 : Nat) (Option.none : Option Jvm.ClassFile.FieldType)) ∈ lw_all := lw_g (lw_at lw_m1 10 rfl) rfl
theorem q75 : (Jvm.Cond.arrayClass Jvm.ClassFile.FieldType.int) ∈ lw_all := lw_g (lw_at lw_m1 51 rfl) rfl
/-! CreditNetwork -/
def RX0 : String := "CreditNetwork"
def TX0 : u_T := fun k => match k with
  | 0 => ("CreditNetwork", "trusts", "[I", true)
  | 1 => ("CreditNetwork", "positions", "[I", true)
  | 2 => ("CreditNetwork", "free", "[I", true)
  | 3 => ("CreditNetwork", "gathered", "I", false)
  | 4 => ("CreditNetwork", "payers", "[I", true)
  | 5 => ("CreditNetwork", "payees", "[I", true)
  | 6 => ("CreditNetwork", "amounts", "[I", true)
  | 7 => ("CreditNetwork", "work", "[I", true)
  | 8 => ("CreditNetwork", "owed", "[I", true)
  | 9 => ("CreditNetwork", "cameFrom", "[I", true)
  | 10 => ("CreditNetwork", "line", "[I", true)
  | 11 => ("CreditNetwork", "distance", "[I", true)
  | _ => ("CreditNetwork", "change", "[I", true)
def tyX0 : Nat → FieldType := fun k => match k with
  | 0 => .array .int
  | 1 => .array .int
  | 2 => .array .int
  | 3 => .int
  | 4 => .array .int
  | 5 => .array .int
  | 6 => .array .int
  | 7 => .array .int
  | 8 => .array .int
  | 9 => .array .int
  | 10 => .array .int
  | 11 => .array .int
  | _ => .array .int
abbrev wsX00 : List Cond := u_ws RX0 TX0 13
set_option maxRecDepth 100000 in
theorem nmX0 : ∀ a, a < 13 → ∀ b, b < 13 → a ≠ b → (TX0 a).2.1 ≠ (TX0 b).2.1 := by decide +kernel
set_option maxRecDepth 100000 in
theorem tyX0_ok : ∀ k, k < 13 → parseFieldDescriptor (TX0 k).2.2.1 = some (tyX0 k) := by decide +kernel
abbrev cX0_init : ByteArray := prog_1_method_1_code
def yX0_init : MethodName := ⟨RX0, "<init>", "()V"⟩
theorem dX0_init_0 : decode cX0_init 0 = .ok (.aload_n 0, 1) := by decide +kernel
theorem dX0_init_1 : decode cX0_init 1 = .ok (.invokespecial 1, 3) := by decide +kernel
theorem dX0_init_4 : decode cX0_init 4 = .ok (.aload_n 0, 1) := by decide +kernel
theorem dX0_init_5 : decode cX0_init 5 = .ok (.bipush 49, 2) := by decide +kernel
theorem dX0_init_7 : decode cX0_init 7 = .ok (.newarray .int, 2) := by decide +kernel
theorem dX0_init_9 : decode cX0_init 9 = .ok (.putfield 7, 3) := by decide +kernel
theorem dX0_init_12 : decode cX0_init 12 = .ok (.aload_n 0, 1) := by decide +kernel
theorem dX0_init_13 : decode cX0_init 13 = .ok (.bipush 7, 2) := by decide +kernel
theorem dX0_init_15 : decode cX0_init 15 = .ok (.newarray .int, 2) := by decide +kernel
theorem dX0_init_17 : decode cX0_init 17 = .ok (.putfield 13, 3) := by decide +kernel
theorem dX0_init_20 : decode cX0_init 20 = .ok (.aload_n 0, 1) := by decide +kernel
theorem dX0_init_21 : decode cX0_init 21 = .ok (.bipush 81, 2) := by decide +kernel
theorem dX0_init_23 : decode cX0_init 23 = .ok (.newarray .int, 2) := by decide +kernel
theorem dX0_init_25 : decode cX0_init 25 = .ok (.putfield 16, 3) := by decide +kernel
theorem dX0_init_28 : decode cX0_init 28 = .ok (.aload_n 0, 1) := by decide +kernel
theorem dX0_init_29 : decode cX0_init 29 = .ok (.bipush 6, 2) := by decide +kernel
theorem dX0_init_31 : decode cX0_init 31 = .ok (.newarray .int, 2) := by decide +kernel
theorem dX0_init_33 : decode cX0_init 33 = .ok (.putfield 19, 3) := by decide +kernel
theorem dX0_init_36 : decode cX0_init 36 = .ok (.aload_n 0, 1) := by decide +kernel
theorem dX0_init_37 : decode cX0_init 37 = .ok (.bipush 6, 2) := by decide +kernel
theorem dX0_init_39 : decode cX0_init 39 = .ok (.newarray .int, 2) := by decide +kernel
theorem dX0_init_41 : decode cX0_init 41 = .ok (.putfield 22, 3) := by decide +kernel
theorem dX0_init_44 : decode cX0_init 44 = .ok (.aload_n 0, 1) := by decide +kernel
theorem dX0_init_45 : decode cX0_init 45 = .ok (.bipush 6, 2) := by decide +kernel
theorem dX0_init_47 : decode cX0_init 47 = .ok (.newarray .int, 2) := by decide +kernel
theorem dX0_init_49 : decode cX0_init 49 = .ok (.putfield 25, 3) := by decide +kernel
theorem dX0_init_52 : decode cX0_init 52 = .ok (.aload_n 0, 1) := by decide +kernel
theorem dX0_init_53 : decode cX0_init 53 = .ok (.bipush 81, 2) := by decide +kernel
theorem dX0_init_55 : decode cX0_init 55 = .ok (.newarray .int, 2) := by decide +kernel
theorem dX0_init_57 : decode cX0_init 57 = .ok (.putfield 28, 3) := by decide +kernel
theorem dX0_init_60 : decode cX0_init 60 = .ok (.aload_n 0, 1) := by decide +kernel
theorem dX0_init_61 : decode cX0_init 61 = .ok (.bipush 81, 2) := by decide +kernel
theorem dX0_init_63 : decode cX0_init 63 = .ok (.newarray .int, 2) := by decide +kernel
theorem dX0_init_65 : decode cX0_init 65 = .ok (.putfield 31, 3) := by decide +kernel
theorem dX0_init_68 : decode cX0_init 68 = .ok (.aload_n 0, 1) := by decide +kernel
theorem dX0_init_69 : decode cX0_init 69 = .ok (.bipush 9, 2) := by decide +kernel
theorem dX0_init_71 : decode cX0_init 71 = .ok (.newarray .int, 2) := by decide +kernel
theorem dX0_init_73 : decode cX0_init 73 = .ok (.putfield 34, 3) := by decide +kernel
theorem dX0_init_76 : decode cX0_init 76 = .ok (.aload_n 0, 1) := by decide +kernel
theorem dX0_init_77 : decode cX0_init 77 = .ok (.bipush 9, 2) := by decide +kernel
theorem dX0_init_79 : decode cX0_init 79 = .ok (.newarray .int, 2) := by decide +kernel
theorem dX0_init_81 : decode cX0_init 81 = .ok (.putfield 37, 3) := by decide +kernel
theorem dX0_init_84 : decode cX0_init 84 = .ok (.aload_n 0, 1) := by decide +kernel
theorem dX0_init_85 : decode cX0_init 85 = .ok (.bipush 9, 2) := by decide +kernel
theorem dX0_init_87 : decode cX0_init 87 = .ok (.newarray .int, 2) := by decide +kernel
theorem dX0_init_89 : decode cX0_init 89 = .ok (.putfield 40, 3) := by decide +kernel
theorem dX0_init_92 : decode cX0_init 92 = .ok (.aload_n 0, 1) := by decide +kernel
theorem dX0_init_93 : decode cX0_init 93 = .ok (.bipush 7, 2) := by decide +kernel
theorem dX0_init_95 : decode cX0_init 95 = .ok (.newarray .int, 2) := by decide +kernel
theorem dX0_init_97 : decode cX0_init 97 = .ok (.putfield 43, 3) := by decide +kernel
theorem dX0_init_100 : decode cX0_init 100 = .ok (.aload_n 0, 1) := by decide +kernel
theorem dX0_init_101 : decode cX0_init 101 = .ok (.iconst 0, 1) := by decide +kernel
theorem dX0_init_102 : decode cX0_init 102 = .ok (.putfield 46, 3) := by decide +kernel
theorem dX0_init_105 : decode cX0_init 105 = .ok (.return_, 1) := by decide +kernel
abbrev cX0_trust : ByteArray := prog_1_method_10_code
def yX0_trust : MethodName := ⟨RX0, "trust", "(III)I"⟩
theorem dX0_trust_0 : decode cX0_trust 0 = .ok (.iload_n 1, 1) := by decide +kernel
theorem dX0_trust_1 : decode cX0_trust 1 = .ok (.iload_n 2, 1) := by decide +kernel
theorem dX0_trust_2 : decode cX0_trust 2 = .ok (.invokestatic 68, 3) := by decide +kernel
theorem dX0_trust_5 : decode cX0_trust 5 = .ok (.ifCond .ne 5, 3) := by decide +kernel
theorem dX0_trust_8 : decode cX0_trust 8 = .ok (.iconst (-1), 1) := by decide +kernel
theorem dX0_trust_9 : decode cX0_trust 9 = .ok (.ireturn, 1) := by decide +kernel
theorem dX0_trust_10 : decode cX0_trust 10 = .ok (.bipush 7, 2) := by decide +kernel
theorem dX0_trust_12 : decode cX0_trust 12 = .ok (.iload_n 1, 1) := by decide +kernel
theorem dX0_trust_13 : decode cX0_trust 13 = .ok (.imul, 1) := by decide +kernel
theorem dX0_trust_14 : decode cX0_trust 14 = .ok (.iload_n 2, 1) := by decide +kernel
theorem dX0_trust_15 : decode cX0_trust 15 = .ok (.iadd, 1) := by decide +kernel
theorem dX0_trust_16 : decode cX0_trust 16 = .ok (.istore 4, 2) := by decide +kernel
theorem dX0_trust_18 : decode cX0_trust 18 = .ok (.iload_n 3, 1) := by decide +kernel
theorem dX0_trust_19 : decode cX0_trust 19 = .ok (.ifCond .lt 18, 3) := by decide +kernel
theorem dX0_trust_22 : decode cX0_trust 22 = .ok (.iload_n 3, 1) := by decide +kernel
theorem dX0_trust_23 : decode cX0_trust 23 = .ok (.sipush 1000, 3) := by decide +kernel
theorem dX0_trust_26 : decode cX0_trust 26 = .ok (.aload_n 0, 1) := by decide +kernel
theorem dX0_trust_27 : decode cX0_trust 27 = .ok (.getfield 7, 3) := by decide +kernel
theorem dX0_trust_30 : decode cX0_trust 30 = .ok (.iload 4, 2) := by decide +kernel
theorem dX0_trust_32 : decode cX0_trust 32 = .ok (.iaload, 1) := by decide +kernel
theorem dX0_trust_33 : decode cX0_trust 33 = .ok (.isub, 1) := by decide +kernel
theorem dX0_trust_34 : decode cX0_trust 34 = .ok (.if_icmp .le 6, 3) := by decide +kernel
theorem dX0_trust_37 : decode cX0_trust 37 = .ok (.bipush (-2), 2) := by decide +kernel
theorem dX0_trust_39 : decode cX0_trust 39 = .ok (.ireturn, 1) := by decide +kernel
theorem dX0_trust_40 : decode cX0_trust 40 = .ok (.aload_n 0, 1) := by decide +kernel
theorem dX0_trust_41 : decode cX0_trust 41 = .ok (.getfield 7, 3) := by decide +kernel
theorem dX0_trust_44 : decode cX0_trust 44 = .ok (.iload 4, 2) := by decide +kernel
theorem dX0_trust_46 : decode cX0_trust 46 = .ok (.dup2, 1) := by decide +kernel
theorem dX0_trust_47 : decode cX0_trust 47 = .ok (.iaload, 1) := by decide +kernel
theorem dX0_trust_48 : decode cX0_trust 48 = .ok (.iload_n 3, 1) := by decide +kernel
theorem dX0_trust_49 : decode cX0_trust 49 = .ok (.iadd, 1) := by decide +kernel
theorem dX0_trust_50 : decode cX0_trust 50 = .ok (.iastore, 1) := by decide +kernel
theorem dX0_trust_51 : decode cX0_trust 51 = .ok (.aload_n 0, 1) := by decide +kernel
theorem dX0_trust_52 : decode cX0_trust 52 = .ok (.getfield 16, 3) := by decide +kernel
theorem dX0_trust_55 : decode cX0_trust 55 = .ok (.bipush 9, 2) := by decide +kernel
theorem dX0_trust_57 : decode cX0_trust 57 = .ok (.iload_n 2, 1) := by decide +kernel
theorem dX0_trust_58 : decode cX0_trust 58 = .ok (.imul, 1) := by decide +kernel
theorem dX0_trust_59 : decode cX0_trust 59 = .ok (.iload_n 1, 1) := by decide +kernel
theorem dX0_trust_60 : decode cX0_trust 60 = .ok (.iadd, 1) := by decide +kernel
theorem dX0_trust_61 : decode cX0_trust 61 = .ok (.dup2, 1) := by decide +kernel
theorem dX0_trust_62 : decode cX0_trust 62 = .ok (.iaload, 1) := by decide +kernel
theorem dX0_trust_63 : decode cX0_trust 63 = .ok (.iload_n 3, 1) := by decide +kernel
theorem dX0_trust_64 : decode cX0_trust 64 = .ok (.iadd, 1) := by decide +kernel
theorem dX0_trust_65 : decode cX0_trust 65 = .ok (.iastore, 1) := by decide +kernel
theorem dX0_trust_66 : decode cX0_trust 66 = .ok (.aload_n 0, 1) := by decide +kernel
theorem dX0_trust_67 : decode cX0_trust 67 = .ok (.getfield 7, 3) := by decide +kernel
theorem dX0_trust_70 : decode cX0_trust 70 = .ok (.iload 4, 2) := by decide +kernel
theorem dX0_trust_72 : decode cX0_trust 72 = .ok (.iaload, 1) := by decide +kernel
theorem dX0_trust_73 : decode cX0_trust 73 = .ok (.ireturn, 1) := by decide +kernel
abbrev cX0_arePair : ByteArray := prog_1_method_3_code
def yX0_arePair : MethodName := ⟨RX0, "arePair", "(II)Z"⟩
theorem dX0_arePair_0 : decode cX0_arePair 0 = .ok (.iload_n 0, 1) := by decide +kernel
theorem dX0_arePair_1 : decode cX0_arePair 1 = .ok (.invokestatic 50, 3) := by decide +kernel
theorem dX0_arePair_4 : decode cX0_arePair 4 = .ok (.ifCond .eq 19, 3) := by decide +kernel
theorem dX0_arePair_7 : decode cX0_arePair 7 = .ok (.iload_n 1, 1) := by decide +kernel
theorem dX0_arePair_8 : decode cX0_arePair 8 = .ok (.invokestatic 50, 3) := by decide +kernel
theorem dX0_arePair_11 : decode cX0_arePair 11 = .ok (.ifCond .eq 12, 3) := by decide +kernel
theorem dX0_arePair_14 : decode cX0_arePair 14 = .ok (.iload_n 0, 1) := by decide +kernel
theorem dX0_arePair_15 : decode cX0_arePair 15 = .ok (.iload_n 1, 1) := by decide +kernel
theorem dX0_arePair_16 : decode cX0_arePair 16 = .ok (.if_icmp .eq 7, 3) := by decide +kernel
theorem dX0_arePair_19 : decode cX0_arePair 19 = .ok (.iconst 1, 1) := by decide +kernel
theorem dX0_arePair_20 : decode cX0_arePair 20 = .ok (.goto 4, 3) := by decide +kernel
theorem dX0_arePair_23 : decode cX0_arePair 23 = .ok (.iconst 0, 1) := by decide +kernel
theorem dX0_arePair_24 : decode cX0_arePair 24 = .ok (.ireturn, 1) := by decide +kernel
abbrev cX0_isMember : ByteArray := prog_1_method_2_code
def yX0_isMember : MethodName := ⟨RX0, "isMember", "(I)Z"⟩
theorem dX0_isMember_0 : decode cX0_isMember 0 = .ok (.iload_n 0, 1) := by decide +kernel
theorem dX0_isMember_1 : decode cX0_isMember 1 = .ok (.ifCond .lt 13, 3) := by decide +kernel
theorem dX0_isMember_4 : decode cX0_isMember 4 = .ok (.iload_n 0, 1) := by decide +kernel
theorem dX0_isMember_5 : decode cX0_isMember 5 = .ok (.bipush 7, 2) := by decide +kernel
theorem dX0_isMember_7 : decode cX0_isMember 7 = .ok (.if_icmp .ge 7, 3) := by decide +kernel
theorem dX0_isMember_10 : decode cX0_isMember 10 = .ok (.iconst 1, 1) := by decide +kernel
theorem dX0_isMember_11 : decode cX0_isMember 11 = .ok (.goto 4, 3) := by decide +kernel
theorem dX0_isMember_14 : decode cX0_isMember 14 = .ok (.iconst 0, 1) := by decide +kernel
theorem dX0_isMember_15 : decode cX0_isMember 15 = .ok (.ireturn, 1) := by decide +kernel
abbrev cX0_withdraw : ByteArray := prog_1_method_11_code
def yX0_withdraw : MethodName := ⟨RX0, "withdraw", "(III)I"⟩
theorem dX0_withdraw_0 : decode cX0_withdraw 0 = .ok (.iload_n 1, 1) := by decide +kernel
theorem dX0_withdraw_1 : decode cX0_withdraw 1 = .ok (.iload_n 2, 1) := by decide +kernel
theorem dX0_withdraw_2 : decode cX0_withdraw 2 = .ok (.invokestatic 68, 3) := by decide +kernel
theorem dX0_withdraw_5 : decode cX0_withdraw 5 = .ok (.ifCond .ne 5, 3) := by decide +kernel
theorem dX0_withdraw_8 : decode cX0_withdraw 8 = .ok (.iconst (-1), 1) := by decide +kernel
theorem dX0_withdraw_9 : decode cX0_withdraw 9 = .ok (.ireturn, 1) := by decide +kernel
theorem dX0_withdraw_10 : decode cX0_withdraw 10 = .ok (.bipush 7, 2) := by decide +kernel
theorem dX0_withdraw_12 : decode cX0_withdraw 12 = .ok (.iload_n 1, 1) := by decide +kernel
theorem dX0_withdraw_13 : decode cX0_withdraw 13 = .ok (.imul, 1) := by decide +kernel
theorem dX0_withdraw_14 : decode cX0_withdraw 14 = .ok (.iload_n 2, 1) := by decide +kernel
theorem dX0_withdraw_15 : decode cX0_withdraw 15 = .ok (.iadd, 1) := by decide +kernel
theorem dX0_withdraw_16 : decode cX0_withdraw 16 = .ok (.istore 4, 2) := by decide +kernel
theorem dX0_withdraw_18 : decode cX0_withdraw 18 = .ok (.iload_n 3, 1) := by decide +kernel
theorem dX0_withdraw_19 : decode cX0_withdraw 19 = .ok (.ifCond .lt 14, 3) := by decide +kernel
theorem dX0_withdraw_22 : decode cX0_withdraw 22 = .ok (.iload_n 3, 1) := by decide +kernel
theorem dX0_withdraw_23 : decode cX0_withdraw 23 = .ok (.aload_n 0, 1) := by decide +kernel
theorem dX0_withdraw_24 : decode cX0_withdraw 24 = .ok (.getfield 7, 3) := by decide +kernel
theorem dX0_withdraw_27 : decode cX0_withdraw 27 = .ok (.iload 4, 2) := by decide +kernel
theorem dX0_withdraw_29 : decode cX0_withdraw 29 = .ok (.iaload, 1) := by decide +kernel
theorem dX0_withdraw_30 : decode cX0_withdraw 30 = .ok (.if_icmp .le 6, 3) := by decide +kernel
theorem dX0_withdraw_33 : decode cX0_withdraw 33 = .ok (.bipush (-2), 2) := by decide +kernel
theorem dX0_withdraw_35 : decode cX0_withdraw 35 = .ok (.ireturn, 1) := by decide +kernel
theorem dX0_withdraw_36 : decode cX0_withdraw 36 = .ok (.aload_n 0, 1) := by decide +kernel
theorem dX0_withdraw_37 : decode cX0_withdraw 37 = .ok (.invokevirtual 71, 3) := by decide +kernel
theorem dX0_withdraw_40 : decode cX0_withdraw 40 = .ok (.aload_n 0, 1) := by decide +kernel
theorem dX0_withdraw_41 : decode cX0_withdraw 41 = .ok (.getfield 16, 3) := by decide +kernel
theorem dX0_withdraw_44 : decode cX0_withdraw 44 = .ok (.bipush 9, 2) := by decide +kernel
theorem dX0_withdraw_46 : decode cX0_withdraw 46 = .ok (.iload_n 2, 1) := by decide +kernel
theorem dX0_withdraw_47 : decode cX0_withdraw 47 = .ok (.imul, 1) := by decide +kernel
theorem dX0_withdraw_48 : decode cX0_withdraw 48 = .ok (.iload_n 1, 1) := by decide +kernel
theorem dX0_withdraw_49 : decode cX0_withdraw 49 = .ok (.iadd, 1) := by decide +kernel
theorem dX0_withdraw_50 : decode cX0_withdraw 50 = .ok (.iaload, 1) := by decide +kernel
theorem dX0_withdraw_51 : decode cX0_withdraw 51 = .ok (.iload_n 3, 1) := by decide +kernel
theorem dX0_withdraw_52 : decode cX0_withdraw 52 = .ok (.isub, 1) := by decide +kernel
theorem dX0_withdraw_53 : decode cX0_withdraw 53 = .ok (.istore 5, 2) := by decide +kernel
theorem dX0_withdraw_55 : decode cX0_withdraw 55 = .ok (.iload 5, 2) := by decide +kernel
theorem dX0_withdraw_57 : decode cX0_withdraw 57 = .ok (.ifCond .lt 19, 3) := by decide +kernel
theorem dX0_withdraw_60 : decode cX0_withdraw 60 = .ok (.aload_n 0, 1) := by decide +kernel
theorem dX0_withdraw_61 : decode cX0_withdraw 61 = .ok (.getfield 28, 3) := by decide +kernel
theorem dX0_withdraw_64 : decode cX0_withdraw 64 = .ok (.bipush 9, 2) := by decide +kernel
theorem dX0_withdraw_66 : decode cX0_withdraw 66 = .ok (.iload_n 2, 1) := by decide +kernel
theorem dX0_withdraw_67 : decode cX0_withdraw 67 = .ok (.imul, 1) := by decide +kernel
theorem dX0_withdraw_68 : decode cX0_withdraw 68 = .ok (.iload_n 1, 1) := by decide +kernel
theorem dX0_withdraw_69 : decode cX0_withdraw 69 = .ok (.iadd, 1) := by decide +kernel
theorem dX0_withdraw_70 : decode cX0_withdraw 70 = .ok (.iload 5, 2) := by decide +kernel
theorem dX0_withdraw_72 : decode cX0_withdraw 72 = .ok (.iastore, 1) := by decide +kernel
theorem dX0_withdraw_73 : decode cX0_withdraw 73 = .ok (.goto 56, 3) := by decide +kernel
theorem dX0_withdraw_76 : decode cX0_withdraw 76 = .ok (.iload 5, 2) := by decide +kernel
theorem dX0_withdraw_78 : decode cX0_withdraw 78 = .ok (.ineg, 1) := by decide +kernel
theorem dX0_withdraw_79 : decode cX0_withdraw 79 = .ok (.istore 6, 2) := by decide +kernel
theorem dX0_withdraw_81 : decode cX0_withdraw 81 = .ok (.aload_n 0, 1) := by decide +kernel
theorem dX0_withdraw_82 : decode cX0_withdraw 82 = .ok (.getfield 28, 3) := by decide +kernel
theorem dX0_withdraw_85 : decode cX0_withdraw 85 = .ok (.bipush 9, 2) := by decide +kernel
theorem dX0_withdraw_87 : decode cX0_withdraw 87 = .ok (.iload_n 2, 1) := by decide +kernel
theorem dX0_withdraw_88 : decode cX0_withdraw 88 = .ok (.imul, 1) := by decide +kernel
theorem dX0_withdraw_89 : decode cX0_withdraw 89 = .ok (.iload_n 1, 1) := by decide +kernel
theorem dX0_withdraw_90 : decode cX0_withdraw 90 = .ok (.iadd, 1) := by decide +kernel
theorem dX0_withdraw_91 : decode cX0_withdraw 91 = .ok (.iconst 0, 1) := by decide +kernel
theorem dX0_withdraw_92 : decode cX0_withdraw 92 = .ok (.iastore, 1) := by decide +kernel
theorem dX0_withdraw_93 : decode cX0_withdraw 93 = .ok (.aload_n 0, 1) := by decide +kernel
theorem dX0_withdraw_94 : decode cX0_withdraw 94 = .ok (.getfield 28, 3) := by decide +kernel
theorem dX0_withdraw_97 : decode cX0_withdraw 97 = .ok (.bipush 9, 2) := by decide +kernel
theorem dX0_withdraw_99 : decode cX0_withdraw 99 = .ok (.iload_n 1, 1) := by decide +kernel
theorem dX0_withdraw_100 : decode cX0_withdraw 100 = .ok (.imul, 1) := by decide +kernel
theorem dX0_withdraw_101 : decode cX0_withdraw 101 = .ok (.iload_n 2, 1) := by decide +kernel
theorem dX0_withdraw_102 : decode cX0_withdraw 102 = .ok (.iadd, 1) := by decide +kernel
theorem dX0_withdraw_103 : decode cX0_withdraw 103 = .ok (.dup2, 1) := by decide +kernel
theorem dX0_withdraw_104 : decode cX0_withdraw 104 = .ok (.iaload, 1) := by decide +kernel
theorem dX0_withdraw_105 : decode cX0_withdraw 105 = .ok (.iload 6, 2) := by decide +kernel
theorem dX0_withdraw_107 : decode cX0_withdraw 107 = .ok (.isub, 1) := by decide +kernel
theorem dX0_withdraw_108 : decode cX0_withdraw 108 = .ok (.iastore, 1) := by decide +kernel
theorem dX0_withdraw_109 : decode cX0_withdraw 109 = .ok (.aload_n 0, 1) := by decide +kernel
theorem dX0_withdraw_110 : decode cX0_withdraw 110 = .ok (.iload_n 2, 1) := by decide +kernel
theorem dX0_withdraw_111 : decode cX0_withdraw 111 = .ok (.iload_n 1, 1) := by decide +kernel
theorem dX0_withdraw_112 : decode cX0_withdraw 112 = .ok (.iload 6, 2) := by decide +kernel
theorem dX0_withdraw_114 : decode cX0_withdraw 114 = .ok (.invokevirtual 74, 3) := by decide +kernel
theorem dX0_withdraw_117 : decode cX0_withdraw 117 = .ok (.istore 7, 2) := by decide +kernel
theorem dX0_withdraw_119 : decode cX0_withdraw 119 = .ok (.iload 7, 2) := by decide +kernel
theorem dX0_withdraw_121 : decode cX0_withdraw 121 = .ok (.iload 6, 2) := by decide +kernel
theorem dX0_withdraw_123 : decode cX0_withdraw 123 = .ok (.if_icmp .ge 6, 3) := by decide +kernel
theorem dX0_withdraw_126 : decode cX0_withdraw 126 = .ok (.bipush (-3), 2) := by decide +kernel
theorem dX0_withdraw_128 : decode cX0_withdraw 128 = .ok (.ireturn, 1) := by decide +kernel
theorem dX0_withdraw_129 : decode cX0_withdraw 129 = .ok (.aload_n 0, 1) := by decide +kernel
theorem dX0_withdraw_130 : decode cX0_withdraw 130 = .ok (.invokevirtual 78, 3) := by decide +kernel
theorem dX0_withdraw_133 : decode cX0_withdraw 133 = .ok (.aload_n 0, 1) := by decide +kernel
theorem dX0_withdraw_134 : decode cX0_withdraw 134 = .ok (.getfield 7, 3) := by decide +kernel
theorem dX0_withdraw_137 : decode cX0_withdraw 137 = .ok (.iload 4, 2) := by decide +kernel
theorem dX0_withdraw_139 : decode cX0_withdraw 139 = .ok (.dup2, 1) := by decide +kernel
theorem dX0_withdraw_140 : decode cX0_withdraw 140 = .ok (.iaload, 1) := by decide +kernel
theorem dX0_withdraw_141 : decode cX0_withdraw 141 = .ok (.iload_n 3, 1) := by decide +kernel
theorem dX0_withdraw_142 : decode cX0_withdraw 142 = .ok (.isub, 1) := by decide +kernel
theorem dX0_withdraw_143 : decode cX0_withdraw 143 = .ok (.iastore, 1) := by decide +kernel
theorem dX0_withdraw_144 : decode cX0_withdraw 144 = .ok (.aload_n 0, 1) := by decide +kernel
theorem dX0_withdraw_145 : decode cX0_withdraw 145 = .ok (.getfield 7, 3) := by decide +kernel
theorem dX0_withdraw_148 : decode cX0_withdraw 148 = .ok (.iload 4, 2) := by decide +kernel
theorem dX0_withdraw_150 : decode cX0_withdraw 150 = .ok (.iaload, 1) := by decide +kernel
theorem dX0_withdraw_151 : decode cX0_withdraw 151 = .ok (.ireturn, 1) := by decide +kernel
abbrev cX0_copyFree : ByteArray := prog_1_method_4_code
def yX0_copyFree : MethodName := ⟨RX0, "copyFree", "()V"⟩
theorem dX0_copyFree_0 : decode cX0_copyFree 0 = .ok (.iconst 0, 1) := by decide +kernel
theorem dX0_copyFree_1 : decode cX0_copyFree 1 = .ok (.istore_n 1, 1) := by decide +kernel
theorem dX0_copyFree_2 : decode cX0_copyFree 2 = .ok (.iload_n 1, 1) := by decide +kernel
theorem dX0_copyFree_3 : decode cX0_copyFree 3 = .ok (.bipush 81, 2) := by decide +kernel
theorem dX0_copyFree_5 : decode cX0_copyFree 5 = .ok (.if_icmp .ge 21, 3) := by decide +kernel
theorem dX0_copyFree_8 : decode cX0_copyFree 8 = .ok (.aload_n 0, 1) := by decide +kernel
theorem dX0_copyFree_9 : decode cX0_copyFree 9 = .ok (.getfield 28, 3) := by decide +kernel
theorem dX0_copyFree_12 : decode cX0_copyFree 12 = .ok (.iload_n 1, 1) := by decide +kernel
theorem dX0_copyFree_13 : decode cX0_copyFree 13 = .ok (.aload_n 0, 1) := by decide +kernel
theorem dX0_copyFree_14 : decode cX0_copyFree 14 = .ok (.getfield 16, 3) := by decide +kernel
theorem dX0_copyFree_17 : decode cX0_copyFree 17 = .ok (.iload_n 1, 1) := by decide +kernel
theorem dX0_copyFree_18 : decode cX0_copyFree 18 = .ok (.iaload, 1) := by decide +kernel
theorem dX0_copyFree_19 : decode cX0_copyFree 19 = .ok (.iastore, 1) := by decide +kernel
theorem dX0_copyFree_20 : decode cX0_copyFree 20 = .ok (.iinc 1 1, 3) := by decide +kernel
theorem dX0_copyFree_23 : decode cX0_copyFree 23 = .ok (.goto (-21), 3) := by decide +kernel
theorem dX0_copyFree_26 : decode cX0_copyFree 26 = .ok (.return_, 1) := by decide +kernel
abbrev cX0_send : ByteArray := prog_1_method_9_code
def yX0_send : MethodName := ⟨RX0, "send", "(III)I"⟩
theorem dX0_send_0 : decode cX0_send 0 = .ok (.iconst 0, 1) := by decide +kernel
theorem dX0_send_1 : decode cX0_send 1 = .ok (.istore 4, 2) := by decide +kernel
theorem dX0_send_3 : decode cX0_send 3 = .ok (.iload 4, 2) := by decide +kernel
theorem dX0_send_5 : decode cX0_send 5 = .ok (.iload_n 3, 1) := by decide +kernel
theorem dX0_send_6 : decode cX0_send 6 = .ok (.if_icmp .ge 16, 3) := by decide +kernel
theorem dX0_send_9 : decode cX0_send 9 = .ok (.aload_n 0, 1) := by decide +kernel
theorem dX0_send_10 : decode cX0_send 10 = .ok (.iload_n 1, 1) := by decide +kernel
theorem dX0_send_11 : decode cX0_send 11 = .ok (.iload_n 2, 1) := by decide +kernel
theorem dX0_send_12 : decode cX0_send 12 = .ok (.invokevirtual 55, 3) := by decide +kernel
theorem dX0_send_15 : decode cX0_send 15 = .ok (.ifCond .eq 7, 3) := by decide +kernel
theorem dX0_send_18 : decode cX0_send 18 = .ok (.iconst 1, 1) := by decide +kernel
theorem dX0_send_19 : decode cX0_send 19 = .ok (.goto 4, 3) := by decide +kernel
theorem dX0_send_22 : decode cX0_send 22 = .ok (.iconst 0, 1) := by decide +kernel
theorem dX0_send_23 : decode cX0_send 23 = .ok (.istore 5, 2) := by decide +kernel
theorem dX0_send_25 : decode cX0_send 25 = .ok (.iconst 0, 1) := by decide +kernel
theorem dX0_send_26 : decode cX0_send 26 = .ok (.istore 6, 2) := by decide +kernel
theorem dX0_send_28 : decode cX0_send 28 = .ok (.iload 6, 2) := by decide +kernel
theorem dX0_send_30 : decode cX0_send 30 = .ok (.ldc 59, 2) := by decide +kernel
theorem dX0_send_32 : decode cX0_send 32 = .ok (.if_icmp .ge 81, 3) := by decide +kernel
theorem dX0_send_35 : decode cX0_send 35 = .ok (.iload 5, 2) := by decide +kernel
theorem dX0_send_37 : decode cX0_send 37 = .ok (.ifCond .eq 76, 3) := by decide +kernel
theorem dX0_send_40 : decode cX0_send 40 = .ok (.aload_n 0, 1) := by decide +kernel
theorem dX0_send_41 : decode cX0_send 41 = .ok (.iload_n 1, 1) := by decide +kernel
theorem dX0_send_42 : decode cX0_send 42 = .ok (.iload_n 2, 1) := by decide +kernel
theorem dX0_send_43 : decode cX0_send 43 = .ok (.invokevirtual 60, 3) := by decide +kernel
theorem dX0_send_46 : decode cX0_send 46 = .ok (.istore 7, 2) := by decide +kernel
theorem dX0_send_48 : decode cX0_send 48 = .ok (.iload_n 3, 1) := by decide +kernel
theorem dX0_send_49 : decode cX0_send 49 = .ok (.iload 4, 2) := by decide +kernel
theorem dX0_send_51 : decode cX0_send 51 = .ok (.isub, 1) := by decide +kernel
theorem dX0_send_52 : decode cX0_send 52 = .ok (.istore 8, 2) := by decide +kernel
theorem dX0_send_54 : decode cX0_send 54 = .ok (.iload 7, 2) := by decide +kernel
theorem dX0_send_56 : decode cX0_send 56 = .ok (.iload 8, 2) := by decide +kernel
theorem dX0_send_58 : decode cX0_send 58 = .ok (.if_icmp .ge 8, 3) := by decide +kernel
theorem dX0_send_61 : decode cX0_send 61 = .ok (.iload 7, 2) := by decide +kernel
theorem dX0_send_63 : decode cX0_send 63 = .ok (.goto 5, 3) := by decide +kernel
theorem dX0_send_66 : decode cX0_send 66 = .ok (.iload 8, 2) := by decide +kernel
theorem dX0_send_68 : decode cX0_send 68 = .ok (.istore 9, 2) := by decide +kernel
theorem dX0_send_70 : decode cX0_send 70 = .ok (.aload_n 0, 1) := by decide +kernel
theorem dX0_send_71 : decode cX0_send 71 = .ok (.iload_n 1, 1) := by decide +kernel
theorem dX0_send_72 : decode cX0_send 72 = .ok (.iload_n 2, 1) := by decide +kernel
theorem dX0_send_73 : decode cX0_send 73 = .ok (.iload 9, 2) := by decide +kernel
theorem dX0_send_75 : decode cX0_send 75 = .ok (.invokevirtual 64, 3) := by decide +kernel
theorem dX0_send_78 : decode cX0_send 78 = .ok (.iload 4, 2) := by decide +kernel
theorem dX0_send_80 : decode cX0_send 80 = .ok (.iload 9, 2) := by decide +kernel
theorem dX0_send_82 : decode cX0_send 82 = .ok (.iadd, 1) := by decide +kernel
theorem dX0_send_83 : decode cX0_send 83 = .ok (.istore 4, 2) := by decide +kernel
theorem dX0_send_85 : decode cX0_send 85 = .ok (.iload 4, 2) := by decide +kernel
theorem dX0_send_87 : decode cX0_send 87 = .ok (.iload_n 3, 1) := by decide +kernel
theorem dX0_send_88 : decode cX0_send 88 = .ok (.if_icmp .ge 16, 3) := by decide +kernel
theorem dX0_send_91 : decode cX0_send 91 = .ok (.aload_n 0, 1) := by decide +kernel
theorem dX0_send_92 : decode cX0_send 92 = .ok (.iload_n 1, 1) := by decide +kernel
theorem dX0_send_93 : decode cX0_send 93 = .ok (.iload_n 2, 1) := by decide +kernel
theorem dX0_send_94 : decode cX0_send 94 = .ok (.invokevirtual 55, 3) := by decide +kernel
theorem dX0_send_97 : decode cX0_send 97 = .ok (.ifCond .eq 7, 3) := by decide +kernel
theorem dX0_send_100 : decode cX0_send 100 = .ok (.iconst 1, 1) := by decide +kernel
theorem dX0_send_101 : decode cX0_send 101 = .ok (.goto 4, 3) := by decide +kernel
theorem dX0_send_104 : decode cX0_send 104 = .ok (.iconst 0, 1) := by decide +kernel
theorem dX0_send_105 : decode cX0_send 105 = .ok (.istore 5, 2) := by decide +kernel
theorem dX0_send_107 : decode cX0_send 107 = .ok (.iinc 6 1, 3) := by decide +kernel
theorem dX0_send_110 : decode cX0_send 110 = .ok (.goto (-82), 3) := by decide +kernel
theorem dX0_send_113 : decode cX0_send 113 = .ok (.iload 4, 2) := by decide +kernel
theorem dX0_send_115 : decode cX0_send 115 = .ok (.ireturn, 1) := by decide +kernel
abbrev cX0_findWay : ByteArray := prog_1_method_6_code
def yX0_findWay : MethodName := ⟨RX0, "findWay", "(II)Z"⟩
theorem dX0_findWay_0 : decode cX0_findWay 0 = .ok (.iconst 0, 1) := by decide +kernel
theorem dX0_findWay_1 : decode cX0_findWay 1 = .ok (.istore_n 3, 1) := by decide +kernel
theorem dX0_findWay_2 : decode cX0_findWay 2 = .ok (.iload_n 3, 1) := by decide +kernel
theorem dX0_findWay_3 : decode cX0_findWay 3 = .ok (.bipush 9, 2) := by decide +kernel
theorem dX0_findWay_5 : decode cX0_findWay 5 = .ok (.if_icmp .ge 16, 3) := by decide +kernel
theorem dX0_findWay_8 : decode cX0_findWay 8 = .ok (.aload_n 0, 1) := by decide +kernel
theorem dX0_findWay_9 : decode cX0_findWay 9 = .ok (.getfield 34, 3) := by decide +kernel
theorem dX0_findWay_12 : decode cX0_findWay 12 = .ok (.iload_n 3, 1) := by decide +kernel
theorem dX0_findWay_13 : decode cX0_findWay 13 = .ok (.iconst (-1), 1) := by decide +kernel
theorem dX0_findWay_14 : decode cX0_findWay 14 = .ok (.iastore, 1) := by decide +kernel
theorem dX0_findWay_15 : decode cX0_findWay 15 = .ok (.iinc 3 1, 3) := by decide +kernel
theorem dX0_findWay_18 : decode cX0_findWay 18 = .ok (.goto (-16), 3) := by decide +kernel
theorem dX0_findWay_21 : decode cX0_findWay 21 = .ok (.aload_n 0, 1) := by decide +kernel
theorem dX0_findWay_22 : decode cX0_findWay 22 = .ok (.getfield 34, 3) := by decide +kernel
theorem dX0_findWay_25 : decode cX0_findWay 25 = .ok (.iload_n 1, 1) := by decide +kernel
theorem dX0_findWay_26 : decode cX0_findWay 26 = .ok (.iload_n 1, 1) := by decide +kernel
theorem dX0_findWay_27 : decode cX0_findWay 27 = .ok (.iastore, 1) := by decide +kernel
theorem dX0_findWay_28 : decode cX0_findWay 28 = .ok (.aload_n 0, 1) := by decide +kernel
theorem dX0_findWay_29 : decode cX0_findWay 29 = .ok (.getfield 37, 3) := by decide +kernel
theorem dX0_findWay_32 : decode cX0_findWay 32 = .ok (.iconst 0, 1) := by decide +kernel
theorem dX0_findWay_33 : decode cX0_findWay 33 = .ok (.iload_n 1, 1) := by decide +kernel
theorem dX0_findWay_34 : decode cX0_findWay 34 = .ok (.iastore, 1) := by decide +kernel
theorem dX0_findWay_35 : decode cX0_findWay 35 = .ok (.iconst 1, 1) := by decide +kernel
theorem dX0_findWay_36 : decode cX0_findWay 36 = .ok (.istore_n 3, 1) := by decide +kernel
theorem dX0_findWay_37 : decode cX0_findWay 37 = .ok (.iconst 0, 1) := by decide +kernel
theorem dX0_findWay_38 : decode cX0_findWay 38 = .ok (.istore 4, 2) := by decide +kernel
theorem dX0_findWay_40 : decode cX0_findWay 40 = .ok (.iload 4, 2) := by decide +kernel
theorem dX0_findWay_42 : decode cX0_findWay 42 = .ok (.iload_n 3, 1) := by decide +kernel
theorem dX0_findWay_43 : decode cX0_findWay 43 = .ok (.if_icmp .ge 87, 3) := by decide +kernel
theorem dX0_findWay_46 : decode cX0_findWay 46 = .ok (.iload 4, 2) := by decide +kernel
theorem dX0_findWay_48 : decode cX0_findWay 48 = .ok (.bipush 9, 2) := by decide +kernel
theorem dX0_findWay_50 : decode cX0_findWay 50 = .ok (.if_icmp .ge 80, 3) := by decide +kernel
theorem dX0_findWay_53 : decode cX0_findWay 53 = .ok (.aload_n 0, 1) := by decide +kernel
theorem dX0_findWay_54 : decode cX0_findWay 54 = .ok (.getfield 37, 3) := by decide +kernel
theorem dX0_findWay_57 : decode cX0_findWay 57 = .ok (.iload 4, 2) := by decide +kernel
theorem dX0_findWay_59 : decode cX0_findWay 59 = .ok (.iaload, 1) := by decide +kernel
theorem dX0_findWay_60 : decode cX0_findWay 60 = .ok (.istore 5, 2) := by decide +kernel
theorem dX0_findWay_62 : decode cX0_findWay 62 = .ok (.iconst 0, 1) := by decide +kernel
theorem dX0_findWay_63 : decode cX0_findWay 63 = .ok (.istore 6, 2) := by decide +kernel
theorem dX0_findWay_65 : decode cX0_findWay 65 = .ok (.iload 6, 2) := by decide +kernel
theorem dX0_findWay_67 : decode cX0_findWay 67 = .ok (.bipush 9, 2) := by decide +kernel
theorem dX0_findWay_69 : decode cX0_findWay 69 = .ok (.if_icmp .ge 55, 3) := by decide +kernel
theorem dX0_findWay_72 : decode cX0_findWay 72 = .ok (.aload_n 0, 1) := by decide +kernel
theorem dX0_findWay_73 : decode cX0_findWay 73 = .ok (.getfield 28, 3) := by decide +kernel
theorem dX0_findWay_76 : decode cX0_findWay 76 = .ok (.bipush 9, 2) := by decide +kernel
theorem dX0_findWay_78 : decode cX0_findWay 78 = .ok (.iload 5, 2) := by decide +kernel
theorem dX0_findWay_80 : decode cX0_findWay 80 = .ok (.imul, 1) := by decide +kernel
theorem dX0_findWay_81 : decode cX0_findWay 81 = .ok (.iload 6, 2) := by decide +kernel
theorem dX0_findWay_83 : decode cX0_findWay 83 = .ok (.iadd, 1) := by decide +kernel
theorem dX0_findWay_84 : decode cX0_findWay 84 = .ok (.iaload, 1) := by decide +kernel
theorem dX0_findWay_85 : decode cX0_findWay 85 = .ok (.ifCond .le 33, 3) := by decide +kernel
theorem dX0_findWay_88 : decode cX0_findWay 88 = .ok (.aload_n 0, 1) := by decide +kernel
theorem dX0_findWay_89 : decode cX0_findWay 89 = .ok (.getfield 34, 3) := by decide +kernel
theorem dX0_findWay_92 : decode cX0_findWay 92 = .ok (.iload 6, 2) := by decide +kernel
theorem dX0_findWay_94 : decode cX0_findWay 94 = .ok (.iaload, 1) := by decide +kernel
theorem dX0_findWay_95 : decode cX0_findWay 95 = .ok (.ifCond .ge 23, 3) := by decide +kernel
theorem dX0_findWay_98 : decode cX0_findWay 98 = .ok (.aload_n 0, 1) := by decide +kernel
theorem dX0_findWay_99 : decode cX0_findWay 99 = .ok (.getfield 34, 3) := by decide +kernel
theorem dX0_findWay_102 : decode cX0_findWay 102 = .ok (.iload 6, 2) := by decide +kernel
end
section
set_option maxRecDepth 100000
theorem dX0_findWay_104 : decode cX0_findWay 104 = .ok (.iload 5, 2) := by decide +kernel
theorem dX0_findWay_106 : decode cX0_findWay 106 = .ok (.iastore, 1) := by decide +kernel
theorem dX0_findWay_107 : decode cX0_findWay 107 = .ok (.aload_n 0, 1) := by decide +kernel
theorem dX0_findWay_108 : decode cX0_findWay 108 = .ok (.getfield 37, 3) := by decide +kernel
theorem dX0_findWay_111 : decode cX0_findWay 111 = .ok (.iload_n 3, 1) := by decide +kernel
theorem dX0_findWay_112 : decode cX0_findWay 112 = .ok (.iload 6, 2) := by decide +kernel
theorem dX0_findWay_114 : decode cX0_findWay 114 = .ok (.iastore, 1) := by decide +kernel
theorem dX0_findWay_115 : decode cX0_findWay 115 = .ok (.iinc 3 1, 3) := by decide +kernel
theorem dX0_findWay_118 : decode cX0_findWay 118 = .ok (.iinc 6 1, 3) := by decide +kernel
theorem dX0_findWay_121 : decode cX0_findWay 121 = .ok (.goto (-56), 3) := by decide +kernel
theorem dX0_findWay_124 : decode cX0_findWay 124 = .ok (.iinc 4 1, 3) := by decide +kernel
theorem dX0_findWay_127 : decode cX0_findWay 127 = .ok (.goto (-87), 3) := by decide +kernel
theorem dX0_findWay_130 : decode cX0_findWay 130 = .ok (.aload_n 0, 1) := by decide +kernel
theorem dX0_findWay_131 : decode cX0_findWay 131 = .ok (.getfield 34, 3) := by decide +kernel
theorem dX0_findWay_134 : decode cX0_findWay 134 = .ok (.iload_n 2, 1) := by decide +kernel
theorem dX0_findWay_135 : decode cX0_findWay 135 = .ok (.iaload, 1) := by decide +kernel
theorem dX0_findWay_136 : decode cX0_findWay 136 = .ok (.ifCond .lt 7, 3) := by decide +kernel
theorem dX0_findWay_139 : decode cX0_findWay 139 = .ok (.iconst 1, 1) := by decide +kernel
theorem dX0_findWay_140 : decode cX0_findWay 140 = .ok (.goto 4, 3) := by decide +kernel
theorem dX0_findWay_143 : decode cX0_findWay 143 = .ok (.iconst 0, 1) := by decide +kernel
theorem dX0_findWay_144 : decode cX0_findWay 144 = .ok (.ireturn, 1) := by decide +kernel
abbrev cX0_narrowest : ByteArray := prog_1_method_7_code
def yX0_narrowest : MethodName := ⟨RX0, "narrowest", "(II)I"⟩
theorem dX0_narrowest_0 : decode cX0_narrowest 0 = .ok (.ldc 54, 2) := by decide +kernel
theorem dX0_narrowest_2 : decode cX0_narrowest 2 = .ok (.istore_n 3, 1) := by decide +kernel
theorem dX0_narrowest_3 : decode cX0_narrowest 3 = .ok (.iload_n 2, 1) := by decide +kernel
theorem dX0_narrowest_4 : decode cX0_narrowest 4 = .ok (.istore 4, 2) := by decide +kernel
theorem dX0_narrowest_6 : decode cX0_narrowest 6 = .ok (.iconst 0, 1) := by decide +kernel
theorem dX0_narrowest_7 : decode cX0_narrowest 7 = .ok (.istore 5, 2) := by decide +kernel
theorem dX0_narrowest_9 : decode cX0_narrowest 9 = .ok (.iload 5, 2) := by decide +kernel
theorem dX0_narrowest_11 : decode cX0_narrowest 11 = .ok (.bipush 9, 2) := by decide +kernel
theorem dX0_narrowest_13 : decode cX0_narrowest 13 = .ok (.if_icmp .ge 56, 3) := by decide +kernel
theorem dX0_narrowest_16 : decode cX0_narrowest 16 = .ok (.iload 4, 2) := by decide +kernel
theorem dX0_narrowest_18 : decode cX0_narrowest 18 = .ok (.iload_n 1, 1) := by decide +kernel
theorem dX0_narrowest_19 : decode cX0_narrowest 19 = .ok (.if_icmp .eq 50, 3) := by decide +kernel
theorem dX0_narrowest_22 : decode cX0_narrowest 22 = .ok (.aload_n 0, 1) := by decide +kernel
theorem dX0_narrowest_23 : decode cX0_narrowest 23 = .ok (.getfield 34, 3) := by decide +kernel
theorem dX0_narrowest_26 : decode cX0_narrowest 26 = .ok (.iload 4, 2) := by decide +kernel
theorem dX0_narrowest_28 : decode cX0_narrowest 28 = .ok (.iaload, 1) := by decide +kernel
theorem dX0_narrowest_29 : decode cX0_narrowest 29 = .ok (.istore 6, 2) := by decide +kernel
theorem dX0_narrowest_31 : decode cX0_narrowest 31 = .ok (.aload_n 0, 1) := by decide +kernel
theorem dX0_narrowest_32 : decode cX0_narrowest 32 = .ok (.getfield 28, 3) := by decide +kernel
theorem dX0_narrowest_35 : decode cX0_narrowest 35 = .ok (.bipush 9, 2) := by decide +kernel
theorem dX0_narrowest_37 : decode cX0_narrowest 37 = .ok (.iload 6, 2) := by decide +kernel
theorem dX0_narrowest_39 : decode cX0_narrowest 39 = .ok (.imul, 1) := by decide +kernel
theorem dX0_narrowest_40 : decode cX0_narrowest 40 = .ok (.iload 4, 2) := by decide +kernel
theorem dX0_narrowest_42 : decode cX0_narrowest 42 = .ok (.iadd, 1) := by decide +kernel
theorem dX0_narrowest_43 : decode cX0_narrowest 43 = .ok (.iaload, 1) := by decide +kernel
theorem dX0_narrowest_44 : decode cX0_narrowest 44 = .ok (.istore 7, 2) := by decide +kernel
theorem dX0_narrowest_46 : decode cX0_narrowest 46 = .ok (.iload 7, 2) := by decide +kernel
theorem dX0_narrowest_48 : decode cX0_narrowest 48 = .ok (.iload_n 3, 1) := by decide +kernel
theorem dX0_narrowest_49 : decode cX0_narrowest 49 = .ok (.if_icmp .ge 8, 3) := by decide +kernel
theorem dX0_narrowest_52 : decode cX0_narrowest 52 = .ok (.iload 7, 2) := by decide +kernel
theorem dX0_narrowest_54 : decode cX0_narrowest 54 = .ok (.goto 4, 3) := by decide +kernel
theorem dX0_narrowest_57 : decode cX0_narrowest 57 = .ok (.iload_n 3, 1) := by decide +kernel
theorem dX0_narrowest_58 : decode cX0_narrowest 58 = .ok (.istore_n 3, 1) := by decide +kernel
theorem dX0_narrowest_59 : decode cX0_narrowest 59 = .ok (.iload 6, 2) := by decide +kernel
theorem dX0_narrowest_61 : decode cX0_narrowest 61 = .ok (.istore 4, 2) := by decide +kernel
theorem dX0_narrowest_63 : decode cX0_narrowest 63 = .ok (.iinc 5 1, 3) := by decide +kernel
theorem dX0_narrowest_66 : decode cX0_narrowest 66 = .ok (.goto (-57), 3) := by decide +kernel
theorem dX0_narrowest_69 : decode cX0_narrowest 69 = .ok (.iload_n 3, 1) := by decide +kernel
theorem dX0_narrowest_70 : decode cX0_narrowest 70 = .ok (.ireturn, 1) := by decide +kernel
abbrev cX0_push : ByteArray := prog_1_method_8_code
def yX0_push : MethodName := ⟨RX0, "push", "(III)V"⟩
theorem dX0_push_0 : decode cX0_push 0 = .ok (.iload_n 2, 1) := by decide +kernel
theorem dX0_push_1 : decode cX0_push 1 = .ok (.istore 4, 2) := by decide +kernel
theorem dX0_push_3 : decode cX0_push 3 = .ok (.iconst 0, 1) := by decide +kernel
theorem dX0_push_4 : decode cX0_push 4 = .ok (.istore 5, 2) := by decide +kernel
theorem dX0_push_6 : decode cX0_push 6 = .ok (.iload 5, 2) := by decide +kernel
theorem dX0_push_8 : decode cX0_push 8 = .ok (.bipush 9, 2) := by decide +kernel
theorem dX0_push_10 : decode cX0_push 10 = .ok (.if_icmp .ge 62, 3) := by decide +kernel
theorem dX0_push_13 : decode cX0_push 13 = .ok (.iload 4, 2) := by decide +kernel
theorem dX0_push_15 : decode cX0_push 15 = .ok (.iload_n 1, 1) := by decide +kernel
theorem dX0_push_16 : decode cX0_push 16 = .ok (.if_icmp .eq 56, 3) := by decide +kernel
theorem dX0_push_19 : decode cX0_push 19 = .ok (.aload_n 0, 1) := by decide +kernel
theorem dX0_push_20 : decode cX0_push 20 = .ok (.getfield 34, 3) := by decide +kernel
theorem dX0_push_23 : decode cX0_push 23 = .ok (.iload 4, 2) := by decide +kernel
theorem dX0_push_25 : decode cX0_push 25 = .ok (.iaload, 1) := by decide +kernel
theorem dX0_push_26 : decode cX0_push 26 = .ok (.istore 6, 2) := by decide +kernel
theorem dX0_push_28 : decode cX0_push 28 = .ok (.aload_n 0, 1) := by decide +kernel
theorem dX0_push_29 : decode cX0_push 29 = .ok (.getfield 28, 3) := by decide +kernel
theorem dX0_push_32 : decode cX0_push 32 = .ok (.bipush 9, 2) := by decide +kernel
theorem dX0_push_34 : decode cX0_push 34 = .ok (.iload 6, 2) := by decide +kernel
theorem dX0_push_36 : decode cX0_push 36 = .ok (.imul, 1) := by decide +kernel
theorem dX0_push_37 : decode cX0_push 37 = .ok (.iload 4, 2) := by decide +kernel
theorem dX0_push_39 : decode cX0_push 39 = .ok (.iadd, 1) := by decide +kernel
theorem dX0_push_40 : decode cX0_push 40 = .ok (.dup2, 1) := by decide +kernel
theorem dX0_push_41 : decode cX0_push 41 = .ok (.iaload, 1) := by decide +kernel
theorem dX0_push_42 : decode cX0_push 42 = .ok (.iload_n 3, 1) := by decide +kernel
theorem dX0_push_43 : decode cX0_push 43 = .ok (.isub, 1) := by decide +kernel
theorem dX0_push_44 : decode cX0_push 44 = .ok (.iastore, 1) := by decide +kernel
theorem dX0_push_45 : decode cX0_push 45 = .ok (.aload_n 0, 1) := by decide +kernel
theorem dX0_push_46 : decode cX0_push 46 = .ok (.getfield 28, 3) := by decide +kernel
theorem dX0_push_49 : decode cX0_push 49 = .ok (.bipush 9, 2) := by decide +kernel
theorem dX0_push_51 : decode cX0_push 51 = .ok (.iload 4, 2) := by decide +kernel
theorem dX0_push_53 : decode cX0_push 53 = .ok (.imul, 1) := by decide +kernel
theorem dX0_push_54 : decode cX0_push 54 = .ok (.iload 6, 2) := by decide +kernel
theorem dX0_push_56 : decode cX0_push 56 = .ok (.iadd, 1) := by decide +kernel
theorem dX0_push_57 : decode cX0_push 57 = .ok (.dup2, 1) := by decide +kernel
theorem dX0_push_58 : decode cX0_push 58 = .ok (.iaload, 1) := by decide +kernel
theorem dX0_push_59 : decode cX0_push 59 = .ok (.iload_n 3, 1) := by decide +kernel
theorem dX0_push_60 : decode cX0_push 60 = .ok (.iadd, 1) := by decide +kernel
theorem dX0_push_61 : decode cX0_push 61 = .ok (.iastore, 1) := by decide +kernel
theorem dX0_push_62 : decode cX0_push 62 = .ok (.iload 6, 2) := by decide +kernel
theorem dX0_push_64 : decode cX0_push 64 = .ok (.istore 4, 2) := by decide +kernel
theorem dX0_push_66 : decode cX0_push 66 = .ok (.iinc 5 1, 3) := by decide +kernel
theorem dX0_push_69 : decode cX0_push 69 = .ok (.goto (-63), 3) := by decide +kernel
theorem dX0_push_72 : decode cX0_push 72 = .ok (.return_, 1) := by decide +kernel
abbrev cX0_keepWork : ByteArray := prog_1_method_5_code
def yX0_keepWork : MethodName := ⟨RX0, "keepWork", "()V"⟩
theorem dX0_keepWork_0 : decode cX0_keepWork 0 = .ok (.iconst 0, 1) := by decide +kernel
theorem dX0_keepWork_1 : decode cX0_keepWork 1 = .ok (.istore_n 1, 1) := by decide +kernel
theorem dX0_keepWork_2 : decode cX0_keepWork 2 = .ok (.iload_n 1, 1) := by decide +kernel
theorem dX0_keepWork_3 : decode cX0_keepWork 3 = .ok (.bipush 7, 2) := by decide +kernel
theorem dX0_keepWork_5 : decode cX0_keepWork 5 = .ok (.if_icmp .ge 45, 3) := by decide +kernel
theorem dX0_keepWork_8 : decode cX0_keepWork 8 = .ok (.iconst 0, 1) := by decide +kernel
theorem dX0_keepWork_9 : decode cX0_keepWork 9 = .ok (.istore_n 2, 1) := by decide +kernel
theorem dX0_keepWork_10 : decode cX0_keepWork 10 = .ok (.iload_n 2, 1) := by decide +kernel
theorem dX0_keepWork_11 : decode cX0_keepWork 11 = .ok (.bipush 7, 2) := by decide +kernel
theorem dX0_keepWork_13 : decode cX0_keepWork 13 = .ok (.if_icmp .ge 31, 3) := by decide +kernel
theorem dX0_keepWork_16 : decode cX0_keepWork 16 = .ok (.aload_n 0, 1) := by decide +kernel
theorem dX0_keepWork_17 : decode cX0_keepWork 17 = .ok (.getfield 16, 3) := by decide +kernel
theorem dX0_keepWork_20 : decode cX0_keepWork 20 = .ok (.bipush 9, 2) := by decide +kernel
theorem dX0_keepWork_22 : decode cX0_keepWork 22 = .ok (.iload_n 1, 1) := by decide +kernel
theorem dX0_keepWork_23 : decode cX0_keepWork 23 = .ok (.imul, 1) := by decide +kernel
theorem dX0_keepWork_24 : decode cX0_keepWork 24 = .ok (.iload_n 2, 1) := by decide +kernel
theorem dX0_keepWork_25 : decode cX0_keepWork 25 = .ok (.iadd, 1) := by decide +kernel
theorem dX0_keepWork_26 : decode cX0_keepWork 26 = .ok (.aload_n 0, 1) := by decide +kernel
theorem dX0_keepWork_27 : decode cX0_keepWork 27 = .ok (.getfield 28, 3) := by decide +kernel
theorem dX0_keepWork_30 : decode cX0_keepWork 30 = .ok (.bipush 9, 2) := by decide +kernel
theorem dX0_keepWork_32 : decode cX0_keepWork 32 = .ok (.iload_n 1, 1) := by decide +kernel
theorem dX0_keepWork_33 : decode cX0_keepWork 33 = .ok (.imul, 1) := by decide +kernel
theorem dX0_keepWork_34 : decode cX0_keepWork 34 = .ok (.iload_n 2, 1) := by decide +kernel
theorem dX0_keepWork_35 : decode cX0_keepWork 35 = .ok (.iadd, 1) := by decide +kernel
theorem dX0_keepWork_36 : decode cX0_keepWork 36 = .ok (.iaload, 1) := by decide +kernel
theorem dX0_keepWork_37 : decode cX0_keepWork 37 = .ok (.iastore, 1) := by decide +kernel
theorem dX0_keepWork_38 : decode cX0_keepWork 38 = .ok (.iinc 2 1, 3) := by decide +kernel
theorem dX0_keepWork_41 : decode cX0_keepWork 41 = .ok (.goto (-31), 3) := by decide +kernel
theorem dX0_keepWork_44 : decode cX0_keepWork 44 = .ok (.iinc 1 1, 3) := by decide +kernel
theorem dX0_keepWork_47 : decode cX0_keepWork 47 = .ok (.goto (-45), 3) := by decide +kernel
theorem dX0_keepWork_50 : decode cX0_keepWork 50 = .ok (.return_, 1) := by decide +kernel
abbrev cX0_pay : ByteArray := prog_1_method_12_code
def yX0_pay : MethodName := ⟨RX0, "pay", "(III)I"⟩
theorem dX0_pay_0 : decode cX0_pay 0 = .ok (.iload_n 1, 1) := by decide +kernel
theorem dX0_pay_1 : decode cX0_pay 1 = .ok (.iload_n 2, 1) := by decide +kernel
theorem dX0_pay_2 : decode cX0_pay 2 = .ok (.invokestatic 68, 3) := by decide +kernel
theorem dX0_pay_5 : decode cX0_pay 5 = .ok (.ifCond .ne 5, 3) := by decide +kernel
theorem dX0_pay_8 : decode cX0_pay 8 = .ok (.iconst (-1), 1) := by decide +kernel
theorem dX0_pay_9 : decode cX0_pay 9 = .ok (.ireturn, 1) := by decide +kernel
theorem dX0_pay_10 : decode cX0_pay 10 = .ok (.iload_n 3, 1) := by decide +kernel
theorem dX0_pay_11 : decode cX0_pay 11 = .ok (.ifCond .ge 6, 3) := by decide +kernel
theorem dX0_pay_14 : decode cX0_pay 14 = .ok (.bipush (-2), 2) := by decide +kernel
theorem dX0_pay_16 : decode cX0_pay 16 = .ok (.ireturn, 1) := by decide +kernel
theorem dX0_pay_17 : decode cX0_pay 17 = .ok (.aload_n 0, 1) := by decide +kernel
theorem dX0_pay_18 : decode cX0_pay 18 = .ok (.invokevirtual 71, 3) := by decide +kernel
theorem dX0_pay_21 : decode cX0_pay 21 = .ok (.aload_n 0, 1) := by decide +kernel
theorem dX0_pay_22 : decode cX0_pay 22 = .ok (.iload_n 1, 1) := by decide +kernel
theorem dX0_pay_23 : decode cX0_pay 23 = .ok (.iload_n 2, 1) := by decide +kernel
theorem dX0_pay_24 : decode cX0_pay 24 = .ok (.iload_n 3, 1) := by decide +kernel
theorem dX0_pay_25 : decode cX0_pay 25 = .ok (.invokevirtual 74, 3) := by decide +kernel
theorem dX0_pay_28 : decode cX0_pay 28 = .ok (.istore 4, 2) := by decide +kernel
theorem dX0_pay_30 : decode cX0_pay 30 = .ok (.iload 4, 2) := by decide +kernel
theorem dX0_pay_32 : decode cX0_pay 32 = .ok (.iload_n 3, 1) := by decide +kernel
theorem dX0_pay_33 : decode cX0_pay 33 = .ok (.if_icmp .ge 6, 3) := by decide +kernel
theorem dX0_pay_36 : decode cX0_pay 36 = .ok (.bipush (-3), 2) := by decide +kernel
theorem dX0_pay_38 : decode cX0_pay 38 = .ok (.ireturn, 1) := by decide +kernel
theorem dX0_pay_39 : decode cX0_pay 39 = .ok (.aload_n 0, 1) := by decide +kernel
theorem dX0_pay_40 : decode cX0_pay 40 = .ok (.invokevirtual 78, 3) := by decide +kernel
theorem dX0_pay_43 : decode cX0_pay 43 = .ok (.aload_n 0, 1) := by decide +kernel
theorem dX0_pay_44 : decode cX0_pay 44 = .ok (.getfield 13, 3) := by decide +kernel
theorem dX0_pay_47 : decode cX0_pay 47 = .ok (.iload_n 1, 1) := by decide +kernel
theorem dX0_pay_48 : decode cX0_pay 48 = .ok (.dup2, 1) := by decide +kernel
theorem dX0_pay_49 : decode cX0_pay 49 = .ok (.iaload, 1) := by decide +kernel
theorem dX0_pay_50 : decode cX0_pay 50 = .ok (.iload_n 3, 1) := by decide +kernel
theorem dX0_pay_51 : decode cX0_pay 51 = .ok (.isub, 1) := by decide +kernel
theorem dX0_pay_52 : decode cX0_pay 52 = .ok (.iastore, 1) := by decide +kernel
theorem dX0_pay_53 : decode cX0_pay 53 = .ok (.aload_n 0, 1) := by decide +kernel
theorem dX0_pay_54 : decode cX0_pay 54 = .ok (.getfield 13, 3) := by decide +kernel
theorem dX0_pay_57 : decode cX0_pay 57 = .ok (.iload_n 2, 1) := by decide +kernel
theorem dX0_pay_58 : decode cX0_pay 58 = .ok (.dup2, 1) := by decide +kernel
theorem dX0_pay_59 : decode cX0_pay 59 = .ok (.iaload, 1) := by decide +kernel
theorem dX0_pay_60 : decode cX0_pay 60 = .ok (.iload_n 3, 1) := by decide +kernel
theorem dX0_pay_61 : decode cX0_pay 61 = .ok (.iadd, 1) := by decide +kernel
theorem dX0_pay_62 : decode cX0_pay 62 = .ok (.iastore, 1) := by decide +kernel
theorem dX0_pay_63 : decode cX0_pay 63 = .ok (.aload_n 0, 1) := by decide +kernel
theorem dX0_pay_64 : decode cX0_pay 64 = .ok (.getfield 13, 3) := by decide +kernel
theorem dX0_pay_67 : decode cX0_pay 67 = .ok (.iload_n 1, 1) := by decide +kernel
theorem dX0_pay_68 : decode cX0_pay 68 = .ok (.iaload, 1) := by decide +kernel
theorem dX0_pay_69 : decode cX0_pay 69 = .ok (.ireturn, 1) := by decide +kernel
abbrev cX0_gather : ByteArray := prog_1_method_13_code
def yX0_gather : MethodName := ⟨RX0, "gather", "(III)I"⟩
theorem dX0_gather_0 : decode cX0_gather 0 = .ok (.iload_n 1, 1) := by decide +kernel
theorem dX0_gather_1 : decode cX0_gather 1 = .ok (.iload_n 2, 1) := by decide +kernel
theorem dX0_gather_2 : decode cX0_gather 2 = .ok (.invokestatic 68, 3) := by decide +kernel
theorem dX0_gather_5 : decode cX0_gather 5 = .ok (.ifCond .ne 5, 3) := by decide +kernel
theorem dX0_gather_8 : decode cX0_gather 8 = .ok (.iconst (-1), 1) := by decide +kernel
theorem dX0_gather_9 : decode cX0_gather 9 = .ok (.ireturn, 1) := by decide +kernel
theorem dX0_gather_10 : decode cX0_gather 10 = .ok (.iload_n 3, 1) := by decide +kernel
theorem dX0_gather_11 : decode cX0_gather 11 = .ok (.ifCond .lt 10, 3) := by decide +kernel
theorem dX0_gather_14 : decode cX0_gather 14 = .ok (.iload_n 3, 1) := by decide +kernel
theorem dX0_gather_15 : decode cX0_gather 15 = .ok (.sipush 10000, 3) := by decide +kernel
theorem dX0_gather_18 : decode cX0_gather 18 = .ok (.if_icmp .le 6, 3) := by decide +kernel
theorem dX0_gather_21 : decode cX0_gather 21 = .ok (.bipush (-2), 2) := by decide +kernel
theorem dX0_gather_23 : decode cX0_gather 23 = .ok (.ireturn, 1) := by decide +kernel
theorem dX0_gather_24 : decode cX0_gather 24 = .ok (.aload_n 0, 1) := by decide +kernel
theorem dX0_gather_25 : decode cX0_gather 25 = .ok (.getfield 46, 3) := by decide +kernel
theorem dX0_gather_28 : decode cX0_gather 28 = .ok (.bipush 6, 2) := by decide +kernel
theorem dX0_gather_30 : decode cX0_gather 30 = .ok (.if_icmp .lt 6, 3) := by decide +kernel
theorem dX0_gather_33 : decode cX0_gather 33 = .ok (.bipush (-3), 2) := by decide +kernel
theorem dX0_gather_35 : decode cX0_gather 35 = .ok (.ireturn, 1) := by decide +kernel
theorem dX0_gather_36 : decode cX0_gather 36 = .ok (.aload_n 0, 1) := by decide +kernel
theorem dX0_gather_37 : decode cX0_gather 37 = .ok (.getfield 19, 3) := by decide +kernel
theorem dX0_gather_40 : decode cX0_gather 40 = .ok (.aload_n 0, 1) := by decide +kernel
theorem dX0_gather_41 : decode cX0_gather 41 = .ok (.getfield 46, 3) := by decide +kernel
theorem dX0_gather_44 : decode cX0_gather 44 = .ok (.iload_n 1, 1) := by decide +kernel
theorem dX0_gather_45 : decode cX0_gather 45 = .ok (.iastore, 1) := by decide +kernel
theorem dX0_gather_46 : decode cX0_gather 46 = .ok (.aload_n 0, 1) := by decide +kernel
theorem dX0_gather_47 : decode cX0_gather 47 = .ok (.getfield 22, 3) := by decide +kernel
theorem dX0_gather_50 : decode cX0_gather 50 = .ok (.aload_n 0, 1) := by decide +kernel
theorem dX0_gather_51 : decode cX0_gather 51 = .ok (.getfield 46, 3) := by decide +kernel
theorem dX0_gather_54 : decode cX0_gather 54 = .ok (.iload_n 2, 1) := by decide +kernel
theorem dX0_gather_55 : decode cX0_gather 55 = .ok (.iastore, 1) := by decide +kernel
theorem dX0_gather_56 : decode cX0_gather 56 = .ok (.aload_n 0, 1) := by decide +kernel
theorem dX0_gather_57 : decode cX0_gather 57 = .ok (.getfield 25, 3) := by decide +kernel
theorem dX0_gather_60 : decode cX0_gather 60 = .ok (.aload_n 0, 1) := by decide +kernel
theorem dX0_gather_61 : decode cX0_gather 61 = .ok (.getfield 46, 3) := by decide +kernel
theorem dX0_gather_64 : decode cX0_gather 64 = .ok (.iload_n 3, 1) := by decide +kernel
theorem dX0_gather_65 : decode cX0_gather 65 = .ok (.iastore, 1) := by decide +kernel
theorem dX0_gather_66 : decode cX0_gather 66 = .ok (.aload_n 0, 1) := by decide +kernel
theorem dX0_gather_67 : decode cX0_gather 67 = .ok (.dup, 1) := by decide +kernel
theorem dX0_gather_68 : decode cX0_gather 68 = .ok (.getfield 46, 3) := by decide +kernel
theorem dX0_gather_71 : decode cX0_gather 71 = .ok (.iconst 1, 1) := by decide +kernel
theorem dX0_gather_72 : decode cX0_gather 72 = .ok (.iadd, 1) := by decide +kernel
theorem dX0_gather_73 : decode cX0_gather 73 = .ok (.putfield 46, 3) := by decide +kernel
theorem dX0_gather_76 : decode cX0_gather 76 = .ok (.aload_n 0, 1) := by decide +kernel
theorem dX0_gather_77 : decode cX0_gather 77 = .ok (.getfield 46, 3) := by decide +kernel
theorem dX0_gather_80 : decode cX0_gather 80 = .ok (.ireturn, 1) := by decide +kernel
abbrev cX0_clear : ByteArray := prog_1_method_14_code
def yX0_clear : MethodName := ⟨RX0, "clear", "()I"⟩
theorem dX0_clear_0 : decode cX0_clear 0 = .ok (.iconst 0, 1) := by decide +kernel
theorem dX0_clear_1 : decode cX0_clear 1 = .ok (.istore_n 1, 1) := by decide +kernel
theorem dX0_clear_2 : decode cX0_clear 2 = .ok (.iload_n 1, 1) := by decide +kernel
theorem dX0_clear_3 : decode cX0_clear 3 = .ok (.bipush 7, 2) := by decide +kernel
theorem dX0_clear_5 : decode cX0_clear 5 = .ok (.if_icmp .ge 16, 3) := by decide +kernel
theorem dX0_clear_8 : decode cX0_clear 8 = .ok (.aload_n 0, 1) := by decide +kernel
theorem dX0_clear_9 : decode cX0_clear 9 = .ok (.getfield 43, 3) := by decide +kernel
theorem dX0_clear_12 : decode cX0_clear 12 = .ok (.iload_n 1, 1) := by decide +kernel
theorem dX0_clear_13 : decode cX0_clear 13 = .ok (.iconst 0, 1) := by decide +kernel
theorem dX0_clear_14 : decode cX0_clear 14 = .ok (.iastore, 1) := by decide +kernel
theorem dX0_clear_15 : decode cX0_clear 15 = .ok (.iinc 1 1, 3) := by decide +kernel
theorem dX0_clear_18 : decode cX0_clear 18 = .ok (.goto (-16), 3) := by decide +kernel
theorem dX0_clear_21 : decode cX0_clear 21 = .ok (.iconst 0, 1) := by decide +kernel
theorem dX0_clear_22 : decode cX0_clear 22 = .ok (.istore_n 1, 1) := by decide +kernel
theorem dX0_clear_23 : decode cX0_clear 23 = .ok (.iload_n 1, 1) := by decide +kernel
theorem dX0_clear_24 : decode cX0_clear 24 = .ok (.aload_n 0, 1) := by decide +kernel
theorem dX0_clear_25 : decode cX0_clear 25 = .ok (.getfield 46, 3) := by decide +kernel
theorem dX0_clear_28 : decode cX0_clear 28 = .ok (.if_icmp .ge 49, 3) := by decide +kernel
theorem dX0_clear_31 : decode cX0_clear 31 = .ok (.aload_n 0, 1) := by decide +kernel
theorem dX0_clear_32 : decode cX0_clear 32 = .ok (.getfield 43, 3) := by decide +kernel
theorem dX0_clear_35 : decode cX0_clear 35 = .ok (.aload_n 0, 1) := by decide +kernel
theorem dX0_clear_36 : decode cX0_clear 36 = .ok (.getfield 19, 3) := by decide +kernel
theorem dX0_clear_39 : decode cX0_clear 39 = .ok (.iload_n 1, 1) := by decide +kernel
theorem dX0_clear_40 : decode cX0_clear 40 = .ok (.iaload, 1) := by decide +kernel
theorem dX0_clear_41 : decode cX0_clear 41 = .ok (.dup2, 1) := by decide +kernel
theorem dX0_clear_42 : decode cX0_clear 42 = .ok (.iaload, 1) := by decide +kernel
theorem dX0_clear_43 : decode cX0_clear 43 = .ok (.aload_n 0, 1) := by decide +kernel
theorem dX0_clear_44 : decode cX0_clear 44 = .ok (.getfield 25, 3) := by decide +kernel
theorem dX0_clear_47 : decode cX0_clear 47 = .ok (.iload_n 1, 1) := by decide +kernel
theorem dX0_clear_48 : decode cX0_clear 48 = .ok (.iaload, 1) := by decide +kernel
theorem dX0_clear_49 : decode cX0_clear 49 = .ok (.isub, 1) := by decide +kernel
theorem dX0_clear_50 : decode cX0_clear 50 = .ok (.iastore, 1) := by decide +kernel
theorem dX0_clear_51 : decode cX0_clear 51 = .ok (.aload_n 0, 1) := by decide +kernel
theorem dX0_clear_52 : decode cX0_clear 52 = .ok (.getfield 43, 3) := by decide +kernel
theorem dX0_clear_55 : decode cX0_clear 55 = .ok (.aload_n 0, 1) := by decide +kernel
theorem dX0_clear_56 : decode cX0_clear 56 = .ok (.getfield 22, 3) := by decide +kernel
theorem dX0_clear_59 : decode cX0_clear 59 = .ok (.iload_n 1, 1) := by decide +kernel
theorem dX0_clear_60 : decode cX0_clear 60 = .ok (.iaload, 1) := by decide +kernel
theorem dX0_clear_61 : decode cX0_clear 61 = .ok (.dup2, 1) := by decide +kernel
theorem dX0_clear_62 : decode cX0_clear 62 = .ok (.iaload, 1) := by decide +kernel
theorem dX0_clear_63 : decode cX0_clear 63 = .ok (.aload_n 0, 1) := by decide +kernel
theorem dX0_clear_64 : decode cX0_clear 64 = .ok (.getfield 25, 3) := by decide +kernel
theorem dX0_clear_67 : decode cX0_clear 67 = .ok (.iload_n 1, 1) := by decide +kernel
theorem dX0_clear_68 : decode cX0_clear 68 = .ok (.iaload, 1) := by decide +kernel
theorem dX0_clear_69 : decode cX0_clear 69 = .ok (.iadd, 1) := by decide +kernel
theorem dX0_clear_70 : decode cX0_clear 70 = .ok (.iastore, 1) := by decide +kernel
theorem dX0_clear_71 : decode cX0_clear 71 = .ok (.iinc 1 1, 3) := by decide +kernel
theorem dX0_clear_74 : decode cX0_clear 74 = .ok (.goto (-51), 3) := by decide +kernel
theorem dX0_clear_77 : decode cX0_clear 77 = .ok (.aload_n 0, 1) := by decide +kernel
theorem dX0_clear_78 : decode cX0_clear 78 = .ok (.invokevirtual 71, 3) := by decide +kernel
theorem dX0_clear_81 : decode cX0_clear 81 = .ok (.iconst 0, 1) := by decide +kernel
theorem dX0_clear_82 : decode cX0_clear 82 = .ok (.istore_n 1, 1) := by decide +kernel
theorem dX0_clear_83 : decode cX0_clear 83 = .ok (.iconst 0, 1) := by decide +kernel
theorem dX0_clear_84 : decode cX0_clear 84 = .ok (.istore_n 2, 1) := by decide +kernel
theorem dX0_clear_85 : decode cX0_clear 85 = .ok (.iload_n 2, 1) := by decide +kernel
theorem dX0_clear_86 : decode cX0_clear 86 = .ok (.bipush 7, 2) := by decide +kernel
theorem dX0_clear_88 : decode cX0_clear 88 = .ok (.if_icmp .ge 91, 3) := by decide +kernel
theorem dX0_clear_91 : decode cX0_clear 91 = .ok (.aload_n 0, 1) := by decide +kernel
theorem dX0_clear_92 : decode cX0_clear 92 = .ok (.getfield 28, 3) := by decide +kernel
theorem dX0_clear_95 : decode cX0_clear 95 = .ok (.bipush 63, 2) := by decide +kernel
theorem dX0_clear_97 : decode cX0_clear 97 = .ok (.iload_n 2, 1) := by decide +kernel
theorem dX0_clear_98 : decode cX0_clear 98 = .ok (.iadd, 1) := by decide +kernel
theorem dX0_clear_99 : decode cX0_clear 99 = .ok (.aload_n 0, 1) := by decide +kernel
theorem dX0_clear_100 : decode cX0_clear 100 = .ok (.getfield 43, 3) := by decide +kernel
theorem dX0_clear_103 : decode cX0_clear 103 = .ok (.iload_n 2, 1) := by decide +kernel
theorem dX0_clear_104 : decode cX0_clear 104 = .ok (.iaload, 1) := by decide +kernel
theorem dX0_clear_105 : decode cX0_clear 105 = .ok (.ifCond .ge 13, 3) := by decide +kernel
theorem dX0_clear_108 : decode cX0_clear 108 = .ok (.aload_n 0, 1) := by decide +kernel
theorem dX0_clear_109 : decode cX0_clear 109 = .ok (.getfield 43, 3) := by decide +kernel
theorem dX0_clear_112 : decode cX0_clear 112 = .ok (.iload_n 2, 1) := by decide +kernel
theorem dX0_clear_113 : decode cX0_clear 113 = .ok (.iaload, 1) := by decide +kernel
theorem dX0_clear_114 : decode cX0_clear 114 = .ok (.ineg, 1) := by decide +kernel
theorem dX0_clear_115 : decode cX0_clear 115 = .ok (.goto 4, 3) := by decide +kernel
theorem dX0_clear_118 : decode cX0_clear 118 = .ok (.iconst 0, 1) := by decide +kernel
theorem dX0_clear_119 : decode cX0_clear 119 = .ok (.iastore, 1) := by decide +kernel
theorem dX0_clear_120 : decode cX0_clear 120 = .ok (.aload_n 0, 1) := by decide +kernel
theorem dX0_clear_121 : decode cX0_clear 121 = .ok (.getfield 28, 3) := by decide +kernel
theorem dX0_clear_124 : decode cX0_clear 124 = .ok (.bipush 9, 2) := by decide +kernel
theorem dX0_clear_126 : decode cX0_clear 126 = .ok (.iload_n 2, 1) := by decide +kernel
theorem dX0_clear_127 : decode cX0_clear 127 = .ok (.imul, 1) := by decide +kernel
theorem dX0_clear_128 : decode cX0_clear 128 = .ok (.bipush 8, 2) := by decide +kernel
theorem dX0_clear_130 : decode cX0_clear 130 = .ok (.iadd, 1) := by decide +kernel
theorem dX0_clear_131 : decode cX0_clear 131 = .ok (.aload_n 0, 1) := by decide +kernel
theorem dX0_clear_132 : decode cX0_clear 132 = .ok (.getfield 43, 3) := by decide +kernel
theorem dX0_clear_135 : decode cX0_clear 135 = .ok (.iload_n 2, 1) := by decide +kernel
theorem dX0_clear_136 : decode cX0_clear 136 = .ok (.iaload, 1) := by decide +kernel
theorem dX0_clear_137 : decode cX0_clear 137 = .ok (.ifCond .le 12, 3) := by decide +kernel
theorem dX0_clear_140 : decode cX0_clear 140 = .ok (.aload_n 0, 1) := by decide +kernel
theorem dX0_clear_141 : decode cX0_clear 141 = .ok (.getfield 43, 3) := by decide +kernel
theorem dX0_clear_144 : decode cX0_clear 144 = .ok (.iload_n 2, 1) := by decide +kernel
theorem dX0_clear_145 : decode cX0_clear 145 = .ok (.iaload, 1) := by decide +kernel
theorem dX0_clear_146 : decode cX0_clear 146 = .ok (.goto 4, 3) := by decide +kernel
theorem dX0_clear_149 : decode cX0_clear 149 = .ok (.iconst 0, 1) := by decide +kernel
theorem dX0_clear_150 : decode cX0_clear 150 = .ok (.iastore, 1) := by decide +kernel
theorem dX0_clear_151 : decode cX0_clear 151 = .ok (.iload_n 1, 1) := by decide +kernel
theorem dX0_clear_152 : decode cX0_clear 152 = .ok (.aload_n 0, 1) := by decide +kernel
theorem dX0_clear_153 : decode cX0_clear 153 = .ok (.getfield 43, 3) := by decide +kernel
theorem dX0_clear_156 : decode cX0_clear 156 = .ok (.iload_n 2, 1) := by decide +kernel
theorem dX0_clear_157 : decode cX0_clear 157 = .ok (.iaload, 1) := by decide +kernel
theorem dX0_clear_158 : decode cX0_clear 158 = .ok (.ifCond .le 12, 3) := by decide +kernel
theorem dX0_clear_161 : decode cX0_clear 161 = .ok (.aload_n 0, 1) := by decide +kernel
theorem dX0_clear_162 : decode cX0_clear 162 = .ok (.getfield 43, 3) := by decide +kernel
theorem dX0_clear_165 : decode cX0_clear 165 = .ok (.iload_n 2, 1) := by decide +kernel
theorem dX0_clear_166 : decode cX0_clear 166 = .ok (.iaload, 1) := by decide +kernel
theorem dX0_clear_167 : decode cX0_clear 167 = .ok (.goto 4, 3) := by decide +kernel
theorem dX0_clear_170 : decode cX0_clear 170 = .ok (.iconst 0, 1) := by decide +kernel
theorem dX0_clear_171 : decode cX0_clear 171 = .ok (.iadd, 1) := by decide +kernel
theorem dX0_clear_172 : decode cX0_clear 172 = .ok (.istore_n 1, 1) := by decide +kernel
theorem dX0_clear_173 : decode cX0_clear 173 = .ok (.iinc 2 1, 3) := by decide +kernel
theorem dX0_clear_176 : decode cX0_clear 176 = .ok (.goto (-91), 3) := by decide +kernel
theorem dX0_clear_179 : decode cX0_clear 179 = .ok (.aload_n 0, 1) := by decide +kernel
theorem dX0_clear_180 : decode cX0_clear 180 = .ok (.bipush 7, 2) := by decide +kernel
theorem dX0_clear_182 : decode cX0_clear 182 = .ok (.bipush 8, 2) := by decide +kernel
theorem dX0_clear_184 : decode cX0_clear 184 = .ok (.iload_n 1, 1) := by decide +kernel
theorem dX0_clear_185 : decode cX0_clear 185 = .ok (.invokevirtual 74, 3) := by decide +kernel
theorem dX0_clear_188 : decode cX0_clear 188 = .ok (.istore_n 2, 1) := by decide +kernel
theorem dX0_clear_189 : decode cX0_clear 189 = .ok (.iload_n 2, 1) := by decide +kernel
theorem dX0_clear_190 : decode cX0_clear 190 = .ok (.iload_n 1, 1) := by decide +kernel
theorem dX0_clear_191 : decode cX0_clear 191 = .ok (.if_icmp .ge 6, 3) := by decide +kernel
theorem dX0_clear_194 : decode cX0_clear 194 = .ok (.bipush (-3), 2) := by decide +kernel
theorem dX0_clear_196 : decode cX0_clear 196 = .ok (.ireturn, 1) := by decide +kernel
theorem dX0_clear_197 : decode cX0_clear 197 = .ok (.aload_n 0, 1) := by decide +kernel
theorem dX0_clear_198 : decode cX0_clear 198 = .ok (.invokevirtual 78, 3) := by decide +kernel
theorem dX0_clear_201 : decode cX0_clear 201 = .ok (.iconst 0, 1) := by decide +kernel
theorem dX0_clear_202 : decode cX0_clear 202 = .ok (.istore_n 3, 1) := by decide +kernel
theorem dX0_clear_203 : decode cX0_clear 203 = .ok (.iload_n 3, 1) := by decide +kernel
theorem dX0_clear_204 : decode cX0_clear 204 = .ok (.bipush 7, 2) := by decide +kernel
theorem dX0_clear_206 : decode cX0_clear 206 = .ok (.if_icmp .ge 24, 3) := by decide +kernel
theorem dX0_clear_209 : decode cX0_clear 209 = .ok (.aload_n 0, 1) := by decide +kernel
theorem dX0_clear_210 : decode cX0_clear 210 = .ok (.getfield 13, 3) := by decide +kernel
theorem dX0_clear_213 : decode cX0_clear 213 = .ok (.iload_n 3, 1) := by decide +kernel
theorem dX0_clear_214 : decode cX0_clear 214 = .ok (.dup2, 1) := by decide +kernel
theorem dX0_clear_215 : decode cX0_clear 215 = .ok (.iaload, 1) := by decide +kernel
end
section
set_option maxRecDepth 100000
theorem dX0_clear_216 : decode cX0_clear 216 = .ok (.aload_n 0, 1) := by decide +kernel
theorem dX0_clear_217 : decode cX0_clear 217 = .ok (.getfield 43, 3) := by decide +kernel
theorem dX0_clear_220 : decode cX0_clear 220 = .ok (.iload_n 3, 1) := by decide +kernel
theorem dX0_clear_221 : decode cX0_clear 221 = .ok (.iaload, 1) := by decide +kernel
theorem dX0_clear_222 : decode cX0_clear 222 = .ok (.iadd, 1) := by decide +kernel
theorem dX0_clear_223 : decode cX0_clear 223 = .ok (.iastore, 1) := by decide +kernel
theorem dX0_clear_224 : decode cX0_clear 224 = .ok (.iinc 3 1, 3) := by decide +kernel
theorem dX0_clear_227 : decode cX0_clear 227 = .ok (.goto (-24), 3) := by decide +kernel
theorem dX0_clear_230 : decode cX0_clear 230 = .ok (.aload_n 0, 1) := by decide +kernel
theorem dX0_clear_231 : decode cX0_clear 231 = .ok (.getfield 46, 3) := by decide +kernel
theorem dX0_clear_234 : decode cX0_clear 234 = .ok (.istore_n 3, 1) := by decide +kernel
theorem dX0_clear_235 : decode cX0_clear 235 = .ok (.aload_n 0, 1) := by decide +kernel
theorem dX0_clear_236 : decode cX0_clear 236 = .ok (.iconst 0, 1) := by decide +kernel
theorem dX0_clear_237 : decode cX0_clear 237 = .ok (.putfield 46, 3) := by decide +kernel
theorem dX0_clear_240 : decode cX0_clear 240 = .ok (.iload_n 3, 1) := by decide +kernel
theorem dX0_clear_241 : decode cX0_clear 241 = .ok (.ireturn, 1) := by decide +kernel
abbrev cX0_forget : ByteArray := prog_1_method_15_code
def yX0_forget : MethodName := ⟨RX0, "forget", "()I"⟩
theorem dX0_forget_0 : decode cX0_forget 0 = .ok (.aload_n 0, 1) := by decide +kernel
theorem dX0_forget_1 : decode cX0_forget 1 = .ok (.getfield 46, 3) := by decide +kernel
theorem dX0_forget_4 : decode cX0_forget 4 = .ok (.istore_n 1, 1) := by decide +kernel
theorem dX0_forget_5 : decode cX0_forget 5 = .ok (.aload_n 0, 1) := by decide +kernel
theorem dX0_forget_6 : decode cX0_forget 6 = .ok (.iconst 0, 1) := by decide +kernel
theorem dX0_forget_7 : decode cX0_forget 7 = .ok (.putfield 46, 3) := by decide +kernel
theorem dX0_forget_10 : decode cX0_forget 10 = .ok (.iload_n 1, 1) := by decide +kernel
theorem dX0_forget_11 : decode cX0_forget 11 = .ok (.ireturn, 1) := by decide +kernel
abbrev cX0_trusted : ByteArray := prog_1_method_16_code
def yX0_trusted : MethodName := ⟨RX0, "trusted", "(II)I"⟩
theorem dX0_trusted_0 : decode cX0_trusted 0 = .ok (.iload_n 1, 1) := by decide +kernel
theorem dX0_trusted_1 : decode cX0_trusted 1 = .ok (.iload_n 2, 1) := by decide +kernel
theorem dX0_trusted_2 : decode cX0_trusted 2 = .ok (.invokestatic 68, 3) := by decide +kernel
theorem dX0_trusted_5 : decode cX0_trusted 5 = .ok (.ifCond .eq 17, 3) := by decide +kernel
theorem dX0_trusted_8 : decode cX0_trusted 8 = .ok (.aload_n 0, 1) := by decide +kernel
theorem dX0_trusted_9 : decode cX0_trusted 9 = .ok (.getfield 7, 3) := by decide +kernel
theorem dX0_trusted_12 : decode cX0_trusted 12 = .ok (.bipush 7, 2) := by decide +kernel
theorem dX0_trusted_14 : decode cX0_trusted 14 = .ok (.iload_n 1, 1) := by decide +kernel
theorem dX0_trusted_15 : decode cX0_trusted 15 = .ok (.imul, 1) := by decide +kernel
theorem dX0_trusted_16 : decode cX0_trusted 16 = .ok (.iload_n 2, 1) := by decide +kernel
theorem dX0_trusted_17 : decode cX0_trusted 17 = .ok (.iadd, 1) := by decide +kernel
theorem dX0_trusted_18 : decode cX0_trusted 18 = .ok (.iaload, 1) := by decide +kernel
theorem dX0_trusted_19 : decode cX0_trusted 19 = .ok (.goto 4, 3) := by decide +kernel
theorem dX0_trusted_22 : decode cX0_trusted 22 = .ok (.iconst (-1), 1) := by decide +kernel
theorem dX0_trusted_23 : decode cX0_trusted 23 = .ok (.ireturn, 1) := by decide +kernel
abbrev cX0_position : ByteArray := prog_1_method_17_code
def yX0_position : MethodName := ⟨RX0, "position", "(I)I"⟩
theorem dX0_position_0 : decode cX0_position 0 = .ok (.iload_n 1, 1) := by decide +kernel
theorem dX0_position_1 : decode cX0_position 1 = .ok (.invokestatic 50, 3) := by decide +kernel
theorem dX0_position_4 : decode cX0_position 4 = .ok (.ifCond .eq 12, 3) := by decide +kernel
theorem dX0_position_7 : decode cX0_position 7 = .ok (.aload_n 0, 1) := by decide +kernel
theorem dX0_position_8 : decode cX0_position 8 = .ok (.getfield 13, 3) := by decide +kernel
theorem dX0_position_11 : decode cX0_position 11 = .ok (.iload_n 1, 1) := by decide +kernel
theorem dX0_position_12 : decode cX0_position 12 = .ok (.iaload, 1) := by decide +kernel
theorem dX0_position_13 : decode cX0_position 13 = .ok (.goto 4, 3) := by decide +kernel
theorem dX0_position_16 : decode cX0_position 16 = .ok (.iconst 0, 1) := by decide +kernel
theorem dX0_position_17 : decode cX0_position 17 = .ok (.ireturn, 1) := by decide +kernel
abbrev cX0_most : ByteArray := prog_1_method_18_code
def yX0_most : MethodName := ⟨RX0, "most", "(II)I"⟩
theorem dX0_most_0 : decode cX0_most 0 = .ok (.iload_n 1, 1) := by decide +kernel
theorem dX0_most_1 : decode cX0_most 1 = .ok (.iload_n 2, 1) := by decide +kernel
theorem dX0_most_2 : decode cX0_most 2 = .ok (.invokestatic 68, 3) := by decide +kernel
theorem dX0_most_5 : decode cX0_most 5 = .ok (.ifCond .ne 5, 3) := by decide +kernel
theorem dX0_most_8 : decode cX0_most 8 = .ok (.iconst (-1), 1) := by decide +kernel
theorem dX0_most_9 : decode cX0_most 9 = .ok (.ireturn, 1) := by decide +kernel
theorem dX0_most_10 : decode cX0_most 10 = .ok (.aload_n 0, 1) := by decide +kernel
theorem dX0_most_11 : decode cX0_most 11 = .ok (.invokevirtual 71, 3) := by decide +kernel
theorem dX0_most_14 : decode cX0_most 14 = .ok (.aload_n 0, 1) := by decide +kernel
theorem dX0_most_15 : decode cX0_most 15 = .ok (.iload_n 1, 1) := by decide +kernel
theorem dX0_most_16 : decode cX0_most 16 = .ok (.iload_n 2, 1) := by decide +kernel
theorem dX0_most_17 : decode cX0_most 17 = .ok (.ldc 54, 2) := by decide +kernel
theorem dX0_most_19 : decode cX0_most 19 = .ok (.invokevirtual 74, 3) := by decide +kernel
theorem dX0_most_22 : decode cX0_most 22 = .ok (.ireturn, 1) := by decide +kernel
abbrev cX0_spread : ByteArray := prog_1_method_19_code
def yX0_spread : MethodName := ⟨RX0, "spread", "(II)I"⟩
theorem dX0_spread_0 : decode cX0_spread 0 = .ok (.iload_n 1, 1) := by decide +kernel
theorem dX0_spread_1 : decode cX0_spread 1 = .ok (.invokestatic 50, 3) := by decide +kernel
theorem dX0_spread_4 : decode cX0_spread 4 = .ok (.ifCond .eq 23, 3) := by decide +kernel
theorem dX0_spread_7 : decode cX0_spread 7 = .ok (.iload_n 2, 1) := by decide +kernel
theorem dX0_spread_8 : decode cX0_spread 8 = .ok (.iconst 1, 1) := by decide +kernel
theorem dX0_spread_9 : decode cX0_spread 9 = .ok (.if_icmp .lt 18, 3) := by decide +kernel
theorem dX0_spread_12 : decode cX0_spread 12 = .ok (.iload_n 2, 1) := by decide +kernel
theorem dX0_spread_13 : decode cX0_spread 13 = .ok (.bipush 127, 2) := by decide +kernel
theorem dX0_spread_15 : decode cX0_spread 15 = .ok (.if_icmp .gt 12, 3) := by decide +kernel
theorem dX0_spread_18 : decode cX0_spread 18 = .ok (.iload_n 2, 1) := by decide +kernel
theorem dX0_spread_19 : decode cX0_spread 19 = .ok (.iload_n 1, 1) := by decide +kernel
theorem dX0_spread_20 : decode cX0_spread 20 = .ok (.ishr, 1) := by decide +kernel
theorem dX0_spread_21 : decode cX0_spread 21 = .ok (.iconst 1, 1) := by decide +kernel
theorem dX0_spread_22 : decode cX0_spread 22 = .ok (.iand, 1) := by decide +kernel
theorem dX0_spread_23 : decode cX0_spread 23 = .ok (.iconst 1, 1) := by decide +kernel
theorem dX0_spread_24 : decode cX0_spread 24 = .ok (.if_icmp .ne 5, 3) := by decide +kernel
theorem dX0_spread_27 : decode cX0_spread 27 = .ok (.iconst (-1), 1) := by decide +kernel
theorem dX0_spread_28 : decode cX0_spread 28 = .ok (.ireturn, 1) := by decide +kernel
theorem dX0_spread_29 : decode cX0_spread 29 = .ok (.aload_n 0, 1) := by decide +kernel
theorem dX0_spread_30 : decode cX0_spread 30 = .ok (.invokevirtual 71, 3) := by decide +kernel
theorem dX0_spread_33 : decode cX0_spread 33 = .ok (.iconst 0, 1) := by decide +kernel
theorem dX0_spread_34 : decode cX0_spread 34 = .ok (.istore_n 3, 1) := by decide +kernel
theorem dX0_spread_35 : decode cX0_spread 35 = .ok (.iload_n 3, 1) := by decide +kernel
theorem dX0_spread_36 : decode cX0_spread 36 = .ok (.bipush 7, 2) := by decide +kernel
theorem dX0_spread_38 : decode cX0_spread 38 = .ok (.if_icmp .ge 36, 3) := by decide +kernel
theorem dX0_spread_41 : decode cX0_spread 41 = .ok (.aload_n 0, 1) := by decide +kernel
theorem dX0_spread_42 : decode cX0_spread 42 = .ok (.getfield 28, 3) := by decide +kernel
theorem dX0_spread_45 : decode cX0_spread 45 = .ok (.bipush 9, 2) := by decide +kernel
theorem dX0_spread_47 : decode cX0_spread 47 = .ok (.iload_n 3, 1) := by decide +kernel
theorem dX0_spread_48 : decode cX0_spread 48 = .ok (.imul, 1) := by decide +kernel
theorem dX0_spread_49 : decode cX0_spread 49 = .ok (.bipush 8, 2) := by decide +kernel
theorem dX0_spread_51 : decode cX0_spread 51 = .ok (.iadd, 1) := by decide +kernel
theorem dX0_spread_52 : decode cX0_spread 52 = .ok (.iload_n 2, 1) := by decide +kernel
theorem dX0_spread_53 : decode cX0_spread 53 = .ok (.iload_n 3, 1) := by decide +kernel
theorem dX0_spread_54 : decode cX0_spread 54 = .ok (.ishr, 1) := by decide +kernel
theorem dX0_spread_55 : decode cX0_spread 55 = .ok (.iconst 1, 1) := by decide +kernel
theorem dX0_spread_56 : decode cX0_spread 56 = .ok (.iand, 1) := by decide +kernel
theorem dX0_spread_57 : decode cX0_spread 57 = .ok (.iconst 1, 1) := by decide +kernel
theorem dX0_spread_58 : decode cX0_spread 58 = .ok (.if_icmp .ne 8, 3) := by decide +kernel
theorem dX0_spread_61 : decode cX0_spread 61 = .ok (.ldc 54, 2) := by decide +kernel
theorem dX0_spread_63 : decode cX0_spread 63 = .ok (.goto 4, 3) := by decide +kernel
theorem dX0_spread_66 : decode cX0_spread 66 = .ok (.iconst 0, 1) := by decide +kernel
theorem dX0_spread_67 : decode cX0_spread 67 = .ok (.iastore, 1) := by decide +kernel
theorem dX0_spread_68 : decode cX0_spread 68 = .ok (.iinc 3 1, 3) := by decide +kernel
theorem dX0_spread_71 : decode cX0_spread 71 = .ok (.goto (-36), 3) := by decide +kernel
theorem dX0_spread_74 : decode cX0_spread 74 = .ok (.aload_n 0, 1) := by decide +kernel
theorem dX0_spread_75 : decode cX0_spread 75 = .ok (.iload_n 1, 1) := by decide +kernel
theorem dX0_spread_76 : decode cX0_spread 76 = .ok (.bipush 8, 2) := by decide +kernel
theorem dX0_spread_78 : decode cX0_spread 78 = .ok (.ldc 54, 2) := by decide +kernel
theorem dX0_spread_80 : decode cX0_spread 80 = .ok (.invokevirtual 74, 3) := by decide +kernel
theorem dX0_spread_83 : decode cX0_spread 83 = .ok (.ireturn, 1) := by decide +kernel
abbrev cX0_leastDebt : ByteArray := prog_1_method_22_code
def yX0_leastDebt : MethodName := ⟨RX0, "leastDebt", "(II)I"⟩
theorem dX0_leastDebt_0 : decode cX0_leastDebt 0 = .ok (.iload_n 1, 1) := by decide +kernel
theorem dX0_leastDebt_1 : decode cX0_leastDebt 1 = .ok (.iload_n 2, 1) := by decide +kernel
theorem dX0_leastDebt_2 : decode cX0_leastDebt 2 = .ok (.invokestatic 68, 3) := by decide +kernel
theorem dX0_leastDebt_5 : decode cX0_leastDebt 5 = .ok (.ifCond .eq 8, 3) := by decide +kernel
theorem dX0_leastDebt_8 : decode cX0_leastDebt 8 = .ok (.iload_n 1, 1) := by decide +kernel
theorem dX0_leastDebt_9 : decode cX0_leastDebt 9 = .ok (.iload_n 2, 1) := by decide +kernel
theorem dX0_leastDebt_10 : decode cX0_leastDebt 10 = .ok (.if_icmp .le 6, 3) := by decide +kernel
theorem dX0_leastDebt_13 : decode cX0_leastDebt 13 = .ok (.ldc 81, 2) := by decide +kernel
theorem dX0_leastDebt_15 : decode cX0_leastDebt 15 = .ok (.ireturn, 1) := by decide +kernel
theorem dX0_leastDebt_16 : decode cX0_leastDebt 16 = .ok (.aload_n 0, 1) := by decide +kernel
theorem dX0_leastDebt_17 : decode cX0_leastDebt 17 = .ok (.iload_n 1, 1) := by decide +kernel
theorem dX0_leastDebt_18 : decode cX0_leastDebt 18 = .ok (.iload_n 2, 1) := by decide +kernel
theorem dX0_leastDebt_19 : decode cX0_leastDebt 19 = .ok (.invokevirtual 82, 3) := by decide +kernel
theorem dX0_leastDebt_22 : decode cX0_leastDebt 22 = .ok (.istore_n 3, 1) := by decide +kernel
theorem dX0_leastDebt_23 : decode cX0_leastDebt 23 = .ok (.aload_n 0, 1) := by decide +kernel
theorem dX0_leastDebt_24 : decode cX0_leastDebt 24 = .ok (.iload_n 1, 1) := by decide +kernel
theorem dX0_leastDebt_25 : decode cX0_leastDebt 25 = .ok (.iload_n 2, 1) := by decide +kernel
theorem dX0_leastDebt_26 : decode cX0_leastDebt 26 = .ok (.invokevirtual 85, 3) := by decide +kernel
theorem dX0_leastDebt_29 : decode cX0_leastDebt 29 = .ok (.iload_n 3, 1) := by decide +kernel
theorem dX0_leastDebt_30 : decode cX0_leastDebt 30 = .ok (.isub, 1) := by decide +kernel
theorem dX0_leastDebt_31 : decode cX0_leastDebt 31 = .ok (.ireturn, 1) := by decide +kernel
abbrev cX0_roundAbout : ByteArray := prog_1_method_21_code
def yX0_roundAbout : MethodName := ⟨RX0, "roundAbout", "(II)I"⟩
theorem dX0_roundAbout_0 : decode cX0_roundAbout 0 = .ok (.aload_n 0, 1) := by decide +kernel
theorem dX0_roundAbout_1 : decode cX0_roundAbout 1 = .ok (.invokevirtual 71, 3) := by decide +kernel
theorem dX0_roundAbout_4 : decode cX0_roundAbout 4 = .ok (.aload_n 0, 1) := by decide +kernel
theorem dX0_roundAbout_5 : decode cX0_roundAbout 5 = .ok (.getfield 16, 3) := by decide +kernel
theorem dX0_roundAbout_8 : decode cX0_roundAbout 8 = .ok (.bipush 9, 2) := by decide +kernel
theorem dX0_roundAbout_10 : decode cX0_roundAbout 10 = .ok (.iload_n 2, 1) := by decide +kernel
theorem dX0_roundAbout_11 : decode cX0_roundAbout 11 = .ok (.imul, 1) := by decide +kernel
theorem dX0_roundAbout_12 : decode cX0_roundAbout 12 = .ok (.iload_n 1, 1) := by decide +kernel
theorem dX0_roundAbout_13 : decode cX0_roundAbout 13 = .ok (.iadd, 1) := by decide +kernel
theorem dX0_roundAbout_14 : decode cX0_roundAbout 14 = .ok (.iaload, 1) := by decide +kernel
theorem dX0_roundAbout_15 : decode cX0_roundAbout 15 = .ok (.istore_n 3, 1) := by decide +kernel
theorem dX0_roundAbout_16 : decode cX0_roundAbout 16 = .ok (.aload_n 0, 1) := by decide +kernel
theorem dX0_roundAbout_17 : decode cX0_roundAbout 17 = .ok (.getfield 28, 3) := by decide +kernel
theorem dX0_roundAbout_20 : decode cX0_roundAbout 20 = .ok (.bipush 9, 2) := by decide +kernel
theorem dX0_roundAbout_22 : decode cX0_roundAbout 22 = .ok (.iload_n 1, 1) := by decide +kernel
theorem dX0_roundAbout_23 : decode cX0_roundAbout 23 = .ok (.imul, 1) := by decide +kernel
theorem dX0_roundAbout_24 : decode cX0_roundAbout 24 = .ok (.iload_n 2, 1) := by decide +kernel
theorem dX0_roundAbout_25 : decode cX0_roundAbout 25 = .ok (.iadd, 1) := by decide +kernel
theorem dX0_roundAbout_26 : decode cX0_roundAbout 26 = .ok (.iconst 0, 1) := by decide +kernel
theorem dX0_roundAbout_27 : decode cX0_roundAbout 27 = .ok (.iastore, 1) := by decide +kernel
theorem dX0_roundAbout_28 : decode cX0_roundAbout 28 = .ok (.aload_n 0, 1) := by decide +kernel
theorem dX0_roundAbout_29 : decode cX0_roundAbout 29 = .ok (.getfield 28, 3) := by decide +kernel
theorem dX0_roundAbout_32 : decode cX0_roundAbout 32 = .ok (.bipush 9, 2) := by decide +kernel
theorem dX0_roundAbout_34 : decode cX0_roundAbout 34 = .ok (.iload_n 2, 1) := by decide +kernel
theorem dX0_roundAbout_35 : decode cX0_roundAbout 35 = .ok (.imul, 1) := by decide +kernel
theorem dX0_roundAbout_36 : decode cX0_roundAbout 36 = .ok (.iload_n 1, 1) := by decide +kernel
theorem dX0_roundAbout_37 : decode cX0_roundAbout 37 = .ok (.iadd, 1) := by decide +kernel
theorem dX0_roundAbout_38 : decode cX0_roundAbout 38 = .ok (.iconst 0, 1) := by decide +kernel
theorem dX0_roundAbout_39 : decode cX0_roundAbout 39 = .ok (.iastore, 1) := by decide +kernel
theorem dX0_roundAbout_40 : decode cX0_roundAbout 40 = .ok (.aload_n 0, 1) := by decide +kernel
theorem dX0_roundAbout_41 : decode cX0_roundAbout 41 = .ok (.iload_n 1, 1) := by decide +kernel
theorem dX0_roundAbout_42 : decode cX0_roundAbout 42 = .ok (.iload_n 2, 1) := by decide +kernel
theorem dX0_roundAbout_43 : decode cX0_roundAbout 43 = .ok (.iload_n 3, 1) := by decide +kernel
theorem dX0_roundAbout_44 : decode cX0_roundAbout 44 = .ok (.invokevirtual 74, 3) := by decide +kernel
theorem dX0_roundAbout_47 : decode cX0_roundAbout 47 = .ok (.ireturn, 1) := by decide +kernel
abbrev cX0_debt : ByteArray := prog_1_method_20_code
def yX0_debt : MethodName := ⟨RX0, "debt", "(II)I"⟩
theorem dX0_debt_0 : decode cX0_debt 0 = .ok (.aload_n 0, 1) := by decide +kernel
theorem dX0_debt_1 : decode cX0_debt 1 = .ok (.getfield 7, 3) := by decide +kernel
theorem dX0_debt_4 : decode cX0_debt 4 = .ok (.bipush 7, 2) := by decide +kernel
theorem dX0_debt_6 : decode cX0_debt 6 = .ok (.iload_n 2, 1) := by decide +kernel
theorem dX0_debt_7 : decode cX0_debt 7 = .ok (.imul, 1) := by decide +kernel
theorem dX0_debt_8 : decode cX0_debt 8 = .ok (.iload_n 1, 1) := by decide +kernel
theorem dX0_debt_9 : decode cX0_debt 9 = .ok (.iadd, 1) := by decide +kernel
theorem dX0_debt_10 : decode cX0_debt 10 = .ok (.iaload, 1) := by decide +kernel
theorem dX0_debt_11 : decode cX0_debt 11 = .ok (.aload_n 0, 1) := by decide +kernel
theorem dX0_debt_12 : decode cX0_debt 12 = .ok (.getfield 16, 3) := by decide +kernel
theorem dX0_debt_15 : decode cX0_debt 15 = .ok (.bipush 9, 2) := by decide +kernel
theorem dX0_debt_17 : decode cX0_debt 17 = .ok (.iload_n 1, 1) := by decide +kernel
theorem dX0_debt_18 : decode cX0_debt 18 = .ok (.imul, 1) := by decide +kernel
theorem dX0_debt_19 : decode cX0_debt 19 = .ok (.iload_n 2, 1) := by decide +kernel
theorem dX0_debt_20 : decode cX0_debt 20 = .ok (.iadd, 1) := by decide +kernel
theorem dX0_debt_21 : decode cX0_debt 21 = .ok (.iaload, 1) := by decide +kernel
theorem dX0_debt_22 : decode cX0_debt 22 = .ok (.isub, 1) := by decide +kernel
theorem dX0_debt_23 : decode cX0_debt 23 = .ok (.ireturn, 1) := by decide +kernel
abbrev cX0_greatestDebt : ByteArray := prog_1_method_23_code
def yX0_greatestDebt : MethodName := ⟨RX0, "greatestDebt", "(II)I"⟩
theorem dX0_greatestDebt_0 : decode cX0_greatestDebt 0 = .ok (.iload_n 1, 1) := by decide +kernel
theorem dX0_greatestDebt_1 : decode cX0_greatestDebt 1 = .ok (.iload_n 2, 1) := by decide +kernel
theorem dX0_greatestDebt_2 : decode cX0_greatestDebt 2 = .ok (.invokestatic 68, 3) := by decide +kernel
theorem dX0_greatestDebt_5 : decode cX0_greatestDebt 5 = .ok (.ifCond .eq 8, 3) := by decide +kernel
theorem dX0_greatestDebt_8 : decode cX0_greatestDebt 8 = .ok (.iload_n 1, 1) := by decide +kernel
theorem dX0_greatestDebt_9 : decode cX0_greatestDebt 9 = .ok (.iload_n 2, 1) := by decide +kernel
theorem dX0_greatestDebt_10 : decode cX0_greatestDebt 10 = .ok (.if_icmp .le 6, 3) := by decide +kernel
theorem dX0_greatestDebt_13 : decode cX0_greatestDebt 13 = .ok (.ldc 81, 2) := by decide +kernel
theorem dX0_greatestDebt_15 : decode cX0_greatestDebt 15 = .ok (.ireturn, 1) := by decide +kernel
theorem dX0_greatestDebt_16 : decode cX0_greatestDebt 16 = .ok (.aload_n 0, 1) := by decide +kernel
theorem dX0_greatestDebt_17 : decode cX0_greatestDebt 17 = .ok (.iload_n 2, 1) := by decide +kernel
theorem dX0_greatestDebt_18 : decode cX0_greatestDebt 18 = .ok (.iload_n 1, 1) := by decide +kernel
theorem dX0_greatestDebt_19 : decode cX0_greatestDebt 19 = .ok (.invokevirtual 82, 3) := by decide +kernel
theorem dX0_greatestDebt_22 : decode cX0_greatestDebt 22 = .ok (.istore_n 3, 1) := by decide +kernel
theorem dX0_greatestDebt_23 : decode cX0_greatestDebt 23 = .ok (.aload_n 0, 1) := by decide +kernel
theorem dX0_greatestDebt_24 : decode cX0_greatestDebt 24 = .ok (.iload_n 1, 1) := by decide +kernel
theorem dX0_greatestDebt_25 : decode cX0_greatestDebt 25 = .ok (.iload_n 2, 1) := by decide +kernel
theorem dX0_greatestDebt_26 : decode cX0_greatestDebt 26 = .ok (.invokevirtual 85, 3) := by decide +kernel
theorem dX0_greatestDebt_29 : decode cX0_greatestDebt 29 = .ok (.iload_n 3, 1) := by decide +kernel
theorem dX0_greatestDebt_30 : decode cX0_greatestDebt 30 = .ok (.iadd, 1) := by decide +kernel
theorem dX0_greatestDebt_31 : decode cX0_greatestDebt 31 = .ok (.ireturn, 1) := by decide +kernel
abbrev cX0_debts : ByteArray := prog_1_method_24_code
def yX0_debts : MethodName := ⟨RX0, "debts", "()I"⟩
theorem dX0_debts_0 : decode cX0_debts 0 = .ok (.iconst 0, 1) := by decide +kernel
theorem dX0_debts_1 : decode cX0_debts 1 = .ok (.istore_n 1, 1) := by decide +kernel
theorem dX0_debts_2 : decode cX0_debts 2 = .ok (.iconst 0, 1) := by decide +kernel
theorem dX0_debts_3 : decode cX0_debts 3 = .ok (.istore_n 2, 1) := by decide +kernel
theorem dX0_debts_4 : decode cX0_debts 4 = .ok (.iload_n 2, 1) := by decide +kernel
theorem dX0_debts_5 : decode cX0_debts 5 = .ok (.bipush 81, 2) := by decide +kernel
theorem dX0_debts_7 : decode cX0_debts 7 = .ok (.if_icmp .ge 23, 3) := by decide +kernel
theorem dX0_debts_10 : decode cX0_debts 10 = .ok (.aload_n 0, 1) := by decide +kernel
theorem dX0_debts_11 : decode cX0_debts 11 = .ok (.getfield 28, 3) := by decide +kernel
theorem dX0_debts_14 : decode cX0_debts 14 = .ok (.iload_n 2, 1) := by decide +kernel
theorem dX0_debts_15 : decode cX0_debts 15 = .ok (.iconst 0, 1) := by decide +kernel
theorem dX0_debts_16 : decode cX0_debts 16 = .ok (.iastore, 1) := by decide +kernel
theorem dX0_debts_17 : decode cX0_debts 17 = .ok (.aload_n 0, 1) := by decide +kernel
theorem dX0_debts_18 : decode cX0_debts 18 = .ok (.getfield 31, 3) := by decide +kernel
theorem dX0_debts_21 : decode cX0_debts 21 = .ok (.iload_n 2, 1) := by decide +kernel
theorem dX0_debts_22 : decode cX0_debts 22 = .ok (.iconst 0, 1) := by decide +kernel
theorem dX0_debts_23 : decode cX0_debts 23 = .ok (.iastore, 1) := by decide +kernel
theorem dX0_debts_24 : decode cX0_debts 24 = .ok (.iinc 2 1, 3) := by decide +kernel
theorem dX0_debts_27 : decode cX0_debts 27 = .ok (.goto (-23), 3) := by decide +kernel
theorem dX0_debts_30 : decode cX0_debts 30 = .ok (.iconst 0, 1) := by decide +kernel
theorem dX0_debts_31 : decode cX0_debts 31 = .ok (.istore_n 2, 1) := by decide +kernel
theorem dX0_debts_32 : decode cX0_debts 32 = .ok (.iload_n 2, 1) := by decide +kernel
theorem dX0_debts_33 : decode cX0_debts 33 = .ok (.bipush 7, 2) := by decide +kernel
theorem dX0_debts_35 : decode cX0_debts 35 = .ok (.if_icmp .ge 136, 3) := by decide +kernel
theorem dX0_debts_38 : decode cX0_debts 38 = .ok (.aload_n 0, 1) := by decide +kernel
theorem dX0_debts_39 : decode cX0_debts 39 = .ok (.getfield 28, 3) := by decide +kernel
theorem dX0_debts_42 : decode cX0_debts 42 = .ok (.bipush 63, 2) := by decide +kernel
theorem dX0_debts_44 : decode cX0_debts 44 = .ok (.iload_n 2, 1) := by decide +kernel
theorem dX0_debts_45 : decode cX0_debts 45 = .ok (.iadd, 1) := by decide +kernel
theorem dX0_debts_46 : decode cX0_debts 46 = .ok (.aload_n 0, 1) := by decide +kernel
theorem dX0_debts_47 : decode cX0_debts 47 = .ok (.getfield 13, 3) := by decide +kernel
theorem dX0_debts_50 : decode cX0_debts 50 = .ok (.iload_n 2, 1) := by decide +kernel
theorem dX0_debts_51 : decode cX0_debts 51 = .ok (.iaload, 1) := by decide +kernel
theorem dX0_debts_52 : decode cX0_debts 52 = .ok (.ifCond .ge 13, 3) := by decide +kernel
theorem dX0_debts_55 : decode cX0_debts 55 = .ok (.aload_n 0, 1) := by decide +kernel
theorem dX0_debts_56 : decode cX0_debts 56 = .ok (.getfield 13, 3) := by decide +kernel
theorem dX0_debts_59 : decode cX0_debts 59 = .ok (.iload_n 2, 1) := by decide +kernel
theorem dX0_debts_60 : decode cX0_debts 60 = .ok (.iaload, 1) := by decide +kernel
theorem dX0_debts_61 : decode cX0_debts 61 = .ok (.ineg, 1) := by decide +kernel
theorem dX0_debts_62 : decode cX0_debts 62 = .ok (.goto 4, 3) := by decide +kernel
theorem dX0_debts_65 : decode cX0_debts 65 = .ok (.iconst 0, 1) := by decide +kernel
theorem dX0_debts_66 : decode cX0_debts 66 = .ok (.iastore, 1) := by decide +kernel
theorem dX0_debts_67 : decode cX0_debts 67 = .ok (.aload_n 0, 1) := by decide +kernel
theorem dX0_debts_68 : decode cX0_debts 68 = .ok (.getfield 28, 3) := by decide +kernel
theorem dX0_debts_71 : decode cX0_debts 71 = .ok (.bipush 9, 2) := by decide +kernel
theorem dX0_debts_73 : decode cX0_debts 73 = .ok (.iload_n 2, 1) := by decide +kernel
theorem dX0_debts_74 : decode cX0_debts 74 = .ok (.imul, 1) := by decide +kernel
theorem dX0_debts_75 : decode cX0_debts 75 = .ok (.bipush 8, 2) := by decide +kernel
theorem dX0_debts_77 : decode cX0_debts 77 = .ok (.iadd, 1) := by decide +kernel
theorem dX0_debts_78 : decode cX0_debts 78 = .ok (.aload_n 0, 1) := by decide +kernel
theorem dX0_debts_79 : decode cX0_debts 79 = .ok (.getfield 13, 3) := by decide +kernel
theorem dX0_debts_82 : decode cX0_debts 82 = .ok (.iload_n 2, 1) := by decide +kernel
theorem dX0_debts_83 : decode cX0_debts 83 = .ok (.iaload, 1) := by decide +kernel
theorem dX0_debts_84 : decode cX0_debts 84 = .ok (.ifCond .le 12, 3) := by decide +kernel
theorem dX0_debts_87 : decode cX0_debts 87 = .ok (.aload_n 0, 1) := by decide +kernel
theorem dX0_debts_88 : decode cX0_debts 88 = .ok (.getfield 13, 3) := by decide +kernel
theorem dX0_debts_91 : decode cX0_debts 91 = .ok (.iload_n 2, 1) := by decide +kernel
theorem dX0_debts_92 : decode cX0_debts 92 = .ok (.iaload, 1) := by decide +kernel
theorem dX0_debts_93 : decode cX0_debts 93 = .ok (.goto 4, 3) := by decide +kernel
theorem dX0_debts_96 : decode cX0_debts 96 = .ok (.iconst 0, 1) := by decide +kernel
theorem dX0_debts_97 : decode cX0_debts 97 = .ok (.iastore, 1) := by decide +kernel
theorem dX0_debts_98 : decode cX0_debts 98 = .ok (.iload_n 1, 1) := by decide +kernel
theorem dX0_debts_99 : decode cX0_debts 99 = .ok (.aload_n 0, 1) := by decide +kernel
theorem dX0_debts_100 : decode cX0_debts 100 = .ok (.getfield 13, 3) := by decide +kernel
theorem dX0_debts_103 : decode cX0_debts 103 = .ok (.iload_n 2, 1) := by decide +kernel
theorem dX0_debts_104 : decode cX0_debts 104 = .ok (.iaload, 1) := by decide +kernel
theorem dX0_debts_105 : decode cX0_debts 105 = .ok (.ifCond .le 12, 3) := by decide +kernel
theorem dX0_debts_108 : decode cX0_debts 108 = .ok (.aload_n 0, 1) := by decide +kernel
theorem dX0_debts_109 : decode cX0_debts 109 = .ok (.getfield 13, 3) := by decide +kernel
theorem dX0_debts_112 : decode cX0_debts 112 = .ok (.iload_n 2, 1) := by decide +kernel
theorem dX0_debts_113 : decode cX0_debts 113 = .ok (.iaload, 1) := by decide +kernel
theorem dX0_debts_114 : decode cX0_debts 114 = .ok (.goto 4, 3) := by decide +kernel
theorem dX0_debts_117 : decode cX0_debts 117 = .ok (.iconst 0, 1) := by decide +kernel
theorem dX0_debts_118 : decode cX0_debts 118 = .ok (.iadd, 1) := by decide +kernel
theorem dX0_debts_119 : decode cX0_debts 119 = .ok (.istore_n 1, 1) := by decide +kernel
theorem dX0_debts_120 : decode cX0_debts 120 = .ok (.iconst 0, 1) := by decide +kernel
theorem dX0_debts_121 : decode cX0_debts 121 = .ok (.istore_n 3, 1) := by decide +kernel
theorem dX0_debts_122 : decode cX0_debts 122 = .ok (.iload_n 3, 1) := by decide +kernel
theorem dX0_debts_123 : decode cX0_debts 123 = .ok (.bipush 7, 2) := by decide +kernel
theorem dX0_debts_125 : decode cX0_debts 125 = .ok (.if_icmp .ge 40, 3) := by decide +kernel
theorem dX0_debts_128 : decode cX0_debts 128 = .ok (.aload_n 0, 1) := by decide +kernel
theorem dX0_debts_129 : decode cX0_debts 129 = .ok (.getfield 28, 3) := by decide +kernel
theorem dX0_debts_132 : decode cX0_debts 132 = .ok (.bipush 9, 2) := by decide +kernel
theorem dX0_debts_134 : decode cX0_debts 134 = .ok (.iload_n 2, 1) := by decide +kernel
theorem dX0_debts_135 : decode cX0_debts 135 = .ok (.imul, 1) := by decide +kernel
theorem dX0_debts_136 : decode cX0_debts 136 = .ok (.iload_n 3, 1) := by decide +kernel
theorem dX0_debts_137 : decode cX0_debts 137 = .ok (.iadd, 1) := by decide +kernel
theorem dX0_debts_138 : decode cX0_debts 138 = .ok (.iload_n 2, 1) := by decide +kernel
theorem dX0_debts_139 : decode cX0_debts 139 = .ok (.iload_n 3, 1) := by decide +kernel
theorem dX0_debts_140 : decode cX0_debts 140 = .ok (.if_icmp .ne 7, 3) := by decide +kernel
theorem dX0_debts_143 : decode cX0_debts 143 = .ok (.iconst 0, 1) := by decide +kernel
theorem dX0_debts_144 : decode cX0_debts 144 = .ok (.goto 14, 3) := by decide +kernel
theorem dX0_debts_147 : decode cX0_debts 147 = .ok (.aload_n 0, 1) := by decide +kernel
theorem dX0_debts_148 : decode cX0_debts 148 = .ok (.getfield 7, 3) := by decide +kernel
theorem dX0_debts_151 : decode cX0_debts 151 = .ok (.bipush 7, 2) := by decide +kernel
theorem dX0_debts_153 : decode cX0_debts 153 = .ok (.iload_n 3, 1) := by decide +kernel
theorem dX0_debts_154 : decode cX0_debts 154 = .ok (.imul, 1) := by decide +kernel
theorem dX0_debts_155 : decode cX0_debts 155 = .ok (.iload_n 2, 1) := by decide +kernel
theorem dX0_debts_156 : decode cX0_debts 156 = .ok (.iadd, 1) := by decide +kernel
theorem dX0_debts_157 : decode cX0_debts 157 = .ok (.iaload, 1) := by decide +kernel
theorem dX0_debts_158 : decode cX0_debts 158 = .ok (.iastore, 1) := by decide +kernel
theorem dX0_debts_159 : decode cX0_debts 159 = .ok (.iinc 3 1, 3) := by decide +kernel
theorem dX0_debts_162 : decode cX0_debts 162 = .ok (.goto (-40), 3) := by decide +kernel
theorem dX0_debts_165 : decode cX0_debts 165 = .ok (.iinc 2 1, 3) := by decide +kernel
theorem dX0_debts_168 : decode cX0_debts 168 = .ok (.goto (-136), 3) := by decide +kernel
theorem dX0_debts_171 : decode cX0_debts 171 = .ok (.iconst 0, 1) := by decide +kernel
theorem dX0_debts_172 : decode cX0_debts 172 = .ok (.istore_n 2, 1) := by decide +kernel
theorem dX0_debts_173 : decode cX0_debts 173 = .ok (.iconst 0, 1) := by decide +kernel
theorem dX0_debts_174 : decode cX0_debts 174 = .ok (.istore_n 3, 1) := by decide +kernel
theorem dX0_debts_175 : decode cX0_debts 175 = .ok (.iload_n 3, 1) := by decide +kernel
theorem dX0_debts_176 : decode cX0_debts 176 = .ok (.iload_n 1, 1) := by decide +kernel
theorem dX0_debts_177 : decode cX0_debts 177 = .ok (.if_icmp .ge 14, 3) := by decide +kernel
theorem dX0_debts_180 : decode cX0_debts 180 = .ok (.aload_n 0, 1) := by decide +kernel
theorem dX0_debts_181 : decode cX0_debts 181 = .ok (.invokevirtual 88, 3) := by decide +kernel
theorem dX0_debts_184 : decode cX0_debts 184 = .ok (.ifCond .eq 7, 3) := by decide +kernel
theorem dX0_debts_187 : decode cX0_debts 187 = .ok (.iconst 1, 1) := by decide +kernel
theorem dX0_debts_188 : decode cX0_debts 188 = .ok (.goto 4, 3) := by decide +kernel
theorem dX0_debts_191 : decode cX0_debts 191 = .ok (.iconst 0, 1) := by decide +kernel
theorem dX0_debts_192 : decode cX0_debts 192 = .ok (.istore 4, 2) := by decide +kernel
theorem dX0_debts_194 : decode cX0_debts 194 = .ok (.iconst 0, 1) := by decide +kernel
theorem dX0_debts_195 : decode cX0_debts 195 = .ok (.istore 5, 2) := by decide +kernel
theorem dX0_debts_197 : decode cX0_debts 197 = .ok (.iload 5, 2) := by decide +kernel
theorem dX0_debts_199 : decode cX0_debts 199 = .ok (.ldc 59, 2) := by decide +kernel
theorem dX0_debts_201 : decode cX0_debts 201 = .ok (.if_icmp .ge 60, 3) := by decide +kernel
theorem dX0_debts_204 : decode cX0_debts 204 = .ok (.iload 4, 2) := by decide +kernel
theorem dX0_debts_206 : decode cX0_debts 206 = .ok (.ifCond .eq 55, 3) := by decide +kernel
theorem dX0_debts_209 : decode cX0_debts 209 = .ok (.aload_n 0, 1) := by decide +kernel
theorem dX0_debts_210 : decode cX0_debts 210 = .ok (.iload_n 1, 1) := by decide +kernel
theorem dX0_debts_211 : decode cX0_debts 211 = .ok (.iload_n 3, 1) := by decide +kernel
theorem dX0_debts_212 : decode cX0_debts 212 = .ok (.isub, 1) := by decide +kernel
theorem dX0_debts_213 : decode cX0_debts 213 = .ok (.invokevirtual 92, 3) := by decide +kernel
theorem dX0_debts_216 : decode cX0_debts 216 = .ok (.istore 6, 2) := by decide +kernel
theorem dX0_debts_218 : decode cX0_debts 218 = .ok (.iload_n 2, 1) := by decide +kernel
theorem dX0_debts_219 : decode cX0_debts 219 = .ok (.aload_n 0, 1) := by decide +kernel
theorem dX0_debts_220 : decode cX0_debts 220 = .ok (.getfield 40, 3) := by decide +kernel
theorem dX0_debts_223 : decode cX0_debts 223 = .ok (.bipush 8, 2) := by decide +kernel
theorem dX0_debts_225 : decode cX0_debts 225 = .ok (.iaload, 1) := by decide +kernel
theorem dX0_debts_226 : decode cX0_debts 226 = .ok (.iload 6, 2) := by decide +kernel
theorem dX0_debts_228 : decode cX0_debts 228 = .ok (.imul, 1) := by decide +kernel
theorem dX0_debts_229 : decode cX0_debts 229 = .ok (.iadd, 1) := by decide +kernel
theorem dX0_debts_230 : decode cX0_debts 230 = .ok (.istore_n 2, 1) := by decide +kernel
theorem dX0_debts_231 : decode cX0_debts 231 = .ok (.iload_n 3, 1) := by decide +kernel
theorem dX0_debts_232 : decode cX0_debts 232 = .ok (.iload 6, 2) := by decide +kernel
theorem dX0_debts_234 : decode cX0_debts 234 = .ok (.iadd, 1) := by decide +kernel
theorem dX0_debts_235 : decode cX0_debts 235 = .ok (.istore_n 3, 1) := by decide +kernel
theorem dX0_debts_236 : decode cX0_debts 236 = .ok (.iload_n 3, 1) := by decide +kernel
theorem dX0_debts_237 : decode cX0_debts 237 = .ok (.iload_n 1, 1) := by decide +kernel
theorem dX0_debts_238 : decode cX0_debts 238 = .ok (.if_icmp .ge 14, 3) := by decide +kernel
theorem dX0_debts_241 : decode cX0_debts 241 = .ok (.aload_n 0, 1) := by decide +kernel
theorem dX0_debts_242 : decode cX0_debts 242 = .ok (.invokevirtual 88, 3) := by decide +kernel
theorem dX0_debts_245 : decode cX0_debts 245 = .ok (.ifCond .eq 7, 3) := by decide +kernel
end
section
set_option maxRecDepth 100000
theorem dX0_debts_248 : decode cX0_debts 248 = .ok (.iconst 1, 1) := by decide +kernel
theorem dX0_debts_249 : decode cX0_debts 249 = .ok (.goto 4, 3) := by decide +kernel
theorem dX0_debts_252 : decode cX0_debts 252 = .ok (.iconst 0, 1) := by decide +kernel
theorem dX0_debts_253 : decode cX0_debts 253 = .ok (.istore 4, 2) := by decide +kernel
theorem dX0_debts_255 : decode cX0_debts 255 = .ok (.iinc 5 1, 3) := by decide +kernel
theorem dX0_debts_258 : decode cX0_debts 258 = .ok (.goto (-61), 3) := by decide +kernel
theorem dX0_debts_261 : decode cX0_debts 261 = .ok (.iload_n 2, 1) := by decide +kernel
theorem dX0_debts_262 : decode cX0_debts 262 = .ok (.ireturn, 1) := by decide +kernel
abbrev cX0_findCheapest : ByteArray := prog_1_method_26_code
def yX0_findCheapest : MethodName := ⟨RX0, "findCheapest", "()Z"⟩
theorem dX0_findCheapest_0 : decode cX0_findCheapest 0 = .ok (.iconst 0, 1) := by decide +kernel
theorem dX0_findCheapest_1 : decode cX0_findCheapest 1 = .ok (.istore_n 1, 1) := by decide +kernel
theorem dX0_findCheapest_2 : decode cX0_findCheapest 2 = .ok (.iload_n 1, 1) := by decide +kernel
theorem dX0_findCheapest_3 : decode cX0_findCheapest 3 = .ok (.bipush 9, 2) := by decide +kernel
theorem dX0_findCheapest_5 : decode cX0_findCheapest 5 = .ok (.if_icmp .ge 34, 3) := by decide +kernel
theorem dX0_findCheapest_8 : decode cX0_findCheapest 8 = .ok (.aload_n 0, 1) := by decide +kernel
theorem dX0_findCheapest_9 : decode cX0_findCheapest 9 = .ok (.getfield 40, 3) := by decide +kernel
theorem dX0_findCheapest_12 : decode cX0_findCheapest 12 = .ok (.iload_n 1, 1) := by decide +kernel
theorem dX0_findCheapest_13 : decode cX0_findCheapest 13 = .ok (.iload_n 1, 1) := by decide +kernel
theorem dX0_findCheapest_14 : decode cX0_findCheapest 14 = .ok (.bipush 7, 2) := by decide +kernel
theorem dX0_findCheapest_16 : decode cX0_findCheapest 16 = .ok (.if_icmp .ne 7, 3) := by decide +kernel
theorem dX0_findCheapest_19 : decode cX0_findCheapest 19 = .ok (.iconst 0, 1) := by decide +kernel
theorem dX0_findCheapest_20 : decode cX0_findCheapest 20 = .ok (.goto 5, 3) := by decide +kernel
theorem dX0_findCheapest_23 : decode cX0_findCheapest 23 = .ok (.ldc 54, 2) := by decide +kernel
theorem dX0_findCheapest_25 : decode cX0_findCheapest 25 = .ok (.iastore, 1) := by decide +kernel
theorem dX0_findCheapest_26 : decode cX0_findCheapest 26 = .ok (.aload_n 0, 1) := by decide +kernel
theorem dX0_findCheapest_27 : decode cX0_findCheapest 27 = .ok (.getfield 34, 3) := by decide +kernel
theorem dX0_findCheapest_30 : decode cX0_findCheapest 30 = .ok (.iload_n 1, 1) := by decide +kernel
theorem dX0_findCheapest_31 : decode cX0_findCheapest 31 = .ok (.iconst (-1), 1) := by decide +kernel
theorem dX0_findCheapest_32 : decode cX0_findCheapest 32 = .ok (.iastore, 1) := by decide +kernel
theorem dX0_findCheapest_33 : decode cX0_findCheapest 33 = .ok (.iinc 1 1, 3) := by decide +kernel
theorem dX0_findCheapest_36 : decode cX0_findCheapest 36 = .ok (.goto (-34), 3) := by decide +kernel
theorem dX0_findCheapest_39 : decode cX0_findCheapest 39 = .ok (.iconst 0, 1) := by decide +kernel
theorem dX0_findCheapest_40 : decode cX0_findCheapest 40 = .ok (.istore_n 1, 1) := by decide +kernel
theorem dX0_findCheapest_41 : decode cX0_findCheapest 41 = .ok (.iload_n 1, 1) := by decide +kernel
theorem dX0_findCheapest_42 : decode cX0_findCheapest 42 = .ok (.bipush 9, 2) := by decide +kernel
theorem dX0_findCheapest_44 : decode cX0_findCheapest 44 = .ok (.if_icmp .ge 35, 3) := by decide +kernel
theorem dX0_findCheapest_47 : decode cX0_findCheapest 47 = .ok (.iconst 0, 1) := by decide +kernel
theorem dX0_findCheapest_48 : decode cX0_findCheapest 48 = .ok (.istore_n 2, 1) := by decide +kernel
theorem dX0_findCheapest_49 : decode cX0_findCheapest 49 = .ok (.iload_n 2, 1) := by decide +kernel
theorem dX0_findCheapest_50 : decode cX0_findCheapest 50 = .ok (.bipush 81, 2) := by decide +kernel
theorem dX0_findCheapest_52 : decode cX0_findCheapest 52 = .ok (.if_icmp .ge 21, 3) := by decide +kernel
theorem dX0_findCheapest_55 : decode cX0_findCheapest 55 = .ok (.aload_n 0, 1) := by decide +kernel
theorem dX0_findCheapest_56 : decode cX0_findCheapest 56 = .ok (.iload_n 2, 1) := by decide +kernel
theorem dX0_findCheapest_57 : decode cX0_findCheapest 57 = .ok (.bipush 9, 2) := by decide +kernel
theorem dX0_findCheapest_59 : decode cX0_findCheapest 59 = .ok (.idiv, 1) := by decide +kernel
theorem dX0_findCheapest_60 : decode cX0_findCheapest 60 = .ok (.iload_n 2, 1) := by decide +kernel
theorem dX0_findCheapest_61 : decode cX0_findCheapest 61 = .ok (.bipush 9, 2) := by decide +kernel
theorem dX0_findCheapest_63 : decode cX0_findCheapest 63 = .ok (.irem, 1) := by decide +kernel
theorem dX0_findCheapest_64 : decode cX0_findCheapest 64 = .ok (.invokevirtual 96, 3) := by decide +kernel
theorem dX0_findCheapest_67 : decode cX0_findCheapest 67 = .ok (.iinc 2 1, 3) := by decide +kernel
theorem dX0_findCheapest_70 : decode cX0_findCheapest 70 = .ok (.goto (-21), 3) := by decide +kernel
theorem dX0_findCheapest_73 : decode cX0_findCheapest 73 = .ok (.iinc 1 1, 3) := by decide +kernel
theorem dX0_findCheapest_76 : decode cX0_findCheapest 76 = .ok (.goto (-35), 3) := by decide +kernel
theorem dX0_findCheapest_79 : decode cX0_findCheapest 79 = .ok (.aload_n 0, 1) := by decide +kernel
theorem dX0_findCheapest_80 : decode cX0_findCheapest 80 = .ok (.getfield 40, 3) := by decide +kernel
theorem dX0_findCheapest_83 : decode cX0_findCheapest 83 = .ok (.bipush 8, 2) := by decide +kernel
theorem dX0_findCheapest_85 : decode cX0_findCheapest 85 = .ok (.iaload, 1) := by decide +kernel
theorem dX0_findCheapest_86 : decode cX0_findCheapest 86 = .ok (.ldc 54, 2) := by decide +kernel
theorem dX0_findCheapest_88 : decode cX0_findCheapest 88 = .ok (.if_icmp .ge 7, 3) := by decide +kernel
theorem dX0_findCheapest_91 : decode cX0_findCheapest 91 = .ok (.iconst 1, 1) := by decide +kernel
theorem dX0_findCheapest_92 : decode cX0_findCheapest 92 = .ok (.goto 4, 3) := by decide +kernel
theorem dX0_findCheapest_95 : decode cX0_findCheapest 95 = .ok (.iconst 0, 1) := by decide +kernel
theorem dX0_findCheapest_96 : decode cX0_findCheapest 96 = .ok (.ireturn, 1) := by decide +kernel
abbrev cX0_relax : ByteArray := prog_1_method_27_code
def yX0_relax : MethodName := ⟨RX0, "relax", "(II)V"⟩
theorem dX0_relax_0 : decode cX0_relax 0 = .ok (.aload_n 0, 1) := by decide +kernel
theorem dX0_relax_1 : decode cX0_relax 1 = .ok (.getfield 28, 3) := by decide +kernel
theorem dX0_relax_4 : decode cX0_relax 4 = .ok (.bipush 9, 2) := by decide +kernel
theorem dX0_relax_6 : decode cX0_relax 6 = .ok (.iload_n 1, 1) := by decide +kernel
theorem dX0_relax_7 : decode cX0_relax 7 = .ok (.imul, 1) := by decide +kernel
theorem dX0_relax_8 : decode cX0_relax 8 = .ok (.iload_n 2, 1) := by decide +kernel
theorem dX0_relax_9 : decode cX0_relax 9 = .ok (.iadd, 1) := by decide +kernel
theorem dX0_relax_10 : decode cX0_relax 10 = .ok (.iaload, 1) := by decide +kernel
theorem dX0_relax_11 : decode cX0_relax 11 = .ok (.ifCond .le 52, 3) := by decide +kernel
theorem dX0_relax_14 : decode cX0_relax 14 = .ok (.aload_n 0, 1) := by decide +kernel
theorem dX0_relax_15 : decode cX0_relax 15 = .ok (.getfield 40, 3) := by decide +kernel
theorem dX0_relax_18 : decode cX0_relax 18 = .ok (.iload_n 1, 1) := by decide +kernel
theorem dX0_relax_19 : decode cX0_relax 19 = .ok (.iaload, 1) := by decide +kernel
theorem dX0_relax_20 : decode cX0_relax 20 = .ok (.ldc 54, 2) := by decide +kernel
theorem dX0_relax_22 : decode cX0_relax 22 = .ok (.if_icmp .ge 41, 3) := by decide +kernel
theorem dX0_relax_25 : decode cX0_relax 25 = .ok (.aload_n 0, 1) := by decide +kernel
theorem dX0_relax_26 : decode cX0_relax 26 = .ok (.getfield 40, 3) := by decide +kernel
theorem dX0_relax_29 : decode cX0_relax 29 = .ok (.iload_n 1, 1) := by decide +kernel
theorem dX0_relax_30 : decode cX0_relax 30 = .ok (.iaload, 1) := by decide +kernel
theorem dX0_relax_31 : decode cX0_relax 31 = .ok (.aload_n 0, 1) := by decide +kernel
theorem dX0_relax_32 : decode cX0_relax 32 = .ok (.iload_n 1, 1) := by decide +kernel
theorem dX0_relax_33 : decode cX0_relax 33 = .ok (.iload_n 2, 1) := by decide +kernel
theorem dX0_relax_34 : decode cX0_relax 34 = .ok (.invokevirtual 100, 3) := by decide +kernel
theorem dX0_relax_37 : decode cX0_relax 37 = .ok (.iadd, 1) := by decide +kernel
theorem dX0_relax_38 : decode cX0_relax 38 = .ok (.istore_n 3, 1) := by decide +kernel
theorem dX0_relax_39 : decode cX0_relax 39 = .ok (.iload_n 3, 1) := by decide +kernel
theorem dX0_relax_40 : decode cX0_relax 40 = .ok (.aload_n 0, 1) := by decide +kernel
theorem dX0_relax_41 : decode cX0_relax 41 = .ok (.getfield 40, 3) := by decide +kernel
theorem dX0_relax_44 : decode cX0_relax 44 = .ok (.iload_n 2, 1) := by decide +kernel
theorem dX0_relax_45 : decode cX0_relax 45 = .ok (.iaload, 1) := by decide +kernel
theorem dX0_relax_46 : decode cX0_relax 46 = .ok (.if_icmp .ge 17, 3) := by decide +kernel
theorem dX0_relax_49 : decode cX0_relax 49 = .ok (.aload_n 0, 1) := by decide +kernel
theorem dX0_relax_50 : decode cX0_relax 50 = .ok (.getfield 40, 3) := by decide +kernel
theorem dX0_relax_53 : decode cX0_relax 53 = .ok (.iload_n 2, 1) := by decide +kernel
theorem dX0_relax_54 : decode cX0_relax 54 = .ok (.iload_n 3, 1) := by decide +kernel
theorem dX0_relax_55 : decode cX0_relax 55 = .ok (.iastore, 1) := by decide +kernel
theorem dX0_relax_56 : decode cX0_relax 56 = .ok (.aload_n 0, 1) := by decide +kernel
theorem dX0_relax_57 : decode cX0_relax 57 = .ok (.getfield 34, 3) := by decide +kernel
theorem dX0_relax_60 : decode cX0_relax 60 = .ok (.iload_n 2, 1) := by decide +kernel
theorem dX0_relax_61 : decode cX0_relax 61 = .ok (.iload_n 1, 1) := by decide +kernel
theorem dX0_relax_62 : decode cX0_relax 62 = .ok (.iastore, 1) := by decide +kernel
theorem dX0_relax_63 : decode cX0_relax 63 = .ok (.return_, 1) := by decide +kernel
abbrev cX0_costOf : ByteArray := prog_1_method_25_code
def yX0_costOf : MethodName := ⟨RX0, "costOf", "(II)I"⟩
theorem dX0_costOf_0 : decode cX0_costOf 0 = .ok (.iload_n 1, 1) := by decide +kernel
theorem dX0_costOf_1 : decode cX0_costOf 1 = .ok (.bipush 7, 2) := by decide +kernel
theorem dX0_costOf_3 : decode cX0_costOf 3 = .ok (.if_icmp .ge 9, 3) := by decide +kernel
theorem dX0_costOf_6 : decode cX0_costOf 6 = .ok (.iload_n 2, 1) := by decide +kernel
theorem dX0_costOf_7 : decode cX0_costOf 7 = .ok (.bipush 7, 2) := by decide +kernel
theorem dX0_costOf_9 : decode cX0_costOf 9 = .ok (.if_icmp .lt 5, 3) := by decide +kernel
theorem dX0_costOf_12 : decode cX0_costOf 12 = .ok (.iconst 0, 1) := by decide +kernel
theorem dX0_costOf_13 : decode cX0_costOf 13 = .ok (.ireturn, 1) := by decide +kernel
theorem dX0_costOf_14 : decode cX0_costOf 14 = .ok (.aload_n 0, 1) := by decide +kernel
theorem dX0_costOf_15 : decode cX0_costOf 15 = .ok (.getfield 31, 3) := by decide +kernel
theorem dX0_costOf_18 : decode cX0_costOf 18 = .ok (.bipush 9, 2) := by decide +kernel
theorem dX0_costOf_20 : decode cX0_costOf 20 = .ok (.iload_n 2, 1) := by decide +kernel
theorem dX0_costOf_21 : decode cX0_costOf 21 = .ok (.imul, 1) := by decide +kernel
theorem dX0_costOf_22 : decode cX0_costOf 22 = .ok (.iload_n 1, 1) := by decide +kernel
theorem dX0_costOf_23 : decode cX0_costOf 23 = .ok (.iadd, 1) := by decide +kernel
theorem dX0_costOf_24 : decode cX0_costOf 24 = .ok (.iaload, 1) := by decide +kernel
theorem dX0_costOf_25 : decode cX0_costOf 25 = .ok (.ifCond .le 7, 3) := by decide +kernel
theorem dX0_costOf_28 : decode cX0_costOf 28 = .ok (.iconst (-1), 1) := by decide +kernel
theorem dX0_costOf_29 : decode cX0_costOf 29 = .ok (.goto 4, 3) := by decide +kernel
theorem dX0_costOf_32 : decode cX0_costOf 32 = .ok (.iconst 1, 1) := by decide +kernel
theorem dX0_costOf_33 : decode cX0_costOf 33 = .ok (.ireturn, 1) := by decide +kernel
abbrev cX0_narrowestOwed : ByteArray := prog_1_method_28_code
def yX0_narrowestOwed : MethodName := ⟨RX0, "narrowestOwed", "(I)I"⟩
theorem dX0_narrowestOwed_0 : decode cX0_narrowestOwed 0 = .ok (.iload_n 1, 1) := by decide +kernel
theorem dX0_narrowestOwed_1 : decode cX0_narrowestOwed 1 = .ok (.istore_n 2, 1) := by decide +kernel
theorem dX0_narrowestOwed_2 : decode cX0_narrowestOwed 2 = .ok (.bipush 8, 2) := by decide +kernel
theorem dX0_narrowestOwed_4 : decode cX0_narrowestOwed 4 = .ok (.istore_n 3, 1) := by decide +kernel
theorem dX0_narrowestOwed_5 : decode cX0_narrowestOwed 5 = .ok (.iconst 0, 1) := by decide +kernel
theorem dX0_narrowestOwed_6 : decode cX0_narrowestOwed 6 = .ok (.istore 4, 2) := by decide +kernel
theorem dX0_narrowestOwed_8 : decode cX0_narrowestOwed 8 = .ok (.iload 4, 2) := by decide +kernel
theorem dX0_narrowestOwed_10 : decode cX0_narrowestOwed 10 = .ok (.bipush 9, 2) := by decide +kernel
theorem dX0_narrowestOwed_12 : decode cX0_narrowestOwed 12 = .ok (.if_icmp .ge 124, 3) := by decide +kernel
theorem dX0_narrowestOwed_15 : decode cX0_narrowestOwed 15 = .ok (.iload_n 3, 1) := by decide +kernel
theorem dX0_narrowestOwed_16 : decode cX0_narrowestOwed 16 = .ok (.bipush 7, 2) := by decide +kernel
theorem dX0_narrowestOwed_18 : decode cX0_narrowestOwed 18 = .ok (.if_icmp .eq 118, 3) := by decide +kernel
theorem dX0_narrowestOwed_21 : decode cX0_narrowestOwed 21 = .ok (.aload_n 0, 1) := by decide +kernel
theorem dX0_narrowestOwed_22 : decode cX0_narrowestOwed 22 = .ok (.getfield 34, 3) := by decide +kernel
theorem dX0_narrowestOwed_25 : decode cX0_narrowestOwed 25 = .ok (.iload_n 3, 1) := by decide +kernel
theorem dX0_narrowestOwed_26 : decode cX0_narrowestOwed 26 = .ok (.iaload, 1) := by decide +kernel
theorem dX0_narrowestOwed_27 : decode cX0_narrowestOwed 27 = .ok (.istore 5, 2) := by decide +kernel
theorem dX0_narrowestOwed_29 : decode cX0_narrowestOwed 29 = .ok (.aload_n 0, 1) := by decide +kernel
theorem dX0_narrowestOwed_30 : decode cX0_narrowestOwed 30 = .ok (.getfield 28, 3) := by decide +kernel
theorem dX0_narrowestOwed_33 : decode cX0_narrowestOwed 33 = .ok (.bipush 9, 2) := by decide +kernel
theorem dX0_narrowestOwed_35 : decode cX0_narrowestOwed 35 = .ok (.iload 5, 2) := by decide +kernel
theorem dX0_narrowestOwed_37 : decode cX0_narrowestOwed 37 = .ok (.imul, 1) := by decide +kernel
theorem dX0_narrowestOwed_38 : decode cX0_narrowestOwed 38 = .ok (.iload_n 3, 1) := by decide +kernel
theorem dX0_narrowestOwed_39 : decode cX0_narrowestOwed 39 = .ok (.iadd, 1) := by decide +kernel
theorem dX0_narrowestOwed_40 : decode cX0_narrowestOwed 40 = .ok (.iaload, 1) := by decide +kernel
theorem dX0_narrowestOwed_41 : decode cX0_narrowestOwed 41 = .ok (.istore 6, 2) := by decide +kernel
theorem dX0_narrowestOwed_43 : decode cX0_narrowestOwed 43 = .ok (.iload 5, 2) := by decide +kernel
theorem dX0_narrowestOwed_45 : decode cX0_narrowestOwed 45 = .ok (.bipush 7, 2) := by decide +kernel
theorem dX0_narrowestOwed_47 : decode cX0_narrowestOwed 47 = .ok (.if_icmp .ge 28, 3) := by decide +kernel
theorem dX0_narrowestOwed_50 : decode cX0_narrowestOwed 50 = .ok (.iload_n 3, 1) := by decide +kernel
theorem dX0_narrowestOwed_51 : decode cX0_narrowestOwed 51 = .ok (.bipush 7, 2) := by decide +kernel
theorem dX0_narrowestOwed_53 : decode cX0_narrowestOwed 53 = .ok (.if_icmp .ge 22, 3) := by decide +kernel
theorem dX0_narrowestOwed_56 : decode cX0_narrowestOwed 56 = .ok (.aload_n 0, 1) := by decide +kernel
theorem dX0_narrowestOwed_57 : decode cX0_narrowestOwed 57 = .ok (.getfield 31, 3) := by decide +kernel
theorem dX0_narrowestOwed_60 : decode cX0_narrowestOwed 60 = .ok (.bipush 9, 2) := by decide +kernel
theorem dX0_narrowestOwed_62 : decode cX0_narrowestOwed 62 = .ok (.iload_n 3, 1) := by decide +kernel
theorem dX0_narrowestOwed_63 : decode cX0_narrowestOwed 63 = .ok (.imul, 1) := by decide +kernel
theorem dX0_narrowestOwed_64 : decode cX0_narrowestOwed 64 = .ok (.iload 5, 2) := by decide +kernel
theorem dX0_narrowestOwed_66 : decode cX0_narrowestOwed 66 = .ok (.iadd, 1) := by decide +kernel
theorem dX0_narrowestOwed_67 : decode cX0_narrowestOwed 67 = .ok (.iaload, 1) := by decide +kernel
theorem dX0_narrowestOwed_68 : decode cX0_narrowestOwed 68 = .ok (.ifCond .le 7, 3) := by decide +kernel
theorem dX0_narrowestOwed_71 : decode cX0_narrowestOwed 71 = .ok (.iconst 1, 1) := by decide +kernel
theorem dX0_narrowestOwed_72 : decode cX0_narrowestOwed 72 = .ok (.goto 4, 3) := by decide +kernel
theorem dX0_narrowestOwed_75 : decode cX0_narrowestOwed 75 = .ok (.iconst 0, 1) := by decide +kernel
theorem dX0_narrowestOwed_76 : decode cX0_narrowestOwed 76 = .ok (.istore 7, 2) := by decide +kernel
theorem dX0_narrowestOwed_78 : decode cX0_narrowestOwed 78 = .ok (.iload 7, 2) := by decide +kernel
theorem dX0_narrowestOwed_80 : decode cX0_narrowestOwed 80 = .ok (.ifCond .eq 34, 3) := by decide +kernel
theorem dX0_narrowestOwed_83 : decode cX0_narrowestOwed 83 = .ok (.aload_n 0, 1) := by decide +kernel
theorem dX0_narrowestOwed_84 : decode cX0_narrowestOwed 84 = .ok (.getfield 31, 3) := by decide +kernel
theorem dX0_narrowestOwed_87 : decode cX0_narrowestOwed 87 = .ok (.bipush 9, 2) := by decide +kernel
theorem dX0_narrowestOwed_89 : decode cX0_narrowestOwed 89 = .ok (.iload_n 3, 1) := by decide +kernel
theorem dX0_narrowestOwed_90 : decode cX0_narrowestOwed 90 = .ok (.imul, 1) := by decide +kernel
theorem dX0_narrowestOwed_91 : decode cX0_narrowestOwed 91 = .ok (.iload 5, 2) := by decide +kernel
theorem dX0_narrowestOwed_93 : decode cX0_narrowestOwed 93 = .ok (.iadd, 1) := by decide +kernel
theorem dX0_narrowestOwed_94 : decode cX0_narrowestOwed 94 = .ok (.iaload, 1) := by decide +kernel
theorem dX0_narrowestOwed_95 : decode cX0_narrowestOwed 95 = .ok (.iload 6, 2) := by decide +kernel
theorem dX0_narrowestOwed_97 : decode cX0_narrowestOwed 97 = .ok (.if_icmp .ge 17, 3) := by decide +kernel
theorem dX0_narrowestOwed_100 : decode cX0_narrowestOwed 100 = .ok (.aload_n 0, 1) := by decide +kernel
theorem dX0_narrowestOwed_101 : decode cX0_narrowestOwed 101 = .ok (.getfield 31, 3) := by decide +kernel
theorem dX0_narrowestOwed_104 : decode cX0_narrowestOwed 104 = .ok (.bipush 9, 2) := by decide +kernel
theorem dX0_narrowestOwed_106 : decode cX0_narrowestOwed 106 = .ok (.iload_n 3, 1) := by decide +kernel
theorem dX0_narrowestOwed_107 : decode cX0_narrowestOwed 107 = .ok (.imul, 1) := by decide +kernel
theorem dX0_narrowestOwed_108 : decode cX0_narrowestOwed 108 = .ok (.iload 5, 2) := by decide +kernel
theorem dX0_narrowestOwed_110 : decode cX0_narrowestOwed 110 = .ok (.iadd, 1) := by decide +kernel
theorem dX0_narrowestOwed_111 : decode cX0_narrowestOwed 111 = .ok (.iaload, 1) := by decide +kernel
theorem dX0_narrowestOwed_112 : decode cX0_narrowestOwed 112 = .ok (.istore 6, 2) := by decide +kernel
theorem dX0_narrowestOwed_114 : decode cX0_narrowestOwed 114 = .ok (.iload 6, 2) := by decide +kernel
theorem dX0_narrowestOwed_116 : decode cX0_narrowestOwed 116 = .ok (.iload_n 2, 1) := by decide +kernel
theorem dX0_narrowestOwed_117 : decode cX0_narrowestOwed 117 = .ok (.if_icmp .ge 8, 3) := by decide +kernel
theorem dX0_narrowestOwed_120 : decode cX0_narrowestOwed 120 = .ok (.iload 6, 2) := by decide +kernel
theorem dX0_narrowestOwed_122 : decode cX0_narrowestOwed 122 = .ok (.goto 4, 3) := by decide +kernel
theorem dX0_narrowestOwed_125 : decode cX0_narrowestOwed 125 = .ok (.iload_n 2, 1) := by decide +kernel
theorem dX0_narrowestOwed_126 : decode cX0_narrowestOwed 126 = .ok (.istore_n 2, 1) := by decide +kernel
theorem dX0_narrowestOwed_127 : decode cX0_narrowestOwed 127 = .ok (.iload 5, 2) := by decide +kernel
theorem dX0_narrowestOwed_129 : decode cX0_narrowestOwed 129 = .ok (.istore_n 3, 1) := by decide +kernel
theorem dX0_narrowestOwed_130 : decode cX0_narrowestOwed 130 = .ok (.iinc 4 1, 3) := by decide +kernel
theorem dX0_narrowestOwed_133 : decode cX0_narrowestOwed 133 = .ok (.goto (-125), 3) := by decide +kernel
theorem dX0_narrowestOwed_136 : decode cX0_narrowestOwed 136 = .ok (.bipush 8, 2) := by decide +kernel
theorem dX0_narrowestOwed_138 : decode cX0_narrowestOwed 138 = .ok (.istore_n 3, 1) := by decide +kernel
theorem dX0_narrowestOwed_139 : decode cX0_narrowestOwed 139 = .ok (.iconst 0, 1) := by decide +kernel
theorem dX0_narrowestOwed_140 : decode cX0_narrowestOwed 140 = .ok (.istore 4, 2) := by decide +kernel
theorem dX0_narrowestOwed_142 : decode cX0_narrowestOwed 142 = .ok (.iload 4, 2) := by decide +kernel
theorem dX0_narrowestOwed_144 : decode cX0_narrowestOwed 144 = .ok (.bipush 9, 2) := by decide +kernel
theorem dX0_narrowestOwed_146 : decode cX0_narrowestOwed 146 = .ok (.if_icmp .ge 34, 3) := by decide +kernel
theorem dX0_narrowestOwed_149 : decode cX0_narrowestOwed 149 = .ok (.iload_n 3, 1) := by decide +kernel
theorem dX0_narrowestOwed_150 : decode cX0_narrowestOwed 150 = .ok (.bipush 7, 2) := by decide +kernel
theorem dX0_narrowestOwed_152 : decode cX0_narrowestOwed 152 = .ok (.if_icmp .eq 28, 3) := by decide +kernel
theorem dX0_narrowestOwed_155 : decode cX0_narrowestOwed 155 = .ok (.aload_n 0, 1) := by decide +kernel
theorem dX0_narrowestOwed_156 : decode cX0_narrowestOwed 156 = .ok (.getfield 34, 3) := by decide +kernel
theorem dX0_narrowestOwed_159 : decode cX0_narrowestOwed 159 = .ok (.iload_n 3, 1) := by decide +kernel
theorem dX0_narrowestOwed_160 : decode cX0_narrowestOwed 160 = .ok (.iaload, 1) := by decide +kernel
theorem dX0_narrowestOwed_161 : decode cX0_narrowestOwed 161 = .ok (.istore 5, 2) := by decide +kernel
theorem dX0_narrowestOwed_163 : decode cX0_narrowestOwed 163 = .ok (.aload_n 0, 1) := by decide +kernel
theorem dX0_narrowestOwed_164 : decode cX0_narrowestOwed 164 = .ok (.iload 5, 2) := by decide +kernel
theorem dX0_narrowestOwed_166 : decode cX0_narrowestOwed 166 = .ok (.iload_n 3, 1) := by decide +kernel
theorem dX0_narrowestOwed_167 : decode cX0_narrowestOwed 167 = .ok (.iload_n 2, 1) := by decide +kernel
theorem dX0_narrowestOwed_168 : decode cX0_narrowestOwed 168 = .ok (.invokevirtual 103, 3) := by decide +kernel
theorem dX0_narrowestOwed_171 : decode cX0_narrowestOwed 171 = .ok (.iload 5, 2) := by decide +kernel
theorem dX0_narrowestOwed_173 : decode cX0_narrowestOwed 173 = .ok (.istore_n 3, 1) := by decide +kernel
theorem dX0_narrowestOwed_174 : decode cX0_narrowestOwed 174 = .ok (.iinc 4 1, 3) := by decide +kernel
theorem dX0_narrowestOwed_177 : decode cX0_narrowestOwed 177 = .ok (.goto (-35), 3) := by decide +kernel
theorem dX0_narrowestOwed_180 : decode cX0_narrowestOwed 180 = .ok (.iload_n 2, 1) := by decide +kernel
theorem dX0_narrowestOwed_181 : decode cX0_narrowestOwed 181 = .ok (.ireturn, 1) := by decide +kernel
abbrev cX0_sendOne : ByteArray := prog_1_method_29_code
def yX0_sendOne : MethodName := ⟨RX0, "sendOne", "(III)V"⟩
theorem dX0_sendOne_0 : decode cX0_sendOne 0 = .ok (.aload_n 0, 1) := by decide +kernel
theorem dX0_sendOne_1 : decode cX0_sendOne 1 = .ok (.getfield 28, 3) := by decide +kernel
theorem dX0_sendOne_4 : decode cX0_sendOne 4 = .ok (.bipush 9, 2) := by decide +kernel
theorem dX0_sendOne_6 : decode cX0_sendOne 6 = .ok (.iload_n 1, 1) := by decide +kernel
theorem dX0_sendOne_7 : decode cX0_sendOne 7 = .ok (.imul, 1) := by decide +kernel
theorem dX0_sendOne_8 : decode cX0_sendOne 8 = .ok (.iload_n 2, 1) := by decide +kernel
theorem dX0_sendOne_9 : decode cX0_sendOne 9 = .ok (.iadd, 1) := by decide +kernel
theorem dX0_sendOne_10 : decode cX0_sendOne 10 = .ok (.dup2, 1) := by decide +kernel
theorem dX0_sendOne_11 : decode cX0_sendOne 11 = .ok (.iaload, 1) := by decide +kernel
theorem dX0_sendOne_12 : decode cX0_sendOne 12 = .ok (.iload_n 3, 1) := by decide +kernel
theorem dX0_sendOne_13 : decode cX0_sendOne 13 = .ok (.isub, 1) := by decide +kernel
theorem dX0_sendOne_14 : decode cX0_sendOne 14 = .ok (.iastore, 1) := by decide +kernel
theorem dX0_sendOne_15 : decode cX0_sendOne 15 = .ok (.aload_n 0, 1) := by decide +kernel
theorem dX0_sendOne_16 : decode cX0_sendOne 16 = .ok (.getfield 28, 3) := by decide +kernel
theorem dX0_sendOne_19 : decode cX0_sendOne 19 = .ok (.bipush 9, 2) := by decide +kernel
theorem dX0_sendOne_21 : decode cX0_sendOne 21 = .ok (.iload_n 2, 1) := by decide +kernel
theorem dX0_sendOne_22 : decode cX0_sendOne 22 = .ok (.imul, 1) := by decide +kernel
theorem dX0_sendOne_23 : decode cX0_sendOne 23 = .ok (.iload_n 1, 1) := by decide +kernel
theorem dX0_sendOne_24 : decode cX0_sendOne 24 = .ok (.iadd, 1) := by decide +kernel
theorem dX0_sendOne_25 : decode cX0_sendOne 25 = .ok (.dup2, 1) := by decide +kernel
theorem dX0_sendOne_26 : decode cX0_sendOne 26 = .ok (.iaload, 1) := by decide +kernel
theorem dX0_sendOne_27 : decode cX0_sendOne 27 = .ok (.iload_n 3, 1) := by decide +kernel
theorem dX0_sendOne_28 : decode cX0_sendOne 28 = .ok (.iadd, 1) := by decide +kernel
theorem dX0_sendOne_29 : decode cX0_sendOne 29 = .ok (.iastore, 1) := by decide +kernel
theorem dX0_sendOne_30 : decode cX0_sendOne 30 = .ok (.aload_n 0, 1) := by decide +kernel
theorem dX0_sendOne_31 : decode cX0_sendOne 31 = .ok (.getfield 31, 3) := by decide +kernel
theorem dX0_sendOne_34 : decode cX0_sendOne 34 = .ok (.bipush 9, 2) := by decide +kernel
theorem dX0_sendOne_36 : decode cX0_sendOne 36 = .ok (.iload_n 2, 1) := by decide +kernel
theorem dX0_sendOne_37 : decode cX0_sendOne 37 = .ok (.imul, 1) := by decide +kernel
theorem dX0_sendOne_38 : decode cX0_sendOne 38 = .ok (.iload_n 1, 1) := by decide +kernel
theorem dX0_sendOne_39 : decode cX0_sendOne 39 = .ok (.iadd, 1) := by decide +kernel
theorem dX0_sendOne_40 : decode cX0_sendOne 40 = .ok (.iaload, 1) := by decide +kernel
theorem dX0_sendOne_41 : decode cX0_sendOne 41 = .ok (.ifCond .le 21, 3) := by decide +kernel
theorem dX0_sendOne_44 : decode cX0_sendOne 44 = .ok (.aload_n 0, 1) := by decide +kernel
theorem dX0_sendOne_45 : decode cX0_sendOne 45 = .ok (.getfield 31, 3) := by decide +kernel
theorem dX0_sendOne_48 : decode cX0_sendOne 48 = .ok (.bipush 9, 2) := by decide +kernel
theorem dX0_sendOne_50 : decode cX0_sendOne 50 = .ok (.iload_n 2, 1) := by decide +kernel
theorem dX0_sendOne_51 : decode cX0_sendOne 51 = .ok (.imul, 1) := by decide +kernel
theorem dX0_sendOne_52 : decode cX0_sendOne 52 = .ok (.iload_n 1, 1) := by decide +kernel
theorem dX0_sendOne_53 : decode cX0_sendOne 53 = .ok (.iadd, 1) := by decide +kernel
theorem dX0_sendOne_54 : decode cX0_sendOne 54 = .ok (.dup2, 1) := by decide +kernel
theorem dX0_sendOne_55 : decode cX0_sendOne 55 = .ok (.iaload, 1) := by decide +kernel
theorem dX0_sendOne_56 : decode cX0_sendOne 56 = .ok (.iload_n 3, 1) := by decide +kernel
theorem dX0_sendOne_57 : decode cX0_sendOne 57 = .ok (.isub, 1) := by decide +kernel
theorem dX0_sendOne_58 : decode cX0_sendOne 58 = .ok (.iastore, 1) := by decide +kernel
theorem dX0_sendOne_59 : decode cX0_sendOne 59 = .ok (.goto 18, 3) := by decide +kernel
theorem dX0_sendOne_62 : decode cX0_sendOne 62 = .ok (.aload_n 0, 1) := by decide +kernel
theorem dX0_sendOne_63 : decode cX0_sendOne 63 = .ok (.getfield 31, 3) := by decide +kernel
theorem dX0_sendOne_66 : decode cX0_sendOne 66 = .ok (.bipush 9, 2) := by decide +kernel
theorem dX0_sendOne_68 : decode cX0_sendOne 68 = .ok (.iload_n 1, 1) := by decide +kernel
theorem dX0_sendOne_69 : decode cX0_sendOne 69 = .ok (.imul, 1) := by decide +kernel
theorem dX0_sendOne_70 : decode cX0_sendOne 70 = .ok (.iload_n 2, 1) := by decide +kernel
theorem dX0_sendOne_71 : decode cX0_sendOne 71 = .ok (.iadd, 1) := by decide +kernel
theorem dX0_sendOne_72 : decode cX0_sendOne 72 = .ok (.dup2, 1) := by decide +kernel
theorem dX0_sendOne_73 : decode cX0_sendOne 73 = .ok (.iaload, 1) := by decide +kernel
theorem dX0_sendOne_74 : decode cX0_sendOne 74 = .ok (.iload_n 3, 1) := by decide +kernel
theorem dX0_sendOne_75 : decode cX0_sendOne 75 = .ok (.iadd, 1) := by decide +kernel
theorem dX0_sendOne_76 : decode cX0_sendOne 76 = .ok (.iastore, 1) := by decide +kernel
theorem dX0_sendOne_77 : decode cX0_sendOne 77 = .ok (.return_, 1) := by decide +kernel
abbrev cX0_open : ByteArray := prog_1_method_30_code
def yX0_open : MethodName := ⟨RX0, "open", "(I)I"⟩
theorem dX0_open_0 : decode cX0_open 0 = .ok (.iconst 0, 1) := by decide +kernel
theorem dX0_open_1 : decode cX0_open 1 = .ok (.istore_n 2, 1) := by decide +kernel
theorem dX0_open_2 : decode cX0_open 2 = .ok (.iconst 0, 1) := by decide +kernel
theorem dX0_open_3 : decode cX0_open 3 = .ok (.istore_n 3, 1) := by decide +kernel
theorem dX0_open_4 : decode cX0_open 4 = .ok (.iload_n 3, 1) := by decide +kernel
theorem dX0_open_5 : decode cX0_open 5 = .ok (.bipush 49, 2) := by decide +kernel
theorem dX0_open_7 : decode cX0_open 7 = .ok (.if_icmp .ge 52, 3) := by decide +kernel
theorem dX0_open_10 : decode cX0_open 10 = .ok (.iload_n 3, 1) := by decide +kernel
theorem dX0_open_11 : decode cX0_open 11 = .ok (.bipush 7, 2) := by decide +kernel
theorem dX0_open_13 : decode cX0_open 13 = .ok (.idiv, 1) := by decide +kernel
theorem dX0_open_14 : decode cX0_open 14 = .ok (.istore 4, 2) := by decide +kernel
theorem dX0_open_16 : decode cX0_open 16 = .ok (.iload_n 3, 1) := by decide +kernel
theorem dX0_open_17 : decode cX0_open 17 = .ok (.bipush 7, 2) := by decide +kernel
theorem dX0_open_19 : decode cX0_open 19 = .ok (.irem, 1) := by decide +kernel
theorem dX0_open_20 : decode cX0_open 20 = .ok (.istore 5, 2) := by decide +kernel
theorem dX0_open_22 : decode cX0_open 22 = .ok (.iload 4, 2) := by decide +kernel
theorem dX0_open_24 : decode cX0_open 24 = .ok (.iload 5, 2) := by decide +kernel
theorem dX0_open_26 : decode cX0_open 26 = .ok (.if_icmp .eq 27, 3) := by decide +kernel
theorem dX0_open_29 : decode cX0_open 29 = .ok (.aload_n 0, 1) := by decide +kernel
theorem dX0_open_30 : decode cX0_open 30 = .ok (.iload 4, 2) := by decide +kernel
theorem dX0_open_32 : decode cX0_open 32 = .ok (.iload 5, 2) := by decide +kernel
theorem dX0_open_34 : decode cX0_open 34 = .ok (.invokevirtual 106, 3) := by decide +kernel
theorem dX0_open_37 : decode cX0_open 37 = .ok (.istore 6, 2) := by decide +kernel
theorem dX0_open_39 : decode cX0_open 39 = .ok (.iload_n 2, 1) := by decide +kernel
theorem dX0_open_40 : decode cX0_open 40 = .ok (.iload 6, 2) := by decide +kernel
theorem dX0_open_42 : decode cX0_open 42 = .ok (.iload_n 1, 1) := by decide +kernel
theorem dX0_open_43 : decode cX0_open 43 = .ok (.if_icmp .lt 7, 3) := by decide +kernel
theorem dX0_open_46 : decode cX0_open 46 = .ok (.iconst 1, 1) := by decide +kernel
theorem dX0_open_47 : decode cX0_open 47 = .ok (.goto 4, 3) := by decide +kernel
theorem dX0_open_50 : decode cX0_open 50 = .ok (.iconst 0, 1) := by decide +kernel
theorem dX0_open_51 : decode cX0_open 51 = .ok (.iadd, 1) := by decide +kernel
theorem dX0_open_52 : decode cX0_open 52 = .ok (.istore_n 2, 1) := by decide +kernel
theorem dX0_open_53 : decode cX0_open 53 = .ok (.iinc 3 1, 3) := by decide +kernel
theorem dX0_open_56 : decode cX0_open 56 = .ok (.goto (-52), 3) := by decide +kernel
theorem dX0_open_59 : decode cX0_open 59 = .ok (.iload_n 2, 1) := by decide +kernel
theorem dX0_open_60 : decode cX0_open 60 = .ok (.ireturn, 1) := by decide +kernel
theorem q25 : (Jvm.Cond.initialized "CreditNetwork") ∈ lw_all := lw_g (lw_at lw_m1 1 rfl) rfl
theorem q28 : (Jvm.Cond.instantiable "CreditNetwork" (13 : Nat)) ∈ lw_all := lw_g (lw_at lw_m1 4 rfl) rfl
theorem q30 : (Jvm.Cond.instanceMethod ({ cls := "CreditNetwork", name := "<init>", desc := "()V" } : Jvm.MethodName)) ∈ lw_all := lw_g (lw_at lw_m1 6 rfl) rfl
theorem q31 : (Jvm.Cond.code ({ cls := "CreditNetwork", name := "<init>", desc := "()V" } : Jvm.MethodName) prog_1_method_1_code (1 : Nat) (Option.none : Option Jvm.ClassFile.FieldType)) ∈ lw_all := lw_g (lw_at lw_m1 7 rfl) rfl
theorem q32 : (Jvm.Cond.methodLink "CreditNetwork" (1 : Nat) ({ cls := "java/lang/Object", name := "<init>", desc := "()V" } : Jvm.MethodName)) ∈ lw_all := lw_g (lw_at lw_m1 8 rfl) rfl
theorem q35 : (Jvm.Cond.fieldLink "CreditNetwork" (7 : Nat) "CreditNetwork" "trusts" "[I") ∈ lw_all := lw_g (lw_at lw_m1 11 rfl) rfl
theorem q36 : (Jvm.Cond.fieldLink "CreditNetwork" (13 : Nat) "CreditNetwork" "positions" "[I") ∈ lw_all := lw_g (lw_at lw_m1 12 rfl) rfl
theorem q37 : (Jvm.Cond.fieldLink "CreditNetwork" (16 : Nat) "CreditNetwork" "free" "[I") ∈ lw_all := lw_g (lw_at lw_m1 13 rfl) rfl
theorem q38 : (Jvm.Cond.fieldLink "CreditNetwork" (46 : Nat) "CreditNetwork" "gathered" "I") ∈ lw_all := lw_g (lw_at lw_m1 14 rfl) rfl
theorem q39 : (Jvm.Cond.fieldLink "CreditNetwork" (19 : Nat) "CreditNetwork" "payers" "[I") ∈ lw_all := lw_g (lw_at lw_m1 15 rfl) rfl
theorem q40 : (Jvm.Cond.fieldLink "CreditNetwork" (22 : Nat) "CreditNetwork" "payees" "[I") ∈ lw_all := lw_g (lw_at lw_m1 16 rfl) rfl
theorem q41 : (Jvm.Cond.fieldLink "CreditNetwork" (25 : Nat) "CreditNetwork" "amounts" "[I") ∈ lw_all := lw_g (lw_at lw_m1 17 rfl) rfl
theorem q42 : (Jvm.Cond.fieldLink "CreditNetwork" (28 : Nat) "CreditNetwork" "work" "[I") ∈ lw_all := lw_g (lw_at lw_m1 18 rfl) rfl
theorem q43 : (Jvm.Cond.fieldLink "CreditNetwork" (31 : Nat) "CreditNetwork" "owed" "[I") ∈ lw_all := lw_g (lw_at lw_m1 19 rfl) rfl
theorem q44 : (Jvm.Cond.fieldLink "CreditNetwork" (34 : Nat) "CreditNetwork" "cameFrom" "[I") ∈ lw_all := lw_g (lw_at lw_m1 20 rfl) rfl
theorem q45 : (Jvm.Cond.fieldLink "CreditNetwork" (37 : Nat) "CreditNetwork" "line" "[I") ∈ lw_all := lw_g (lw_at lw_m1 21 rfl) rfl
theorem q46 : (Jvm.Cond.fieldLink "CreditNetwork" (40 : Nat) "CreditNetwork" "distance" "[I") ∈ lw_all := lw_g (lw_at lw_m1 22 rfl) rfl
theorem q47 : (Jvm.Cond.fieldLink "CreditNetwork" (43 : Nat) "CreditNetwork" "change" "[I") ∈ lw_all := lw_g (lw_at lw_m1 23 rfl) rfl
theorem q48 : (Jvm.Cond.laysFinal "CreditNetwork" "CreditNetwork" "trusts" "[I") ∈ lw_all := lw_g (lw_at lw_m1 24 rfl) rfl
theorem q49 : (Jvm.Cond.soleField "CreditNetwork" "trusts") ∈ lw_all := lw_g (lw_at lw_m1 25 rfl) rfl
theorem q50 : (Jvm.Cond.laysFinal "CreditNetwork" "CreditNetwork" "positions" "[I") ∈ lw_all := lw_g (lw_at lw_m1 26 rfl) rfl
theorem q51 : (Jvm.Cond.soleField "CreditNetwork" "positions") ∈ lw_all := lw_g (lw_at lw_m1 27 rfl) rfl
theorem q52 : (Jvm.Cond.laysFinal "CreditNetwork" "CreditNetwork" "free" "[I") ∈ lw_all := lw_g (lw_at lw_m1 28 rfl) rfl
theorem q53 : (Jvm.Cond.soleField "CreditNetwork" "free") ∈ lw_all := lw_g (lw_at lw_m1 29 rfl) rfl
theorem q54 : (Jvm.Cond.lays "CreditNetwork" "CreditNetwork" "gathered" "I") ∈ lw_all := lw_g (lw_at lw_m1 30 rfl) rfl
theorem q55 : (Jvm.Cond.soleField "CreditNetwork" "gathered") ∈ lw_all := lw_g (lw_at lw_m1 31 rfl) rfl
theorem q56 : (Jvm.Cond.laysFinal "CreditNetwork" "CreditNetwork" "payers" "[I") ∈ lw_all := lw_g (lw_at lw_m1 32 rfl) rfl
theorem q57 : (Jvm.Cond.soleField "CreditNetwork" "payers") ∈ lw_all := lw_g (lw_at lw_m1 33 rfl) rfl
theorem q58 : (Jvm.Cond.laysFinal "CreditNetwork" "CreditNetwork" "payees" "[I") ∈ lw_all := lw_g (lw_at lw_m1 34 rfl) rfl
theorem q59 : (Jvm.Cond.soleField "CreditNetwork" "payees") ∈ lw_all := lw_g (lw_at lw_m1 35 rfl) rfl
theorem q60 : (Jvm.Cond.laysFinal "CreditNetwork" "CreditNetwork" "amounts" "[I") ∈ lw_all := lw_g (lw_at lw_m1 36 rfl) rfl
theorem q61 : (Jvm.Cond.soleField "CreditNetwork" "amounts") ∈ lw_all := lw_g (lw_at lw_m1 37 rfl) rfl
theorem q62 : (Jvm.Cond.laysFinal "CreditNetwork" "CreditNetwork" "work" "[I") ∈ lw_all := lw_g (lw_at lw_m1 38 rfl) rfl
theorem q63 : (Jvm.Cond.soleField "CreditNetwork" "work") ∈ lw_all := lw_g (lw_at lw_m1 39 rfl) rfl
theorem q64 : (Jvm.Cond.laysFinal "CreditNetwork" "CreditNetwork" "owed" "[I") ∈ lw_all := lw_g (lw_at lw_m1 40 rfl) rfl
theorem q65 : (Jvm.Cond.soleField "CreditNetwork" "owed") ∈ lw_all := lw_g (lw_at lw_m1 41 rfl) rfl
theorem q66 : (Jvm.Cond.laysFinal "CreditNetwork" "CreditNetwork" "cameFrom" "[I") ∈ lw_all := lw_g (lw_at lw_m1 42 rfl) rfl
theorem q67 : (Jvm.Cond.soleField "CreditNetwork" "cameFrom") ∈ lw_all := lw_g (lw_at lw_m1 43 rfl) rfl
theorem q68 : (Jvm.Cond.laysFinal "CreditNetwork" "CreditNetwork" "line" "[I") ∈ lw_all := lw_g (lw_at lw_m1 44 rfl) rfl
theorem q69 : (Jvm.Cond.soleField "CreditNetwork" "line") ∈ lw_all := lw_g (lw_at lw_m1 45 rfl) rfl
theorem q70 : (Jvm.Cond.laysFinal "CreditNetwork" "CreditNetwork" "distance" "[I") ∈ lw_all := lw_g (lw_at lw_m1 46 rfl) rfl
theorem q71 : (Jvm.Cond.soleField "CreditNetwork" "distance") ∈ lw_all := lw_g (lw_at lw_m1 47 rfl) rfl
theorem q72 : (Jvm.Cond.laysFinal "CreditNetwork" "CreditNetwork" "change" "[I") ∈ lw_all := lw_g (lw_at lw_m1 48 rfl) rfl
theorem q73 : (Jvm.Cond.soleField "CreditNetwork" "change") ∈ lw_all := lw_g (lw_at lw_m1 49 rfl) rfl
theorem q74 : (Jvm.Cond.superclass "CreditNetwork" "java/lang/Object") ∈ lw_all := lw_g (lw_at lw_m1 50 rfl) rfl
theorem q77 : (Jvm.Cond.instanceMethod ({ cls := "CreditNetwork", name := "trust", desc := "(III)I" } : Jvm.MethodName)) ∈ lw_all := lw_g (lw_at lw_m1 53 rfl) rfl
theorem q78 : (Jvm.Cond.selects "CreditNetwork" ({ cls := "CreditNetwork", name := "trust", desc := "(III)I" } : Jvm.MethodName) ({ cls := "CreditNetwork", name := "trust", desc := "(III)I" } : Jvm.MethodName)) ∈ lw_all := lw_g (lw_at lw_m1 54 rfl) rfl
theorem q79 : (Jvm.Cond.code ({ cls := "CreditNetwork", name := "trust", desc := "(III)I" } : Jvm.MethodName) prog_1_method_10_code (5 : Nat) (Option.some Jvm.ClassFile.FieldType.int)) ∈ lw_all := lw_g (lw_at lw_m1 55 rfl) rfl
theorem q80 : (Jvm.Cond.methodLink "CreditNetwork" (68 : Nat) ({ cls := "CreditNetwork", name := "arePair", desc := "(II)Z" } : Jvm.MethodName)) ∈ lw_all := lw_g (lw_at lw_m1 56 rfl) rfl
theorem q81 : (Jvm.Cond.static ({ cls := "CreditNetwork", name := "arePair", desc := "(II)Z" } : Jvm.MethodName)) ∈ lw_all := lw_g (lw_at lw_m1 57 rfl) rfl
theorem q82 : (Jvm.Cond.code ({ cls := "CreditNetwork", name := "arePair", desc := "(II)Z" } : Jvm.MethodName) prog_1_method_3_code (2 : Nat) (Option.some Jvm.ClassFile.FieldType.boolean)) ∈ lw_all := lw_g (lw_at lw_m1 58 rfl) rfl
theorem q83 : (Jvm.Cond.methodLink "CreditNetwork" (50 : Nat) ({ cls := "CreditNetwork", name := "isMember", desc := "(I)Z" } : Jvm.MethodName)) ∈ lw_all := lw_g (lw_at lw_m1 59 rfl) rfl
theorem q84 : (Jvm.Cond.static ({ cls := "CreditNetwork", name := "isMember", desc := "(I)Z" } : Jvm.MethodName)) ∈ lw_all := lw_g (lw_at lw_m1 60 rfl) rfl
theorem q85 : (Jvm.Cond.code ({ cls := "CreditNetwork", name := "isMember", desc := "(I)Z" } : Jvm.MethodName) prog_1_method_2_code (1 : Nat) (Option.some Jvm.ClassFile.FieldType.boolean)) ∈ lw_all := lw_g (lw_at lw_m1 61 rfl) rfl
theorem q87 : (Jvm.Cond.instanceMethod ({ cls := "CreditNetwork", name := "withdraw", desc := "(III)I" } : Jvm.MethodName)) ∈ lw_all := lw_g (lw_at lw_m1 63 rfl) rfl
theorem q88 : (Jvm.Cond.selects "CreditNetwork" ({ cls := "CreditNetwork", name := "withdraw", desc := "(III)I" } : Jvm.MethodName) ({ cls := "CreditNetwork", name := "withdraw", desc := "(III)I" } : Jvm.MethodName)) ∈ lw_all := lw_g (lw_at lw_m1 64 rfl) rfl
theorem q89 : (Jvm.Cond.code ({ cls := "CreditNetwork", name := "withdraw", desc := "(III)I" } : Jvm.MethodName) prog_1_method_11_code (8 : Nat) (Option.some Jvm.ClassFile.FieldType.int)) ∈ lw_all := lw_g (lw_at lw_m1 65 rfl) rfl
theorem q90 : (Jvm.Cond.methodLink "CreditNetwork" (71 : Nat) ({ cls := "CreditNetwork", name := "copyFree", desc := "()V" } : Jvm.MethodName)) ∈ lw_all := lw_g (lw_at lw_m1 66 rfl) rfl
theorem q91 : (Jvm.Cond.privateMethod ({ cls := "CreditNetwork", name := "copyFree", desc := "()V" } : Jvm.MethodName)) ∈ lw_tbl := lw_at lw_m1 67 rfl
theorem q92 : (Jvm.Cond.instanceMethod ({ cls := "CreditNetwork", name := "copyFree", desc := "()V" } : Jvm.MethodName)) ∈ lw_all := lw_g (lw_at lw_m1 68 rfl) rfl
theorem q93 : (Jvm.Cond.code ({ cls := "CreditNetwork", name := "copyFree", desc := "()V" } : Jvm.MethodName) prog_1_method_4_code (2 : Nat) (Option.none : Option Jvm.ClassFile.FieldType)) ∈ lw_all := lw_g (lw_at lw_m1 69 rfl) rfl
theorem q94 : (Jvm.Cond.methodLink "CreditNetwork" (74 : Nat) ({ cls := "CreditNetwork", name := "send", desc := "(III)I" } : Jvm.MethodName)) ∈ lw_all := lw_g (lw_at lw_m1 70 rfl) rfl
theorem q95 : (Jvm.Cond.privateMethod ({ cls := "CreditNetwork", name := "send", desc := "(III)I" } : Jvm.MethodName)) ∈ lw_tbl := lw_at lw_m1 71 rfl
theorem q96 : (Jvm.Cond.instanceMethod ({ cls := "CreditNetwork", name := "send", desc := "(III)I" } : Jvm.MethodName)) ∈ lw_all := lw_g (lw_at lw_m1 72 rfl) rfl
theorem q97 : (Jvm.Cond.code ({ cls := "CreditNetwork", name := "send", desc := "(III)I" } : Jvm.MethodName) prog_1_method_9_code (10 : Nat) (Option.some Jvm.ClassFile.FieldType.int)) ∈ lw_all := lw_g (lw_at lw_m1 73 rfl) rfl
theorem q98 : (Jvm.Cond.methodLink "CreditNetwork" (55 : Nat) ({ cls := "CreditNetwork", name := "findWay", desc := "(II)Z" } : Jvm.MethodName)) ∈ lw_all := lw_g (lw_at lw_m1 74 rfl) rfl
theorem q99 : (Jvm.Cond.privateMethod ({ cls := "CreditNetwork", name := "findWay", desc := "(II)Z" } : Jvm.MethodName)) ∈ lw_tbl := lw_at lw_m1 75 rfl
theorem q100 : (Jvm.Cond.instanceMethod ({ cls := "CreditNetwork", name := "findWay", desc := "(II)Z" } : Jvm.MethodName)) ∈ lw_all := lw_g (lw_at lw_m1 76 rfl) rfl
theorem q101 : (Jvm.Cond.code ({ cls := "CreditNetwork", name := "findWay", desc := "(II)Z" } : Jvm.MethodName) prog_1_method_6_code (7 : Nat) (Option.some Jvm.ClassFile.FieldType.boolean)) ∈ lw_all := lw_g (lw_at lw_m1 77 rfl) rfl
theorem q102 : (Jvm.Cond.constant "CreditNetwork" (59 : Nat) (100000 : Int32)) ∈ lw_all := lw_g (lw_at lw_m1 78 rfl) rfl
theorem q103 : (Jvm.Cond.methodLink "CreditNetwork" (60 : Nat) ({ cls := "CreditNetwork", name := "narrowest", desc := "(II)I" } : Jvm.MethodName)) ∈ lw_all := lw_g (lw_at lw_m1 79 rfl) rfl
theorem q104 : (Jvm.Cond.privateMethod ({ cls := "CreditNetwork", name := "narrowest", desc := "(II)I" } : Jvm.MethodName)) ∈ lw_tbl := lw_at lw_m1 80 rfl
theorem q105 : (Jvm.Cond.instanceMethod ({ cls := "CreditNetwork", name := "narrowest", desc := "(II)I" } : Jvm.MethodName)) ∈ lw_all := lw_g (lw_at lw_m1 81 rfl) rfl
theorem q106 : (Jvm.Cond.code ({ cls := "CreditNetwork", name := "narrowest", desc := "(II)I" } : Jvm.MethodName) prog_1_method_7_code (8 : Nat) (Option.some Jvm.ClassFile.FieldType.int)) ∈ lw_all := lw_g (lw_at lw_m1 82 rfl) rfl
theorem q107 : (Jvm.Cond.constant "CreditNetwork" (54 : Nat) (1000000 : Int32)) ∈ lw_all := lw_g (lw_at lw_m1 83 rfl) rfl
theorem q108 : (Jvm.Cond.methodLink "CreditNetwork" (64 : Nat) ({ cls := "CreditNetwork", name := "push", desc := "(III)V" } : Jvm.MethodName)) ∈ lw_all := lw_g (lw_at lw_m1 84 rfl) rfl
theorem q109 : (Jvm.Cond.privateMethod ({ cls := "CreditNetwork", name := "push", desc := "(III)V" } : Jvm.MethodName)) ∈ lw_tbl := lw_at lw_m1 85 rfl
theorem q110 : (Jvm.Cond.instanceMethod ({ cls := "CreditNetwork", name := "push", desc := "(III)V" } : Jvm.MethodName)) ∈ lw_all := lw_g (lw_at lw_m1 86 rfl) rfl
theorem q111 : (Jvm.Cond.code ({ cls := "CreditNetwork", name := "push", desc := "(III)V" } : Jvm.MethodName) prog_1_method_8_code (7 : Nat) (Option.none : Option Jvm.ClassFile.FieldType)) ∈ lw_all := lw_g (lw_at lw_m1 87 rfl) rfl
theorem q112 : (Jvm.Cond.methodLink "CreditNetwork" (78 : Nat) ({ cls := "CreditNetwork", name := "keepWork", desc := "()V" } : Jvm.MethodName)) ∈ lw_all := lw_g (lw_at lw_m1 88 rfl) rfl
theorem q113 : (Jvm.Cond.privateMethod ({ cls := "CreditNetwork", name := "keepWork", desc := "()V" } : Jvm.MethodName)) ∈ lw_tbl := lw_at lw_m1 89 rfl
theorem q114 : (Jvm.Cond.instanceMethod ({ cls := "CreditNetwork", name := "keepWork", desc := "()V" } : Jvm.MethodName)) ∈ lw_all := lw_g (lw_at lw_m1 90 rfl) rfl
theorem q115 : (Jvm.Cond.code ({ cls := "CreditNetwork", name := "keepWork", desc := "()V" } : Jvm.MethodName) prog_1_method_5_code (3 : Nat) (Option.none : Option Jvm.ClassFile.FieldType)) ∈ lw_all := lw_g (lw_at lw_m1 91 rfl) rfl
theorem q117 : (Jvm.Cond.instanceMethod ({ cls := "CreditNetwork", name := "pay", desc := "(III)I" } : Jvm.MethodName)) ∈ lw_all := lw_g (lw_at lw_m1 93 rfl) rfl
theorem q118 : (Jvm.Cond.selects "CreditNetwork" ({ cls := "CreditNetwork", name := "pay", desc := "(III)I" } : Jvm.MethodName) ({ cls := "CreditNetwork", name := "pay", desc := "(III)I" } : Jvm.MethodName)) ∈ lw_all := lw_g (lw_at lw_m1 94 rfl) rfl
theorem q119 : (Jvm.Cond.code ({ cls := "CreditNetwork", name := "pay", desc := "(III)I" } : Jvm.MethodName) prog_1_method_12_code (5 : Nat) (Option.some Jvm.ClassFile.FieldType.int)) ∈ lw_all := lw_g (lw_at lw_m1 95 rfl) rfl
theorem q121 : (Jvm.Cond.instanceMethod ({ cls := "CreditNetwork", name := "gather", desc := "(III)I" } : Jvm.MethodName)) ∈ lw_all := lw_g (lw_at lw_m1 97 rfl) rfl
theorem q122 : (Jvm.Cond.selects "CreditNetwork" ({ cls := "CreditNetwork", name := "gather", desc := "(III)I" } : Jvm.MethodName) ({ cls := "CreditNetwork", name := "gather", desc := "(III)I" } : Jvm.MethodName)) ∈ lw_all := lw_g (lw_at lw_m1 98 rfl) rfl
theorem q123 : (Jvm.Cond.code ({ cls := "CreditNetwork", name := "gather", desc := "(III)I" } : Jvm.MethodName) prog_1_method_13_code (4 : Nat) (Option.some Jvm.ClassFile.FieldType.int)) ∈ lw_all := lw_g (lw_at lw_m1 99 rfl) rfl
theorem q125 : (Jvm.Cond.instanceMethod ({ cls := "CreditNetwork", name := "clear", desc := "()I" } : Jvm.MethodName)) ∈ lw_all := lw_g (lw_at lw_m1 101 rfl) rfl
theorem q126 : (Jvm.Cond.selects "CreditNetwork" ({ cls := "CreditNetwork", name := "clear", desc := "()I" } : Jvm.MethodName) ({ cls := "CreditNetwork", name := "clear", desc := "()I" } : Jvm.MethodName)) ∈ lw_all := lw_g (lw_at lw_m1 102 rfl) rfl
theorem q127 : (Jvm.Cond.code ({ cls := "CreditNetwork", name := "clear", desc := "()I" } : Jvm.MethodName) prog_1_method_14_code (4 : Nat) (Option.some Jvm.ClassFile.FieldType.int)) ∈ lw_all := lw_g (lw_at lw_m1 103 rfl) rfl
theorem q129 : (Jvm.Cond.instanceMethod ({ cls := "CreditNetwork", name := "forget", desc := "()I" } : Jvm.MethodName)) ∈ lw_all := lw_g (lw_at lw_m1 105 rfl) rfl
theorem q130 : (Jvm.Cond.selects "CreditNetwork" ({ cls := "CreditNetwork", name := "forget", desc := "()I" } : Jvm.MethodName) ({ cls := "CreditNetwork", name := "forget", desc := "()I" } : Jvm.MethodName)) ∈ lw_all := lw_g (lw_at lw_m1 106 rfl) rfl
theorem q131 : (Jvm.Cond.code ({ cls := "CreditNetwork", name := "forget", desc := "()I" } : Jvm.MethodName) prog_1_method_15_code (2 : Nat) (Option.some Jvm.ClassFile.FieldType.int)) ∈ lw_all := lw_g (lw_at lw_m1 107 rfl) rfl
theorem q133 : (Jvm.Cond.instanceMethod ({ cls := "CreditNetwork", name := "trusted", desc := "(II)I" } : Jvm.MethodName)) ∈ lw_all := lw_g (lw_at lw_m1 109 rfl) rfl
theorem q134 : (Jvm.Cond.selects "CreditNetwork" ({ cls := "CreditNetwork", name := "trusted", desc := "(II)I" } : Jvm.MethodName) ({ cls := "CreditNetwork", name := "trusted", desc := "(II)I" } : Jvm.MethodName)) ∈ lw_all := lw_g (lw_at lw_m1 110 rfl) rfl
theorem q135 : (Jvm.Cond.code ({ cls := "CreditNetwork", name := "trusted", desc := "(II)I" } : Jvm.MethodName) prog_1_method_16_code (3 : Nat) (Option.some Jvm.ClassFile.FieldType.int)) ∈ lw_all := lw_g (lw_at lw_m1 111 rfl) rfl
theorem q137 : (Jvm.Cond.instanceMethod ({ cls := "CreditNetwork", name := "position", desc := "(I)I" } : Jvm.MethodName)) ∈ lw_all := lw_g (lw_at lw_m1 113 rfl) rfl
theorem q138 : (Jvm.Cond.selects "CreditNetwork" ({ cls := "CreditNetwork", name := "position", desc := "(I)I" } : Jvm.MethodName) ({ cls := "CreditNetwork", name := "position", desc := "(I)I" } : Jvm.MethodName)) ∈ lw_all := lw_g (lw_at lw_m1 114 rfl) rfl
theorem q139 : (Jvm.Cond.code ({ cls := "CreditNetwork", name := "position", desc := "(I)I" } : Jvm.MethodName) prog_1_method_17_code (2 : Nat) (Option.some Jvm.ClassFile.FieldType.int)) ∈ lw_all := lw_g (lw_at lw_m1 115 rfl) rfl
theorem q141 : (Jvm.Cond.instanceMethod ({ cls := "CreditNetwork", name := "most", desc := "(II)I" } : Jvm.MethodName)) ∈ lw_all := lw_g (lw_at lw_m1 117 rfl) rfl
theorem q142 : (Jvm.Cond.selects "CreditNetwork" ({ cls := "CreditNetwork", name := "most", desc := "(II)I" } : Jvm.MethodName) ({ cls := "CreditNetwork", name := "most", desc := "(II)I" } : Jvm.MethodName)) ∈ lw_all := lw_g (lw_at lw_m1 118 rfl) rfl
theorem q143 : (Jvm.Cond.code ({ cls := "CreditNetwork", name := "most", desc := "(II)I" } : Jvm.MethodName) prog_1_method_18_code (3 : Nat) (Option.some Jvm.ClassFile.FieldType.int)) ∈ lw_all := lw_g (lw_at lw_m1 119 rfl) rfl
theorem q145 : (Jvm.Cond.instanceMethod ({ cls := "CreditNetwork", name := "spread", desc := "(II)I" } : Jvm.MethodName)) ∈ lw_all := lw_g (lw_at lw_m1 121 rfl) rfl
theorem q146 : (Jvm.Cond.selects "CreditNetwork" ({ cls := "CreditNetwork", name := "spread", desc := "(II)I" } : Jvm.MethodName) ({ cls := "CreditNetwork", name := "spread", desc := "(II)I" } : Jvm.MethodName)) ∈ lw_all := lw_g (lw_at lw_m1 122 rfl) rfl
theorem q147 : (Jvm.Cond.code ({ cls := "CreditNetwork", name := "spread", desc := "(II)I" } : Jvm.MethodName) prog_1_method_19_code (4 : Nat) (Option.some Jvm.ClassFile.FieldType.int)) ∈ lw_all := lw_g (lw_at lw_m1 123 rfl) rfl
theorem q149 : (Jvm.Cond.instanceMethod ({ cls := "CreditNetwork", name := "leastDebt", desc := "(II)I" } : Jvm.MethodName)) ∈ lw_all := lw_g (lw_at lw_m1 125 rfl) rfl
theorem q150 : (Jvm.Cond.selects "CreditNetwork" ({ cls := "CreditNetwork", name := "leastDebt", desc := "(II)I" } : Jvm.MethodName) ({ cls := "CreditNetwork", name := "leastDebt", desc := "(II)I" } : Jvm.MethodName)) ∈ lw_all := lw_g (lw_at lw_m1 126 rfl) rfl
theorem q151 : (Jvm.Cond.code ({ cls := "CreditNetwork", name := "leastDebt", desc := "(II)I" } : Jvm.MethodName) prog_1_method_22_code (4 : Nat) (Option.some Jvm.ClassFile.FieldType.int)) ∈ lw_all := lw_g (lw_at lw_m1 127 rfl) rfl
theorem q152 : (Jvm.Cond.constant "CreditNetwork" (81 : Nat) (-100000 : Int32)) ∈ lw_all := lw_g (lw_at lw_m1 128 rfl) rfl
theorem q153 : (Jvm.Cond.methodLink "CreditNetwork" (82 : Nat) ({ cls := "CreditNetwork", name := "roundAbout", desc := "(II)I" } : Jvm.MethodName)) ∈ lw_all := lw_g (lw_at lw_m1 129 rfl) rfl
theorem q154 : (Jvm.Cond.privateMethod ({ cls := "CreditNetwork", name := "roundAbout", desc := "(II)I" } : Jvm.MethodName)) ∈ lw_tbl := lw_at lw_m1 130 rfl
theorem q155 : (Jvm.Cond.instanceMethod ({ cls := "CreditNetwork", name := "roundAbout", desc := "(II)I" } : Jvm.MethodName)) ∈ lw_all := lw_g (lw_at lw_m1 131 rfl) rfl
theorem q156 : (Jvm.Cond.code ({ cls := "CreditNetwork", name := "roundAbout", desc := "(II)I" } : Jvm.MethodName) prog_1_method_21_code (4 : Nat) (Option.some Jvm.ClassFile.FieldType.int)) ∈ lw_all := lw_g (lw_at lw_m1 132 rfl) rfl
theorem q157 : (Jvm.Cond.methodLink "CreditNetwork" (85 : Nat) ({ cls := "CreditNetwork", name := "debt", desc := "(II)I" } : Jvm.MethodName)) ∈ lw_all := lw_g (lw_at lw_m1 133 rfl) rfl
theorem q158 : (Jvm.Cond.privateMethod ({ cls := "CreditNetwork", name := "debt", desc := "(II)I" } : Jvm.MethodName)) ∈ lw_tbl := lw_at lw_m1 134 rfl
theorem q159 : (Jvm.Cond.instanceMethod ({ cls := "CreditNetwork", name := "debt", desc := "(II)I" } : Jvm.MethodName)) ∈ lw_all := lw_g (lw_at lw_m1 135 rfl) rfl
theorem q160 : (Jvm.Cond.code ({ cls := "CreditNetwork", name := "debt", desc := "(II)I" } : Jvm.MethodName) prog_1_method_20_code (3 : Nat) (Option.some Jvm.ClassFile.FieldType.int)) ∈ lw_all := lw_g (lw_at lw_m1 136 rfl) rfl
theorem q162 : (Jvm.Cond.instanceMethod ({ cls := "CreditNetwork", name := "greatestDebt", desc := "(II)I" } : Jvm.MethodName)) ∈ lw_all := lw_g (lw_at lw_m1 138 rfl) rfl
theorem q163 : (Jvm.Cond.selects "CreditNetwork" ({ cls := "CreditNetwork", name := "greatestDebt", desc := "(II)I" } : Jvm.MethodName) ({ cls := "CreditNetwork", name := "greatestDebt", desc := "(II)I" } : Jvm.MethodName)) ∈ lw_all := lw_g (lw_at lw_m1 139 rfl) rfl
theorem q164 : (Jvm.Cond.code ({ cls := "CreditNetwork", name := "greatestDebt", desc := "(II)I" } : Jvm.MethodName) prog_1_method_23_code (4 : Nat) (Option.some Jvm.ClassFile.FieldType.int)) ∈ lw_all := lw_g (lw_at lw_m1 140 rfl) rfl
theorem q166 : (Jvm.Cond.instanceMethod ({ cls := "CreditNetwork", name := "debts", desc := "()I" } : Jvm.MethodName)) ∈ lw_all := lw_g (lw_at lw_m1 142 rfl) rfl
theorem q167 : (Jvm.Cond.selects "CreditNetwork" ({ cls := "CreditNetwork", name := "debts", desc := "()I" } : Jvm.MethodName) ({ cls := "CreditNetwork", name := "debts", desc := "()I" } : Jvm.MethodName)) ∈ lw_all := lw_g (lw_at lw_m1 143 rfl) rfl
theorem q168 : (Jvm.Cond.code ({ cls := "CreditNetwork", name := "debts", desc := "()I" } : Jvm.MethodName) prog_1_method_24_code (7 : Nat) (Option.some Jvm.ClassFile.FieldType.int)) ∈ lw_all := lw_g (lw_at lw_m1 144 rfl) rfl
theorem q169 : (Jvm.Cond.methodLink "CreditNetwork" (88 : Nat) ({ cls := "CreditNetwork", name := "findCheapest", desc := "()Z" } : Jvm.MethodName)) ∈ lw_all := lw_g (lw_at lw_m1 145 rfl) rfl
theorem q170 : (Jvm.Cond.privateMethod ({ cls := "CreditNetwork", name := "findCheapest", desc := "()Z" } : Jvm.MethodName)) ∈ lw_tbl := lw_at lw_m1 146 rfl
theorem q171 : (Jvm.Cond.instanceMethod ({ cls := "CreditNetwork", name := "findCheapest", desc := "()Z" } : Jvm.MethodName)) ∈ lw_all := lw_g (lw_at lw_m1 147 rfl) rfl
theorem q172 : (Jvm.Cond.code ({ cls := "CreditNetwork", name := "findCheapest", desc := "()Z" } : Jvm.MethodName) prog_1_method_26_code (3 : Nat) (Option.some Jvm.ClassFile.FieldType.boolean)) ∈ lw_all := lw_g (lw_at lw_m1 148 rfl) rfl
theorem q173 : (Jvm.Cond.methodLink "CreditNetwork" (96 : Nat) ({ cls := "CreditNetwork", name := "relax", desc := "(II)V" } : Jvm.MethodName)) ∈ lw_all := lw_g (lw_at lw_m1 149 rfl) rfl
theorem q174 : (Jvm.Cond.privateMethod ({ cls := "CreditNetwork", name := "relax", desc := "(II)V" } : Jvm.MethodName)) ∈ lw_tbl := lw_at lw_m1 150 rfl
theorem q175 : (Jvm.Cond.instanceMethod ({ cls := "CreditNetwork", name := "relax", desc := "(II)V" } : Jvm.MethodName)) ∈ lw_all := lw_g (lw_at lw_m1 151 rfl) rfl
theorem q176 : (Jvm.Cond.code ({ cls := "CreditNetwork", name := "relax", desc := "(II)V" } : Jvm.MethodName) prog_1_method_27_code (4 : Nat) (Option.none : Option Jvm.ClassFile.FieldType)) ∈ lw_all := lw_g (lw_at lw_m1 152 rfl) rfl
theorem q177 : (Jvm.Cond.methodLink "CreditNetwork" (100 : Nat) ({ cls := "CreditNetwork", name := "costOf", desc := "(II)I" } : Jvm.MethodName)) ∈ lw_all := lw_g (lw_at lw_m1 153 rfl) rfl
theorem q178 : (Jvm.Cond.privateMethod ({ cls := "CreditNetwork", name := "costOf", desc := "(II)I" } : Jvm.MethodName)) ∈ lw_tbl := lw_at lw_m1 154 rfl
theorem q179 : (Jvm.Cond.instanceMethod ({ cls := "CreditNetwork", name := "costOf", desc := "(II)I" } : Jvm.MethodName)) ∈ lw_all := lw_g (lw_at lw_m1 155 rfl) rfl
theorem q180 : (Jvm.Cond.code ({ cls := "CreditNetwork", name := "costOf", desc := "(II)I" } : Jvm.MethodName) prog_1_method_25_code (3 : Nat) (Option.some Jvm.ClassFile.FieldType.int)) ∈ lw_all := lw_g (lw_at lw_m1 156 rfl) rfl
theorem q181 : (Jvm.Cond.methodLink "CreditNetwork" (92 : Nat) ({ cls := "CreditNetwork", name := "narrowestOwed", desc := "(I)I" } : Jvm.MethodName)) ∈ lw_all := lw_g (lw_at lw_m1 157 rfl) rfl
theorem q182 : (Jvm.Cond.privateMethod ({ cls := "CreditNetwork", name := "narrowestOwed", desc := "(I)I" } : Jvm.MethodName)) ∈ lw_tbl := lw_at lw_m1 158 rfl
theorem q183 : (Jvm.Cond.instanceMethod ({ cls := "CreditNetwork", name := "narrowestOwed", desc := "(I)I" } : Jvm.MethodName)) ∈ lw_all := lw_g (lw_at lw_m1 159 rfl) rfl
theorem q184 : (Jvm.Cond.code ({ cls := "CreditNetwork", name := "narrowestOwed", desc := "(I)I" } : Jvm.MethodName) prog_1_method_28_code (8 : Nat) (Option.some Jvm.ClassFile.FieldType.int)) ∈ lw_all := lw_g (lw_at lw_m1 160 rfl) rfl
theorem q185 : (Jvm.Cond.methodLink "CreditNetwork" (103 : Nat) ({ cls := "CreditNetwork", name := "sendOne", desc := "(III)V" } : Jvm.MethodName)) ∈ lw_all := lw_g (lw_at lw_m1 161 rfl) rfl
theorem q186 : (Jvm.Cond.privateMethod ({ cls := "CreditNetwork", name := "sendOne", desc := "(III)V" } : Jvm.MethodName)) ∈ lw_tbl := lw_at lw_m1 162 rfl
theorem q187 : (Jvm.Cond.instanceMethod ({ cls := "CreditNetwork", name := "sendOne", desc := "(III)V" } : Jvm.MethodName)) ∈ lw_all := lw_g (lw_at lw_m1 163 rfl) rfl
theorem q188 : (Jvm.Cond.code ({ cls := "CreditNetwork", name := "sendOne", desc := "(III)V" } : Jvm.MethodName) prog_1_method_29_code (4 : Nat) (Option.none : Option Jvm.ClassFile.FieldType)) ∈ lw_all := lw_g (lw_at lw_m1 164 rfl) rfl
theorem q190 : (Jvm.Cond.instanceMethod ({ cls := "CreditNetwork", name := "open", desc := "(I)I" } : Jvm.MethodName)) ∈ lw_all := lw_g (lw_at lw_m1 166 rfl) rfl
theorem q191 : (Jvm.Cond.selects "CreditNetwork" ({ cls := "CreditNetwork", name := "open", desc := "(I)I" } : Jvm.MethodName) ({ cls := "CreditNetwork", name := "open", desc := "(I)I" } : Jvm.MethodName)) ∈ lw_all := lw_g (lw_at lw_m1 167 rfl) rfl
theorem q192 : (Jvm.Cond.code ({ cls := "CreditNetwork", name := "open", desc := "(I)I" } : Jvm.MethodName) prog_1_method_30_code (7 : Nat) (Option.some Jvm.ClassFile.FieldType.int)) ∈ lw_all := lw_g (lw_at lw_m1 168 rfl) rfl
theorem q193 : (Jvm.Cond.methodLink "CreditNetwork" (106 : Nat) ({ cls := "CreditNetwork", name := "most", desc := "(II)I" } : Jvm.MethodName)) ∈ lw_all := lw_g (lw_at lw_m1 169 rfl) rfl
theorem in_X0 : ∀ w ∈ wsX00, w ∈ lw_all := lw_in wsX00 [48, 50, 52, 54, 56, 58, 60, 62, 64, 66, 68, 70, 72] (by decide +kernel) (by decide +kernel)
end
section
set_option maxRecDepth 100000
/-! CreditNetworkModel -/
def RX1 : String := "CreditNetworkModel"
def TX1 : u_T := fun k => match k with
  | 0 => ("CreditNetworkModel", "trusts", "[I", true)
  | 1 => ("CreditNetworkModel", "positions", "[I", true)
  | 2 => ("CreditNetworkModel", "listed", "I", false)
  | 3 => ("CreditNetworkModel", "payers", "[I", true)
  | 4 => ("CreditNetworkModel", "payees", "[I", true)
  | 5 => ("CreditNetworkModel", "amounts", "[I", true)
  | 6 => ("CreditNetworkModel", "owed", "[I", true)
  | 7 => ("CreditNetworkModel", "reached", "[I", true)
  | 8 => ("CreditNetworkModel", "price", "[I", true)
  | _ => ("CreditNetworkModel", "before", "[I", true)
def tyX1 : Nat → FieldType := fun k => match k with
  | 0 => .array .int
  | 1 => .array .int
  | 2 => .int
  | 3 => .array .int
  | 4 => .array .int
  | 5 => .array .int
  | 6 => .array .int
  | 7 => .array .int
  | 8 => .array .int
  | _ => .array .int
abbrev wsX10 : List Cond := u_ws RX1 TX1 10
theorem nmX1 : ∀ a, a < 10 → ∀ b, b < 10 → a ≠ b → (TX1 a).2.1 ≠ (TX1 b).2.1 := by decide +kernel
theorem tyX1_ok : ∀ k, k < 10 → parseFieldDescriptor (TX1 k).2.2.1 = some (tyX1 k) := by decide +kernel
abbrev cX1_init : ByteArray := prog_3_method_1_code
def yX1_init : MethodName := ⟨RX1, "<init>", "()V"⟩
theorem dX1_init_0 : decode cX1_init 0 = .ok (.aload_n 0, 1) := by decide +kernel
theorem dX1_init_1 : decode cX1_init 1 = .ok (.invokespecial 1, 3) := by decide +kernel
theorem dX1_init_4 : decode cX1_init 4 = .ok (.aload_n 0, 1) := by decide +kernel
theorem dX1_init_5 : decode cX1_init 5 = .ok (.bipush 49, 2) := by decide +kernel
theorem dX1_init_7 : decode cX1_init 7 = .ok (.newarray .int, 2) := by decide +kernel
theorem dX1_init_9 : decode cX1_init 9 = .ok (.putfield 7, 3) := by decide +kernel
theorem dX1_init_12 : decode cX1_init 12 = .ok (.aload_n 0, 1) := by decide +kernel
theorem dX1_init_13 : decode cX1_init 13 = .ok (.bipush 7, 2) := by decide +kernel
theorem dX1_init_15 : decode cX1_init 15 = .ok (.newarray .int, 2) := by decide +kernel
theorem dX1_init_17 : decode cX1_init 17 = .ok (.putfield 13, 3) := by decide +kernel
theorem dX1_init_20 : decode cX1_init 20 = .ok (.aload_n 0, 1) := by decide +kernel
theorem dX1_init_21 : decode cX1_init 21 = .ok (.bipush 6, 2) := by decide +kernel
theorem dX1_init_23 : decode cX1_init 23 = .ok (.newarray .int, 2) := by decide +kernel
theorem dX1_init_25 : decode cX1_init 25 = .ok (.putfield 16, 3) := by decide +kernel
theorem dX1_init_28 : decode cX1_init 28 = .ok (.aload_n 0, 1) := by decide +kernel
theorem dX1_init_29 : decode cX1_init 29 = .ok (.bipush 6, 2) := by decide +kernel
theorem dX1_init_31 : decode cX1_init 31 = .ok (.newarray .int, 2) := by decide +kernel
theorem dX1_init_33 : decode cX1_init 33 = .ok (.putfield 19, 3) := by decide +kernel
theorem dX1_init_36 : decode cX1_init 36 = .ok (.aload_n 0, 1) := by decide +kernel
theorem dX1_init_37 : decode cX1_init 37 = .ok (.bipush 6, 2) := by decide +kernel
theorem dX1_init_39 : decode cX1_init 39 = .ok (.newarray .int, 2) := by decide +kernel
theorem dX1_init_41 : decode cX1_init 41 = .ok (.putfield 22, 3) := by decide +kernel
theorem dX1_init_44 : decode cX1_init 44 = .ok (.aload_n 0, 1) := by decide +kernel
theorem dX1_init_45 : decode cX1_init 45 = .ok (.bipush 49, 2) := by decide +kernel
theorem dX1_init_47 : decode cX1_init 47 = .ok (.newarray .int, 2) := by decide +kernel
theorem dX1_init_49 : decode cX1_init 49 = .ok (.putfield 25, 3) := by decide +kernel
theorem dX1_init_52 : decode cX1_init 52 = .ok (.aload_n 0, 1) := by decide +kernel
theorem dX1_init_53 : decode cX1_init 53 = .ok (.bipush 7, 2) := by decide +kernel
theorem dX1_init_55 : decode cX1_init 55 = .ok (.newarray .int, 2) := by decide +kernel
theorem dX1_init_57 : decode cX1_init 57 = .ok (.putfield 28, 3) := by decide +kernel
theorem dX1_init_60 : decode cX1_init 60 = .ok (.aload_n 0, 1) := by decide +kernel
theorem dX1_init_61 : decode cX1_init 61 = .ok (.bipush 7, 2) := by decide +kernel
theorem dX1_init_63 : decode cX1_init 63 = .ok (.newarray .int, 2) := by decide +kernel
theorem dX1_init_65 : decode cX1_init 65 = .ok (.putfield 31, 3) := by decide +kernel
theorem dX1_init_68 : decode cX1_init 68 = .ok (.aload_n 0, 1) := by decide +kernel
theorem dX1_init_69 : decode cX1_init 69 = .ok (.bipush 7, 2) := by decide +kernel
theorem dX1_init_71 : decode cX1_init 71 = .ok (.newarray .int, 2) := by decide +kernel
theorem dX1_init_73 : decode cX1_init 73 = .ok (.putfield 34, 3) := by decide +kernel
theorem dX1_init_76 : decode cX1_init 76 = .ok (.return_, 1) := by decide +kernel
abbrev cX1_trust : ByteArray := prog_3_method_6_code
def yX1_trust : MethodName := ⟨RX1, "trust", "(III)I"⟩
theorem dX1_trust_0 : decode cX1_trust 0 = .ok (.aload_n 0, 1) := by decide +kernel
theorem dX1_trust_1 : decode cX1_trust 1 = .ok (.iload_n 1, 1) := by decide +kernel
theorem dX1_trust_2 : decode cX1_trust 2 = .ok (.iload_n 2, 1) := by decide +kernel
theorem dX1_trust_3 : decode cX1_trust 3 = .ok (.invokevirtual 45, 3) := by decide +kernel
theorem dX1_trust_6 : decode cX1_trust 6 = .ok (.ifCond .ne 5, 3) := by decide +kernel
theorem dX1_trust_9 : decode cX1_trust 9 = .ok (.iconst (-1), 1) := by decide +kernel
theorem dX1_trust_10 : decode cX1_trust 10 = .ok (.ireturn, 1) := by decide +kernel
theorem dX1_trust_11 : decode cX1_trust 11 = .ok (.iload_n 3, 1) := by decide +kernel
theorem dX1_trust_12 : decode cX1_trust 12 = .ok (.ifCond .lt 22, 3) := by decide +kernel
theorem dX1_trust_15 : decode cX1_trust 15 = .ok (.iload_n 3, 1) := by decide +kernel
theorem dX1_trust_16 : decode cX1_trust 16 = .ok (.sipush 1000, 3) := by decide +kernel
theorem dX1_trust_19 : decode cX1_trust 19 = .ok (.aload_n 0, 1) := by decide +kernel
theorem dX1_trust_20 : decode cX1_trust 20 = .ok (.getfield 7, 3) := by decide +kernel
theorem dX1_trust_23 : decode cX1_trust 23 = .ok (.bipush 7, 2) := by decide +kernel
theorem dX1_trust_25 : decode cX1_trust 25 = .ok (.iload_n 1, 1) := by decide +kernel
theorem dX1_trust_26 : decode cX1_trust 26 = .ok (.imul, 1) := by decide +kernel
theorem dX1_trust_27 : decode cX1_trust 27 = .ok (.iload_n 2, 1) := by decide +kernel
theorem dX1_trust_28 : decode cX1_trust 28 = .ok (.iadd, 1) := by decide +kernel
theorem dX1_trust_29 : decode cX1_trust 29 = .ok (.iaload, 1) := by decide +kernel
theorem dX1_trust_30 : decode cX1_trust 30 = .ok (.isub, 1) := by decide +kernel
theorem dX1_trust_31 : decode cX1_trust 31 = .ok (.if_icmp .le 6, 3) := by decide +kernel
theorem dX1_trust_34 : decode cX1_trust 34 = .ok (.bipush (-2), 2) := by decide +kernel
theorem dX1_trust_36 : decode cX1_trust 36 = .ok (.ireturn, 1) := by decide +kernel
theorem dX1_trust_37 : decode cX1_trust 37 = .ok (.aload_n 0, 1) := by decide +kernel
theorem dX1_trust_38 : decode cX1_trust 38 = .ok (.getfield 7, 3) := by decide +kernel
theorem dX1_trust_41 : decode cX1_trust 41 = .ok (.bipush 7, 2) := by decide +kernel
theorem dX1_trust_43 : decode cX1_trust 43 = .ok (.iload_n 1, 1) := by decide +kernel
theorem dX1_trust_44 : decode cX1_trust 44 = .ok (.imul, 1) := by decide +kernel
theorem dX1_trust_45 : decode cX1_trust 45 = .ok (.iload_n 2, 1) := by decide +kernel
theorem dX1_trust_46 : decode cX1_trust 46 = .ok (.iadd, 1) := by decide +kernel
theorem dX1_trust_47 : decode cX1_trust 47 = .ok (.aload_n 0, 1) := by decide +kernel
theorem dX1_trust_48 : decode cX1_trust 48 = .ok (.getfield 7, 3) := by decide +kernel
theorem dX1_trust_51 : decode cX1_trust 51 = .ok (.bipush 7, 2) := by decide +kernel
theorem dX1_trust_53 : decode cX1_trust 53 = .ok (.iload_n 1, 1) := by decide +kernel
theorem dX1_trust_54 : decode cX1_trust 54 = .ok (.imul, 1) := by decide +kernel
theorem dX1_trust_55 : decode cX1_trust 55 = .ok (.iload_n 2, 1) := by decide +kernel
theorem dX1_trust_56 : decode cX1_trust 56 = .ok (.iadd, 1) := by decide +kernel
theorem dX1_trust_57 : decode cX1_trust 57 = .ok (.iaload, 1) := by decide +kernel
theorem dX1_trust_58 : decode cX1_trust 58 = .ok (.iload_n 3, 1) := by decide +kernel
theorem dX1_trust_59 : decode cX1_trust 59 = .ok (.iadd, 1) := by decide +kernel
theorem dX1_trust_60 : decode cX1_trust 60 = .ok (.iastore, 1) := by decide +kernel
theorem dX1_trust_61 : decode cX1_trust 61 = .ok (.aload_n 0, 1) := by decide +kernel
theorem dX1_trust_62 : decode cX1_trust 62 = .ok (.getfield 7, 3) := by decide +kernel
theorem dX1_trust_65 : decode cX1_trust 65 = .ok (.bipush 7, 2) := by decide +kernel
theorem dX1_trust_67 : decode cX1_trust 67 = .ok (.iload_n 1, 1) := by decide +kernel
theorem dX1_trust_68 : decode cX1_trust 68 = .ok (.imul, 1) := by decide +kernel
theorem dX1_trust_69 : decode cX1_trust 69 = .ok (.iload_n 2, 1) := by decide +kernel
theorem dX1_trust_70 : decode cX1_trust 70 = .ok (.iadd, 1) := by decide +kernel
theorem dX1_trust_71 : decode cX1_trust 71 = .ok (.iaload, 1) := by decide +kernel
theorem dX1_trust_72 : decode cX1_trust 72 = .ok (.ireturn, 1) := by decide +kernel
abbrev cX1_isPair : ByteArray := prog_3_method_2_code
def yX1_isPair : MethodName := ⟨RX1, "isPair", "(II)Z"⟩
theorem dX1_isPair_0 : decode cX1_isPair 0 = .ok (.iload_n 1, 1) := by decide +kernel
theorem dX1_isPair_1 : decode cX1_isPair 1 = .ok (.ifCond .lt 28, 3) := by decide +kernel
theorem dX1_isPair_4 : decode cX1_isPair 4 = .ok (.iload_n 1, 1) := by decide +kernel
theorem dX1_isPair_5 : decode cX1_isPair 5 = .ok (.bipush 6, 2) := by decide +kernel
theorem dX1_isPair_7 : decode cX1_isPair 7 = .ok (.if_icmp .gt 22, 3) := by decide +kernel
theorem dX1_isPair_10 : decode cX1_isPair 10 = .ok (.iload_n 2, 1) := by decide +kernel
theorem dX1_isPair_11 : decode cX1_isPair 11 = .ok (.ifCond .lt 18, 3) := by decide +kernel
theorem dX1_isPair_14 : decode cX1_isPair 14 = .ok (.iload_n 2, 1) := by decide +kernel
theorem dX1_isPair_15 : decode cX1_isPair 15 = .ok (.bipush 6, 2) := by decide +kernel
theorem dX1_isPair_17 : decode cX1_isPair 17 = .ok (.if_icmp .gt 12, 3) := by decide +kernel
theorem dX1_isPair_20 : decode cX1_isPair 20 = .ok (.iload_n 1, 1) := by decide +kernel
theorem dX1_isPair_21 : decode cX1_isPair 21 = .ok (.iload_n 2, 1) := by decide +kernel
theorem dX1_isPair_22 : decode cX1_isPair 22 = .ok (.if_icmp .eq 7, 3) := by decide +kernel
theorem dX1_isPair_25 : decode cX1_isPair 25 = .ok (.iconst 1, 1) := by decide +kernel
theorem dX1_isPair_26 : decode cX1_isPair 26 = .ok (.goto 4, 3) := by decide +kernel
theorem dX1_isPair_29 : decode cX1_isPair 29 = .ok (.iconst 0, 1) := by decide +kernel
theorem dX1_isPair_30 : decode cX1_isPair 30 = .ok (.ireturn, 1) := by decide +kernel
abbrev cX1_withdraw : ByteArray := prog_3_method_7_code
def yX1_withdraw : MethodName := ⟨RX1, "withdraw", "(III)I"⟩
theorem dX1_withdraw_0 : decode cX1_withdraw 0 = .ok (.aload_n 0, 1) := by decide +kernel
theorem dX1_withdraw_1 : decode cX1_withdraw 1 = .ok (.iload_n 1, 1) := by decide +kernel
theorem dX1_withdraw_2 : decode cX1_withdraw 2 = .ok (.iload_n 2, 1) := by decide +kernel
theorem dX1_withdraw_3 : decode cX1_withdraw 3 = .ok (.invokevirtual 45, 3) := by decide +kernel
theorem dX1_withdraw_6 : decode cX1_withdraw 6 = .ok (.ifCond .ne 5, 3) := by decide +kernel
theorem dX1_withdraw_9 : decode cX1_withdraw 9 = .ok (.iconst (-1), 1) := by decide +kernel
theorem dX1_withdraw_10 : decode cX1_withdraw 10 = .ok (.ireturn, 1) := by decide +kernel
theorem dX1_withdraw_11 : decode cX1_withdraw 11 = .ok (.iload_n 3, 1) := by decide +kernel
theorem dX1_withdraw_12 : decode cX1_withdraw 12 = .ok (.ifCond .lt 18, 3) := by decide +kernel
theorem dX1_withdraw_15 : decode cX1_withdraw 15 = .ok (.iload_n 3, 1) := by decide +kernel
theorem dX1_withdraw_16 : decode cX1_withdraw 16 = .ok (.aload_n 0, 1) := by decide +kernel
theorem dX1_withdraw_17 : decode cX1_withdraw 17 = .ok (.getfield 7, 3) := by decide +kernel
theorem dX1_withdraw_20 : decode cX1_withdraw 20 = .ok (.bipush 7, 2) := by decide +kernel
theorem dX1_withdraw_22 : decode cX1_withdraw 22 = .ok (.iload_n 1, 1) := by decide +kernel
theorem dX1_withdraw_23 : decode cX1_withdraw 23 = .ok (.imul, 1) := by decide +kernel
theorem dX1_withdraw_24 : decode cX1_withdraw 24 = .ok (.iload_n 2, 1) := by decide +kernel
theorem dX1_withdraw_25 : decode cX1_withdraw 25 = .ok (.iadd, 1) := by decide +kernel
theorem dX1_withdraw_26 : decode cX1_withdraw 26 = .ok (.iaload, 1) := by decide +kernel
theorem dX1_withdraw_27 : decode cX1_withdraw 27 = .ok (.if_icmp .le 6, 3) := by decide +kernel
theorem dX1_withdraw_30 : decode cX1_withdraw 30 = .ok (.bipush (-2), 2) := by decide +kernel
theorem dX1_withdraw_32 : decode cX1_withdraw 32 = .ok (.ireturn, 1) := by decide +kernel
theorem dX1_withdraw_33 : decode cX1_withdraw 33 = .ok (.aload_n 0, 1) := by decide +kernel
theorem dX1_withdraw_34 : decode cX1_withdraw 34 = .ok (.getfield 7, 3) := by decide +kernel
theorem dX1_withdraw_37 : decode cX1_withdraw 37 = .ok (.bipush 7, 2) := by decide +kernel
theorem dX1_withdraw_39 : decode cX1_withdraw 39 = .ok (.iload_n 1, 1) := by decide +kernel
theorem dX1_withdraw_40 : decode cX1_withdraw 40 = .ok (.imul, 1) := by decide +kernel
theorem dX1_withdraw_41 : decode cX1_withdraw 41 = .ok (.iload_n 2, 1) := by decide +kernel
theorem dX1_withdraw_42 : decode cX1_withdraw 42 = .ok (.iadd, 1) := by decide +kernel
theorem dX1_withdraw_43 : decode cX1_withdraw 43 = .ok (.aload_n 0, 1) := by decide +kernel
theorem dX1_withdraw_44 : decode cX1_withdraw 44 = .ok (.getfield 7, 3) := by decide +kernel
theorem dX1_withdraw_47 : decode cX1_withdraw 47 = .ok (.bipush 7, 2) := by decide +kernel
theorem dX1_withdraw_49 : decode cX1_withdraw 49 = .ok (.iload_n 1, 1) := by decide +kernel
theorem dX1_withdraw_50 : decode cX1_withdraw 50 = .ok (.imul, 1) := by decide +kernel
theorem dX1_withdraw_51 : decode cX1_withdraw 51 = .ok (.iload_n 2, 1) := by decide +kernel
theorem dX1_withdraw_52 : decode cX1_withdraw 52 = .ok (.iadd, 1) := by decide +kernel
theorem dX1_withdraw_53 : decode cX1_withdraw 53 = .ok (.iaload, 1) := by decide +kernel
theorem dX1_withdraw_54 : decode cX1_withdraw 54 = .ok (.iload_n 3, 1) := by decide +kernel
theorem dX1_withdraw_55 : decode cX1_withdraw 55 = .ok (.isub, 1) := by decide +kernel
theorem dX1_withdraw_56 : decode cX1_withdraw 56 = .ok (.iastore, 1) := by decide +kernel
theorem dX1_withdraw_57 : decode cX1_withdraw 57 = .ok (.aload_n 0, 1) := by decide +kernel
theorem dX1_withdraw_58 : decode cX1_withdraw 58 = .ok (.invokevirtual 48, 3) := by decide +kernel
theorem dX1_withdraw_61 : decode cX1_withdraw 61 = .ok (.ifCond .ne 30, 3) := by decide +kernel
theorem dX1_withdraw_64 : decode cX1_withdraw 64 = .ok (.aload_n 0, 1) := by decide +kernel
theorem dX1_withdraw_65 : decode cX1_withdraw 65 = .ok (.getfield 7, 3) := by decide +kernel
theorem dX1_withdraw_68 : decode cX1_withdraw 68 = .ok (.bipush 7, 2) := by decide +kernel
theorem dX1_withdraw_70 : decode cX1_withdraw 70 = .ok (.iload_n 1, 1) := by decide +kernel
theorem dX1_withdraw_71 : decode cX1_withdraw 71 = .ok (.imul, 1) := by decide +kernel
theorem dX1_withdraw_72 : decode cX1_withdraw 72 = .ok (.iload_n 2, 1) := by decide +kernel
theorem dX1_withdraw_73 : decode cX1_withdraw 73 = .ok (.iadd, 1) := by decide +kernel
theorem dX1_withdraw_74 : decode cX1_withdraw 74 = .ok (.aload_n 0, 1) := by decide +kernel
theorem dX1_withdraw_75 : decode cX1_withdraw 75 = .ok (.getfield 7, 3) := by decide +kernel
theorem dX1_withdraw_78 : decode cX1_withdraw 78 = .ok (.bipush 7, 2) := by decide +kernel
theorem dX1_withdraw_80 : decode cX1_withdraw 80 = .ok (.iload_n 1, 1) := by decide +kernel
theorem dX1_withdraw_81 : decode cX1_withdraw 81 = .ok (.imul, 1) := by decide +kernel
theorem dX1_withdraw_82 : decode cX1_withdraw 82 = .ok (.iload_n 2, 1) := by decide +kernel
theorem dX1_withdraw_83 : decode cX1_withdraw 83 = .ok (.iadd, 1) := by decide +kernel
theorem dX1_withdraw_84 : decode cX1_withdraw 84 = .ok (.iaload, 1) := by decide +kernel
theorem dX1_withdraw_85 : decode cX1_withdraw 85 = .ok (.iload_n 3, 1) := by decide +kernel
theorem dX1_withdraw_86 : decode cX1_withdraw 86 = .ok (.iadd, 1) := by decide +kernel
theorem dX1_withdraw_87 : decode cX1_withdraw 87 = .ok (.iastore, 1) := by decide +kernel
theorem dX1_withdraw_88 : decode cX1_withdraw 88 = .ok (.bipush (-3), 2) := by decide +kernel
theorem dX1_withdraw_90 : decode cX1_withdraw 90 = .ok (.ireturn, 1) := by decide +kernel
theorem dX1_withdraw_91 : decode cX1_withdraw 91 = .ok (.aload_n 0, 1) := by decide +kernel
theorem dX1_withdraw_92 : decode cX1_withdraw 92 = .ok (.getfield 7, 3) := by decide +kernel
theorem dX1_withdraw_95 : decode cX1_withdraw 95 = .ok (.bipush 7, 2) := by decide +kernel
theorem dX1_withdraw_97 : decode cX1_withdraw 97 = .ok (.iload_n 1, 1) := by decide +kernel
theorem dX1_withdraw_98 : decode cX1_withdraw 98 = .ok (.imul, 1) := by decide +kernel
theorem dX1_withdraw_99 : decode cX1_withdraw 99 = .ok (.iload_n 2, 1) := by decide +kernel
theorem dX1_withdraw_100 : decode cX1_withdraw 100 = .ok (.iadd, 1) := by decide +kernel
theorem dX1_withdraw_101 : decode cX1_withdraw 101 = .ok (.iaload, 1) := by decide +kernel
theorem dX1_withdraw_102 : decode cX1_withdraw 102 = .ok (.ireturn, 1) := by decide +kernel
abbrev cX1_isPossible : ByteArray := prog_3_method_5_code
def yX1_isPossible : MethodName := ⟨RX1, "isPossible", "()Z"⟩
theorem dX1_isPossible_0 : decode cX1_isPossible 0 = .ok (.iconst 1, 1) := by decide +kernel
theorem dX1_isPossible_1 : decode cX1_isPossible 1 = .ok (.istore_n 1, 1) := by decide +kernel
theorem dX1_isPossible_2 : decode cX1_isPossible 2 = .ok (.iconst 0, 1) := by decide +kernel
theorem dX1_isPossible_3 : decode cX1_isPossible 3 = .ok (.istore_n 2, 1) := by decide +kernel
theorem dX1_isPossible_4 : decode cX1_isPossible 4 = .ok (.iload_n 2, 1) := by decide +kernel
theorem dX1_isPossible_5 : decode cX1_isPossible 5 = .ok (.sipush 128, 3) := by decide +kernel
theorem dX1_isPossible_8 : decode cX1_isPossible 8 = .ok (.if_icmp .ge 27, 3) := by decide +kernel
theorem dX1_isPossible_11 : decode cX1_isPossible 11 = .ok (.iload_n 1, 1) := by decide +kernel
theorem dX1_isPossible_12 : decode cX1_isPossible 12 = .ok (.ifCond .eq 15, 3) := by decide +kernel
theorem dX1_isPossible_15 : decode cX1_isPossible 15 = .ok (.aload_n 0, 1) := by decide +kernel
theorem dX1_isPossible_16 : decode cX1_isPossible 16 = .ok (.iload_n 2, 1) := by decide +kernel
theorem dX1_isPossible_17 : decode cX1_isPossible 17 = .ok (.invokevirtual 41, 3) := by decide +kernel
theorem dX1_isPossible_20 : decode cX1_isPossible 20 = .ok (.ifCond .lt 7, 3) := by decide +kernel
theorem dX1_isPossible_23 : decode cX1_isPossible 23 = .ok (.iconst 1, 1) := by decide +kernel
theorem dX1_isPossible_24 : decode cX1_isPossible 24 = .ok (.goto 4, 3) := by decide +kernel
theorem dX1_isPossible_27 : decode cX1_isPossible 27 = .ok (.iconst 0, 1) := by decide +kernel
theorem dX1_isPossible_28 : decode cX1_isPossible 28 = .ok (.istore_n 1, 1) := by decide +kernel
theorem dX1_isPossible_29 : decode cX1_isPossible 29 = .ok (.iinc 2 1, 3) := by decide +kernel
theorem dX1_isPossible_32 : decode cX1_isPossible 32 = .ok (.goto (-28), 3) := by decide +kernel
theorem dX1_isPossible_35 : decode cX1_isPossible 35 = .ok (.iload_n 1, 1) := by decide +kernel
theorem dX1_isPossible_36 : decode cX1_isPossible 36 = .ok (.ireturn, 1) := by decide +kernel
abbrev cX1_slack : ByteArray := prog_3_method_4_code
def yX1_slack : MethodName := ⟨RX1, "slack", "(I)I"⟩
theorem dX1_slack_0 : decode cX1_slack 0 = .ok (.iconst 0, 1) := by decide +kernel
theorem dX1_slack_1 : decode cX1_slack 1 = .ok (.istore_n 2, 1) := by decide +kernel
theorem dX1_slack_2 : decode cX1_slack 2 = .ok (.iconst 0, 1) := by decide +kernel
theorem dX1_slack_3 : decode cX1_slack 3 = .ok (.istore_n 3, 1) := by decide +kernel
theorem dX1_slack_4 : decode cX1_slack 4 = .ok (.iload_n 3, 1) := by decide +kernel
theorem dX1_slack_5 : decode cX1_slack 5 = .ok (.bipush 49, 2) := by decide +kernel
theorem dX1_slack_7 : decode cX1_slack 7 = .ok (.if_icmp .ge 46, 3) := by decide +kernel
theorem dX1_slack_10 : decode cX1_slack 10 = .ok (.aload_n 0, 1) := by decide +kernel
theorem dX1_slack_11 : decode cX1_slack 11 = .ok (.iload_n 1, 1) := by decide +kernel
theorem dX1_slack_12 : decode cX1_slack 12 = .ok (.iload_n 3, 1) := by decide +kernel
theorem dX1_slack_13 : decode cX1_slack 13 = .ok (.bipush 7, 2) := by decide +kernel
theorem dX1_slack_15 : decode cX1_slack 15 = .ok (.idiv, 1) := by decide +kernel
theorem dX1_slack_16 : decode cX1_slack 16 = .ok (.invokevirtual 37, 3) := by decide +kernel
theorem dX1_slack_19 : decode cX1_slack 19 = .ok (.ifCond .eq 26, 3) := by decide +kernel
theorem dX1_slack_22 : decode cX1_slack 22 = .ok (.aload_n 0, 1) := by decide +kernel
theorem dX1_slack_23 : decode cX1_slack 23 = .ok (.iload_n 1, 1) := by decide +kernel
theorem dX1_slack_24 : decode cX1_slack 24 = .ok (.iload_n 3, 1) := by decide +kernel
theorem dX1_slack_25 : decode cX1_slack 25 = .ok (.bipush 7, 2) := by decide +kernel
theorem dX1_slack_27 : decode cX1_slack 27 = .ok (.irem, 1) := by decide +kernel
theorem dX1_slack_28 : decode cX1_slack 28 = .ok (.invokevirtual 37, 3) := by decide +kernel
theorem dX1_slack_31 : decode cX1_slack 31 = .ok (.ifCond .ne 14, 3) := by decide +kernel
theorem dX1_slack_34 : decode cX1_slack 34 = .ok (.iload_n 2, 1) := by decide +kernel
theorem dX1_slack_35 : decode cX1_slack 35 = .ok (.aload_n 0, 1) := by decide +kernel
theorem dX1_slack_36 : decode cX1_slack 36 = .ok (.getfield 7, 3) := by decide +kernel
theorem dX1_slack_39 : decode cX1_slack 39 = .ok (.iload_n 3, 1) := by decide +kernel
theorem dX1_slack_40 : decode cX1_slack 40 = .ok (.iaload, 1) := by decide +kernel
theorem dX1_slack_41 : decode cX1_slack 41 = .ok (.iadd, 1) := by decide +kernel
theorem dX1_slack_42 : decode cX1_slack 42 = .ok (.goto 4, 3) := by decide +kernel
theorem dX1_slack_45 : decode cX1_slack 45 = .ok (.iload_n 2, 1) := by decide +kernel
theorem dX1_slack_46 : decode cX1_slack 46 = .ok (.istore_n 2, 1) := by decide +kernel
theorem dX1_slack_47 : decode cX1_slack 47 = .ok (.iinc 3 1, 3) := by decide +kernel
theorem dX1_slack_50 : decode cX1_slack 50 = .ok (.goto (-46), 3) := by decide +kernel
theorem dX1_slack_53 : decode cX1_slack 53 = .ok (.iconst 0, 1) := by decide +kernel
theorem dX1_slack_54 : decode cX1_slack 54 = .ok (.istore_n 3, 1) := by decide +kernel
theorem dX1_slack_55 : decode cX1_slack 55 = .ok (.iload_n 3, 1) := by decide +kernel
theorem dX1_slack_56 : decode cX1_slack 56 = .ok (.bipush 7, 2) := by decide +kernel
theorem dX1_slack_58 : decode cX1_slack 58 = .ok (.if_icmp .ge 31, 3) := by decide +kernel
theorem dX1_slack_61 : decode cX1_slack 61 = .ok (.aload_n 0, 1) := by decide +kernel
theorem dX1_slack_62 : decode cX1_slack 62 = .ok (.iload_n 1, 1) := by decide +kernel
theorem dX1_slack_63 : decode cX1_slack 63 = .ok (.iload_n 3, 1) := by decide +kernel
theorem dX1_slack_64 : decode cX1_slack 64 = .ok (.invokevirtual 37, 3) := by decide +kernel
theorem dX1_slack_67 : decode cX1_slack 67 = .ok (.ifCond .eq 14, 3) := by decide +kernel
theorem dX1_slack_70 : decode cX1_slack 70 = .ok (.iload_n 2, 1) := by decide +kernel
theorem dX1_slack_71 : decode cX1_slack 71 = .ok (.aload_n 0, 1) := by decide +kernel
theorem dX1_slack_72 : decode cX1_slack 72 = .ok (.getfield 13, 3) := by decide +kernel
theorem dX1_slack_75 : decode cX1_slack 75 = .ok (.iload_n 3, 1) := by decide +kernel
theorem dX1_slack_76 : decode cX1_slack 76 = .ok (.iaload, 1) := by decide +kernel
theorem dX1_slack_77 : decode cX1_slack 77 = .ok (.isub, 1) := by decide +kernel
theorem dX1_slack_78 : decode cX1_slack 78 = .ok (.goto 4, 3) := by decide +kernel
theorem dX1_slack_81 : decode cX1_slack 81 = .ok (.iload_n 2, 1) := by decide +kernel
theorem dX1_slack_82 : decode cX1_slack 82 = .ok (.istore_n 2, 1) := by decide +kernel
theorem dX1_slack_83 : decode cX1_slack 83 = .ok (.iinc 3 1, 3) := by decide +kernel
theorem dX1_slack_86 : decode cX1_slack 86 = .ok (.goto (-31), 3) := by decide +kernel
theorem dX1_slack_89 : decode cX1_slack 89 = .ok (.iload_n 2, 1) := by decide +kernel
theorem dX1_slack_90 : decode cX1_slack 90 = .ok (.ireturn, 1) := by decide +kernel
abbrev cX1_in : ByteArray := prog_3_method_3_code
def yX1_in : MethodName := ⟨RX1, "in", "(II)Z"⟩
theorem dX1_in_0 : decode cX1_in 0 = .ok (.iload_n 1, 1) := by decide +kernel
theorem dX1_in_1 : decode cX1_in 1 = .ok (.iload_n 2, 1) := by decide +kernel
theorem dX1_in_2 : decode cX1_in 2 = .ok (.ishr, 1) := by decide +kernel
theorem dX1_in_3 : decode cX1_in 3 = .ok (.iconst 1, 1) := by decide +kernel
theorem dX1_in_4 : decode cX1_in 4 = .ok (.iand, 1) := by decide +kernel
theorem dX1_in_5 : decode cX1_in 5 = .ok (.iconst 1, 1) := by decide +kernel
theorem dX1_in_6 : decode cX1_in 6 = .ok (.if_icmp .ne 7, 3) := by decide +kernel
theorem dX1_in_9 : decode cX1_in 9 = .ok (.iconst 1, 1) := by decide +kernel
theorem dX1_in_10 : decode cX1_in 10 = .ok (.goto 4, 3) := by decide +kernel
theorem dX1_in_13 : decode cX1_in 13 = .ok (.iconst 0, 1) := by decide +kernel
theorem dX1_in_14 : decode cX1_in 14 = .ok (.ireturn, 1) := by decide +kernel
abbrev cX1_pay : ByteArray := prog_3_method_9_code
def yX1_pay : MethodName := ⟨RX1, "pay", "(III)I"⟩
theorem dX1_pay_0 : decode cX1_pay 0 = .ok (.aload_n 0, 1) := by decide +kernel
theorem dX1_pay_1 : decode cX1_pay 1 = .ok (.iload_n 1, 1) := by decide +kernel
theorem dX1_pay_2 : decode cX1_pay 2 = .ok (.iload_n 2, 1) := by decide +kernel
theorem dX1_pay_3 : decode cX1_pay 3 = .ok (.invokevirtual 45, 3) := by decide +kernel
theorem dX1_pay_6 : decode cX1_pay 6 = .ok (.ifCond .ne 5, 3) := by decide +kernel
theorem dX1_pay_9 : decode cX1_pay 9 = .ok (.iconst (-1), 1) := by decide +kernel
theorem dX1_pay_10 : decode cX1_pay 10 = .ok (.ireturn, 1) := by decide +kernel
theorem dX1_pay_11 : decode cX1_pay 11 = .ok (.iload_n 3, 1) := by decide +kernel
theorem dX1_pay_12 : decode cX1_pay 12 = .ok (.ifCond .ge 6, 3) := by decide +kernel
theorem dX1_pay_15 : decode cX1_pay 15 = .ok (.bipush (-2), 2) := by decide +kernel
theorem dX1_pay_17 : decode cX1_pay 17 = .ok (.ireturn, 1) := by decide +kernel
theorem dX1_pay_18 : decode cX1_pay 18 = .ok (.iload_n 3, 1) := by decide +kernel
theorem dX1_pay_19 : decode cX1_pay 19 = .ok (.aload_n 0, 1) := by decide +kernel
theorem dX1_pay_20 : decode cX1_pay 20 = .ok (.iconst 1, 1) := by decide +kernel
theorem dX1_pay_21 : decode cX1_pay 21 = .ok (.iload_n 2, 1) := by decide +kernel
theorem dX1_pay_22 : decode cX1_pay 22 = .ok (.ishl, 1) := by decide +kernel
theorem dX1_pay_23 : decode cX1_pay 23 = .ok (.iload_n 1, 1) := by decide +kernel
theorem dX1_pay_24 : decode cX1_pay 24 = .ok (.invokevirtual 52, 3) := by decide +kernel
theorem dX1_pay_27 : decode cX1_pay 27 = .ok (.if_icmp .le 6, 3) := by decide +kernel
theorem dX1_pay_30 : decode cX1_pay 30 = .ok (.bipush (-3), 2) := by decide +kernel
theorem dX1_pay_32 : decode cX1_pay 32 = .ok (.ireturn, 1) := by decide +kernel
theorem dX1_pay_33 : decode cX1_pay 33 = .ok (.aload_n 0, 1) := by decide +kernel
theorem dX1_pay_34 : decode cX1_pay 34 = .ok (.getfield 13, 3) := by decide +kernel
theorem dX1_pay_37 : decode cX1_pay 37 = .ok (.iload_n 1, 1) := by decide +kernel
theorem dX1_pay_38 : decode cX1_pay 38 = .ok (.aload_n 0, 1) := by decide +kernel
theorem dX1_pay_39 : decode cX1_pay 39 = .ok (.getfield 13, 3) := by decide +kernel
theorem dX1_pay_42 : decode cX1_pay 42 = .ok (.iload_n 1, 1) := by decide +kernel
theorem dX1_pay_43 : decode cX1_pay 43 = .ok (.iaload, 1) := by decide +kernel
theorem dX1_pay_44 : decode cX1_pay 44 = .ok (.iload_n 3, 1) := by decide +kernel
theorem dX1_pay_45 : decode cX1_pay 45 = .ok (.isub, 1) := by decide +kernel
theorem dX1_pay_46 : decode cX1_pay 46 = .ok (.iastore, 1) := by decide +kernel
theorem dX1_pay_47 : decode cX1_pay 47 = .ok (.aload_n 0, 1) := by decide +kernel
theorem dX1_pay_48 : decode cX1_pay 48 = .ok (.getfield 13, 3) := by decide +kernel
theorem dX1_pay_51 : decode cX1_pay 51 = .ok (.iload_n 2, 1) := by decide +kernel
theorem dX1_pay_52 : decode cX1_pay 52 = .ok (.aload_n 0, 1) := by decide +kernel
theorem dX1_pay_53 : decode cX1_pay 53 = .ok (.getfield 13, 3) := by decide +kernel
theorem dX1_pay_56 : decode cX1_pay 56 = .ok (.iload_n 2, 1) := by decide +kernel
theorem dX1_pay_57 : decode cX1_pay 57 = .ok (.iaload, 1) := by decide +kernel
theorem dX1_pay_58 : decode cX1_pay 58 = .ok (.iload_n 3, 1) := by decide +kernel
theorem dX1_pay_59 : decode cX1_pay 59 = .ok (.iadd, 1) := by decide +kernel
theorem dX1_pay_60 : decode cX1_pay 60 = .ok (.iastore, 1) := by decide +kernel
theorem dX1_pay_61 : decode cX1_pay 61 = .ok (.aload_n 0, 1) := by decide +kernel
theorem dX1_pay_62 : decode cX1_pay 62 = .ok (.getfield 13, 3) := by decide +kernel
theorem dX1_pay_65 : decode cX1_pay 65 = .ok (.iload_n 1, 1) := by decide +kernel
theorem dX1_pay_66 : decode cX1_pay 66 = .ok (.iaload, 1) := by decide +kernel
theorem dX1_pay_67 : decode cX1_pay 67 = .ok (.ireturn, 1) := by decide +kernel
abbrev cX1_leastSlack : ByteArray := prog_3_method_8_code
def yX1_leastSlack : MethodName := ⟨RX1, "leastSlack", "(II)I"⟩
theorem dX1_leastSlack_0 : decode cX1_leastSlack 0 = .ok (.iconst (-1), 1) := by decide +kernel
theorem dX1_leastSlack_1 : decode cX1_leastSlack 1 = .ok (.istore_n 3, 1) := by decide +kernel
theorem dX1_leastSlack_2 : decode cX1_leastSlack 2 = .ok (.iconst 0, 1) := by decide +kernel
theorem dX1_leastSlack_3 : decode cX1_leastSlack 3 = .ok (.istore 4, 2) := by decide +kernel
theorem dX1_leastSlack_5 : decode cX1_leastSlack 5 = .ok (.iload 4, 2) := by decide +kernel
theorem dX1_leastSlack_7 : decode cX1_leastSlack 7 = .ok (.sipush 128, 3) := by decide +kernel
theorem dX1_leastSlack_10 : decode cX1_leastSlack 10 = .ok (.if_icmp .ge 52, 3) := by decide +kernel
theorem dX1_leastSlack_13 : decode cX1_leastSlack 13 = .ok (.iload 4, 2) := by decide +kernel
theorem dX1_leastSlack_15 : decode cX1_leastSlack 15 = .ok (.iload_n 1, 1) := by decide +kernel
theorem dX1_leastSlack_16 : decode cX1_leastSlack 16 = .ok (.iand, 1) := by decide +kernel
theorem dX1_leastSlack_17 : decode cX1_leastSlack 17 = .ok (.iload_n 1, 1) := by decide +kernel
theorem dX1_leastSlack_18 : decode cX1_leastSlack 18 = .ok (.if_icmp .ne 38, 3) := by decide +kernel
theorem dX1_leastSlack_21 : decode cX1_leastSlack 21 = .ok (.aload_n 0, 1) := by decide +kernel
theorem dX1_leastSlack_22 : decode cX1_leastSlack 22 = .ok (.iload 4, 2) := by decide +kernel
theorem dX1_leastSlack_24 : decode cX1_leastSlack 24 = .ok (.iload_n 2, 1) := by decide +kernel
theorem dX1_leastSlack_25 : decode cX1_leastSlack 25 = .ok (.invokevirtual 37, 3) := by decide +kernel
theorem dX1_leastSlack_28 : decode cX1_leastSlack 28 = .ok (.ifCond .ne 28, 3) := by decide +kernel
theorem dX1_leastSlack_31 : decode cX1_leastSlack 31 = .ok (.aload_n 0, 1) := by decide +kernel
theorem dX1_leastSlack_32 : decode cX1_leastSlack 32 = .ok (.iload 4, 2) := by decide +kernel
theorem dX1_leastSlack_34 : decode cX1_leastSlack 34 = .ok (.invokevirtual 41, 3) := by decide +kernel
theorem dX1_leastSlack_37 : decode cX1_leastSlack 37 = .ok (.istore 5, 2) := by decide +kernel
theorem dX1_leastSlack_39 : decode cX1_leastSlack 39 = .ok (.iload_n 3, 1) := by decide +kernel
theorem dX1_leastSlack_40 : decode cX1_leastSlack 40 = .ok (.ifCond .lt 9, 3) := by decide +kernel
theorem dX1_leastSlack_43 : decode cX1_leastSlack 43 = .ok (.iload 5, 2) := by decide +kernel
theorem dX1_leastSlack_45 : decode cX1_leastSlack 45 = .ok (.iload_n 3, 1) := by decide +kernel
theorem dX1_leastSlack_46 : decode cX1_leastSlack 46 = .ok (.if_icmp .ge 8, 3) := by decide +kernel
theorem dX1_leastSlack_49 : decode cX1_leastSlack 49 = .ok (.iload 5, 2) := by decide +kernel
theorem dX1_leastSlack_51 : decode cX1_leastSlack 51 = .ok (.goto 4, 3) := by decide +kernel
theorem dX1_leastSlack_54 : decode cX1_leastSlack 54 = .ok (.iload_n 3, 1) := by decide +kernel
theorem dX1_leastSlack_55 : decode cX1_leastSlack 55 = .ok (.istore_n 3, 1) := by decide +kernel
theorem dX1_leastSlack_56 : decode cX1_leastSlack 56 = .ok (.iinc 4 1, 3) := by decide +kernel
theorem dX1_leastSlack_59 : decode cX1_leastSlack 59 = .ok (.goto (-54), 3) := by decide +kernel
theorem dX1_leastSlack_62 : decode cX1_leastSlack 62 = .ok (.iload_n 3, 1) := by decide +kernel
theorem dX1_leastSlack_63 : decode cX1_leastSlack 63 = .ok (.ireturn, 1) := by decide +kernel
abbrev cX1_gather : ByteArray := prog_3_method_10_code
def yX1_gather : MethodName := ⟨RX1, "gather", "(III)I"⟩
theorem dX1_gather_0 : decode cX1_gather 0 = .ok (.aload_n 0, 1) := by decide +kernel
theorem dX1_gather_1 : decode cX1_gather 1 = .ok (.iload_n 1, 1) := by decide +kernel
theorem dX1_gather_2 : decode cX1_gather 2 = .ok (.iload_n 2, 1) := by decide +kernel
theorem dX1_gather_3 : decode cX1_gather 3 = .ok (.invokevirtual 45, 3) := by decide +kernel
theorem dX1_gather_6 : decode cX1_gather 6 = .ok (.ifCond .ne 5, 3) := by decide +kernel
theorem dX1_gather_9 : decode cX1_gather 9 = .ok (.iconst (-1), 1) := by decide +kernel
theorem dX1_gather_10 : decode cX1_gather 10 = .ok (.ireturn, 1) := by decide +kernel
theorem dX1_gather_11 : decode cX1_gather 11 = .ok (.iload_n 3, 1) := by decide +kernel
theorem dX1_gather_12 : decode cX1_gather 12 = .ok (.ifCond .lt 10, 3) := by decide +kernel
theorem dX1_gather_15 : decode cX1_gather 15 = .ok (.iload_n 3, 1) := by decide +kernel
theorem dX1_gather_16 : decode cX1_gather 16 = .ok (.sipush 10000, 3) := by decide +kernel
theorem dX1_gather_19 : decode cX1_gather 19 = .ok (.if_icmp .le 6, 3) := by decide +kernel
theorem dX1_gather_22 : decode cX1_gather 22 = .ok (.bipush (-2), 2) := by decide +kernel
theorem dX1_gather_24 : decode cX1_gather 24 = .ok (.ireturn, 1) := by decide +kernel
theorem dX1_gather_25 : decode cX1_gather 25 = .ok (.aload_n 0, 1) := by decide +kernel
theorem dX1_gather_26 : decode cX1_gather 26 = .ok (.getfield 56, 3) := by decide +kernel
end
section
set_option maxRecDepth 100000
theorem dX1_gather_29 : decode cX1_gather 29 = .ok (.bipush 6, 2) := by decide +kernel
theorem dX1_gather_31 : decode cX1_gather 31 = .ok (.if_icmp .ne 6, 3) := by decide +kernel
theorem dX1_gather_34 : decode cX1_gather 34 = .ok (.bipush (-3), 2) := by decide +kernel
theorem dX1_gather_36 : decode cX1_gather 36 = .ok (.ireturn, 1) := by decide +kernel
theorem dX1_gather_37 : decode cX1_gather 37 = .ok (.aload_n 0, 1) := by decide +kernel
theorem dX1_gather_38 : decode cX1_gather 38 = .ok (.getfield 16, 3) := by decide +kernel
theorem dX1_gather_41 : decode cX1_gather 41 = .ok (.aload_n 0, 1) := by decide +kernel
theorem dX1_gather_42 : decode cX1_gather 42 = .ok (.getfield 56, 3) := by decide +kernel
theorem dX1_gather_45 : decode cX1_gather 45 = .ok (.iload_n 1, 1) := by decide +kernel
theorem dX1_gather_46 : decode cX1_gather 46 = .ok (.iastore, 1) := by decide +kernel
theorem dX1_gather_47 : decode cX1_gather 47 = .ok (.aload_n 0, 1) := by decide +kernel
theorem dX1_gather_48 : decode cX1_gather 48 = .ok (.getfield 19, 3) := by decide +kernel
theorem dX1_gather_51 : decode cX1_gather 51 = .ok (.aload_n 0, 1) := by decide +kernel
theorem dX1_gather_52 : decode cX1_gather 52 = .ok (.getfield 56, 3) := by decide +kernel
theorem dX1_gather_55 : decode cX1_gather 55 = .ok (.iload_n 2, 1) := by decide +kernel
theorem dX1_gather_56 : decode cX1_gather 56 = .ok (.iastore, 1) := by decide +kernel
theorem dX1_gather_57 : decode cX1_gather 57 = .ok (.aload_n 0, 1) := by decide +kernel
theorem dX1_gather_58 : decode cX1_gather 58 = .ok (.getfield 22, 3) := by decide +kernel
theorem dX1_gather_61 : decode cX1_gather 61 = .ok (.aload_n 0, 1) := by decide +kernel
theorem dX1_gather_62 : decode cX1_gather 62 = .ok (.getfield 56, 3) := by decide +kernel
theorem dX1_gather_65 : decode cX1_gather 65 = .ok (.iload_n 3, 1) := by decide +kernel
theorem dX1_gather_66 : decode cX1_gather 66 = .ok (.iastore, 1) := by decide +kernel
theorem dX1_gather_67 : decode cX1_gather 67 = .ok (.aload_n 0, 1) := by decide +kernel
theorem dX1_gather_68 : decode cX1_gather 68 = .ok (.dup, 1) := by decide +kernel
theorem dX1_gather_69 : decode cX1_gather 69 = .ok (.getfield 56, 3) := by decide +kernel
theorem dX1_gather_72 : decode cX1_gather 72 = .ok (.iconst 1, 1) := by decide +kernel
theorem dX1_gather_73 : decode cX1_gather 73 = .ok (.iadd, 1) := by decide +kernel
theorem dX1_gather_74 : decode cX1_gather 74 = .ok (.putfield 56, 3) := by decide +kernel
theorem dX1_gather_77 : decode cX1_gather 77 = .ok (.aload_n 0, 1) := by decide +kernel
theorem dX1_gather_78 : decode cX1_gather 78 = .ok (.getfield 56, 3) := by decide +kernel
theorem dX1_gather_81 : decode cX1_gather 81 = .ok (.ireturn, 1) := by decide +kernel
abbrev cX1_clear : ByteArray := prog_3_method_12_code
def yX1_clear : MethodName := ⟨RX1, "clear", "()I"⟩
theorem dX1_clear_0 : decode cX1_clear 0 = .ok (.aload_n 0, 1) := by decide +kernel
theorem dX1_clear_1 : decode cX1_clear 1 = .ok (.iconst 1, 1) := by decide +kernel
theorem dX1_clear_2 : decode cX1_clear 2 = .ok (.invokevirtual 60, 3) := by decide +kernel
theorem dX1_clear_5 : decode cX1_clear 5 = .ok (.aload_n 0, 1) := by decide +kernel
theorem dX1_clear_6 : decode cX1_clear 6 = .ok (.invokevirtual 48, 3) := by decide +kernel
theorem dX1_clear_9 : decode cX1_clear 9 = .ok (.ifCond .ne 11, 3) := by decide +kernel
theorem dX1_clear_12 : decode cX1_clear 12 = .ok (.aload_n 0, 1) := by decide +kernel
theorem dX1_clear_13 : decode cX1_clear 13 = .ok (.iconst (-1), 1) := by decide +kernel
theorem dX1_clear_14 : decode cX1_clear 14 = .ok (.invokevirtual 60, 3) := by decide +kernel
theorem dX1_clear_17 : decode cX1_clear 17 = .ok (.bipush (-3), 2) := by decide +kernel
theorem dX1_clear_19 : decode cX1_clear 19 = .ok (.ireturn, 1) := by decide +kernel
theorem dX1_clear_20 : decode cX1_clear 20 = .ok (.aload_n 0, 1) := by decide +kernel
theorem dX1_clear_21 : decode cX1_clear 21 = .ok (.getfield 56, 3) := by decide +kernel
theorem dX1_clear_24 : decode cX1_clear 24 = .ok (.istore_n 1, 1) := by decide +kernel
theorem dX1_clear_25 : decode cX1_clear 25 = .ok (.aload_n 0, 1) := by decide +kernel
theorem dX1_clear_26 : decode cX1_clear 26 = .ok (.iconst 0, 1) := by decide +kernel
theorem dX1_clear_27 : decode cX1_clear 27 = .ok (.putfield 56, 3) := by decide +kernel
theorem dX1_clear_30 : decode cX1_clear 30 = .ok (.iload_n 1, 1) := by decide +kernel
theorem dX1_clear_31 : decode cX1_clear 31 = .ok (.ireturn, 1) := by decide +kernel
abbrev cX1_payAll : ByteArray := prog_3_method_11_code
def yX1_payAll : MethodName := ⟨RX1, "payAll", "(I)V"⟩
theorem dX1_payAll_0 : decode cX1_payAll 0 = .ok (.iconst 0, 1) := by decide +kernel
theorem dX1_payAll_1 : decode cX1_payAll 1 = .ok (.istore_n 2, 1) := by decide +kernel
theorem dX1_payAll_2 : decode cX1_payAll 2 = .ok (.iload_n 2, 1) := by decide +kernel
theorem dX1_payAll_3 : decode cX1_payAll 3 = .ok (.aload_n 0, 1) := by decide +kernel
theorem dX1_payAll_4 : decode cX1_payAll 4 = .ok (.getfield 56, 3) := by decide +kernel
theorem dX1_payAll_7 : decode cX1_payAll 7 = .ok (.if_icmp .ge 71, 3) := by decide +kernel
theorem dX1_payAll_10 : decode cX1_payAll 10 = .ok (.aload_n 0, 1) := by decide +kernel
theorem dX1_payAll_11 : decode cX1_payAll 11 = .ok (.getfield 13, 3) := by decide +kernel
theorem dX1_payAll_14 : decode cX1_payAll 14 = .ok (.aload_n 0, 1) := by decide +kernel
theorem dX1_payAll_15 : decode cX1_payAll 15 = .ok (.getfield 16, 3) := by decide +kernel
theorem dX1_payAll_18 : decode cX1_payAll 18 = .ok (.iload_n 2, 1) := by decide +kernel
theorem dX1_payAll_19 : decode cX1_payAll 19 = .ok (.iaload, 1) := by decide +kernel
theorem dX1_payAll_20 : decode cX1_payAll 20 = .ok (.aload_n 0, 1) := by decide +kernel
theorem dX1_payAll_21 : decode cX1_payAll 21 = .ok (.getfield 13, 3) := by decide +kernel
theorem dX1_payAll_24 : decode cX1_payAll 24 = .ok (.aload_n 0, 1) := by decide +kernel
theorem dX1_payAll_25 : decode cX1_payAll 25 = .ok (.getfield 16, 3) := by decide +kernel
theorem dX1_payAll_28 : decode cX1_payAll 28 = .ok (.iload_n 2, 1) := by decide +kernel
theorem dX1_payAll_29 : decode cX1_payAll 29 = .ok (.iaload, 1) := by decide +kernel
theorem dX1_payAll_30 : decode cX1_payAll 30 = .ok (.iaload, 1) := by decide +kernel
theorem dX1_payAll_31 : decode cX1_payAll 31 = .ok (.iload_n 1, 1) := by decide +kernel
theorem dX1_payAll_32 : decode cX1_payAll 32 = .ok (.aload_n 0, 1) := by decide +kernel
theorem dX1_payAll_33 : decode cX1_payAll 33 = .ok (.getfield 22, 3) := by decide +kernel
theorem dX1_payAll_36 : decode cX1_payAll 36 = .ok (.iload_n 2, 1) := by decide +kernel
theorem dX1_payAll_37 : decode cX1_payAll 37 = .ok (.iaload, 1) := by decide +kernel
theorem dX1_payAll_38 : decode cX1_payAll 38 = .ok (.imul, 1) := by decide +kernel
theorem dX1_payAll_39 : decode cX1_payAll 39 = .ok (.isub, 1) := by decide +kernel
theorem dX1_payAll_40 : decode cX1_payAll 40 = .ok (.iastore, 1) := by decide +kernel
theorem dX1_payAll_41 : decode cX1_payAll 41 = .ok (.aload_n 0, 1) := by decide +kernel
theorem dX1_payAll_42 : decode cX1_payAll 42 = .ok (.getfield 13, 3) := by decide +kernel
theorem dX1_payAll_45 : decode cX1_payAll 45 = .ok (.aload_n 0, 1) := by decide +kernel
theorem dX1_payAll_46 : decode cX1_payAll 46 = .ok (.getfield 19, 3) := by decide +kernel
theorem dX1_payAll_49 : decode cX1_payAll 49 = .ok (.iload_n 2, 1) := by decide +kernel
theorem dX1_payAll_50 : decode cX1_payAll 50 = .ok (.iaload, 1) := by decide +kernel
theorem dX1_payAll_51 : decode cX1_payAll 51 = .ok (.aload_n 0, 1) := by decide +kernel
theorem dX1_payAll_52 : decode cX1_payAll 52 = .ok (.getfield 13, 3) := by decide +kernel
theorem dX1_payAll_55 : decode cX1_payAll 55 = .ok (.aload_n 0, 1) := by decide +kernel
theorem dX1_payAll_56 : decode cX1_payAll 56 = .ok (.getfield 19, 3) := by decide +kernel
theorem dX1_payAll_59 : decode cX1_payAll 59 = .ok (.iload_n 2, 1) := by decide +kernel
theorem dX1_payAll_60 : decode cX1_payAll 60 = .ok (.iaload, 1) := by decide +kernel
theorem dX1_payAll_61 : decode cX1_payAll 61 = .ok (.iaload, 1) := by decide +kernel
theorem dX1_payAll_62 : decode cX1_payAll 62 = .ok (.iload_n 1, 1) := by decide +kernel
theorem dX1_payAll_63 : decode cX1_payAll 63 = .ok (.aload_n 0, 1) := by decide +kernel
theorem dX1_payAll_64 : decode cX1_payAll 64 = .ok (.getfield 22, 3) := by decide +kernel
theorem dX1_payAll_67 : decode cX1_payAll 67 = .ok (.iload_n 2, 1) := by decide +kernel
theorem dX1_payAll_68 : decode cX1_payAll 68 = .ok (.iaload, 1) := by decide +kernel
theorem dX1_payAll_69 : decode cX1_payAll 69 = .ok (.imul, 1) := by decide +kernel
theorem dX1_payAll_70 : decode cX1_payAll 70 = .ok (.iadd, 1) := by decide +kernel
theorem dX1_payAll_71 : decode cX1_payAll 71 = .ok (.iastore, 1) := by decide +kernel
theorem dX1_payAll_72 : decode cX1_payAll 72 = .ok (.iinc 2 1, 3) := by decide +kernel
theorem dX1_payAll_75 : decode cX1_payAll 75 = .ok (.goto (-73), 3) := by decide +kernel
theorem dX1_payAll_78 : decode cX1_payAll 78 = .ok (.return_, 1) := by decide +kernel
abbrev cX1_forget : ByteArray := prog_3_method_13_code
def yX1_forget : MethodName := ⟨RX1, "forget", "()I"⟩
theorem dX1_forget_0 : decode cX1_forget 0 = .ok (.aload_n 0, 1) := by decide +kernel
theorem dX1_forget_1 : decode cX1_forget 1 = .ok (.getfield 56, 3) := by decide +kernel
theorem dX1_forget_4 : decode cX1_forget 4 = .ok (.istore_n 1, 1) := by decide +kernel
theorem dX1_forget_5 : decode cX1_forget 5 = .ok (.aload_n 0, 1) := by decide +kernel
theorem dX1_forget_6 : decode cX1_forget 6 = .ok (.iconst 0, 1) := by decide +kernel
theorem dX1_forget_7 : decode cX1_forget 7 = .ok (.putfield 56, 3) := by decide +kernel
theorem dX1_forget_10 : decode cX1_forget 10 = .ok (.iload_n 1, 1) := by decide +kernel
theorem dX1_forget_11 : decode cX1_forget 11 = .ok (.ireturn, 1) := by decide +kernel
abbrev cX1_trusted : ByteArray := prog_3_method_14_code
def yX1_trusted : MethodName := ⟨RX1, "trusted", "(II)I"⟩
theorem dX1_trusted_0 : decode cX1_trusted 0 = .ok (.aload_n 0, 1) := by decide +kernel
theorem dX1_trusted_1 : decode cX1_trusted 1 = .ok (.iload_n 1, 1) := by decide +kernel
theorem dX1_trusted_2 : decode cX1_trusted 2 = .ok (.iload_n 2, 1) := by decide +kernel
theorem dX1_trusted_3 : decode cX1_trusted 3 = .ok (.invokevirtual 45, 3) := by decide +kernel
theorem dX1_trusted_6 : decode cX1_trusted 6 = .ok (.ifCond .eq 17, 3) := by decide +kernel
theorem dX1_trusted_9 : decode cX1_trusted 9 = .ok (.aload_n 0, 1) := by decide +kernel
theorem dX1_trusted_10 : decode cX1_trusted 10 = .ok (.getfield 7, 3) := by decide +kernel
theorem dX1_trusted_13 : decode cX1_trusted 13 = .ok (.bipush 7, 2) := by decide +kernel
theorem dX1_trusted_15 : decode cX1_trusted 15 = .ok (.iload_n 1, 1) := by decide +kernel
theorem dX1_trusted_16 : decode cX1_trusted 16 = .ok (.imul, 1) := by decide +kernel
theorem dX1_trusted_17 : decode cX1_trusted 17 = .ok (.iload_n 2, 1) := by decide +kernel
theorem dX1_trusted_18 : decode cX1_trusted 18 = .ok (.iadd, 1) := by decide +kernel
theorem dX1_trusted_19 : decode cX1_trusted 19 = .ok (.iaload, 1) := by decide +kernel
theorem dX1_trusted_20 : decode cX1_trusted 20 = .ok (.goto 4, 3) := by decide +kernel
theorem dX1_trusted_23 : decode cX1_trusted 23 = .ok (.iconst (-1), 1) := by decide +kernel
theorem dX1_trusted_24 : decode cX1_trusted 24 = .ok (.ireturn, 1) := by decide +kernel
abbrev cX1_position : ByteArray := prog_3_method_15_code
def yX1_position : MethodName := ⟨RX1, "position", "(I)I"⟩
theorem dX1_position_0 : decode cX1_position 0 = .ok (.iload_n 1, 1) := by decide +kernel
theorem dX1_position_1 : decode cX1_position 1 = .ok (.ifCond .lt 18, 3) := by decide +kernel
theorem dX1_position_4 : decode cX1_position 4 = .ok (.iload_n 1, 1) := by decide +kernel
theorem dX1_position_5 : decode cX1_position 5 = .ok (.bipush 6, 2) := by decide +kernel
theorem dX1_position_7 : decode cX1_position 7 = .ok (.if_icmp .gt 12, 3) := by decide +kernel
theorem dX1_position_10 : decode cX1_position 10 = .ok (.aload_n 0, 1) := by decide +kernel
theorem dX1_position_11 : decode cX1_position 11 = .ok (.getfield 13, 3) := by decide +kernel
theorem dX1_position_14 : decode cX1_position 14 = .ok (.iload_n 1, 1) := by decide +kernel
theorem dX1_position_15 : decode cX1_position 15 = .ok (.iaload, 1) := by decide +kernel
theorem dX1_position_16 : decode cX1_position 16 = .ok (.goto 4, 3) := by decide +kernel
theorem dX1_position_19 : decode cX1_position 19 = .ok (.iconst 0, 1) := by decide +kernel
theorem dX1_position_20 : decode cX1_position 20 = .ok (.ireturn, 1) := by decide +kernel
abbrev cX1_most : ByteArray := prog_3_method_16_code
def yX1_most : MethodName := ⟨RX1, "most", "(II)I"⟩
theorem dX1_most_0 : decode cX1_most 0 = .ok (.aload_n 0, 1) := by decide +kernel
theorem dX1_most_1 : decode cX1_most 1 = .ok (.iload_n 1, 1) := by decide +kernel
theorem dX1_most_2 : decode cX1_most 2 = .ok (.iload_n 2, 1) := by decide +kernel
theorem dX1_most_3 : decode cX1_most 3 = .ok (.invokevirtual 45, 3) := by decide +kernel
theorem dX1_most_6 : decode cX1_most 6 = .ok (.ifCond .eq 14, 3) := by decide +kernel
theorem dX1_most_9 : decode cX1_most 9 = .ok (.aload_n 0, 1) := by decide +kernel
theorem dX1_most_10 : decode cX1_most 10 = .ok (.iconst 1, 1) := by decide +kernel
theorem dX1_most_11 : decode cX1_most 11 = .ok (.iload_n 2, 1) := by decide +kernel
theorem dX1_most_12 : decode cX1_most 12 = .ok (.ishl, 1) := by decide +kernel
theorem dX1_most_13 : decode cX1_most 13 = .ok (.iload_n 1, 1) := by decide +kernel
theorem dX1_most_14 : decode cX1_most 14 = .ok (.invokevirtual 52, 3) := by decide +kernel
theorem dX1_most_17 : decode cX1_most 17 = .ok (.goto 4, 3) := by decide +kernel
theorem dX1_most_20 : decode cX1_most 20 = .ok (.iconst (-1), 1) := by decide +kernel
theorem dX1_most_21 : decode cX1_most 21 = .ok (.ireturn, 1) := by decide +kernel
abbrev cX1_spread : ByteArray := prog_3_method_17_code
def yX1_spread : MethodName := ⟨RX1, "spread", "(II)I"⟩
theorem dX1_spread_0 : decode cX1_spread 0 = .ok (.iload_n 1, 1) := by decide +kernel
theorem dX1_spread_1 : decode cX1_spread 1 = .ok (.ifCond .lt 29, 3) := by decide +kernel
theorem dX1_spread_4 : decode cX1_spread 4 = .ok (.iload_n 1, 1) := by decide +kernel
theorem dX1_spread_5 : decode cX1_spread 5 = .ok (.bipush 6, 2) := by decide +kernel
theorem dX1_spread_7 : decode cX1_spread 7 = .ok (.if_icmp .gt 23, 3) := by decide +kernel
theorem dX1_spread_10 : decode cX1_spread 10 = .ok (.iload_n 2, 1) := by decide +kernel
theorem dX1_spread_11 : decode cX1_spread 11 = .ok (.iconst 1, 1) := by decide +kernel
theorem dX1_spread_12 : decode cX1_spread 12 = .ok (.if_icmp .lt 18, 3) := by decide +kernel
theorem dX1_spread_15 : decode cX1_spread 15 = .ok (.iload_n 2, 1) := by decide +kernel
theorem dX1_spread_16 : decode cX1_spread 16 = .ok (.bipush 127, 2) := by decide +kernel
theorem dX1_spread_18 : decode cX1_spread 18 = .ok (.if_icmp .gt 12, 3) := by decide +kernel
theorem dX1_spread_21 : decode cX1_spread 21 = .ok (.aload_n 0, 1) := by decide +kernel
theorem dX1_spread_22 : decode cX1_spread 22 = .ok (.iload_n 2, 1) := by decide +kernel
theorem dX1_spread_23 : decode cX1_spread 23 = .ok (.iload_n 1, 1) := by decide +kernel
theorem dX1_spread_24 : decode cX1_spread 24 = .ok (.invokevirtual 37, 3) := by decide +kernel
theorem dX1_spread_27 : decode cX1_spread 27 = .ok (.ifCond .eq 5, 3) := by decide +kernel
theorem dX1_spread_30 : decode cX1_spread 30 = .ok (.iconst (-1), 1) := by decide +kernel
theorem dX1_spread_31 : decode cX1_spread 31 = .ok (.ireturn, 1) := by decide +kernel
theorem dX1_spread_32 : decode cX1_spread 32 = .ok (.aload_n 0, 1) := by decide +kernel
theorem dX1_spread_33 : decode cX1_spread 33 = .ok (.iload_n 2, 1) := by decide +kernel
theorem dX1_spread_34 : decode cX1_spread 34 = .ok (.iload_n 1, 1) := by decide +kernel
theorem dX1_spread_35 : decode cX1_spread 35 = .ok (.invokevirtual 52, 3) := by decide +kernel
theorem dX1_spread_38 : decode cX1_spread 38 = .ok (.ireturn, 1) := by decide +kernel
abbrev cX1_leastDebt : ByteArray := prog_3_method_18_code
def yX1_leastDebt : MethodName := ⟨RX1, "leastDebt", "(II)I"⟩
theorem dX1_leastDebt_0 : decode cX1_leastDebt 0 = .ok (.aload_n 0, 1) := by decide +kernel
theorem dX1_leastDebt_1 : decode cX1_leastDebt 1 = .ok (.iload_n 1, 1) := by decide +kernel
theorem dX1_leastDebt_2 : decode cX1_leastDebt 2 = .ok (.iload_n 2, 1) := by decide +kernel
theorem dX1_leastDebt_3 : decode cX1_leastDebt 3 = .ok (.invokevirtual 45, 3) := by decide +kernel
theorem dX1_leastDebt_6 : decode cX1_leastDebt 6 = .ok (.ifCond .eq 8, 3) := by decide +kernel
theorem dX1_leastDebt_9 : decode cX1_leastDebt 9 = .ok (.iload_n 1, 1) := by decide +kernel
theorem dX1_leastDebt_10 : decode cX1_leastDebt 10 = .ok (.iload_n 2, 1) := by decide +kernel
theorem dX1_leastDebt_11 : decode cX1_leastDebt 11 = .ok (.if_icmp .le 6, 3) := by decide +kernel
theorem dX1_leastDebt_14 : decode cX1_leastDebt 14 = .ok (.ldc 64, 2) := by decide +kernel
theorem dX1_leastDebt_16 : decode cX1_leastDebt 16 = .ok (.ireturn, 1) := by decide +kernel
theorem dX1_leastDebt_17 : decode cX1_leastDebt 17 = .ok (.aload_n 0, 1) := by decide +kernel
theorem dX1_leastDebt_18 : decode cX1_leastDebt 18 = .ok (.iconst 1, 1) := by decide +kernel
theorem dX1_leastDebt_19 : decode cX1_leastDebt 19 = .ok (.iload_n 2, 1) := by decide +kernel
theorem dX1_leastDebt_20 : decode cX1_leastDebt 20 = .ok (.ishl, 1) := by decide +kernel
theorem dX1_leastDebt_21 : decode cX1_leastDebt 21 = .ok (.iload_n 1, 1) := by decide +kernel
theorem dX1_leastDebt_22 : decode cX1_leastDebt 22 = .ok (.invokevirtual 52, 3) := by decide +kernel
theorem dX1_leastDebt_25 : decode cX1_leastDebt 25 = .ok (.aload_n 0, 1) := by decide +kernel
theorem dX1_leastDebt_26 : decode cX1_leastDebt 26 = .ok (.getfield 7, 3) := by decide +kernel
theorem dX1_leastDebt_29 : decode cX1_leastDebt 29 = .ok (.bipush 7, 2) := by decide +kernel
theorem dX1_leastDebt_31 : decode cX1_leastDebt 31 = .ok (.iload_n 2, 1) := by decide +kernel
theorem dX1_leastDebt_32 : decode cX1_leastDebt 32 = .ok (.imul, 1) := by decide +kernel
theorem dX1_leastDebt_33 : decode cX1_leastDebt 33 = .ok (.iload_n 1, 1) := by decide +kernel
theorem dX1_leastDebt_34 : decode cX1_leastDebt 34 = .ok (.iadd, 1) := by decide +kernel
theorem dX1_leastDebt_35 : decode cX1_leastDebt 35 = .ok (.iaload, 1) := by decide +kernel
theorem dX1_leastDebt_36 : decode cX1_leastDebt 36 = .ok (.isub, 1) := by decide +kernel
theorem dX1_leastDebt_37 : decode cX1_leastDebt 37 = .ok (.istore_n 3, 1) := by decide +kernel
theorem dX1_leastDebt_38 : decode cX1_leastDebt 38 = .ok (.iload_n 3, 1) := by decide +kernel
theorem dX1_leastDebt_39 : decode cX1_leastDebt 39 = .ok (.ineg, 1) := by decide +kernel
theorem dX1_leastDebt_40 : decode cX1_leastDebt 40 = .ok (.aload_n 0, 1) := by decide +kernel
theorem dX1_leastDebt_41 : decode cX1_leastDebt 41 = .ok (.getfield 7, 3) := by decide +kernel
theorem dX1_leastDebt_44 : decode cX1_leastDebt 44 = .ok (.bipush 7, 2) := by decide +kernel
theorem dX1_leastDebt_46 : decode cX1_leastDebt 46 = .ok (.iload_n 1, 1) := by decide +kernel
theorem dX1_leastDebt_47 : decode cX1_leastDebt 47 = .ok (.imul, 1) := by decide +kernel
theorem dX1_leastDebt_48 : decode cX1_leastDebt 48 = .ok (.iload_n 2, 1) := by decide +kernel
theorem dX1_leastDebt_49 : decode cX1_leastDebt 49 = .ok (.iadd, 1) := by decide +kernel
theorem dX1_leastDebt_50 : decode cX1_leastDebt 50 = .ok (.iaload, 1) := by decide +kernel
theorem dX1_leastDebt_51 : decode cX1_leastDebt 51 = .ok (.ineg, 1) := by decide +kernel
theorem dX1_leastDebt_52 : decode cX1_leastDebt 52 = .ok (.if_icmp .le 8, 3) := by decide +kernel
theorem dX1_leastDebt_55 : decode cX1_leastDebt 55 = .ok (.iload_n 3, 1) := by decide +kernel
theorem dX1_leastDebt_56 : decode cX1_leastDebt 56 = .ok (.ineg, 1) := by decide +kernel
theorem dX1_leastDebt_57 : decode cX1_leastDebt 57 = .ok (.goto 15, 3) := by decide +kernel
theorem dX1_leastDebt_60 : decode cX1_leastDebt 60 = .ok (.aload_n 0, 1) := by decide +kernel
theorem dX1_leastDebt_61 : decode cX1_leastDebt 61 = .ok (.getfield 7, 3) := by decide +kernel
theorem dX1_leastDebt_64 : decode cX1_leastDebt 64 = .ok (.bipush 7, 2) := by decide +kernel
theorem dX1_leastDebt_66 : decode cX1_leastDebt 66 = .ok (.iload_n 1, 1) := by decide +kernel
theorem dX1_leastDebt_67 : decode cX1_leastDebt 67 = .ok (.imul, 1) := by decide +kernel
theorem dX1_leastDebt_68 : decode cX1_leastDebt 68 = .ok (.iload_n 2, 1) := by decide +kernel
theorem dX1_leastDebt_69 : decode cX1_leastDebt 69 = .ok (.iadd, 1) := by decide +kernel
theorem dX1_leastDebt_70 : decode cX1_leastDebt 70 = .ok (.iaload, 1) := by decide +kernel
theorem dX1_leastDebt_71 : decode cX1_leastDebt 71 = .ok (.ineg, 1) := by decide +kernel
theorem dX1_leastDebt_72 : decode cX1_leastDebt 72 = .ok (.ireturn, 1) := by decide +kernel
abbrev cX1_greatestDebt : ByteArray := prog_3_method_19_code
def yX1_greatestDebt : MethodName := ⟨RX1, "greatestDebt", "(II)I"⟩
theorem dX1_greatestDebt_0 : decode cX1_greatestDebt 0 = .ok (.aload_n 0, 1) := by decide +kernel
theorem dX1_greatestDebt_1 : decode cX1_greatestDebt 1 = .ok (.iload_n 1, 1) := by decide +kernel
theorem dX1_greatestDebt_2 : decode cX1_greatestDebt 2 = .ok (.iload_n 2, 1) := by decide +kernel
theorem dX1_greatestDebt_3 : decode cX1_greatestDebt 3 = .ok (.invokevirtual 45, 3) := by decide +kernel
theorem dX1_greatestDebt_6 : decode cX1_greatestDebt 6 = .ok (.ifCond .eq 8, 3) := by decide +kernel
theorem dX1_greatestDebt_9 : decode cX1_greatestDebt 9 = .ok (.iload_n 1, 1) := by decide +kernel
theorem dX1_greatestDebt_10 : decode cX1_greatestDebt 10 = .ok (.iload_n 2, 1) := by decide +kernel
theorem dX1_greatestDebt_11 : decode cX1_greatestDebt 11 = .ok (.if_icmp .le 6, 3) := by decide +kernel
theorem dX1_greatestDebt_14 : decode cX1_greatestDebt 14 = .ok (.ldc 64, 2) := by decide +kernel
theorem dX1_greatestDebt_16 : decode cX1_greatestDebt 16 = .ok (.ireturn, 1) := by decide +kernel
theorem dX1_greatestDebt_17 : decode cX1_greatestDebt 17 = .ok (.aload_n 0, 1) := by decide +kernel
theorem dX1_greatestDebt_18 : decode cX1_greatestDebt 18 = .ok (.iconst 1, 1) := by decide +kernel
theorem dX1_greatestDebt_19 : decode cX1_greatestDebt 19 = .ok (.iload_n 1, 1) := by decide +kernel
theorem dX1_greatestDebt_20 : decode cX1_greatestDebt 20 = .ok (.ishl, 1) := by decide +kernel
theorem dX1_greatestDebt_21 : decode cX1_greatestDebt 21 = .ok (.iload_n 2, 1) := by decide +kernel
theorem dX1_greatestDebt_22 : decode cX1_greatestDebt 22 = .ok (.invokevirtual 52, 3) := by decide +kernel
theorem dX1_greatestDebt_25 : decode cX1_greatestDebt 25 = .ok (.aload_n 0, 1) := by decide +kernel
theorem dX1_greatestDebt_26 : decode cX1_greatestDebt 26 = .ok (.getfield 7, 3) := by decide +kernel
theorem dX1_greatestDebt_29 : decode cX1_greatestDebt 29 = .ok (.bipush 7, 2) := by decide +kernel
theorem dX1_greatestDebt_31 : decode cX1_greatestDebt 31 = .ok (.iload_n 1, 1) := by decide +kernel
theorem dX1_greatestDebt_32 : decode cX1_greatestDebt 32 = .ok (.imul, 1) := by decide +kernel
theorem dX1_greatestDebt_33 : decode cX1_greatestDebt 33 = .ok (.iload_n 2, 1) := by decide +kernel
theorem dX1_greatestDebt_34 : decode cX1_greatestDebt 34 = .ok (.iadd, 1) := by decide +kernel
theorem dX1_greatestDebt_35 : decode cX1_greatestDebt 35 = .ok (.iaload, 1) := by decide +kernel
theorem dX1_greatestDebt_36 : decode cX1_greatestDebt 36 = .ok (.isub, 1) := by decide +kernel
theorem dX1_greatestDebt_37 : decode cX1_greatestDebt 37 = .ok (.istore_n 3, 1) := by decide +kernel
theorem dX1_greatestDebt_38 : decode cX1_greatestDebt 38 = .ok (.iload_n 3, 1) := by decide +kernel
theorem dX1_greatestDebt_39 : decode cX1_greatestDebt 39 = .ok (.aload_n 0, 1) := by decide +kernel
theorem dX1_greatestDebt_40 : decode cX1_greatestDebt 40 = .ok (.getfield 7, 3) := by decide +kernel
theorem dX1_greatestDebt_43 : decode cX1_greatestDebt 43 = .ok (.bipush 7, 2) := by decide +kernel
theorem dX1_greatestDebt_45 : decode cX1_greatestDebt 45 = .ok (.iload_n 2, 1) := by decide +kernel
theorem dX1_greatestDebt_46 : decode cX1_greatestDebt 46 = .ok (.imul, 1) := by decide +kernel
theorem dX1_greatestDebt_47 : decode cX1_greatestDebt 47 = .ok (.iload_n 1, 1) := by decide +kernel
theorem dX1_greatestDebt_48 : decode cX1_greatestDebt 48 = .ok (.iadd, 1) := by decide +kernel
theorem dX1_greatestDebt_49 : decode cX1_greatestDebt 49 = .ok (.iaload, 1) := by decide +kernel
theorem dX1_greatestDebt_50 : decode cX1_greatestDebt 50 = .ok (.if_icmp .ge 7, 3) := by decide +kernel
theorem dX1_greatestDebt_53 : decode cX1_greatestDebt 53 = .ok (.iload_n 3, 1) := by decide +kernel
theorem dX1_greatestDebt_54 : decode cX1_greatestDebt 54 = .ok (.goto 14, 3) := by decide +kernel
theorem dX1_greatestDebt_57 : decode cX1_greatestDebt 57 = .ok (.aload_n 0, 1) := by decide +kernel
theorem dX1_greatestDebt_58 : decode cX1_greatestDebt 58 = .ok (.getfield 7, 3) := by decide +kernel
theorem dX1_greatestDebt_61 : decode cX1_greatestDebt 61 = .ok (.bipush 7, 2) := by decide +kernel
theorem dX1_greatestDebt_63 : decode cX1_greatestDebt 63 = .ok (.iload_n 2, 1) := by decide +kernel
theorem dX1_greatestDebt_64 : decode cX1_greatestDebt 64 = .ok (.imul, 1) := by decide +kernel
theorem dX1_greatestDebt_65 : decode cX1_greatestDebt 65 = .ok (.iload_n 1, 1) := by decide +kernel
theorem dX1_greatestDebt_66 : decode cX1_greatestDebt 66 = .ok (.iadd, 1) := by decide +kernel
theorem dX1_greatestDebt_67 : decode cX1_greatestDebt 67 = .ok (.iaload, 1) := by decide +kernel
theorem dX1_greatestDebt_68 : decode cX1_greatestDebt 68 = .ok (.ireturn, 1) := by decide +kernel
abbrev cX1_debts : ByteArray := prog_3_method_25_code
def yX1_debts : MethodName := ⟨RX1, "debts", "()I"⟩
theorem dX1_debts_0 : decode cX1_debts 0 = .ok (.iconst 0, 1) := by decide +kernel
theorem dX1_debts_1 : decode cX1_debts 1 = .ok (.istore_n 1, 1) := by decide +kernel
theorem dX1_debts_2 : decode cX1_debts 2 = .ok (.iload_n 1, 1) := by decide +kernel
theorem dX1_debts_3 : decode cX1_debts 3 = .ok (.bipush 49, 2) := by decide +kernel
theorem dX1_debts_5 : decode cX1_debts 5 = .ok (.if_icmp .ge 26, 3) := by decide +kernel
theorem dX1_debts_8 : decode cX1_debts 8 = .ok (.aload_n 0, 1) := by decide +kernel
theorem dX1_debts_9 : decode cX1_debts 9 = .ok (.getfield 25, 3) := by decide +kernel
theorem dX1_debts_12 : decode cX1_debts 12 = .ok (.iload_n 1, 1) := by decide +kernel
theorem dX1_debts_13 : decode cX1_debts 13 = .ok (.iconst 0, 1) := by decide +kernel
theorem dX1_debts_14 : decode cX1_debts 14 = .ok (.iastore, 1) := by decide +kernel
theorem dX1_debts_15 : decode cX1_debts 15 = .ok (.aload_n 0, 1) := by decide +kernel
theorem dX1_debts_16 : decode cX1_debts 16 = .ok (.getfield 28, 3) := by decide +kernel
theorem dX1_debts_19 : decode cX1_debts 19 = .ok (.iload_n 1, 1) := by decide +kernel
theorem dX1_debts_20 : decode cX1_debts 20 = .ok (.bipush 7, 2) := by decide +kernel
theorem dX1_debts_22 : decode cX1_debts 22 = .ok (.idiv, 1) := by decide +kernel
theorem dX1_debts_23 : decode cX1_debts 23 = .ok (.iconst 0, 1) := by decide +kernel
theorem dX1_debts_24 : decode cX1_debts 24 = .ok (.iastore, 1) := by decide +kernel
theorem dX1_debts_25 : decode cX1_debts 25 = .ok (.iinc 1 1, 3) := by decide +kernel
theorem dX1_debts_28 : decode cX1_debts 28 = .ok (.goto (-26), 3) := by decide +kernel
theorem dX1_debts_31 : decode cX1_debts 31 = .ok (.iconst 1, 1) := by decide +kernel
theorem dX1_debts_32 : decode cX1_debts 32 = .ok (.istore_n 1, 1) := by decide +kernel
theorem dX1_debts_33 : decode cX1_debts 33 = .ok (.iconst 0, 1) := by decide +kernel
theorem dX1_debts_34 : decode cX1_debts 34 = .ok (.istore_n 2, 1) := by decide +kernel
theorem dX1_debts_35 : decode cX1_debts 35 = .ok (.iload_n 2, 1) := by decide +kernel
theorem dX1_debts_36 : decode cX1_debts 36 = .ok (.sipush 20000, 3) := by decide +kernel
theorem dX1_debts_39 : decode cX1_debts 39 = .ok (.if_icmp .ge 50, 3) := by decide +kernel
theorem dX1_debts_42 : decode cX1_debts 42 = .ok (.iload_n 1, 1) := by decide +kernel
theorem dX1_debts_43 : decode cX1_debts 43 = .ok (.ifCond .eq 46, 3) := by decide +kernel
theorem dX1_debts_46 : decode cX1_debts 46 = .ok (.aload_n 0, 1) := by decide +kernel
theorem dX1_debts_47 : decode cX1_debts 47 = .ok (.invokevirtual 68, 3) := by decide +kernel
theorem dX1_debts_50 : decode cX1_debts 50 = .ok (.aload_n 0, 1) := by decide +kernel
theorem dX1_debts_51 : decode cX1_debts 51 = .ok (.invokevirtual 71, 3) := by decide +kernel
theorem dX1_debts_54 : decode cX1_debts 54 = .ok (.istore_n 3, 1) := by decide +kernel
theorem dX1_debts_55 : decode cX1_debts 55 = .ok (.iload_n 3, 1) := by decide +kernel
theorem dX1_debts_56 : decode cX1_debts 56 = .ok (.ifCond .lt 7, 3) := by decide +kernel
theorem dX1_debts_59 : decode cX1_debts 59 = .ok (.iconst 1, 1) := by decide +kernel
theorem dX1_debts_60 : decode cX1_debts 60 = .ok (.goto 4, 3) := by decide +kernel
theorem dX1_debts_63 : decode cX1_debts 63 = .ok (.iconst 0, 1) := by decide +kernel
theorem dX1_debts_64 : decode cX1_debts 64 = .ok (.istore_n 1, 1) := by decide +kernel
theorem dX1_debts_65 : decode cX1_debts 65 = .ok (.iload_n 1, 1) := by decide +kernel
theorem dX1_debts_66 : decode cX1_debts 66 = .ok (.ifCond .eq 17, 3) := by decide +kernel
theorem dX1_debts_69 : decode cX1_debts 69 = .ok (.aload_n 0, 1) := by decide +kernel
theorem dX1_debts_70 : decode cX1_debts 70 = .ok (.iload_n 3, 1) := by decide +kernel
theorem dX1_debts_71 : decode cX1_debts 71 = .ok (.invokevirtual 75, 3) := by decide +kernel
theorem dX1_debts_74 : decode cX1_debts 74 = .ok (.istore 4, 2) := by decide +kernel
theorem dX1_debts_76 : decode cX1_debts 76 = .ok (.aload_n 0, 1) := by decide +kernel
theorem dX1_debts_77 : decode cX1_debts 77 = .ok (.iload_n 3, 1) := by decide +kernel
theorem dX1_debts_78 : decode cX1_debts 78 = .ok (.iload 4, 2) := by decide +kernel
theorem dX1_debts_80 : decode cX1_debts 80 = .ok (.invokevirtual 78, 3) := by decide +kernel
theorem dX1_debts_83 : decode cX1_debts 83 = .ok (.iinc 2 1, 3) := by decide +kernel
theorem dX1_debts_86 : decode cX1_debts 86 = .ok (.goto (-51), 3) := by decide +kernel
theorem dX1_debts_89 : decode cX1_debts 89 = .ok (.iconst 0, 1) := by decide +kernel
theorem dX1_debts_90 : decode cX1_debts 90 = .ok (.istore_n 2, 1) := by decide +kernel
theorem dX1_debts_91 : decode cX1_debts 91 = .ok (.iconst 0, 1) := by decide +kernel
theorem dX1_debts_92 : decode cX1_debts 92 = .ok (.istore_n 3, 1) := by decide +kernel
theorem dX1_debts_93 : decode cX1_debts 93 = .ok (.iload_n 3, 1) := by decide +kernel
theorem dX1_debts_94 : decode cX1_debts 94 = .ok (.bipush 49, 2) := by decide +kernel
theorem dX1_debts_96 : decode cX1_debts 96 = .ok (.if_icmp .ge 31, 3) := by decide +kernel
theorem dX1_debts_99 : decode cX1_debts 99 = .ok (.aload_n 0, 1) := by decide +kernel
theorem dX1_debts_100 : decode cX1_debts 100 = .ok (.getfield 25, 3) := by decide +kernel
theorem dX1_debts_103 : decode cX1_debts 103 = .ok (.iload_n 3, 1) := by decide +kernel
theorem dX1_debts_104 : decode cX1_debts 104 = .ok (.iaload, 1) := by decide +kernel
theorem dX1_debts_105 : decode cX1_debts 105 = .ok (.ifCond .le 14, 3) := by decide +kernel
theorem dX1_debts_108 : decode cX1_debts 108 = .ok (.iload_n 2, 1) := by decide +kernel
theorem dX1_debts_109 : decode cX1_debts 109 = .ok (.aload_n 0, 1) := by decide +kernel
theorem dX1_debts_110 : decode cX1_debts 110 = .ok (.getfield 25, 3) := by decide +kernel
theorem dX1_debts_113 : decode cX1_debts 113 = .ok (.iload_n 3, 1) := by decide +kernel
theorem dX1_debts_114 : decode cX1_debts 114 = .ok (.iaload, 1) := by decide +kernel
theorem dX1_debts_115 : decode cX1_debts 115 = .ok (.iadd, 1) := by decide +kernel
theorem dX1_debts_116 : decode cX1_debts 116 = .ok (.goto 4, 3) := by decide +kernel
theorem dX1_debts_119 : decode cX1_debts 119 = .ok (.iload_n 2, 1) := by decide +kernel
theorem dX1_debts_120 : decode cX1_debts 120 = .ok (.istore_n 2, 1) := by decide +kernel
theorem dX1_debts_121 : decode cX1_debts 121 = .ok (.iinc 3 1, 3) := by decide +kernel
theorem dX1_debts_124 : decode cX1_debts 124 = .ok (.goto (-31), 3) := by decide +kernel
theorem dX1_debts_127 : decode cX1_debts 127 = .ok (.iload_n 2, 1) := by decide +kernel
theorem dX1_debts_128 : decode cX1_debts 128 = .ok (.ireturn, 1) := by decide +kernel
abbrev cX1_findWays : ByteArray := prog_3_method_21_code
def yX1_findWays : MethodName := ⟨RX1, "findWays", "()V"⟩
theorem dX1_findWays_0 : decode cX1_findWays 0 = .ok (.iconst 0, 1) := by decide +kernel
theorem dX1_findWays_1 : decode cX1_findWays 1 = .ok (.istore_n 1, 1) := by decide +kernel
theorem dX1_findWays_2 : decode cX1_findWays 2 = .ok (.iload_n 1, 1) := by decide +kernel
theorem dX1_findWays_3 : decode cX1_findWays 3 = .ok (.bipush 7, 2) := by decide +kernel
theorem dX1_findWays_5 : decode cX1_findWays 5 = .ok (.if_icmp .ge 44, 3) := by decide +kernel
theorem dX1_findWays_8 : decode cX1_findWays 8 = .ok (.aload_n 0, 1) := by decide +kernel
theorem dX1_findWays_9 : decode cX1_findWays 9 = .ok (.getfield 31, 3) := by decide +kernel
theorem dX1_findWays_12 : decode cX1_findWays 12 = .ok (.iload_n 1, 1) := by decide +kernel
theorem dX1_findWays_13 : decode cX1_findWays 13 = .ok (.aload_n 0, 1) := by decide +kernel
theorem dX1_findWays_14 : decode cX1_findWays 14 = .ok (.getfield 28, 3) := by decide +kernel
theorem dX1_findWays_17 : decode cX1_findWays 17 = .ok (.iload_n 1, 1) := by decide +kernel
theorem dX1_findWays_18 : decode cX1_findWays 18 = .ok (.iaload, 1) := by decide +kernel
end
section
set_option maxRecDepth 100000
theorem dX1_findWays_19 : decode cX1_findWays 19 = .ok (.aload_n 0, 1) := by decide +kernel
theorem dX1_findWays_20 : decode cX1_findWays 20 = .ok (.getfield 13, 3) := by decide +kernel
theorem dX1_findWays_23 : decode cX1_findWays 23 = .ok (.iload_n 1, 1) := by decide +kernel
theorem dX1_findWays_24 : decode cX1_findWays 24 = .ok (.iaload, 1) := by decide +kernel
theorem dX1_findWays_25 : decode cX1_findWays 25 = .ok (.if_icmp .le 7, 3) := by decide +kernel
theorem dX1_findWays_28 : decode cX1_findWays 28 = .ok (.iconst 0, 1) := by decide +kernel
theorem dX1_findWays_29 : decode cX1_findWays 29 = .ok (.goto 6, 3) := by decide +kernel
theorem dX1_findWays_32 : decode cX1_findWays 32 = .ok (.sipush 1000, 3) := by decide +kernel
theorem dX1_findWays_35 : decode cX1_findWays 35 = .ok (.iastore, 1) := by decide +kernel
theorem dX1_findWays_36 : decode cX1_findWays 36 = .ok (.aload_n 0, 1) := by decide +kernel
theorem dX1_findWays_37 : decode cX1_findWays 37 = .ok (.getfield 34, 3) := by decide +kernel
theorem dX1_findWays_40 : decode cX1_findWays 40 = .ok (.iload_n 1, 1) := by decide +kernel
theorem dX1_findWays_41 : decode cX1_findWays 41 = .ok (.iconst (-1), 1) := by decide +kernel
theorem dX1_findWays_42 : decode cX1_findWays 42 = .ok (.iastore, 1) := by decide +kernel
theorem dX1_findWays_43 : decode cX1_findWays 43 = .ok (.iinc 1 1, 3) := by decide +kernel
theorem dX1_findWays_46 : decode cX1_findWays 46 = .ok (.goto (-44), 3) := by decide +kernel
theorem dX1_findWays_49 : decode cX1_findWays 49 = .ok (.iconst 0, 1) := by decide +kernel
theorem dX1_findWays_50 : decode cX1_findWays 50 = .ok (.istore_n 1, 1) := by decide +kernel
theorem dX1_findWays_51 : decode cX1_findWays 51 = .ok (.iload_n 1, 1) := by decide +kernel
theorem dX1_findWays_52 : decode cX1_findWays 52 = .ok (.sipush 343, 3) := by decide +kernel
theorem dX1_findWays_55 : decode cX1_findWays 55 = .ok (.if_icmp .ge 109, 3) := by decide +kernel
theorem dX1_findWays_58 : decode cX1_findWays 58 = .ok (.iload_n 1, 1) := by decide +kernel
theorem dX1_findWays_59 : decode cX1_findWays 59 = .ok (.bipush 49, 2) := by decide +kernel
theorem dX1_findWays_61 : decode cX1_findWays 61 = .ok (.irem, 1) := by decide +kernel
theorem dX1_findWays_62 : decode cX1_findWays 62 = .ok (.bipush 7, 2) := by decide +kernel
theorem dX1_findWays_64 : decode cX1_findWays 64 = .ok (.idiv, 1) := by decide +kernel
theorem dX1_findWays_65 : decode cX1_findWays 65 = .ok (.istore_n 2, 1) := by decide +kernel
theorem dX1_findWays_66 : decode cX1_findWays 66 = .ok (.iload_n 1, 1) := by decide +kernel
theorem dX1_findWays_67 : decode cX1_findWays 67 = .ok (.bipush 7, 2) := by decide +kernel
theorem dX1_findWays_69 : decode cX1_findWays 69 = .ok (.irem, 1) := by decide +kernel
theorem dX1_findWays_70 : decode cX1_findWays 70 = .ok (.istore_n 3, 1) := by decide +kernel
theorem dX1_findWays_71 : decode cX1_findWays 71 = .ok (.aload_n 0, 1) := by decide +kernel
theorem dX1_findWays_72 : decode cX1_findWays 72 = .ok (.getfield 25, 3) := by decide +kernel
theorem dX1_findWays_75 : decode cX1_findWays 75 = .ok (.bipush 7, 2) := by decide +kernel
theorem dX1_findWays_77 : decode cX1_findWays 77 = .ok (.iload_n 2, 1) := by decide +kernel
theorem dX1_findWays_78 : decode cX1_findWays 78 = .ok (.imul, 1) := by decide +kernel
theorem dX1_findWays_79 : decode cX1_findWays 79 = .ok (.iload_n 3, 1) := by decide +kernel
theorem dX1_findWays_80 : decode cX1_findWays 80 = .ok (.iadd, 1) := by decide +kernel
theorem dX1_findWays_81 : decode cX1_findWays 81 = .ok (.iaload, 1) := by decide +kernel
theorem dX1_findWays_82 : decode cX1_findWays 82 = .ok (.ifCond .ge 7, 3) := by decide +kernel
theorem dX1_findWays_85 : decode cX1_findWays 85 = .ok (.iconst (-1), 1) := by decide +kernel
theorem dX1_findWays_86 : decode cX1_findWays 86 = .ok (.goto 4, 3) := by decide +kernel
theorem dX1_findWays_89 : decode cX1_findWays 89 = .ok (.iconst 1, 1) := by decide +kernel
theorem dX1_findWays_90 : decode cX1_findWays 90 = .ok (.istore 4, 2) := by decide +kernel
theorem dX1_findWays_92 : decode cX1_findWays 92 = .ok (.iload_n 2, 1) := by decide +kernel
theorem dX1_findWays_93 : decode cX1_findWays 93 = .ok (.iload_n 3, 1) := by decide +kernel
theorem dX1_findWays_94 : decode cX1_findWays 94 = .ok (.if_icmp .eq 64, 3) := by decide +kernel
theorem dX1_findWays_97 : decode cX1_findWays 97 = .ok (.aload_n 0, 1) := by decide +kernel
theorem dX1_findWays_98 : decode cX1_findWays 98 = .ok (.getfield 31, 3) := by decide +kernel
theorem dX1_findWays_101 : decode cX1_findWays 101 = .ok (.iload_n 2, 1) := by decide +kernel
theorem dX1_findWays_102 : decode cX1_findWays 102 = .ok (.iaload, 1) := by decide +kernel
theorem dX1_findWays_103 : decode cX1_findWays 103 = .ok (.sipush 1000, 3) := by decide +kernel
theorem dX1_findWays_106 : decode cX1_findWays 106 = .ok (.if_icmp .ge 52, 3) := by decide +kernel
theorem dX1_findWays_109 : decode cX1_findWays 109 = .ok (.aload_n 0, 1) := by decide +kernel
theorem dX1_findWays_110 : decode cX1_findWays 110 = .ok (.iload_n 2, 1) := by decide +kernel
theorem dX1_findWays_111 : decode cX1_findWays 111 = .ok (.iload_n 3, 1) := by decide +kernel
theorem dX1_findWays_112 : decode cX1_findWays 112 = .ok (.invokevirtual 65, 3) := by decide +kernel
theorem dX1_findWays_115 : decode cX1_findWays 115 = .ok (.ifCond .le 43, 3) := by decide +kernel
theorem dX1_findWays_118 : decode cX1_findWays 118 = .ok (.aload_n 0, 1) := by decide +kernel
theorem dX1_findWays_119 : decode cX1_findWays 119 = .ok (.getfield 31, 3) := by decide +kernel
theorem dX1_findWays_122 : decode cX1_findWays 122 = .ok (.iload_n 2, 1) := by decide +kernel
theorem dX1_findWays_123 : decode cX1_findWays 123 = .ok (.iaload, 1) := by decide +kernel
theorem dX1_findWays_124 : decode cX1_findWays 124 = .ok (.iload 4, 2) := by decide +kernel
theorem dX1_findWays_126 : decode cX1_findWays 126 = .ok (.iadd, 1) := by decide +kernel
theorem dX1_findWays_127 : decode cX1_findWays 127 = .ok (.aload_n 0, 1) := by decide +kernel
theorem dX1_findWays_128 : decode cX1_findWays 128 = .ok (.getfield 31, 3) := by decide +kernel
theorem dX1_findWays_131 : decode cX1_findWays 131 = .ok (.iload_n 3, 1) := by decide +kernel
theorem dX1_findWays_132 : decode cX1_findWays 132 = .ok (.iaload, 1) := by decide +kernel
theorem dX1_findWays_133 : decode cX1_findWays 133 = .ok (.if_icmp .ge 25, 3) := by decide +kernel
theorem dX1_findWays_136 : decode cX1_findWays 136 = .ok (.aload_n 0, 1) := by decide +kernel
theorem dX1_findWays_137 : decode cX1_findWays 137 = .ok (.getfield 31, 3) := by decide +kernel
theorem dX1_findWays_140 : decode cX1_findWays 140 = .ok (.iload_n 3, 1) := by decide +kernel
theorem dX1_findWays_141 : decode cX1_findWays 141 = .ok (.aload_n 0, 1) := by decide +kernel
theorem dX1_findWays_142 : decode cX1_findWays 142 = .ok (.getfield 31, 3) := by decide +kernel
theorem dX1_findWays_145 : decode cX1_findWays 145 = .ok (.iload_n 2, 1) := by decide +kernel
theorem dX1_findWays_146 : decode cX1_findWays 146 = .ok (.iaload, 1) := by decide +kernel
theorem dX1_findWays_147 : decode cX1_findWays 147 = .ok (.iload 4, 2) := by decide +kernel
theorem dX1_findWays_149 : decode cX1_findWays 149 = .ok (.iadd, 1) := by decide +kernel
theorem dX1_findWays_150 : decode cX1_findWays 150 = .ok (.iastore, 1) := by decide +kernel
theorem dX1_findWays_151 : decode cX1_findWays 151 = .ok (.aload_n 0, 1) := by decide +kernel
theorem dX1_findWays_152 : decode cX1_findWays 152 = .ok (.getfield 34, 3) := by decide +kernel
theorem dX1_findWays_155 : decode cX1_findWays 155 = .ok (.iload_n 3, 1) := by decide +kernel
theorem dX1_findWays_156 : decode cX1_findWays 156 = .ok (.iload_n 2, 1) := by decide +kernel
theorem dX1_findWays_157 : decode cX1_findWays 157 = .ok (.iastore, 1) := by decide +kernel
theorem dX1_findWays_158 : decode cX1_findWays 158 = .ok (.iinc 1 1, 3) := by decide +kernel
theorem dX1_findWays_161 : decode cX1_findWays 161 = .ok (.goto (-110), 3) := by decide +kernel
theorem dX1_findWays_164 : decode cX1_findWays 164 = .ok (.return_, 1) := by decide +kernel
abbrev cX1_room : ByteArray := prog_3_method_20_code
def yX1_room : MethodName := ⟨RX1, "room", "(II)I"⟩
theorem dX1_room_0 : decode cX1_room 0 = .ok (.aload_n 0, 1) := by decide +kernel
theorem dX1_room_1 : decode cX1_room 1 = .ok (.getfield 25, 3) := by decide +kernel
theorem dX1_room_4 : decode cX1_room 4 = .ok (.bipush 7, 2) := by decide +kernel
theorem dX1_room_6 : decode cX1_room 6 = .ok (.iload_n 1, 1) := by decide +kernel
theorem dX1_room_7 : decode cX1_room 7 = .ok (.imul, 1) := by decide +kernel
theorem dX1_room_8 : decode cX1_room 8 = .ok (.iload_n 2, 1) := by decide +kernel
theorem dX1_room_9 : decode cX1_room 9 = .ok (.iadd, 1) := by decide +kernel
theorem dX1_room_10 : decode cX1_room 10 = .ok (.iaload, 1) := by decide +kernel
theorem dX1_room_11 : decode cX1_room 11 = .ok (.istore_n 3, 1) := by decide +kernel
theorem dX1_room_12 : decode cX1_room 12 = .ok (.iload_n 3, 1) := by decide +kernel
theorem dX1_room_13 : decode cX1_room 13 = .ok (.ifCond .ge 8, 3) := by decide +kernel
theorem dX1_room_16 : decode cX1_room 16 = .ok (.iload_n 3, 1) := by decide +kernel
theorem dX1_room_17 : decode cX1_room 17 = .ok (.ineg, 1) := by decide +kernel
theorem dX1_room_18 : decode cX1_room 18 = .ok (.goto 16, 3) := by decide +kernel
theorem dX1_room_21 : decode cX1_room 21 = .ok (.aload_n 0, 1) := by decide +kernel
theorem dX1_room_22 : decode cX1_room 22 = .ok (.getfield 7, 3) := by decide +kernel
theorem dX1_room_25 : decode cX1_room 25 = .ok (.bipush 7, 2) := by decide +kernel
theorem dX1_room_27 : decode cX1_room 27 = .ok (.iload_n 2, 1) := by decide +kernel
theorem dX1_room_28 : decode cX1_room 28 = .ok (.imul, 1) := by decide +kernel
theorem dX1_room_29 : decode cX1_room 29 = .ok (.iload_n 1, 1) := by decide +kernel
theorem dX1_room_30 : decode cX1_room 30 = .ok (.iadd, 1) := by decide +kernel
theorem dX1_room_31 : decode cX1_room 31 = .ok (.iaload, 1) := by decide +kernel
theorem dX1_room_32 : decode cX1_room 32 = .ok (.iload_n 3, 1) := by decide +kernel
theorem dX1_room_33 : decode cX1_room 33 = .ok (.isub, 1) := by decide +kernel
theorem dX1_room_34 : decode cX1_room 34 = .ok (.ireturn, 1) := by decide +kernel
abbrev cX1_cheapest : ByteArray := prog_3_method_22_code
def yX1_cheapest : MethodName := ⟨RX1, "cheapest", "()I"⟩
theorem dX1_cheapest_0 : decode cX1_cheapest 0 = .ok (.iconst (-1), 1) := by decide +kernel
theorem dX1_cheapest_1 : decode cX1_cheapest 1 = .ok (.istore_n 1, 1) := by decide +kernel
theorem dX1_cheapest_2 : decode cX1_cheapest 2 = .ok (.iconst 0, 1) := by decide +kernel
theorem dX1_cheapest_3 : decode cX1_cheapest 3 = .ok (.istore_n 2, 1) := by decide +kernel
theorem dX1_cheapest_4 : decode cX1_cheapest 4 = .ok (.iload_n 2, 1) := by decide +kernel
theorem dX1_cheapest_5 : decode cX1_cheapest 5 = .ok (.bipush 7, 2) := by decide +kernel
theorem dX1_cheapest_7 : decode cX1_cheapest 7 = .ok (.if_icmp .ge 57, 3) := by decide +kernel
theorem dX1_cheapest_10 : decode cX1_cheapest 10 = .ok (.aload_n 0, 1) := by decide +kernel
theorem dX1_cheapest_11 : decode cX1_cheapest 11 = .ok (.getfield 28, 3) := by decide +kernel
theorem dX1_cheapest_14 : decode cX1_cheapest 14 = .ok (.iload_n 2, 1) := by decide +kernel
theorem dX1_cheapest_15 : decode cX1_cheapest 15 = .ok (.iaload, 1) := by decide +kernel
theorem dX1_cheapest_16 : decode cX1_cheapest 16 = .ok (.aload_n 0, 1) := by decide +kernel
theorem dX1_cheapest_17 : decode cX1_cheapest 17 = .ok (.getfield 13, 3) := by decide +kernel
theorem dX1_cheapest_20 : decode cX1_cheapest 20 = .ok (.iload_n 2, 1) := by decide +kernel
theorem dX1_cheapest_21 : decode cX1_cheapest 21 = .ok (.iaload, 1) := by decide +kernel
theorem dX1_cheapest_22 : decode cX1_cheapest 22 = .ok (.if_icmp .ge 36, 3) := by decide +kernel
theorem dX1_cheapest_25 : decode cX1_cheapest 25 = .ok (.aload_n 0, 1) := by decide +kernel
theorem dX1_cheapest_26 : decode cX1_cheapest 26 = .ok (.getfield 31, 3) := by decide +kernel
theorem dX1_cheapest_29 : decode cX1_cheapest 29 = .ok (.iload_n 2, 1) := by decide +kernel
theorem dX1_cheapest_30 : decode cX1_cheapest 30 = .ok (.iaload, 1) := by decide +kernel
theorem dX1_cheapest_31 : decode cX1_cheapest 31 = .ok (.sipush 1000, 3) := by decide +kernel
theorem dX1_cheapest_34 : decode cX1_cheapest 34 = .ok (.if_icmp .ge 24, 3) := by decide +kernel
theorem dX1_cheapest_37 : decode cX1_cheapest 37 = .ok (.iload_n 1, 1) := by decide +kernel
theorem dX1_cheapest_38 : decode cX1_cheapest 38 = .ok (.ifCond .lt 18, 3) := by decide +kernel
theorem dX1_cheapest_41 : decode cX1_cheapest 41 = .ok (.aload_n 0, 1) := by decide +kernel
theorem dX1_cheapest_42 : decode cX1_cheapest 42 = .ok (.getfield 31, 3) := by decide +kernel
theorem dX1_cheapest_45 : decode cX1_cheapest 45 = .ok (.iload_n 2, 1) := by decide +kernel
theorem dX1_cheapest_46 : decode cX1_cheapest 46 = .ok (.iaload, 1) := by decide +kernel
theorem dX1_cheapest_47 : decode cX1_cheapest 47 = .ok (.aload_n 0, 1) := by decide +kernel
theorem dX1_cheapest_48 : decode cX1_cheapest 48 = .ok (.getfield 31, 3) := by decide +kernel
theorem dX1_cheapest_51 : decode cX1_cheapest 51 = .ok (.iload_n 1, 1) := by decide +kernel
theorem dX1_cheapest_52 : decode cX1_cheapest 52 = .ok (.iaload, 1) := by decide +kernel
theorem dX1_cheapest_53 : decode cX1_cheapest 53 = .ok (.if_icmp .ge 5, 3) := by decide +kernel
theorem dX1_cheapest_56 : decode cX1_cheapest 56 = .ok (.iload_n 2, 1) := by decide +kernel
theorem dX1_cheapest_57 : decode cX1_cheapest 57 = .ok (.istore_n 1, 1) := by decide +kernel
theorem dX1_cheapest_58 : decode cX1_cheapest 58 = .ok (.iinc 2 1, 3) := by decide +kernel
theorem dX1_cheapest_61 : decode cX1_cheapest 61 = .ok (.goto (-57), 3) := by decide +kernel
theorem dX1_cheapest_64 : decode cX1_cheapest 64 = .ok (.iload_n 1, 1) := by decide +kernel
theorem dX1_cheapest_65 : decode cX1_cheapest 65 = .ok (.ireturn, 1) := by decide +kernel
abbrev cX1_widthTo : ByteArray := prog_3_method_23_code
def yX1_widthTo : MethodName := ⟨RX1, "widthTo", "(I)I"⟩
theorem dX1_widthTo_0 : decode cX1_widthTo 0 = .ok (.aload_n 0, 1) := by decide +kernel
theorem dX1_widthTo_1 : decode cX1_widthTo 1 = .ok (.getfield 13, 3) := by decide +kernel
theorem dX1_widthTo_4 : decode cX1_widthTo 4 = .ok (.iload_n 1, 1) := by decide +kernel
theorem dX1_widthTo_5 : decode cX1_widthTo 5 = .ok (.iaload, 1) := by decide +kernel
theorem dX1_widthTo_6 : decode cX1_widthTo 6 = .ok (.aload_n 0, 1) := by decide +kernel
theorem dX1_widthTo_7 : decode cX1_widthTo 7 = .ok (.getfield 28, 3) := by decide +kernel
theorem dX1_widthTo_10 : decode cX1_widthTo 10 = .ok (.iload_n 1, 1) := by decide +kernel
theorem dX1_widthTo_11 : decode cX1_widthTo 11 = .ok (.iaload, 1) := by decide +kernel
theorem dX1_widthTo_12 : decode cX1_widthTo 12 = .ok (.isub, 1) := by decide +kernel
theorem dX1_widthTo_13 : decode cX1_widthTo 13 = .ok (.istore_n 2, 1) := by decide +kernel
theorem dX1_widthTo_14 : decode cX1_widthTo 14 = .ok (.iload_n 1, 1) := by decide +kernel
theorem dX1_widthTo_15 : decode cX1_widthTo 15 = .ok (.istore_n 3, 1) := by decide +kernel
theorem dX1_widthTo_16 : decode cX1_widthTo 16 = .ok (.iconst 0, 1) := by decide +kernel
theorem dX1_widthTo_17 : decode cX1_widthTo 17 = .ok (.istore 4, 2) := by decide +kernel
theorem dX1_widthTo_19 : decode cX1_widthTo 19 = .ok (.iload 4, 2) := by decide +kernel
theorem dX1_widthTo_21 : decode cX1_widthTo 21 = .ok (.bipush 7, 2) := by decide +kernel
theorem dX1_widthTo_23 : decode cX1_widthTo 23 = .ok (.if_icmp .ge 51, 3) := by decide +kernel
theorem dX1_widthTo_26 : decode cX1_widthTo 26 = .ok (.aload_n 0, 1) := by decide +kernel
theorem dX1_widthTo_27 : decode cX1_widthTo 27 = .ok (.getfield 34, 3) := by decide +kernel
theorem dX1_widthTo_30 : decode cX1_widthTo 30 = .ok (.iload_n 3, 1) := by decide +kernel
theorem dX1_widthTo_31 : decode cX1_widthTo 31 = .ok (.iaload, 1) := by decide +kernel
theorem dX1_widthTo_32 : decode cX1_widthTo 32 = .ok (.ifCond .lt 42, 3) := by decide +kernel
theorem dX1_widthTo_35 : decode cX1_widthTo 35 = .ok (.aload_n 0, 1) := by decide +kernel
theorem dX1_widthTo_36 : decode cX1_widthTo 36 = .ok (.aload_n 0, 1) := by decide +kernel
theorem dX1_widthTo_37 : decode cX1_widthTo 37 = .ok (.getfield 34, 3) := by decide +kernel
theorem dX1_widthTo_40 : decode cX1_widthTo 40 = .ok (.iload_n 3, 1) := by decide +kernel
theorem dX1_widthTo_41 : decode cX1_widthTo 41 = .ok (.iaload, 1) := by decide +kernel
theorem dX1_widthTo_42 : decode cX1_widthTo 42 = .ok (.iload_n 3, 1) := by decide +kernel
theorem dX1_widthTo_43 : decode cX1_widthTo 43 = .ok (.invokevirtual 65, 3) := by decide +kernel
theorem dX1_widthTo_46 : decode cX1_widthTo 46 = .ok (.istore 5, 2) := by decide +kernel
theorem dX1_widthTo_48 : decode cX1_widthTo 48 = .ok (.iload 5, 2) := by decide +kernel
theorem dX1_widthTo_50 : decode cX1_widthTo 50 = .ok (.iload_n 2, 1) := by decide +kernel
theorem dX1_widthTo_51 : decode cX1_widthTo 51 = .ok (.if_icmp .ge 8, 3) := by decide +kernel
theorem dX1_widthTo_54 : decode cX1_widthTo 54 = .ok (.iload 5, 2) := by decide +kernel
theorem dX1_widthTo_56 : decode cX1_widthTo 56 = .ok (.goto 4, 3) := by decide +kernel
theorem dX1_widthTo_59 : decode cX1_widthTo 59 = .ok (.iload_n 2, 1) := by decide +kernel
theorem dX1_widthTo_60 : decode cX1_widthTo 60 = .ok (.istore_n 2, 1) := by decide +kernel
theorem dX1_widthTo_61 : decode cX1_widthTo 61 = .ok (.aload_n 0, 1) := by decide +kernel
theorem dX1_widthTo_62 : decode cX1_widthTo 62 = .ok (.getfield 34, 3) := by decide +kernel
theorem dX1_widthTo_65 : decode cX1_widthTo 65 = .ok (.iload_n 3, 1) := by decide +kernel
theorem dX1_widthTo_66 : decode cX1_widthTo 66 = .ok (.iaload, 1) := by decide +kernel
theorem dX1_widthTo_67 : decode cX1_widthTo 67 = .ok (.istore_n 3, 1) := by decide +kernel
theorem dX1_widthTo_68 : decode cX1_widthTo 68 = .ok (.iinc 4 1, 3) := by decide +kernel
theorem dX1_widthTo_71 : decode cX1_widthTo 71 = .ok (.goto (-52), 3) := by decide +kernel
theorem dX1_widthTo_74 : decode cX1_widthTo 74 = .ok (.aload_n 0, 1) := by decide +kernel
theorem dX1_widthTo_75 : decode cX1_widthTo 75 = .ok (.getfield 28, 3) := by decide +kernel
theorem dX1_widthTo_78 : decode cX1_widthTo 78 = .ok (.iload_n 3, 1) := by decide +kernel
theorem dX1_widthTo_79 : decode cX1_widthTo 79 = .ok (.iaload, 1) := by decide +kernel
theorem dX1_widthTo_80 : decode cX1_widthTo 80 = .ok (.aload_n 0, 1) := by decide +kernel
theorem dX1_widthTo_81 : decode cX1_widthTo 81 = .ok (.getfield 13, 3) := by decide +kernel
theorem dX1_widthTo_84 : decode cX1_widthTo 84 = .ok (.iload_n 3, 1) := by decide +kernel
theorem dX1_widthTo_85 : decode cX1_widthTo 85 = .ok (.iaload, 1) := by decide +kernel
theorem dX1_widthTo_86 : decode cX1_widthTo 86 = .ok (.isub, 1) := by decide +kernel
theorem dX1_widthTo_87 : decode cX1_widthTo 87 = .ok (.istore 4, 2) := by decide +kernel
theorem dX1_widthTo_89 : decode cX1_widthTo 89 = .ok (.iload 4, 2) := by decide +kernel
theorem dX1_widthTo_91 : decode cX1_widthTo 91 = .ok (.iload_n 2, 1) := by decide +kernel
theorem dX1_widthTo_92 : decode cX1_widthTo 92 = .ok (.if_icmp .ge 8, 3) := by decide +kernel
theorem dX1_widthTo_95 : decode cX1_widthTo 95 = .ok (.iload 4, 2) := by decide +kernel
theorem dX1_widthTo_97 : decode cX1_widthTo 97 = .ok (.goto 4, 3) := by decide +kernel
theorem dX1_widthTo_100 : decode cX1_widthTo 100 = .ok (.iload_n 2, 1) := by decide +kernel
theorem dX1_widthTo_101 : decode cX1_widthTo 101 = .ok (.ireturn, 1) := by decide +kernel
abbrev cX1_sendTo : ByteArray := prog_3_method_24_code
def yX1_sendTo : MethodName := ⟨RX1, "sendTo", "(II)V"⟩
theorem dX1_sendTo_0 : decode cX1_sendTo 0 = .ok (.iload_n 1, 1) := by decide +kernel
theorem dX1_sendTo_1 : decode cX1_sendTo 1 = .ok (.istore_n 3, 1) := by decide +kernel
theorem dX1_sendTo_2 : decode cX1_sendTo 2 = .ok (.aload_n 0, 1) := by decide +kernel
theorem dX1_sendTo_3 : decode cX1_sendTo 3 = .ok (.getfield 28, 3) := by decide +kernel
theorem dX1_sendTo_6 : decode cX1_sendTo 6 = .ok (.iload_n 1, 1) := by decide +kernel
theorem dX1_sendTo_7 : decode cX1_sendTo 7 = .ok (.aload_n 0, 1) := by decide +kernel
theorem dX1_sendTo_8 : decode cX1_sendTo 8 = .ok (.getfield 28, 3) := by decide +kernel
theorem dX1_sendTo_11 : decode cX1_sendTo 11 = .ok (.iload_n 1, 1) := by decide +kernel
theorem dX1_sendTo_12 : decode cX1_sendTo 12 = .ok (.iaload, 1) := by decide +kernel
theorem dX1_sendTo_13 : decode cX1_sendTo 13 = .ok (.iload_n 2, 1) := by decide +kernel
theorem dX1_sendTo_14 : decode cX1_sendTo 14 = .ok (.iadd, 1) := by decide +kernel
theorem dX1_sendTo_15 : decode cX1_sendTo 15 = .ok (.iastore, 1) := by decide +kernel
theorem dX1_sendTo_16 : decode cX1_sendTo 16 = .ok (.iconst 0, 1) := by decide +kernel
theorem dX1_sendTo_17 : decode cX1_sendTo 17 = .ok (.istore 4, 2) := by decide +kernel
theorem dX1_sendTo_19 : decode cX1_sendTo 19 = .ok (.iload 4, 2) := by decide +kernel
theorem dX1_sendTo_21 : decode cX1_sendTo 21 = .ok (.bipush 7, 2) := by decide +kernel
theorem dX1_sendTo_23 : decode cX1_sendTo 23 = .ok (.if_icmp .ge 81, 3) := by decide +kernel
theorem dX1_sendTo_26 : decode cX1_sendTo 26 = .ok (.aload_n 0, 1) := by decide +kernel
theorem dX1_sendTo_27 : decode cX1_sendTo 27 = .ok (.getfield 34, 3) := by decide +kernel
theorem dX1_sendTo_30 : decode cX1_sendTo 30 = .ok (.iload_n 3, 1) := by decide +kernel
theorem dX1_sendTo_31 : decode cX1_sendTo 31 = .ok (.iaload, 1) := by decide +kernel
theorem dX1_sendTo_32 : decode cX1_sendTo 32 = .ok (.ifCond .lt 72, 3) := by decide +kernel
theorem dX1_sendTo_35 : decode cX1_sendTo 35 = .ok (.aload_n 0, 1) := by decide +kernel
theorem dX1_sendTo_36 : decode cX1_sendTo 36 = .ok (.getfield 34, 3) := by decide +kernel
theorem dX1_sendTo_39 : decode cX1_sendTo 39 = .ok (.iload_n 3, 1) := by decide +kernel
theorem dX1_sendTo_40 : decode cX1_sendTo 40 = .ok (.iaload, 1) := by decide +kernel
theorem dX1_sendTo_41 : decode cX1_sendTo 41 = .ok (.istore 5, 2) := by decide +kernel
theorem dX1_sendTo_43 : decode cX1_sendTo 43 = .ok (.aload_n 0, 1) := by decide +kernel
theorem dX1_sendTo_44 : decode cX1_sendTo 44 = .ok (.getfield 25, 3) := by decide +kernel
theorem dX1_sendTo_47 : decode cX1_sendTo 47 = .ok (.bipush 7, 2) := by decide +kernel
theorem dX1_sendTo_49 : decode cX1_sendTo 49 = .ok (.iload 5, 2) := by decide +kernel
theorem dX1_sendTo_51 : decode cX1_sendTo 51 = .ok (.imul, 1) := by decide +kernel
theorem dX1_sendTo_52 : decode cX1_sendTo 52 = .ok (.iload_n 3, 1) := by decide +kernel
theorem dX1_sendTo_53 : decode cX1_sendTo 53 = .ok (.iadd, 1) := by decide +kernel
theorem dX1_sendTo_54 : decode cX1_sendTo 54 = .ok (.aload_n 0, 1) := by decide +kernel
theorem dX1_sendTo_55 : decode cX1_sendTo 55 = .ok (.getfield 25, 3) := by decide +kernel
theorem dX1_sendTo_58 : decode cX1_sendTo 58 = .ok (.bipush 7, 2) := by decide +kernel
theorem dX1_sendTo_60 : decode cX1_sendTo 60 = .ok (.iload 5, 2) := by decide +kernel
theorem dX1_sendTo_62 : decode cX1_sendTo 62 = .ok (.imul, 1) := by decide +kernel
theorem dX1_sendTo_63 : decode cX1_sendTo 63 = .ok (.iload_n 3, 1) := by decide +kernel
theorem dX1_sendTo_64 : decode cX1_sendTo 64 = .ok (.iadd, 1) := by decide +kernel
theorem dX1_sendTo_65 : decode cX1_sendTo 65 = .ok (.iaload, 1) := by decide +kernel
theorem dX1_sendTo_66 : decode cX1_sendTo 66 = .ok (.iload_n 2, 1) := by decide +kernel
theorem dX1_sendTo_67 : decode cX1_sendTo 67 = .ok (.iadd, 1) := by decide +kernel
theorem dX1_sendTo_68 : decode cX1_sendTo 68 = .ok (.iastore, 1) := by decide +kernel
theorem dX1_sendTo_69 : decode cX1_sendTo 69 = .ok (.aload_n 0, 1) := by decide +kernel
theorem dX1_sendTo_70 : decode cX1_sendTo 70 = .ok (.getfield 25, 3) := by decide +kernel
theorem dX1_sendTo_73 : decode cX1_sendTo 73 = .ok (.bipush 7, 2) := by decide +kernel
theorem dX1_sendTo_75 : decode cX1_sendTo 75 = .ok (.iload_n 3, 1) := by decide +kernel
theorem dX1_sendTo_76 : decode cX1_sendTo 76 = .ok (.imul, 1) := by decide +kernel
theorem dX1_sendTo_77 : decode cX1_sendTo 77 = .ok (.iload 5, 2) := by decide +kernel
theorem dX1_sendTo_79 : decode cX1_sendTo 79 = .ok (.iadd, 1) := by decide +kernel
theorem dX1_sendTo_80 : decode cX1_sendTo 80 = .ok (.aload_n 0, 1) := by decide +kernel
theorem dX1_sendTo_81 : decode cX1_sendTo 81 = .ok (.getfield 25, 3) := by decide +kernel
theorem dX1_sendTo_84 : decode cX1_sendTo 84 = .ok (.bipush 7, 2) := by decide +kernel
theorem dX1_sendTo_86 : decode cX1_sendTo 86 = .ok (.iload_n 3, 1) := by decide +kernel
theorem dX1_sendTo_87 : decode cX1_sendTo 87 = .ok (.imul, 1) := by decide +kernel
theorem dX1_sendTo_88 : decode cX1_sendTo 88 = .ok (.iload 5, 2) := by decide +kernel
theorem dX1_sendTo_90 : decode cX1_sendTo 90 = .ok (.iadd, 1) := by decide +kernel
theorem dX1_sendTo_91 : decode cX1_sendTo 91 = .ok (.iaload, 1) := by decide +kernel
theorem dX1_sendTo_92 : decode cX1_sendTo 92 = .ok (.iload_n 2, 1) := by decide +kernel
theorem dX1_sendTo_93 : decode cX1_sendTo 93 = .ok (.isub, 1) := by decide +kernel
theorem dX1_sendTo_94 : decode cX1_sendTo 94 = .ok (.iastore, 1) := by decide +kernel
theorem dX1_sendTo_95 : decode cX1_sendTo 95 = .ok (.iload 5, 2) := by decide +kernel
theorem dX1_sendTo_97 : decode cX1_sendTo 97 = .ok (.istore_n 3, 1) := by decide +kernel
theorem dX1_sendTo_98 : decode cX1_sendTo 98 = .ok (.iinc 4 1, 3) := by decide +kernel
theorem dX1_sendTo_101 : decode cX1_sendTo 101 = .ok (.goto (-82), 3) := by decide +kernel
theorem dX1_sendTo_104 : decode cX1_sendTo 104 = .ok (.aload_n 0, 1) := by decide +kernel
theorem dX1_sendTo_105 : decode cX1_sendTo 105 = .ok (.getfield 28, 3) := by decide +kernel
theorem dX1_sendTo_108 : decode cX1_sendTo 108 = .ok (.iload_n 3, 1) := by decide +kernel
theorem dX1_sendTo_109 : decode cX1_sendTo 109 = .ok (.aload_n 0, 1) := by decide +kernel
theorem dX1_sendTo_110 : decode cX1_sendTo 110 = .ok (.getfield 28, 3) := by decide +kernel
theorem dX1_sendTo_113 : decode cX1_sendTo 113 = .ok (.iload_n 3, 1) := by decide +kernel
theorem dX1_sendTo_114 : decode cX1_sendTo 114 = .ok (.iaload, 1) := by decide +kernel
theorem dX1_sendTo_115 : decode cX1_sendTo 115 = .ok (.iload_n 2, 1) := by decide +kernel
theorem dX1_sendTo_116 : decode cX1_sendTo 116 = .ok (.isub, 1) := by decide +kernel
theorem dX1_sendTo_117 : decode cX1_sendTo 117 = .ok (.iastore, 1) := by decide +kernel
theorem dX1_sendTo_118 : decode cX1_sendTo 118 = .ok (.return_, 1) := by decide +kernel
abbrev cX1_open : ByteArray := prog_3_method_26_code
def yX1_open : MethodName := ⟨RX1, "open", "(I)I"⟩
theorem dX1_open_0 : decode cX1_open 0 = .ok (.iconst 0, 1) := by decide +kernel
theorem dX1_open_1 : decode cX1_open 1 = .ok (.istore_n 2, 1) := by decide +kernel
theorem dX1_open_2 : decode cX1_open 2 = .ok (.iconst 0, 1) := by decide +kernel
theorem dX1_open_3 : decode cX1_open 3 = .ok (.istore_n 3, 1) := by decide +kernel
theorem dX1_open_4 : decode cX1_open 4 = .ok (.iload_n 3, 1) := by decide +kernel
theorem dX1_open_5 : decode cX1_open 5 = .ok (.bipush 49, 2) := by decide +kernel
theorem dX1_open_7 : decode cX1_open 7 = .ok (.if_icmp .ge 44, 3) := by decide +kernel
theorem dX1_open_10 : decode cX1_open 10 = .ok (.iload_n 3, 1) := by decide +kernel
theorem dX1_open_11 : decode cX1_open 11 = .ok (.bipush 7, 2) := by decide +kernel
theorem dX1_open_13 : decode cX1_open 13 = .ok (.idiv, 1) := by decide +kernel
theorem dX1_open_14 : decode cX1_open 14 = .ok (.iload_n 3, 1) := by decide +kernel
theorem dX1_open_15 : decode cX1_open 15 = .ok (.bipush 7, 2) := by decide +kernel
theorem dX1_open_17 : decode cX1_open 17 = .ok (.irem, 1) := by decide +kernel
theorem dX1_open_18 : decode cX1_open 18 = .ok (.if_icmp .eq 25, 3) := by decide +kernel
theorem dX1_open_21 : decode cX1_open 21 = .ok (.aload_n 0, 1) := by decide +kernel
theorem dX1_open_22 : decode cX1_open 22 = .ok (.iload_n 3, 1) := by decide +kernel
theorem dX1_open_23 : decode cX1_open 23 = .ok (.bipush 7, 2) := by decide +kernel
theorem dX1_open_25 : decode cX1_open 25 = .ok (.idiv, 1) := by decide +kernel
theorem dX1_open_26 : decode cX1_open 26 = .ok (.iload_n 3, 1) := by decide +kernel
theorem dX1_open_27 : decode cX1_open 27 = .ok (.bipush 7, 2) := by decide +kernel
theorem dX1_open_29 : decode cX1_open 29 = .ok (.irem, 1) := by decide +kernel
theorem dX1_open_30 : decode cX1_open 30 = .ok (.invokevirtual 82, 3) := by decide +kernel
theorem dX1_open_33 : decode cX1_open 33 = .ok (.iload_n 1, 1) := by decide +kernel
theorem dX1_open_34 : decode cX1_open 34 = .ok (.if_icmp .lt 9, 3) := by decide +kernel
theorem dX1_open_37 : decode cX1_open 37 = .ok (.iload_n 2, 1) := by decide +kernel
theorem dX1_open_38 : decode cX1_open 38 = .ok (.iconst 1, 1) := by decide +kernel
theorem dX1_open_39 : decode cX1_open 39 = .ok (.iadd, 1) := by decide +kernel
theorem dX1_open_40 : decode cX1_open 40 = .ok (.goto 4, 3) := by decide +kernel
theorem dX1_open_43 : decode cX1_open 43 = .ok (.iload_n 2, 1) := by decide +kernel
theorem dX1_open_44 : decode cX1_open 44 = .ok (.istore_n 2, 1) := by decide +kernel
theorem dX1_open_45 : decode cX1_open 45 = .ok (.iinc 3 1, 3) := by decide +kernel
theorem dX1_open_48 : decode cX1_open 48 = .ok (.goto (-44), 3) := by decide +kernel
theorem dX1_open_51 : decode cX1_open 51 = .ok (.iload_n 2, 1) := by decide +kernel
theorem dX1_open_52 : decode cX1_open 52 = .ok (.ireturn, 1) := by decide +kernel
theorem q26 : (Jvm.Cond.initialized "CreditNetworkModel") ∈ lw_all := lw_g (lw_at lw_m1 2 rfl) rfl
theorem q195 : (Jvm.Cond.instantiable "CreditNetworkModel" (10 : Nat)) ∈ lw_all := lw_g (lw_at lw_m1 171 rfl) rfl
theorem q197 : (Jvm.Cond.instanceMethod ({ cls := "CreditNetworkModel", name := "<init>", desc := "()V" } : Jvm.MethodName)) ∈ lw_all := lw_g (lw_at lw_m1 173 rfl) rfl
theorem q198 : (Jvm.Cond.code ({ cls := "CreditNetworkModel", name := "<init>", desc := "()V" } : Jvm.MethodName) prog_3_method_1_code (1 : Nat) (Option.none : Option Jvm.ClassFile.FieldType)) ∈ lw_all := lw_g (lw_at lw_m1 174 rfl) rfl
theorem q199 : (Jvm.Cond.methodLink "CreditNetworkModel" (1 : Nat) ({ cls := "java/lang/Object", name := "<init>", desc := "()V" } : Jvm.MethodName)) ∈ lw_all := lw_g (lw_at lw_m1 175 rfl) rfl
theorem q200 : (Jvm.Cond.fieldLink "CreditNetworkModel" (7 : Nat) "CreditNetworkModel" "trusts" "[I") ∈ lw_all := lw_g (lw_at lw_m1 176 rfl) rfl
theorem q201 : (Jvm.Cond.fieldLink "CreditNetworkModel" (13 : Nat) "CreditNetworkModel" "positions" "[I") ∈ lw_all := lw_g (lw_at lw_m1 177 rfl) rfl
theorem q202 : (Jvm.Cond.fieldLink "CreditNetworkModel" (56 : Nat) "CreditNetworkModel" "listed" "I") ∈ lw_all := lw_g (lw_at lw_m1 178 rfl) rfl
theorem q203 : (Jvm.Cond.fieldLink "CreditNetworkModel" (16 : Nat) "CreditNetworkModel" "payers" "[I") ∈ lw_all := lw_g (lw_at lw_m1 179 rfl) rfl
theorem q204 : (Jvm.Cond.fieldLink "CreditNetworkModel" (19 : Nat) "CreditNetworkModel" "payees" "[I") ∈ lw_all := lw_g (lw_at lw_m1 180 rfl) rfl
theorem q205 : (Jvm.Cond.fieldLink "CreditNetworkModel" (22 : Nat) "CreditNetworkModel" "amounts" "[I") ∈ lw_all := lw_g (lw_at lw_m1 181 rfl) rfl
theorem q206 : (Jvm.Cond.fieldLink "CreditNetworkModel" (25 : Nat) "CreditNetworkModel" "owed" "[I") ∈ lw_all := lw_g (lw_at lw_m1 182 rfl) rfl
theorem q207 : (Jvm.Cond.fieldLink "CreditNetworkModel" (28 : Nat) "CreditNetworkModel" "reached" "[I") ∈ lw_all := lw_g (lw_at lw_m1 183 rfl) rfl
theorem q208 : (Jvm.Cond.fieldLink "CreditNetworkModel" (31 : Nat) "CreditNetworkModel" "price" "[I") ∈ lw_all := lw_g (lw_at lw_m1 184 rfl) rfl
theorem q209 : (Jvm.Cond.fieldLink "CreditNetworkModel" (34 : Nat) "CreditNetworkModel" "before" "[I") ∈ lw_all := lw_g (lw_at lw_m1 185 rfl) rfl
theorem q210 : (Jvm.Cond.laysFinal "CreditNetworkModel" "CreditNetworkModel" "trusts" "[I") ∈ lw_all := lw_g (lw_at lw_m1 186 rfl) rfl
theorem q211 : (Jvm.Cond.soleField "CreditNetworkModel" "trusts") ∈ lw_all := lw_g (lw_at lw_m1 187 rfl) rfl
theorem q212 : (Jvm.Cond.laysFinal "CreditNetworkModel" "CreditNetworkModel" "positions" "[I") ∈ lw_all := lw_g (lw_at lw_m1 188 rfl) rfl
theorem q213 : (Jvm.Cond.soleField "CreditNetworkModel" "positions") ∈ lw_all := lw_g (lw_at lw_m1 189 rfl) rfl
theorem q214 : (Jvm.Cond.lays "CreditNetworkModel" "CreditNetworkModel" "listed" "I") ∈ lw_all := lw_g (lw_at lw_m1 190 rfl) rfl
theorem q215 : (Jvm.Cond.soleField "CreditNetworkModel" "listed") ∈ lw_all := lw_g (lw_at lw_m1 191 rfl) rfl
theorem q216 : (Jvm.Cond.laysFinal "CreditNetworkModel" "CreditNetworkModel" "payers" "[I") ∈ lw_all := lw_g (lw_at lw_m1 192 rfl) rfl
theorem q217 : (Jvm.Cond.soleField "CreditNetworkModel" "payers") ∈ lw_all := lw_g (lw_at lw_m1 193 rfl) rfl
theorem q218 : (Jvm.Cond.laysFinal "CreditNetworkModel" "CreditNetworkModel" "payees" "[I") ∈ lw_all := lw_g (lw_at lw_m1 194 rfl) rfl
theorem q219 : (Jvm.Cond.soleField "CreditNetworkModel" "payees") ∈ lw_all := lw_g (lw_at lw_m1 195 rfl) rfl
theorem q220 : (Jvm.Cond.laysFinal "CreditNetworkModel" "CreditNetworkModel" "amounts" "[I") ∈ lw_all := lw_g (lw_at lw_m1 196 rfl) rfl
theorem q221 : (Jvm.Cond.soleField "CreditNetworkModel" "amounts") ∈ lw_all := lw_g (lw_at lw_m1 197 rfl) rfl
theorem q222 : (Jvm.Cond.laysFinal "CreditNetworkModel" "CreditNetworkModel" "owed" "[I") ∈ lw_all := lw_g (lw_at lw_m1 198 rfl) rfl
theorem q223 : (Jvm.Cond.soleField "CreditNetworkModel" "owed") ∈ lw_all := lw_g (lw_at lw_m1 199 rfl) rfl
theorem q224 : (Jvm.Cond.laysFinal "CreditNetworkModel" "CreditNetworkModel" "reached" "[I") ∈ lw_all := lw_g (lw_at lw_m1 200 rfl) rfl
theorem q225 : (Jvm.Cond.soleField "CreditNetworkModel" "reached") ∈ lw_all := lw_g (lw_at lw_m1 201 rfl) rfl
theorem q226 : (Jvm.Cond.laysFinal "CreditNetworkModel" "CreditNetworkModel" "price" "[I") ∈ lw_all := lw_g (lw_at lw_m1 202 rfl) rfl
theorem q227 : (Jvm.Cond.soleField "CreditNetworkModel" "price") ∈ lw_all := lw_g (lw_at lw_m1 203 rfl) rfl
theorem q228 : (Jvm.Cond.laysFinal "CreditNetworkModel" "CreditNetworkModel" "before" "[I") ∈ lw_all := lw_g (lw_at lw_m1 204 rfl) rfl
theorem q229 : (Jvm.Cond.soleField "CreditNetworkModel" "before") ∈ lw_all := lw_g (lw_at lw_m1 205 rfl) rfl
theorem q230 : (Jvm.Cond.superclass "CreditNetworkModel" "java/lang/Object") ∈ lw_all := lw_g (lw_at lw_m1 206 rfl) rfl
theorem q232 : (Jvm.Cond.instanceMethod ({ cls := "CreditNetworkModel", name := "trust", desc := "(III)I" } : Jvm.MethodName)) ∈ lw_all := lw_g (lw_at lw_m1 208 rfl) rfl
theorem q233 : (Jvm.Cond.selects "CreditNetworkModel" ({ cls := "CreditNetworkModel", name := "trust", desc := "(III)I" } : Jvm.MethodName) ({ cls := "CreditNetworkModel", name := "trust", desc := "(III)I" } : Jvm.MethodName)) ∈ lw_all := lw_g (lw_at lw_m1 209 rfl) rfl
theorem q234 : (Jvm.Cond.code ({ cls := "CreditNetworkModel", name := "trust", desc := "(III)I" } : Jvm.MethodName) prog_3_method_6_code (4 : Nat) (Option.some Jvm.ClassFile.FieldType.int)) ∈ lw_all := lw_g (lw_at lw_m1 210 rfl) rfl
theorem q235 : (Jvm.Cond.methodLink "CreditNetworkModel" (45 : Nat) ({ cls := "CreditNetworkModel", name := "isPair", desc := "(II)Z" } : Jvm.MethodName)) ∈ lw_all := lw_g (lw_at lw_m1 211 rfl) rfl
theorem q236 : (Jvm.Cond.privateMethod ({ cls := "CreditNetworkModel", name := "isPair", desc := "(II)Z" } : Jvm.MethodName)) ∈ lw_tbl := lw_at lw_m1 212 rfl
theorem q237 : (Jvm.Cond.instanceMethod ({ cls := "CreditNetworkModel", name := "isPair", desc := "(II)Z" } : Jvm.MethodName)) ∈ lw_all := lw_g (lw_at lw_m1 213 rfl) rfl
theorem q238 : (Jvm.Cond.code ({ cls := "CreditNetworkModel", name := "isPair", desc := "(II)Z" } : Jvm.MethodName) prog_3_method_2_code (3 : Nat) (Option.some Jvm.ClassFile.FieldType.boolean)) ∈ lw_all := lw_g (lw_at lw_m1 214 rfl) rfl
theorem q240 : (Jvm.Cond.instanceMethod ({ cls := "CreditNetworkModel", name := "withdraw", desc := "(III)I" } : Jvm.MethodName)) ∈ lw_all := lw_g (lw_at lw_m1 216 rfl) rfl
theorem q241 : (Jvm.Cond.selects "CreditNetworkModel" ({ cls := "CreditNetworkModel", name := "withdraw", desc := "(III)I" } : Jvm.MethodName) ({ cls := "CreditNetworkModel", name := "withdraw", desc := "(III)I" } : Jvm.MethodName)) ∈ lw_all := lw_g (lw_at lw_m1 217 rfl) rfl
theorem q242 : (Jvm.Cond.code ({ cls := "CreditNetworkModel", name := "withdraw", desc := "(III)I" } : Jvm.MethodName) prog_3_method_7_code (4 : Nat) (Option.some Jvm.ClassFile.FieldType.int)) ∈ lw_all := lw_g (lw_at lw_m1 218 rfl) rfl
theorem q243 : (Jvm.Cond.methodLink "CreditNetworkModel" (48 : Nat) ({ cls := "CreditNetworkModel", name := "isPossible", desc := "()Z" } : Jvm.MethodName)) ∈ lw_all := lw_g (lw_at lw_m1 219 rfl) rfl
theorem q244 : (Jvm.Cond.privateMethod ({ cls := "CreditNetworkModel", name := "isPossible", desc := "()Z" } : Jvm.MethodName)) ∈ lw_tbl := lw_at lw_m1 220 rfl
theorem q245 : (Jvm.Cond.instanceMethod ({ cls := "CreditNetworkModel", name := "isPossible", desc := "()Z" } : Jvm.MethodName)) ∈ lw_all := lw_g (lw_at lw_m1 221 rfl) rfl
theorem q246 : (Jvm.Cond.code ({ cls := "CreditNetworkModel", name := "isPossible", desc := "()Z" } : Jvm.MethodName) prog_3_method_5_code (3 : Nat) (Option.some Jvm.ClassFile.FieldType.boolean)) ∈ lw_all := lw_g (lw_at lw_m1 222 rfl) rfl
theorem q247 : (Jvm.Cond.methodLink "CreditNetworkModel" (41 : Nat) ({ cls := "CreditNetworkModel", name := "slack", desc := "(I)I" } : Jvm.MethodName)) ∈ lw_all := lw_g (lw_at lw_m1 223 rfl) rfl
theorem q248 : (Jvm.Cond.privateMethod ({ cls := "CreditNetworkModel", name := "slack", desc := "(I)I" } : Jvm.MethodName)) ∈ lw_tbl := lw_at lw_m1 224 rfl
theorem q249 : (Jvm.Cond.instanceMethod ({ cls := "CreditNetworkModel", name := "slack", desc := "(I)I" } : Jvm.MethodName)) ∈ lw_all := lw_g (lw_at lw_m1 225 rfl) rfl
theorem q250 : (Jvm.Cond.code ({ cls := "CreditNetworkModel", name := "slack", desc := "(I)I" } : Jvm.MethodName) prog_3_method_4_code (4 : Nat) (Option.some Jvm.ClassFile.FieldType.int)) ∈ lw_all := lw_g (lw_at lw_m1 226 rfl) rfl
theorem q251 : (Jvm.Cond.methodLink "CreditNetworkModel" (37 : Nat) ({ cls := "CreditNetworkModel", name := "in", desc := "(II)Z" } : Jvm.MethodName)) ∈ lw_all := lw_g (lw_at lw_m1 227 rfl) rfl
theorem q252 : (Jvm.Cond.privateMethod ({ cls := "CreditNetworkModel", name := "in", desc := "(II)Z" } : Jvm.MethodName)) ∈ lw_tbl := lw_at lw_m1 228 rfl
theorem q253 : (Jvm.Cond.instanceMethod ({ cls := "CreditNetworkModel", name := "in", desc := "(II)Z" } : Jvm.MethodName)) ∈ lw_all := lw_g (lw_at lw_m1 229 rfl) rfl
theorem q254 : (Jvm.Cond.code ({ cls := "CreditNetworkModel", name := "in", desc := "(II)Z" } : Jvm.MethodName) prog_3_method_3_code (3 : Nat) (Option.some Jvm.ClassFile.FieldType.boolean)) ∈ lw_all := lw_g (lw_at lw_m1 230 rfl) rfl
theorem q256 : (Jvm.Cond.instanceMethod ({ cls := "CreditNetworkModel", name := "pay", desc := "(III)I" } : Jvm.MethodName)) ∈ lw_all := lw_g (lw_at lw_m1 232 rfl) rfl
theorem q257 : (Jvm.Cond.selects "CreditNetworkModel" ({ cls := "CreditNetworkModel", name := "pay", desc := "(III)I" } : Jvm.MethodName) ({ cls := "CreditNetworkModel", name := "pay", desc := "(III)I" } : Jvm.MethodName)) ∈ lw_all := lw_g (lw_at lw_m1 233 rfl) rfl
theorem q258 : (Jvm.Cond.code ({ cls := "CreditNetworkModel", name := "pay", desc := "(III)I" } : Jvm.MethodName) prog_3_method_9_code (4 : Nat) (Option.some Jvm.ClassFile.FieldType.int)) ∈ lw_all := lw_g (lw_at lw_m1 234 rfl) rfl
theorem q259 : (Jvm.Cond.methodLink "CreditNetworkModel" (52 : Nat) ({ cls := "CreditNetworkModel", name := "leastSlack", desc := "(II)I" } : Jvm.MethodName)) ∈ lw_all := lw_g (lw_at lw_m1 235 rfl) rfl
theorem q260 : (Jvm.Cond.privateMethod ({ cls := "CreditNetworkModel", name := "leastSlack", desc := "(II)I" } : Jvm.MethodName)) ∈ lw_tbl := lw_at lw_m1 236 rfl
theorem q261 : (Jvm.Cond.instanceMethod ({ cls := "CreditNetworkModel", name := "leastSlack", desc := "(II)I" } : Jvm.MethodName)) ∈ lw_all := lw_g (lw_at lw_m1 237 rfl) rfl
theorem q262 : (Jvm.Cond.code ({ cls := "CreditNetworkModel", name := "leastSlack", desc := "(II)I" } : Jvm.MethodName) prog_3_method_8_code (6 : Nat) (Option.some Jvm.ClassFile.FieldType.int)) ∈ lw_all := lw_g (lw_at lw_m1 238 rfl) rfl
theorem q264 : (Jvm.Cond.instanceMethod ({ cls := "CreditNetworkModel", name := "gather", desc := "(III)I" } : Jvm.MethodName)) ∈ lw_all := lw_g (lw_at lw_m2 0 rfl) rfl
theorem q265 : (Jvm.Cond.selects "CreditNetworkModel" ({ cls := "CreditNetworkModel", name := "gather", desc := "(III)I" } : Jvm.MethodName) ({ cls := "CreditNetworkModel", name := "gather", desc := "(III)I" } : Jvm.MethodName)) ∈ lw_all := lw_g (lw_at lw_m2 1 rfl) rfl
theorem q266 : (Jvm.Cond.code ({ cls := "CreditNetworkModel", name := "gather", desc := "(III)I" } : Jvm.MethodName) prog_3_method_10_code (4 : Nat) (Option.some Jvm.ClassFile.FieldType.int)) ∈ lw_all := lw_g (lw_at lw_m2 2 rfl) rfl
theorem q268 : (Jvm.Cond.instanceMethod ({ cls := "CreditNetworkModel", name := "clear", desc := "()I" } : Jvm.MethodName)) ∈ lw_all := lw_g (lw_at lw_m2 4 rfl) rfl
theorem q269 : (Jvm.Cond.selects "CreditNetworkModel" ({ cls := "CreditNetworkModel", name := "clear", desc := "()I" } : Jvm.MethodName) ({ cls := "CreditNetworkModel", name := "clear", desc := "()I" } : Jvm.MethodName)) ∈ lw_all := lw_g (lw_at lw_m2 5 rfl) rfl
theorem q270 : (Jvm.Cond.code ({ cls := "CreditNetworkModel", name := "clear", desc := "()I" } : Jvm.MethodName) prog_3_method_12_code (2 : Nat) (Option.some Jvm.ClassFile.FieldType.int)) ∈ lw_all := lw_g (lw_at lw_m2 6 rfl) rfl
theorem q271 : (Jvm.Cond.methodLink "CreditNetworkModel" (60 : Nat) ({ cls := "CreditNetworkModel", name := "payAll", desc := "(I)V" } : Jvm.MethodName)) ∈ lw_all := lw_g (lw_at lw_m2 7 rfl) rfl
theorem q272 : (Jvm.Cond.privateMethod ({ cls := "CreditNetworkModel", name := "payAll", desc := "(I)V" } : Jvm.MethodName)) ∈ lw_tbl := lw_at lw_m2 8 rfl
theorem q273 : (Jvm.Cond.instanceMethod ({ cls := "CreditNetworkModel", name := "payAll", desc := "(I)V" } : Jvm.MethodName)) ∈ lw_all := lw_g (lw_at lw_m2 9 rfl) rfl
theorem q274 : (Jvm.Cond.code ({ cls := "CreditNetworkModel", name := "payAll", desc := "(I)V" } : Jvm.MethodName) prog_3_method_11_code (3 : Nat) (Option.none : Option Jvm.ClassFile.FieldType)) ∈ lw_all := lw_g (lw_at lw_m2 10 rfl) rfl
theorem q276 : (Jvm.Cond.instanceMethod ({ cls := "CreditNetworkModel", name := "forget", desc := "()I" } : Jvm.MethodName)) ∈ lw_all := lw_g (lw_at lw_m2 12 rfl) rfl
theorem q277 : (Jvm.Cond.selects "CreditNetworkModel" ({ cls := "CreditNetworkModel", name := "forget", desc := "()I" } : Jvm.MethodName) ({ cls := "CreditNetworkModel", name := "forget", desc := "()I" } : Jvm.MethodName)) ∈ lw_all := lw_g (lw_at lw_m2 13 rfl) rfl
theorem q278 : (Jvm.Cond.code ({ cls := "CreditNetworkModel", name := "forget", desc := "()I" } : Jvm.MethodName) prog_3_method_13_code (2 : Nat) (Option.some Jvm.ClassFile.FieldType.int)) ∈ lw_all := lw_g (lw_at lw_m2 14 rfl) rfl
theorem q280 : (Jvm.Cond.instanceMethod ({ cls := "CreditNetworkModel", name := "trusted", desc := "(II)I" } : Jvm.MethodName)) ∈ lw_all := lw_g (lw_at lw_m2 16 rfl) rfl
theorem q281 : (Jvm.Cond.selects "CreditNetworkModel" ({ cls := "CreditNetworkModel", name := "trusted", desc := "(II)I" } : Jvm.MethodName) ({ cls := "CreditNetworkModel", name := "trusted", desc := "(II)I" } : Jvm.MethodName)) ∈ lw_all := lw_g (lw_at lw_m2 17 rfl) rfl
theorem q282 : (Jvm.Cond.code ({ cls := "CreditNetworkModel", name := "trusted", desc := "(II)I" } : Jvm.MethodName) prog_3_method_14_code (3 : Nat) (Option.some Jvm.ClassFile.FieldType.int)) ∈ lw_all := lw_g (lw_at lw_m2 18 rfl) rfl
theorem q284 : (Jvm.Cond.instanceMethod ({ cls := "CreditNetworkModel", name := "position", desc := "(I)I" } : Jvm.MethodName)) ∈ lw_all := lw_g (lw_at lw_m2 20 rfl) rfl
theorem q285 : (Jvm.Cond.selects "CreditNetworkModel" ({ cls := "CreditNetworkModel", name := "position", desc := "(I)I" } : Jvm.MethodName) ({ cls := "CreditNetworkModel", name := "position", desc := "(I)I" } : Jvm.MethodName)) ∈ lw_all := lw_g (lw_at lw_m2 21 rfl) rfl
theorem q286 : (Jvm.Cond.code ({ cls := "CreditNetworkModel", name := "position", desc := "(I)I" } : Jvm.MethodName) prog_3_method_15_code (2 : Nat) (Option.some Jvm.ClassFile.FieldType.int)) ∈ lw_all := lw_g (lw_at lw_m2 22 rfl) rfl
theorem q288 : (Jvm.Cond.instanceMethod ({ cls := "CreditNetworkModel", name := "most", desc := "(II)I" } : Jvm.MethodName)) ∈ lw_all := lw_g (lw_at lw_m2 24 rfl) rfl
theorem q289 : (Jvm.Cond.selects "CreditNetworkModel" ({ cls := "CreditNetworkModel", name := "most", desc := "(II)I" } : Jvm.MethodName) ({ cls := "CreditNetworkModel", name := "most", desc := "(II)I" } : Jvm.MethodName)) ∈ lw_all := lw_g (lw_at lw_m2 25 rfl) rfl
theorem q290 : (Jvm.Cond.code ({ cls := "CreditNetworkModel", name := "most", desc := "(II)I" } : Jvm.MethodName) prog_3_method_16_code (3 : Nat) (Option.some Jvm.ClassFile.FieldType.int)) ∈ lw_all := lw_g (lw_at lw_m2 26 rfl) rfl
theorem q292 : (Jvm.Cond.instanceMethod ({ cls := "CreditNetworkModel", name := "spread", desc := "(II)I" } : Jvm.MethodName)) ∈ lw_all := lw_g (lw_at lw_m2 28 rfl) rfl
theorem q293 : (Jvm.Cond.selects "CreditNetworkModel" ({ cls := "CreditNetworkModel", name := "spread", desc := "(II)I" } : Jvm.MethodName) ({ cls := "CreditNetworkModel", name := "spread", desc := "(II)I" } : Jvm.MethodName)) ∈ lw_all := lw_g (lw_at lw_m2 29 rfl) rfl
theorem q294 : (Jvm.Cond.code ({ cls := "CreditNetworkModel", name := "spread", desc := "(II)I" } : Jvm.MethodName) prog_3_method_17_code (3 : Nat) (Option.some Jvm.ClassFile.FieldType.int)) ∈ lw_all := lw_g (lw_at lw_m2 30 rfl) rfl
theorem q296 : (Jvm.Cond.instanceMethod ({ cls := "CreditNetworkModel", name := "leastDebt", desc := "(II)I" } : Jvm.MethodName)) ∈ lw_all := lw_g (lw_at lw_m2 32 rfl) rfl
theorem q297 : (Jvm.Cond.selects "CreditNetworkModel" ({ cls := "CreditNetworkModel", name := "leastDebt", desc := "(II)I" } : Jvm.MethodName) ({ cls := "CreditNetworkModel", name := "leastDebt", desc := "(II)I" } : Jvm.MethodName)) ∈ lw_all := lw_g (lw_at lw_m2 33 rfl) rfl
theorem q298 : (Jvm.Cond.code ({ cls := "CreditNetworkModel", name := "leastDebt", desc := "(II)I" } : Jvm.MethodName) prog_3_method_18_code (4 : Nat) (Option.some Jvm.ClassFile.FieldType.int)) ∈ lw_all := lw_g (lw_at lw_m2 34 rfl) rfl
theorem q299 : (Jvm.Cond.constant "CreditNetworkModel" (64 : Nat) (-100000 : Int32)) ∈ lw_all := lw_g (lw_at lw_m2 35 rfl) rfl
theorem q301 : (Jvm.Cond.instanceMethod ({ cls := "CreditNetworkModel", name := "greatestDebt", desc := "(II)I" } : Jvm.MethodName)) ∈ lw_all := lw_g (lw_at lw_m2 37 rfl) rfl
theorem q302 : (Jvm.Cond.selects "CreditNetworkModel" ({ cls := "CreditNetworkModel", name := "greatestDebt", desc := "(II)I" } : Jvm.MethodName) ({ cls := "CreditNetworkModel", name := "greatestDebt", desc := "(II)I" } : Jvm.MethodName)) ∈ lw_all := lw_g (lw_at lw_m2 38 rfl) rfl
theorem q303 : (Jvm.Cond.code ({ cls := "CreditNetworkModel", name := "greatestDebt", desc := "(II)I" } : Jvm.MethodName) prog_3_method_19_code (4 : Nat) (Option.some Jvm.ClassFile.FieldType.int)) ∈ lw_all := lw_g (lw_at lw_m2 39 rfl) rfl
theorem q305 : (Jvm.Cond.instanceMethod ({ cls := "CreditNetworkModel", name := "debts", desc := "()I" } : Jvm.MethodName)) ∈ lw_all := lw_g (lw_at lw_m2 41 rfl) rfl
theorem q306 : (Jvm.Cond.selects "CreditNetworkModel" ({ cls := "CreditNetworkModel", name := "debts", desc := "()I" } : Jvm.MethodName) ({ cls := "CreditNetworkModel", name := "debts", desc := "()I" } : Jvm.MethodName)) ∈ lw_all := lw_g (lw_at lw_m2 42 rfl) rfl
theorem q307 : (Jvm.Cond.code ({ cls := "CreditNetworkModel", name := "debts", desc := "()I" } : Jvm.MethodName) prog_3_method_25_code (5 : Nat) (Option.some Jvm.ClassFile.FieldType.int)) ∈ lw_all := lw_g (lw_at lw_m2 43 rfl) rfl
theorem q308 : (Jvm.Cond.methodLink "CreditNetworkModel" (68 : Nat) ({ cls := "CreditNetworkModel", name := "findWays", desc := "()V" } : Jvm.MethodName)) ∈ lw_all := lw_g (lw_at lw_m2 44 rfl) rfl
theorem q309 : (Jvm.Cond.privateMethod ({ cls := "CreditNetworkModel", name := "findWays", desc := "()V" } : Jvm.MethodName)) ∈ lw_tbl := lw_at lw_m2 45 rfl
theorem q310 : (Jvm.Cond.instanceMethod ({ cls := "CreditNetworkModel", name := "findWays", desc := "()V" } : Jvm.MethodName)) ∈ lw_all := lw_g (lw_at lw_m2 46 rfl) rfl
theorem q311 : (Jvm.Cond.code ({ cls := "CreditNetworkModel", name := "findWays", desc := "()V" } : Jvm.MethodName) prog_3_method_21_code (5 : Nat) (Option.none : Option Jvm.ClassFile.FieldType)) ∈ lw_all := lw_g (lw_at lw_m2 47 rfl) rfl
theorem q312 : (Jvm.Cond.methodLink "CreditNetworkModel" (65 : Nat) ({ cls := "CreditNetworkModel", name := "room", desc := "(II)I" } : Jvm.MethodName)) ∈ lw_all := lw_g (lw_at lw_m2 48 rfl) rfl
theorem q313 : (Jvm.Cond.privateMethod ({ cls := "CreditNetworkModel", name := "room", desc := "(II)I" } : Jvm.MethodName)) ∈ lw_tbl := lw_at lw_m2 49 rfl
theorem q314 : (Jvm.Cond.instanceMethod ({ cls := "CreditNetworkModel", name := "room", desc := "(II)I" } : Jvm.MethodName)) ∈ lw_all := lw_g (lw_at lw_m2 50 rfl) rfl
theorem q315 : (Jvm.Cond.code ({ cls := "CreditNetworkModel", name := "room", desc := "(II)I" } : Jvm.MethodName) prog_3_method_20_code (4 : Nat) (Option.some Jvm.ClassFile.FieldType.int)) ∈ lw_all := lw_g (lw_at lw_m2 51 rfl) rfl
theorem q316 : (Jvm.Cond.methodLink "CreditNetworkModel" (71 : Nat) ({ cls := "CreditNetworkModel", name := "cheapest", desc := "()I" } : Jvm.MethodName)) ∈ lw_all := lw_g (lw_at lw_m2 52 rfl) rfl
theorem q317 : (Jvm.Cond.privateMethod ({ cls := "CreditNetworkModel", name := "cheapest", desc := "()I" } : Jvm.MethodName)) ∈ lw_tbl := lw_at lw_m2 53 rfl
theorem q318 : (Jvm.Cond.instanceMethod ({ cls := "CreditNetworkModel", name := "cheapest", desc := "()I" } : Jvm.MethodName)) ∈ lw_all := lw_g (lw_at lw_m2 54 rfl) rfl
theorem q319 : (Jvm.Cond.code ({ cls := "CreditNetworkModel", name := "cheapest", desc := "()I" } : Jvm.MethodName) prog_3_method_22_code (3 : Nat) (Option.some Jvm.ClassFile.FieldType.int)) ∈ lw_all := lw_g (lw_at lw_m2 55 rfl) rfl
theorem q320 : (Jvm.Cond.methodLink "CreditNetworkModel" (75 : Nat) ({ cls := "CreditNetworkModel", name := "widthTo", desc := "(I)I" } : Jvm.MethodName)) ∈ lw_all := lw_g (lw_at lw_m2 56 rfl) rfl
theorem q321 : (Jvm.Cond.privateMethod ({ cls := "CreditNetworkModel", name := "widthTo", desc := "(I)I" } : Jvm.MethodName)) ∈ lw_tbl := lw_at lw_m2 57 rfl
theorem q322 : (Jvm.Cond.instanceMethod ({ cls := "CreditNetworkModel", name := "widthTo", desc := "(I)I" } : Jvm.MethodName)) ∈ lw_all := lw_g (lw_at lw_m2 58 rfl) rfl
theorem q323 : (Jvm.Cond.code ({ cls := "CreditNetworkModel", name := "widthTo", desc := "(I)I" } : Jvm.MethodName) prog_3_method_23_code (6 : Nat) (Option.some Jvm.ClassFile.FieldType.int)) ∈ lw_all := lw_g (lw_at lw_m2 59 rfl) rfl
theorem q324 : (Jvm.Cond.methodLink "CreditNetworkModel" (78 : Nat) ({ cls := "CreditNetworkModel", name := "sendTo", desc := "(II)V" } : Jvm.MethodName)) ∈ lw_all := lw_g (lw_at lw_m2 60 rfl) rfl
theorem q325 : (Jvm.Cond.privateMethod ({ cls := "CreditNetworkModel", name := "sendTo", desc := "(II)V" } : Jvm.MethodName)) ∈ lw_tbl := lw_at lw_m2 61 rfl
theorem q326 : (Jvm.Cond.instanceMethod ({ cls := "CreditNetworkModel", name := "sendTo", desc := "(II)V" } : Jvm.MethodName)) ∈ lw_all := lw_g (lw_at lw_m2 62 rfl) rfl
theorem q327 : (Jvm.Cond.code ({ cls := "CreditNetworkModel", name := "sendTo", desc := "(II)V" } : Jvm.MethodName) prog_3_method_24_code (6 : Nat) (Option.none : Option Jvm.ClassFile.FieldType)) ∈ lw_all := lw_g (lw_at lw_m2 63 rfl) rfl
theorem q329 : (Jvm.Cond.instanceMethod ({ cls := "CreditNetworkModel", name := "open", desc := "(I)I" } : Jvm.MethodName)) ∈ lw_all := lw_g (lw_at lw_m2 65 rfl) rfl
theorem q330 : (Jvm.Cond.selects "CreditNetworkModel" ({ cls := "CreditNetworkModel", name := "open", desc := "(I)I" } : Jvm.MethodName) ({ cls := "CreditNetworkModel", name := "open", desc := "(I)I" } : Jvm.MethodName)) ∈ lw_all := lw_g (lw_at lw_m2 66 rfl) rfl
theorem q331 : (Jvm.Cond.code ({ cls := "CreditNetworkModel", name := "open", desc := "(I)I" } : Jvm.MethodName) prog_3_method_26_code (4 : Nat) (Option.some Jvm.ClassFile.FieldType.int)) ∈ lw_all := lw_g (lw_at lw_m2 67 rfl) rfl
theorem q332 : (Jvm.Cond.methodLink "CreditNetworkModel" (82 : Nat) ({ cls := "CreditNetworkModel", name := "most", desc := "(II)I" } : Jvm.MethodName)) ∈ lw_all := lw_g (lw_at lw_m2 68 rfl) rfl
theorem in_X1 : ∀ w ∈ wsX10, w ∈ lw_all := lw_in wsX10 [210, 212, 214, 216, 218, 220, 222, 224, 226, 228] (by decide +kernel) (by decide +kernel)
end
section
set_option maxRecDepth 100000
/-! the law's own entry -/
abbrev cL_law : ByteArray := code
theorem dL_law_0 : decode cL_law 0 = .ok (.new 7, 3) := by decide +kernel
theorem dL_law_3 : decode cL_law 3 = .ok (.dup, 1) := by decide +kernel
theorem dL_law_4 : decode cL_law 4 = .ok (.invokespecial 9, 3) := by decide +kernel
theorem dL_law_7 : decode cL_law 7 = .ok (.astore_n 1, 1) := by decide +kernel
theorem dL_law_8 : decode cL_law 8 = .ok (.new 10, 3) := by decide +kernel
theorem dL_law_11 : decode cL_law 11 = .ok (.dup, 1) := by decide +kernel
theorem dL_law_12 : decode cL_law 12 = .ok (.invokespecial 12, 3) := by decide +kernel
theorem dL_law_15 : decode cL_law 15 = .ok (.astore_n 2, 1) := by decide +kernel
theorem dL_law_16 : decode cL_law 16 = .ok (.iconst 0, 1) := by decide +kernel
theorem dL_law_17 : decode cL_law 17 = .ok (.istore_n 3, 1) := by decide +kernel
theorem dL_law_18 : decode cL_law 18 = .ok (.iload_n 3, 1) := by decide +kernel
theorem dL_law_19 : decode cL_law 19 = .ok (.aload_n 0, 1) := by decide +kernel
theorem dL_law_20 : decode cL_law 20 = .ok (.arraylength, 1) := by decide +kernel
theorem dL_law_21 : decode cL_law 21 = .ok (.iconst 4, 1) := by decide +kernel
theorem dL_law_22 : decode cL_law 22 = .ok (.isub, 1) := by decide +kernel
theorem dL_law_23 : decode cL_law 23 = .ok (.if_icmp .gt 509, 3) := by decide +kernel
theorem dL_law_26 : decode cL_law 26 = .ok (.aload_n 0, 1) := by decide +kernel
theorem dL_law_27 : decode cL_law 27 = .ok (.iload_n 3, 1) := by decide +kernel
theorem dL_law_28 : decode cL_law 28 = .ok (.iaload, 1) := by decide +kernel
theorem dL_law_29 : decode cL_law 29 = .ok (.bipush 15, 2) := by decide +kernel
theorem dL_law_31 : decode cL_law 31 = .ok (.iand, 1) := by decide +kernel
theorem dL_law_32 : decode cL_law 32 = .ok (.tableswitch 494 0 13 #[72, 115, 158, 201, 244, 257, 270, 303, 326, 359, 392, 425, 458, 471], 72) := by decide +kernel
theorem dL_law_104 : decode cL_law 104 = .ok (.aload_n 1, 1) := by decide +kernel
theorem dL_law_105 : decode cL_law 105 = .ok (.aload_n 0, 1) := by decide +kernel
theorem dL_law_106 : decode cL_law 106 = .ok (.iload_n 3, 1) := by decide +kernel
theorem dL_law_107 : decode cL_law 107 = .ok (.iconst 1, 1) := by decide +kernel
theorem dL_law_108 : decode cL_law 108 = .ok (.iadd, 1) := by decide +kernel
theorem dL_law_109 : decode cL_law 109 = .ok (.iaload, 1) := by decide +kernel
theorem dL_law_110 : decode cL_law 110 = .ok (.aload_n 0, 1) := by decide +kernel
theorem dL_law_111 : decode cL_law 111 = .ok (.iload_n 3, 1) := by decide +kernel
theorem dL_law_112 : decode cL_law 112 = .ok (.iconst 2, 1) := by decide +kernel
theorem dL_law_113 : decode cL_law 113 = .ok (.iadd, 1) := by decide +kernel
theorem dL_law_114 : decode cL_law 114 = .ok (.iaload, 1) := by decide +kernel
theorem dL_law_115 : decode cL_law 115 = .ok (.aload_n 0, 1) := by decide +kernel
theorem dL_law_116 : decode cL_law 116 = .ok (.iload_n 3, 1) := by decide +kernel
theorem dL_law_117 : decode cL_law 117 = .ok (.iconst 3, 1) := by decide +kernel
theorem dL_law_118 : decode cL_law 118 = .ok (.iadd, 1) := by decide +kernel
theorem dL_law_119 : decode cL_law 119 = .ok (.iaload, 1) := by decide +kernel
theorem dL_law_120 : decode cL_law 120 = .ok (.invokevirtual 13, 3) := by decide +kernel
theorem dL_law_123 : decode cL_law 123 = .ok (.aload_n 2, 1) := by decide +kernel
theorem dL_law_124 : decode cL_law 124 = .ok (.aload_n 0, 1) := by decide +kernel
theorem dL_law_125 : decode cL_law 125 = .ok (.iload_n 3, 1) := by decide +kernel
theorem dL_law_126 : decode cL_law 126 = .ok (.iconst 1, 1) := by decide +kernel
theorem dL_law_127 : decode cL_law 127 = .ok (.iadd, 1) := by decide +kernel
theorem dL_law_128 : decode cL_law 128 = .ok (.iaload, 1) := by decide +kernel
theorem dL_law_129 : decode cL_law 129 = .ok (.aload_n 0, 1) := by decide +kernel
theorem dL_law_130 : decode cL_law 130 = .ok (.iload_n 3, 1) := by decide +kernel
theorem dL_law_131 : decode cL_law 131 = .ok (.iconst 2, 1) := by decide +kernel
theorem dL_law_132 : decode cL_law 132 = .ok (.iadd, 1) := by decide +kernel
theorem dL_law_133 : decode cL_law 133 = .ok (.iaload, 1) := by decide +kernel
theorem dL_law_134 : decode cL_law 134 = .ok (.aload_n 0, 1) := by decide +kernel
theorem dL_law_135 : decode cL_law 135 = .ok (.iload_n 3, 1) := by decide +kernel
theorem dL_law_136 : decode cL_law 136 = .ok (.iconst 3, 1) := by decide +kernel
theorem dL_law_137 : decode cL_law 137 = .ok (.iadd, 1) := by decide +kernel
theorem dL_law_138 : decode cL_law 138 = .ok (.iaload, 1) := by decide +kernel
theorem dL_law_139 : decode cL_law 139 = .ok (.invokevirtual 17, 3) := by decide +kernel
theorem dL_law_142 : decode cL_law 142 = .ok (.if_icmp .eq 384, 3) := by decide +kernel
theorem dL_law_145 : decode cL_law 145 = .ok (.iconst 0, 1) := by decide +kernel
theorem dL_law_146 : decode cL_law 146 = .ok (.ireturn, 1) := by decide +kernel
theorem dL_law_147 : decode cL_law 147 = .ok (.aload_n 1, 1) := by decide +kernel
theorem dL_law_148 : decode cL_law 148 = .ok (.aload_n 0, 1) := by decide +kernel
theorem dL_law_149 : decode cL_law 149 = .ok (.iload_n 3, 1) := by decide +kernel
theorem dL_law_150 : decode cL_law 150 = .ok (.iconst 1, 1) := by decide +kernel
theorem dL_law_151 : decode cL_law 151 = .ok (.iadd, 1) := by decide +kernel
theorem dL_law_152 : decode cL_law 152 = .ok (.iaload, 1) := by decide +kernel
theorem dL_law_153 : decode cL_law 153 = .ok (.aload_n 0, 1) := by decide +kernel
theorem dL_law_154 : decode cL_law 154 = .ok (.iload_n 3, 1) := by decide +kernel
theorem dL_law_155 : decode cL_law 155 = .ok (.iconst 2, 1) := by decide +kernel
theorem dL_law_156 : decode cL_law 156 = .ok (.iadd, 1) := by decide +kernel
theorem dL_law_157 : decode cL_law 157 = .ok (.iaload, 1) := by decide +kernel
theorem dL_law_158 : decode cL_law 158 = .ok (.aload_n 0, 1) := by decide +kernel
theorem dL_law_159 : decode cL_law 159 = .ok (.iload_n 3, 1) := by decide +kernel
theorem dL_law_160 : decode cL_law 160 = .ok (.iconst 3, 1) := by decide +kernel
theorem dL_law_161 : decode cL_law 161 = .ok (.iadd, 1) := by decide +kernel
theorem dL_law_162 : decode cL_law 162 = .ok (.iaload, 1) := by decide +kernel
theorem dL_law_163 : decode cL_law 163 = .ok (.invokevirtual 18, 3) := by decide +kernel
theorem dL_law_166 : decode cL_law 166 = .ok (.aload_n 2, 1) := by decide +kernel
theorem dL_law_167 : decode cL_law 167 = .ok (.aload_n 0, 1) := by decide +kernel
theorem dL_law_168 : decode cL_law 168 = .ok (.iload_n 3, 1) := by decide +kernel
theorem dL_law_169 : decode cL_law 169 = .ok (.iconst 1, 1) := by decide +kernel
theorem dL_law_170 : decode cL_law 170 = .ok (.iadd, 1) := by decide +kernel
theorem dL_law_171 : decode cL_law 171 = .ok (.iaload, 1) := by decide +kernel
theorem dL_law_172 : decode cL_law 172 = .ok (.aload_n 0, 1) := by decide +kernel
theorem dL_law_173 : decode cL_law 173 = .ok (.iload_n 3, 1) := by decide +kernel
theorem dL_law_174 : decode cL_law 174 = .ok (.iconst 2, 1) := by decide +kernel
theorem dL_law_175 : decode cL_law 175 = .ok (.iadd, 1) := by decide +kernel
theorem dL_law_176 : decode cL_law 176 = .ok (.iaload, 1) := by decide +kernel
theorem dL_law_177 : decode cL_law 177 = .ok (.aload_n 0, 1) := by decide +kernel
theorem dL_law_178 : decode cL_law 178 = .ok (.iload_n 3, 1) := by decide +kernel
theorem dL_law_179 : decode cL_law 179 = .ok (.iconst 3, 1) := by decide +kernel
theorem dL_law_180 : decode cL_law 180 = .ok (.iadd, 1) := by decide +kernel
theorem dL_law_181 : decode cL_law 181 = .ok (.iaload, 1) := by decide +kernel
theorem dL_law_182 : decode cL_law 182 = .ok (.invokevirtual 21, 3) := by decide +kernel
theorem dL_law_185 : decode cL_law 185 = .ok (.if_icmp .eq 341, 3) := by decide +kernel
theorem dL_law_188 : decode cL_law 188 = .ok (.iconst 0, 1) := by decide +kernel
theorem dL_law_189 : decode cL_law 189 = .ok (.ireturn, 1) := by decide +kernel
theorem dL_law_190 : decode cL_law 190 = .ok (.aload_n 1, 1) := by decide +kernel
theorem dL_law_191 : decode cL_law 191 = .ok (.aload_n 0, 1) := by decide +kernel
theorem dL_law_192 : decode cL_law 192 = .ok (.iload_n 3, 1) := by decide +kernel
theorem dL_law_193 : decode cL_law 193 = .ok (.iconst 1, 1) := by decide +kernel
theorem dL_law_194 : decode cL_law 194 = .ok (.iadd, 1) := by decide +kernel
theorem dL_law_195 : decode cL_law 195 = .ok (.iaload, 1) := by decide +kernel
theorem dL_law_196 : decode cL_law 196 = .ok (.aload_n 0, 1) := by decide +kernel
theorem dL_law_197 : decode cL_law 197 = .ok (.iload_n 3, 1) := by decide +kernel
theorem dL_law_198 : decode cL_law 198 = .ok (.iconst 2, 1) := by decide +kernel
theorem dL_law_199 : decode cL_law 199 = .ok (.iadd, 1) := by decide +kernel
theorem dL_law_200 : decode cL_law 200 = .ok (.iaload, 1) := by decide +kernel
theorem dL_law_201 : decode cL_law 201 = .ok (.aload_n 0, 1) := by decide +kernel
theorem dL_law_202 : decode cL_law 202 = .ok (.iload_n 3, 1) := by decide +kernel
theorem dL_law_203 : decode cL_law 203 = .ok (.iconst 3, 1) := by decide +kernel
theorem dL_law_204 : decode cL_law 204 = .ok (.iadd, 1) := by decide +kernel
theorem dL_law_205 : decode cL_law 205 = .ok (.iaload, 1) := by decide +kernel
theorem dL_law_206 : decode cL_law 206 = .ok (.invokevirtual 22, 3) := by decide +kernel
theorem dL_law_209 : decode cL_law 209 = .ok (.aload_n 2, 1) := by decide +kernel
theorem dL_law_210 : decode cL_law 210 = .ok (.aload_n 0, 1) := by decide +kernel
theorem dL_law_211 : decode cL_law 211 = .ok (.iload_n 3, 1) := by decide +kernel
theorem dL_law_212 : decode cL_law 212 = .ok (.iconst 1, 1) := by decide +kernel
theorem dL_law_213 : decode cL_law 213 = .ok (.iadd, 1) := by decide +kernel
theorem dL_law_214 : decode cL_law 214 = .ok (.iaload, 1) := by decide +kernel
theorem dL_law_215 : decode cL_law 215 = .ok (.aload_n 0, 1) := by decide +kernel
theorem dL_law_216 : decode cL_law 216 = .ok (.iload_n 3, 1) := by decide +kernel
theorem dL_law_217 : decode cL_law 217 = .ok (.iconst 2, 1) := by decide +kernel
theorem dL_law_218 : decode cL_law 218 = .ok (.iadd, 1) := by decide +kernel
theorem dL_law_219 : decode cL_law 219 = .ok (.iaload, 1) := by decide +kernel
theorem dL_law_220 : decode cL_law 220 = .ok (.aload_n 0, 1) := by decide +kernel
theorem dL_law_221 : decode cL_law 221 = .ok (.iload_n 3, 1) := by decide +kernel
theorem dL_law_222 : decode cL_law 222 = .ok (.iconst 3, 1) := by decide +kernel
theorem dL_law_223 : decode cL_law 223 = .ok (.iadd, 1) := by decide +kernel
theorem dL_law_224 : decode cL_law 224 = .ok (.iaload, 1) := by decide +kernel
theorem dL_law_225 : decode cL_law 225 = .ok (.invokevirtual 25, 3) := by decide +kernel
theorem dL_law_228 : decode cL_law 228 = .ok (.if_icmp .eq 298, 3) := by decide +kernel
theorem dL_law_231 : decode cL_law 231 = .ok (.iconst 0, 1) := by decide +kernel
theorem dL_law_232 : decode cL_law 232 = .ok (.ireturn, 1) := by decide +kernel
theorem dL_law_233 : decode cL_law 233 = .ok (.aload_n 1, 1) := by decide +kernel
theorem dL_law_234 : decode cL_law 234 = .ok (.aload_n 0, 1) := by decide +kernel
theorem dL_law_235 : decode cL_law 235 = .ok (.iload_n 3, 1) := by decide +kernel
theorem dL_law_236 : decode cL_law 236 = .ok (.iconst 1, 1) := by decide +kernel
theorem dL_law_237 : decode cL_law 237 = .ok (.iadd, 1) := by decide +kernel
theorem dL_law_238 : decode cL_law 238 = .ok (.iaload, 1) := by decide +kernel
theorem dL_law_239 : decode cL_law 239 = .ok (.aload_n 0, 1) := by decide +kernel
theorem dL_law_240 : decode cL_law 240 = .ok (.iload_n 3, 1) := by decide +kernel
theorem dL_law_241 : decode cL_law 241 = .ok (.iconst 2, 1) := by decide +kernel
theorem dL_law_242 : decode cL_law 242 = .ok (.iadd, 1) := by decide +kernel
theorem dL_law_243 : decode cL_law 243 = .ok (.iaload, 1) := by decide +kernel
theorem dL_law_244 : decode cL_law 244 = .ok (.aload_n 0, 1) := by decide +kernel
theorem dL_law_245 : decode cL_law 245 = .ok (.iload_n 3, 1) := by decide +kernel
theorem dL_law_246 : decode cL_law 246 = .ok (.iconst 3, 1) := by decide +kernel
theorem dL_law_247 : decode cL_law 247 = .ok (.iadd, 1) := by decide +kernel
theorem dL_law_248 : decode cL_law 248 = .ok (.iaload, 1) := by decide +kernel
theorem dL_law_249 : decode cL_law 249 = .ok (.invokevirtual 26, 3) := by decide +kernel
theorem dL_law_252 : decode cL_law 252 = .ok (.aload_n 2, 1) := by decide +kernel
theorem dL_law_253 : decode cL_law 253 = .ok (.aload_n 0, 1) := by decide +kernel
theorem dL_law_254 : decode cL_law 254 = .ok (.iload_n 3, 1) := by decide +kernel
theorem dL_law_255 : decode cL_law 255 = .ok (.iconst 1, 1) := by decide +kernel
theorem dL_law_256 : decode cL_law 256 = .ok (.iadd, 1) := by decide +kernel
theorem dL_law_257 : decode cL_law 257 = .ok (.iaload, 1) := by decide +kernel
theorem dL_law_258 : decode cL_law 258 = .ok (.aload_n 0, 1) := by decide +kernel
theorem dL_law_259 : decode cL_law 259 = .ok (.iload_n 3, 1) := by decide +kernel
theorem dL_law_260 : decode cL_law 260 = .ok (.iconst 2, 1) := by decide +kernel
theorem dL_law_261 : decode cL_law 261 = .ok (.iadd, 1) := by decide +kernel
theorem dL_law_262 : decode cL_law 262 = .ok (.iaload, 1) := by decide +kernel
theorem dL_law_263 : decode cL_law 263 = .ok (.aload_n 0, 1) := by decide +kernel
theorem dL_law_264 : decode cL_law 264 = .ok (.iload_n 3, 1) := by decide +kernel
theorem dL_law_265 : decode cL_law 265 = .ok (.iconst 3, 1) := by decide +kernel
theorem dL_law_266 : decode cL_law 266 = .ok (.iadd, 1) := by decide +kernel
theorem dL_law_267 : decode cL_law 267 = .ok (.iaload, 1) := by decide +kernel
theorem dL_law_268 : decode cL_law 268 = .ok (.invokevirtual 29, 3) := by decide +kernel
theorem dL_law_271 : decode cL_law 271 = .ok (.if_icmp .eq 255, 3) := by decide +kernel
theorem dL_law_274 : decode cL_law 274 = .ok (.iconst 0, 1) := by decide +kernel
theorem dL_law_275 : decode cL_law 275 = .ok (.ireturn, 1) := by decide +kernel
theorem dL_law_276 : decode cL_law 276 = .ok (.aload_n 1, 1) := by decide +kernel
theorem dL_law_277 : decode cL_law 277 = .ok (.invokevirtual 30, 3) := by decide +kernel
theorem dL_law_280 : decode cL_law 280 = .ok (.aload_n 2, 1) := by decide +kernel
theorem dL_law_281 : decode cL_law 281 = .ok (.invokevirtual 34, 3) := by decide +kernel
theorem dL_law_284 : decode cL_law 284 = .ok (.if_icmp .eq 242, 3) := by decide +kernel
theorem dL_law_287 : decode cL_law 287 = .ok (.iconst 0, 1) := by decide +kernel
theorem dL_law_288 : decode cL_law 288 = .ok (.ireturn, 1) := by decide +kernel
theorem dL_law_289 : decode cL_law 289 = .ok (.aload_n 1, 1) := by decide +kernel
theorem dL_law_290 : decode cL_law 290 = .ok (.invokevirtual 35, 3) := by decide +kernel
theorem dL_law_293 : decode cL_law 293 = .ok (.aload_n 2, 1) := by decide +kernel
theorem dL_law_294 : decode cL_law 294 = .ok (.invokevirtual 38, 3) := by decide +kernel
theorem dL_law_297 : decode cL_law 297 = .ok (.if_icmp .eq 229, 3) := by decide +kernel
theorem dL_law_300 : decode cL_law 300 = .ok (.iconst 0, 1) := by decide +kernel
theorem dL_law_301 : decode cL_law 301 = .ok (.ireturn, 1) := by decide +kernel
theorem dL_law_302 : decode cL_law 302 = .ok (.aload_n 1, 1) := by decide +kernel
theorem dL_law_303 : decode cL_law 303 = .ok (.aload_n 0, 1) := by decide +kernel
theorem dL_law_304 : decode cL_law 304 = .ok (.iload_n 3, 1) := by decide +kernel
theorem dL_law_305 : decode cL_law 305 = .ok (.iconst 1, 1) := by decide +kernel
theorem dL_law_306 : decode cL_law 306 = .ok (.iadd, 1) := by decide +kernel
theorem dL_law_307 : decode cL_law 307 = .ok (.iaload, 1) := by decide +kernel
theorem dL_law_308 : decode cL_law 308 = .ok (.aload_n 0, 1) := by decide +kernel
theorem dL_law_309 : decode cL_law 309 = .ok (.iload_n 3, 1) := by decide +kernel
theorem dL_law_310 : decode cL_law 310 = .ok (.iconst 2, 1) := by decide +kernel
theorem dL_law_311 : decode cL_law 311 = .ok (.iadd, 1) := by decide +kernel
theorem dL_law_312 : decode cL_law 312 = .ok (.iaload, 1) := by decide +kernel
theorem dL_law_313 : decode cL_law 313 = .ok (.invokevirtual 39, 3) := by decide +kernel
theorem dL_law_316 : decode cL_law 316 = .ok (.aload_n 2, 1) := by decide +kernel
theorem dL_law_317 : decode cL_law 317 = .ok (.aload_n 0, 1) := by decide +kernel
theorem dL_law_318 : decode cL_law 318 = .ok (.iload_n 3, 1) := by decide +kernel
theorem dL_law_319 : decode cL_law 319 = .ok (.iconst 1, 1) := by decide +kernel
theorem dL_law_320 : decode cL_law 320 = .ok (.iadd, 1) := by decide +kernel
theorem dL_law_321 : decode cL_law 321 = .ok (.iaload, 1) := by decide +kernel
theorem dL_law_322 : decode cL_law 322 = .ok (.aload_n 0, 1) := by decide +kernel
theorem dL_law_323 : decode cL_law 323 = .ok (.iload_n 3, 1) := by decide +kernel
theorem dL_law_324 : decode cL_law 324 = .ok (.iconst 2, 1) := by decide +kernel
theorem dL_law_325 : decode cL_law 325 = .ok (.iadd, 1) := by decide +kernel
theorem dL_law_326 : decode cL_law 326 = .ok (.iaload, 1) := by decide +kernel
theorem dL_law_327 : decode cL_law 327 = .ok (.invokevirtual 43, 3) := by decide +kernel
theorem dL_law_330 : decode cL_law 330 = .ok (.if_icmp .eq 196, 3) := by decide +kernel
theorem dL_law_333 : decode cL_law 333 = .ok (.iconst 0, 1) := by decide +kernel
theorem dL_law_334 : decode cL_law 334 = .ok (.ireturn, 1) := by decide +kernel
theorem dL_law_335 : decode cL_law 335 = .ok (.aload_n 1, 1) := by decide +kernel
theorem dL_law_336 : decode cL_law 336 = .ok (.aload_n 0, 1) := by decide +kernel
theorem dL_law_337 : decode cL_law 337 = .ok (.iload_n 3, 1) := by decide +kernel
theorem dL_law_338 : decode cL_law 338 = .ok (.iconst 1, 1) := by decide +kernel
theorem dL_law_339 : decode cL_law 339 = .ok (.iadd, 1) := by decide +kernel
theorem dL_law_340 : decode cL_law 340 = .ok (.iaload, 1) := by decide +kernel
theorem dL_law_341 : decode cL_law 341 = .ok (.invokevirtual 44, 3) := by decide +kernel
theorem dL_law_344 : decode cL_law 344 = .ok (.aload_n 2, 1) := by decide +kernel
theorem dL_law_345 : decode cL_law 345 = .ok (.aload_n 0, 1) := by decide +kernel
theorem dL_law_346 : decode cL_law 346 = .ok (.iload_n 3, 1) := by decide +kernel
theorem dL_law_347 : decode cL_law 347 = .ok (.iconst 1, 1) := by decide +kernel
theorem dL_law_348 : decode cL_law 348 = .ok (.iadd, 1) := by decide +kernel
theorem dL_law_349 : decode cL_law 349 = .ok (.iaload, 1) := by decide +kernel
theorem dL_law_350 : decode cL_law 350 = .ok (.invokevirtual 48, 3) := by decide +kernel
theorem dL_law_353 : decode cL_law 353 = .ok (.if_icmp .eq 173, 3) := by decide +kernel
theorem dL_law_356 : decode cL_law 356 = .ok (.iconst 0, 1) := by decide +kernel
theorem dL_law_357 : decode cL_law 357 = .ok (.ireturn, 1) := by decide +kernel
theorem dL_law_358 : decode cL_law 358 = .ok (.aload_n 1, 1) := by decide +kernel
theorem dL_law_359 : decode cL_law 359 = .ok (.aload_n 0, 1) := by decide +kernel
theorem dL_law_360 : decode cL_law 360 = .ok (.iload_n 3, 1) := by decide +kernel
theorem dL_law_361 : decode cL_law 361 = .ok (.iconst 1, 1) := by decide +kernel
theorem dL_law_362 : decode cL_law 362 = .ok (.iadd, 1) := by decide +kernel
theorem dL_law_363 : decode cL_law 363 = .ok (.iaload, 1) := by decide +kernel
theorem dL_law_364 : decode cL_law 364 = .ok (.aload_n 0, 1) := by decide +kernel
theorem dL_law_365 : decode cL_law 365 = .ok (.iload_n 3, 1) := by decide +kernel
theorem dL_law_366 : decode cL_law 366 = .ok (.iconst 2, 1) := by decide +kernel
theorem dL_law_367 : decode cL_law 367 = .ok (.iadd, 1) := by decide +kernel
theorem dL_law_368 : decode cL_law 368 = .ok (.iaload, 1) := by decide +kernel
theorem dL_law_369 : decode cL_law 369 = .ok (.invokevirtual 49, 3) := by decide +kernel
theorem dL_law_372 : decode cL_law 372 = .ok (.aload_n 2, 1) := by decide +kernel
theorem dL_law_373 : decode cL_law 373 = .ok (.aload_n 0, 1) := by decide +kernel
theorem dL_law_374 : decode cL_law 374 = .ok (.iload_n 3, 1) := by decide +kernel
theorem dL_law_375 : decode cL_law 375 = .ok (.iconst 1, 1) := by decide +kernel
theorem dL_law_376 : decode cL_law 376 = .ok (.iadd, 1) := by decide +kernel
theorem dL_law_377 : decode cL_law 377 = .ok (.iaload, 1) := by decide +kernel
theorem dL_law_378 : decode cL_law 378 = .ok (.aload_n 0, 1) := by decide +kernel
theorem dL_law_379 : decode cL_law 379 = .ok (.iload_n 3, 1) := by decide +kernel
theorem dL_law_380 : decode cL_law 380 = .ok (.iconst 2, 1) := by decide +kernel
theorem dL_law_381 : decode cL_law 381 = .ok (.iadd, 1) := by decide +kernel
theorem dL_law_382 : decode cL_law 382 = .ok (.iaload, 1) := by decide +kernel
theorem dL_law_383 : decode cL_law 383 = .ok (.invokevirtual 52, 3) := by decide +kernel
theorem dL_law_386 : decode cL_law 386 = .ok (.if_icmp .eq 140, 3) := by decide +kernel
theorem dL_law_389 : decode cL_law 389 = .ok (.iconst 0, 1) := by decide +kernel
theorem dL_law_390 : decode cL_law 390 = .ok (.ireturn, 1) := by decide +kernel
theorem dL_law_391 : decode cL_law 391 = .ok (.aload_n 1, 1) := by decide +kernel
theorem dL_law_392 : decode cL_law 392 = .ok (.aload_n 0, 1) := by decide +kernel
theorem dL_law_393 : decode cL_law 393 = .ok (.iload_n 3, 1) := by decide +kernel
theorem dL_law_394 : decode cL_law 394 = .ok (.iconst 1, 1) := by decide +kernel
theorem dL_law_395 : decode cL_law 395 = .ok (.iadd, 1) := by decide +kernel
theorem dL_law_396 : decode cL_law 396 = .ok (.iaload, 1) := by decide +kernel
theorem dL_law_397 : decode cL_law 397 = .ok (.aload_n 0, 1) := by decide +kernel
theorem dL_law_398 : decode cL_law 398 = .ok (.iload_n 3, 1) := by decide +kernel
theorem dL_law_399 : decode cL_law 399 = .ok (.iconst 2, 1) := by decide +kernel
theorem dL_law_400 : decode cL_law 400 = .ok (.iadd, 1) := by decide +kernel
theorem dL_law_401 : decode cL_law 401 = .ok (.iaload, 1) := by decide +kernel
theorem dL_law_402 : decode cL_law 402 = .ok (.invokevirtual 53, 3) := by decide +kernel
theorem dL_law_405 : decode cL_law 405 = .ok (.aload_n 2, 1) := by decide +kernel
theorem dL_law_406 : decode cL_law 406 = .ok (.aload_n 0, 1) := by decide +kernel
theorem dL_law_407 : decode cL_law 407 = .ok (.iload_n 3, 1) := by decide +kernel
theorem dL_law_408 : decode cL_law 408 = .ok (.iconst 1, 1) := by decide +kernel
theorem dL_law_409 : decode cL_law 409 = .ok (.iadd, 1) := by decide +kernel
theorem dL_law_410 : decode cL_law 410 = .ok (.iaload, 1) := by decide +kernel
theorem dL_law_411 : decode cL_law 411 = .ok (.aload_n 0, 1) := by decide +kernel
theorem dL_law_412 : decode cL_law 412 = .ok (.iload_n 3, 1) := by decide +kernel
theorem dL_law_413 : decode cL_law 413 = .ok (.iconst 2, 1) := by decide +kernel
theorem dL_law_414 : decode cL_law 414 = .ok (.iadd, 1) := by decide +kernel
theorem dL_law_415 : decode cL_law 415 = .ok (.iaload, 1) := by decide +kernel
theorem dL_law_416 : decode cL_law 416 = .ok (.invokevirtual 56, 3) := by decide +kernel
theorem dL_law_419 : decode cL_law 419 = .ok (.if_icmp .eq 107, 3) := by decide +kernel
theorem dL_law_422 : decode cL_law 422 = .ok (.iconst 0, 1) := by decide +kernel
theorem dL_law_423 : decode cL_law 423 = .ok (.ireturn, 1) := by decide +kernel
theorem dL_law_424 : decode cL_law 424 = .ok (.aload_n 1, 1) := by decide +kernel
theorem dL_law_425 : decode cL_law 425 = .ok (.aload_n 0, 1) := by decide +kernel
theorem dL_law_426 : decode cL_law 426 = .ok (.iload_n 3, 1) := by decide +kernel
theorem dL_law_427 : decode cL_law 427 = .ok (.iconst 1, 1) := by decide +kernel
theorem dL_law_428 : decode cL_law 428 = .ok (.iadd, 1) := by decide +kernel
theorem dL_law_429 : decode cL_law 429 = .ok (.iaload, 1) := by decide +kernel
theorem dL_law_430 : decode cL_law 430 = .ok (.aload_n 0, 1) := by decide +kernel
theorem dL_law_431 : decode cL_law 431 = .ok (.iload_n 3, 1) := by decide +kernel
theorem dL_law_432 : decode cL_law 432 = .ok (.iconst 2, 1) := by decide +kernel
theorem dL_law_433 : decode cL_law 433 = .ok (.iadd, 1) := by decide +kernel
theorem dL_law_434 : decode cL_law 434 = .ok (.iaload, 1) := by decide +kernel
theorem dL_law_435 : decode cL_law 435 = .ok (.invokevirtual 57, 3) := by decide +kernel
theorem dL_law_438 : decode cL_law 438 = .ok (.aload_n 2, 1) := by decide +kernel
theorem dL_law_439 : decode cL_law 439 = .ok (.aload_n 0, 1) := by decide +kernel
theorem dL_law_440 : decode cL_law 440 = .ok (.iload_n 3, 1) := by decide +kernel
theorem dL_law_441 : decode cL_law 441 = .ok (.iconst 1, 1) := by decide +kernel
theorem dL_law_442 : decode cL_law 442 = .ok (.iadd, 1) := by decide +kernel
theorem dL_law_443 : decode cL_law 443 = .ok (.iaload, 1) := by decide +kernel
theorem dL_law_444 : decode cL_law 444 = .ok (.aload_n 0, 1) := by decide +kernel
theorem dL_law_445 : decode cL_law 445 = .ok (.iload_n 3, 1) := by decide +kernel
theorem dL_law_446 : decode cL_law 446 = .ok (.iconst 2, 1) := by decide +kernel
theorem dL_law_447 : decode cL_law 447 = .ok (.iadd, 1) := by decide +kernel
theorem dL_law_448 : decode cL_law 448 = .ok (.iaload, 1) := by decide +kernel
theorem dL_law_449 : decode cL_law 449 = .ok (.invokevirtual 60, 3) := by decide +kernel
theorem dL_law_452 : decode cL_law 452 = .ok (.if_icmp .eq 74, 3) := by decide +kernel
theorem dL_law_455 : decode cL_law 455 = .ok (.iconst 0, 1) := by decide +kernel
theorem dL_law_456 : decode cL_law 456 = .ok (.ireturn, 1) := by decide +kernel
theorem dL_law_457 : decode cL_law 457 = .ok (.aload_n 1, 1) := by decide +kernel
theorem dL_law_458 : decode cL_law 458 = .ok (.aload_n 0, 1) := by decide +kernel
theorem dL_law_459 : decode cL_law 459 = .ok (.iload_n 3, 1) := by decide +kernel
theorem dL_law_460 : decode cL_law 460 = .ok (.iconst 1, 1) := by decide +kernel
theorem dL_law_461 : decode cL_law 461 = .ok (.iadd, 1) := by decide +kernel
theorem dL_law_462 : decode cL_law 462 = .ok (.iaload, 1) := by decide +kernel
theorem dL_law_463 : decode cL_law 463 = .ok (.aload_n 0, 1) := by decide +kernel
theorem dL_law_464 : decode cL_law 464 = .ok (.iload_n 3, 1) := by decide +kernel
theorem dL_law_465 : decode cL_law 465 = .ok (.iconst 2, 1) := by decide +kernel
theorem dL_law_466 : decode cL_law 466 = .ok (.iadd, 1) := by decide +kernel
theorem dL_law_467 : decode cL_law 467 = .ok (.iaload, 1) := by decide +kernel
theorem dL_law_468 : decode cL_law 468 = .ok (.invokevirtual 61, 3) := by decide +kernel
theorem dL_law_471 : decode cL_law 471 = .ok (.aload_n 2, 1) := by decide +kernel
theorem dL_law_472 : decode cL_law 472 = .ok (.aload_n 0, 1) := by decide +kernel
theorem dL_law_473 : decode cL_law 473 = .ok (.iload_n 3, 1) := by decide +kernel
theorem dL_law_474 : decode cL_law 474 = .ok (.iconst 1, 1) := by decide +kernel
theorem dL_law_475 : decode cL_law 475 = .ok (.iadd, 1) := by decide +kernel
theorem dL_law_476 : decode cL_law 476 = .ok (.iaload, 1) := by decide +kernel
theorem dL_law_477 : decode cL_law 477 = .ok (.aload_n 0, 1) := by decide +kernel
theorem dL_law_478 : decode cL_law 478 = .ok (.iload_n 3, 1) := by decide +kernel
theorem dL_law_479 : decode cL_law 479 = .ok (.iconst 2, 1) := by decide +kernel
theorem dL_law_480 : decode cL_law 480 = .ok (.iadd, 1) := by decide +kernel
theorem dL_law_481 : decode cL_law 481 = .ok (.iaload, 1) := by decide +kernel
theorem dL_law_482 : decode cL_law 482 = .ok (.invokevirtual 64, 3) := by decide +kernel
theorem dL_law_485 : decode cL_law 485 = .ok (.if_icmp .eq 41, 3) := by decide +kernel
theorem dL_law_488 : decode cL_law 488 = .ok (.iconst 0, 1) := by decide +kernel
theorem dL_law_489 : decode cL_law 489 = .ok (.ireturn, 1) := by decide +kernel
theorem dL_law_490 : decode cL_law 490 = .ok (.aload_n 1, 1) := by decide +kernel
theorem dL_law_491 : decode cL_law 491 = .ok (.invokevirtual 65, 3) := by decide +kernel
theorem dL_law_494 : decode cL_law 494 = .ok (.aload_n 2, 1) := by decide +kernel
theorem dL_law_495 : decode cL_law 495 = .ok (.invokevirtual 68, 3) := by decide +kernel
theorem dL_law_498 : decode cL_law 498 = .ok (.if_icmp .eq 28, 3) := by decide +kernel
theorem dL_law_501 : decode cL_law 501 = .ok (.iconst 0, 1) := by decide +kernel
theorem dL_law_502 : decode cL_law 502 = .ok (.ireturn, 1) := by decide +kernel
theorem dL_law_503 : decode cL_law 503 = .ok (.aload_n 1, 1) := by decide +kernel
theorem dL_law_504 : decode cL_law 504 = .ok (.aload_n 0, 1) := by decide +kernel
theorem dL_law_505 : decode cL_law 505 = .ok (.iload_n 3, 1) := by decide +kernel
theorem dL_law_506 : decode cL_law 506 = .ok (.iconst 1, 1) := by decide +kernel
theorem dL_law_507 : decode cL_law 507 = .ok (.iadd, 1) := by decide +kernel
theorem dL_law_508 : decode cL_law 508 = .ok (.iaload, 1) := by decide +kernel
theorem dL_law_509 : decode cL_law 509 = .ok (.invokevirtual 69, 3) := by decide +kernel
theorem dL_law_512 : decode cL_law 512 = .ok (.aload_n 2, 1) := by decide +kernel
theorem dL_law_513 : decode cL_law 513 = .ok (.aload_n 0, 1) := by decide +kernel
theorem dL_law_514 : decode cL_law 514 = .ok (.iload_n 3, 1) := by decide +kernel
theorem dL_law_515 : decode cL_law 515 = .ok (.iconst 1, 1) := by decide +kernel
theorem dL_law_516 : decode cL_law 516 = .ok (.iadd, 1) := by decide +kernel
theorem dL_law_517 : decode cL_law 517 = .ok (.iaload, 1) := by decide +kernel
theorem dL_law_518 : decode cL_law 518 = .ok (.invokevirtual 72, 3) := by decide +kernel
theorem dL_law_521 : decode cL_law 521 = .ok (.if_icmp .eq 5, 3) := by decide +kernel
theorem dL_law_524 : decode cL_law 524 = .ok (.iconst 0, 1) := by decide +kernel
theorem dL_law_525 : decode cL_law 525 = .ok (.ireturn, 1) := by decide +kernel
end
section
set_option maxRecDepth 100000
theorem dL_law_526 : decode cL_law 526 = .ok (.iinc 3 4, 3) := by decide +kernel
theorem dL_law_529 : decode cL_law 529 = .ok (.goto (-511), 3) := by decide +kernel
theorem dL_law_532 : decode cL_law 532 = .ok (.iconst 1, 1) := by decide +kernel
theorem dL_law_533 : decode cL_law 533 = .ok (.ireturn, 1) := by decide +kernel
end
section
set_option maxRecDepth 100000
theorem q24 : (Jvm.Cond.initialized "CreditNetworkLaw") ∈ lw_all := lw_g (lw_at lw_m1 0 rfl) rfl
theorem q27 : (Jvm.Cond.classLink "CreditNetworkLaw" (7 : Nat) "CreditNetwork") ∈ lw_all := lw_g (lw_at lw_m1 3 rfl) rfl
theorem q29 : (Jvm.Cond.methodLink "CreditNetworkLaw" (9 : Nat) ({ cls := "CreditNetwork", name := "<init>", desc := "()V" } : Jvm.MethodName)) ∈ lw_all := lw_g (lw_at lw_m1 5 rfl) rfl
theorem q76 : (Jvm.Cond.methodLink "CreditNetworkLaw" (13 : Nat) ({ cls := "CreditNetwork", name := "trust", desc := "(III)I" } : Jvm.MethodName)) ∈ lw_all := lw_g (lw_at lw_m1 52 rfl) rfl
theorem q86 : (Jvm.Cond.methodLink "CreditNetworkLaw" (18 : Nat) ({ cls := "CreditNetwork", name := "withdraw", desc := "(III)I" } : Jvm.MethodName)) ∈ lw_all := lw_g (lw_at lw_m1 62 rfl) rfl
theorem q116 : (Jvm.Cond.methodLink "CreditNetworkLaw" (22 : Nat) ({ cls := "CreditNetwork", name := "pay", desc := "(III)I" } : Jvm.MethodName)) ∈ lw_all := lw_g (lw_at lw_m1 92 rfl) rfl
theorem q120 : (Jvm.Cond.methodLink "CreditNetworkLaw" (26 : Nat) ({ cls := "CreditNetwork", name := "gather", desc := "(III)I" } : Jvm.MethodName)) ∈ lw_all := lw_g (lw_at lw_m1 96 rfl) rfl
theorem q124 : (Jvm.Cond.methodLink "CreditNetworkLaw" (30 : Nat) ({ cls := "CreditNetwork", name := "clear", desc := "()I" } : Jvm.MethodName)) ∈ lw_all := lw_g (lw_at lw_m1 100 rfl) rfl
theorem q128 : (Jvm.Cond.methodLink "CreditNetworkLaw" (35 : Nat) ({ cls := "CreditNetwork", name := "forget", desc := "()I" } : Jvm.MethodName)) ∈ lw_all := lw_g (lw_at lw_m1 104 rfl) rfl
theorem q132 : (Jvm.Cond.methodLink "CreditNetworkLaw" (39 : Nat) ({ cls := "CreditNetwork", name := "trusted", desc := "(II)I" } : Jvm.MethodName)) ∈ lw_all := lw_g (lw_at lw_m1 108 rfl) rfl
theorem q136 : (Jvm.Cond.methodLink "CreditNetworkLaw" (44 : Nat) ({ cls := "CreditNetwork", name := "position", desc := "(I)I" } : Jvm.MethodName)) ∈ lw_all := lw_g (lw_at lw_m1 112 rfl) rfl
theorem q140 : (Jvm.Cond.methodLink "CreditNetworkLaw" (49 : Nat) ({ cls := "CreditNetwork", name := "most", desc := "(II)I" } : Jvm.MethodName)) ∈ lw_all := lw_g (lw_at lw_m1 116 rfl) rfl
theorem q144 : (Jvm.Cond.methodLink "CreditNetworkLaw" (53 : Nat) ({ cls := "CreditNetwork", name := "spread", desc := "(II)I" } : Jvm.MethodName)) ∈ lw_all := lw_g (lw_at lw_m1 120 rfl) rfl
theorem q148 : (Jvm.Cond.methodLink "CreditNetworkLaw" (57 : Nat) ({ cls := "CreditNetwork", name := "leastDebt", desc := "(II)I" } : Jvm.MethodName)) ∈ lw_all := lw_g (lw_at lw_m1 124 rfl) rfl
theorem q161 : (Jvm.Cond.methodLink "CreditNetworkLaw" (61 : Nat) ({ cls := "CreditNetwork", name := "greatestDebt", desc := "(II)I" } : Jvm.MethodName)) ∈ lw_all := lw_g (lw_at lw_m1 137 rfl) rfl
theorem q165 : (Jvm.Cond.methodLink "CreditNetworkLaw" (65 : Nat) ({ cls := "CreditNetwork", name := "debts", desc := "()I" } : Jvm.MethodName)) ∈ lw_all := lw_g (lw_at lw_m1 141 rfl) rfl
theorem q189 : (Jvm.Cond.methodLink "CreditNetworkLaw" (69 : Nat) ({ cls := "CreditNetwork", name := "open", desc := "(I)I" } : Jvm.MethodName)) ∈ lw_all := lw_g (lw_at lw_m1 165 rfl) rfl
theorem q194 : (Jvm.Cond.classLink "CreditNetworkLaw" (10 : Nat) "CreditNetworkModel") ∈ lw_all := lw_g (lw_at lw_m1 170 rfl) rfl
theorem q196 : (Jvm.Cond.methodLink "CreditNetworkLaw" (12 : Nat) ({ cls := "CreditNetworkModel", name := "<init>", desc := "()V" } : Jvm.MethodName)) ∈ lw_all := lw_g (lw_at lw_m1 172 rfl) rfl
theorem q231 : (Jvm.Cond.methodLink "CreditNetworkLaw" (17 : Nat) ({ cls := "CreditNetworkModel", name := "trust", desc := "(III)I" } : Jvm.MethodName)) ∈ lw_all := lw_g (lw_at lw_m1 207 rfl) rfl
theorem q239 : (Jvm.Cond.methodLink "CreditNetworkLaw" (21 : Nat) ({ cls := "CreditNetworkModel", name := "withdraw", desc := "(III)I" } : Jvm.MethodName)) ∈ lw_all := lw_g (lw_at lw_m1 215 rfl) rfl
theorem q255 : (Jvm.Cond.methodLink "CreditNetworkLaw" (25 : Nat) ({ cls := "CreditNetworkModel", name := "pay", desc := "(III)I" } : Jvm.MethodName)) ∈ lw_all := lw_g (lw_at lw_m1 231 rfl) rfl
theorem q263 : (Jvm.Cond.methodLink "CreditNetworkLaw" (29 : Nat) ({ cls := "CreditNetworkModel", name := "gather", desc := "(III)I" } : Jvm.MethodName)) ∈ lw_all := lw_g (lw_at lw_m1 239 rfl) rfl
theorem q267 : (Jvm.Cond.methodLink "CreditNetworkLaw" (34 : Nat) ({ cls := "CreditNetworkModel", name := "clear", desc := "()I" } : Jvm.MethodName)) ∈ lw_all := lw_g (lw_at lw_m2 3 rfl) rfl
theorem q275 : (Jvm.Cond.methodLink "CreditNetworkLaw" (38 : Nat) ({ cls := "CreditNetworkModel", name := "forget", desc := "()I" } : Jvm.MethodName)) ∈ lw_all := lw_g (lw_at lw_m2 11 rfl) rfl
theorem q279 : (Jvm.Cond.methodLink "CreditNetworkLaw" (43 : Nat) ({ cls := "CreditNetworkModel", name := "trusted", desc := "(II)I" } : Jvm.MethodName)) ∈ lw_all := lw_g (lw_at lw_m2 15 rfl) rfl
theorem q283 : (Jvm.Cond.methodLink "CreditNetworkLaw" (48 : Nat) ({ cls := "CreditNetworkModel", name := "position", desc := "(I)I" } : Jvm.MethodName)) ∈ lw_all := lw_g (lw_at lw_m2 19 rfl) rfl
theorem q287 : (Jvm.Cond.methodLink "CreditNetworkLaw" (52 : Nat) ({ cls := "CreditNetworkModel", name := "most", desc := "(II)I" } : Jvm.MethodName)) ∈ lw_all := lw_g (lw_at lw_m2 23 rfl) rfl
theorem q291 : (Jvm.Cond.methodLink "CreditNetworkLaw" (56 : Nat) ({ cls := "CreditNetworkModel", name := "spread", desc := "(II)I" } : Jvm.MethodName)) ∈ lw_all := lw_g (lw_at lw_m2 27 rfl) rfl
theorem q295 : (Jvm.Cond.methodLink "CreditNetworkLaw" (60 : Nat) ({ cls := "CreditNetworkModel", name := "leastDebt", desc := "(II)I" } : Jvm.MethodName)) ∈ lw_all := lw_g (lw_at lw_m2 31 rfl) rfl
theorem q300 : (Jvm.Cond.methodLink "CreditNetworkLaw" (64 : Nat) ({ cls := "CreditNetworkModel", name := "greatestDebt", desc := "(II)I" } : Jvm.MethodName)) ∈ lw_all := lw_g (lw_at lw_m2 36 rfl) rfl
theorem q304 : (Jvm.Cond.methodLink "CreditNetworkLaw" (68 : Nat) ({ cls := "CreditNetworkModel", name := "debts", desc := "()I" } : Jvm.MethodName)) ∈ lw_all := lw_g (lw_at lw_m2 40 rfl) rfl
theorem q328 : (Jvm.Cond.methodLink "CreditNetworkLaw" (72 : Nat) ({ cls := "CreditNetworkModel", name := "open", desc := "(I)I" } : Jvm.MethodName)) ∈ lw_all := lw_g (lw_at lw_m2 64 rfl) rfl
end
section
/-! ===== a layer over the kit: ints as Int, a state as a table of functions, one goal G a place in the code ===== -/
def iI (z : Int) : Int32 := Int32.ofInt z
theorem iI_add (a b : Int) : iI a + iI b = iI (a + b) := (Int32.ofInt_add a b).symm
theorem iI_sub (a b : Int) : iI a - iI b = iI (a - b) := (Int32.ofInt_sub a b).symm
theorem iI_mul (a b : Int) : iI a * iI b = iI (a * b) := (Int32.ofInt_mul a b).symm
theorem iI_neg (a : Int) : -iI a = iI (-a) := (Int32.ofInt_neg a).symm
theorem iI_0 : iI 0 = 0 := by decide +kernel
theorem iI_toInt {a : Int} (h : -2147483648 ≤ a ∧ a ≤ 2147483647) : (iI a).toInt = a := Int32.toInt_ofInt_of_le (by omega) (by omega)
theorem iI_le {a b : Int} (ha : -2147483648 ≤ a ∧ a ≤ 2147483647) (hb : -2147483648 ≤ b ∧ b ≤ 2147483647) : iI a ≤ iI b ↔ a ≤ b := by
  rw [Int32.le_iff_toInt_le, iI_toInt ha, iI_toInt hb]
theorem iI_lt {a b : Int} (ha : -2147483648 ≤ a ∧ a ≤ 2147483647) (hb : -2147483648 ≤ b ∧ b ≤ 2147483647) : iI a < iI b ↔ a < b := by
  rw [Int32.lt_iff_toInt_lt, iI_toInt ha, iI_toInt hb]
theorem iI_eq {a b : Int} (ha : -2147483648 ≤ a ∧ a ≤ 2147483647) (hb : -2147483648 ≤ b ∧ b ≤ 2147483647) : iI a = iI b ↔ a = b := by
  rw [← Int32.toInt_inj, iI_toInt ha, iI_toInt hb]
theorem iI_of (x : Int32) : x = iI x.toInt := (Int32.ofInt_toInt x).symm
theorem iI_rng (x : Int32) : -2147483648 ≤ x.toInt ∧ x.toInt ≤ 2147483647 := by
  have h1 := x.le_toInt
  have h2 := x.toInt_lt
  omega
theorem iI_cl {a : Int} (h : 0 ≤ a ∧ a ≤ 2147483647) : (iI a).toNatClampNeg = a.toNat := Int32.toNatClampNeg_ofInt_of_le (by omega) (by omega)
theorem iI_nat (n : Nat) : iI (n : Int) = nI n := rfl
theorem iI_nI {a : Int} (h : 0 ≤ a) : iI a = nI a.toNat := by
  have e : ((a.toNat : Nat) : Int) = a := Int.toNat_of_nonneg h
  rw [← iI_nat, e]
theorem iI_in {a : Int} {n : Nat} (h : 0 ≤ a ∧ a < n) (hn : n < 100000) : vp_in (iI a) n := by
  intro q
  rcases q with q | q
  · rw [← iI_0, iI_lt (by omega) (by omega)] at q
    omega
  · rw [iI_cl (by omega)] at q
    omega
theorem iI_div {a b : Int} (ha : 0 ≤ a ∧ a ≤ 2147483647) (hb : 0 < b ∧ b ≤ 2147483647) : iI a / iI b = iI (a / b) := by
  obtain ⟨m, rfl⟩ : ∃ m : Nat, a = (m : Int) := ⟨a.toNat, by omega⟩
  obtain ⟨n, rfl⟩ : ∃ n : Nat, b = (n : Int) := ⟨b.toNat, by omega⟩
  have h := pk_div (a := m) (d := n) (by omega) (by omega) (by omega)
  rw [iI_nat, iI_nat, h, ← iI_nat]
  rfl
theorem iI_rem {a b : Int} (ha : 0 ≤ a ∧ a ≤ 2147483647) (hb : 0 < b ∧ b ≤ 2147483647) : iI a - iI a / iI b * iI b = iI (a % b) := by
  obtain ⟨m, rfl⟩ : ∃ m : Nat, a = (m : Int) := ⟨a.toNat, by omega⟩
  obtain ⟨n, rfl⟩ : ∃ n : Nat, b = (n : Int) := ⟨b.toNat, by omega⟩
  have h := pk_rem (a := m) (d := n) (by omega) (by omega) (by omega)
  rw [iI_nat, iI_nat, h, ← iI_nat]
  rfl
theorem iI_sh : ∀ n : Nat, n < 31 → ((nI n &&& 31).toBitVec.smod 32).toNat = n := by decide +kernel
theorem iI_shr {a u : Int} (ha : 0 ≤ a ∧ a ≤ 2147483647) (hu : 0 ≤ u ∧ u < 31) : iI a >>> (iI u &&& 31) = iI (a / 2 ^ u.toNat) := by
  obtain ⟨m, rfl⟩ : ∃ m : Nat, a = (m : Int) := ⟨a.toNat, by omega⟩
  obtain ⟨n, rfl⟩ : ∃ n : Nat, u = (n : Int) := ⟨u.toNat, by omega⟩
  have h := pk_shrN (n := m) (by omega) (nI n &&& 31) n (iI_sh n (by omega))
  rw [iI_nat, iI_nat, h, ← iI_nat]
  congr 1
theorem iI_shl1 {u : Int} (hu : 0 ≤ u ∧ u < 31) : iI 1 <<< (iI u &&& 31) = iI (2 ^ u.toNat) := by
  obtain ⟨n, rfl⟩ : ∃ n : Nat, u = (n : Int) := ⟨u.toNat, by omega⟩
  have hn : n < 31 := by omega
  have hp : 2 ^ n < 2 ^ 31 := Nat.pow_lt_pow_right (by decide) hn
  have h := pk_shlN (n := 1) (nI n &&& 31) n (iI_sh n hn) (by omega)
  have e1 : iI 1 = nI 1 := rfl
  rw [e1, iI_nat, h, ← iI_nat]
  congr 1
  simp
theorem iI_and1 {a : Int} (ha : 0 ≤ a ∧ a ≤ 2147483647) : iI a &&& iI 1 = iI (a % 2) := by
  obtain ⟨m, rfl⟩ : ∃ m : Nat, a = (m : Int) := ⟨a.toNat, by omega⟩
  have h := pk_andN (n := m) (by omega) (m := 1) 1 (by decide)
  have e1 : iI 1 = 1 := by decide
  rw [iI_nat, e1, h, ← iI_nat]
  rfl
theorem nx_and' (a b : Nat) : nI a &&& nI b = nI (a &&& b) := by
  apply Int32.toBitVec.inj
  show (BitVec.ofNat 32 a) &&& (BitVec.ofNat 32 b) = BitVec.ofNat 32 (a &&& b)
  apply BitVec.eq_of_toNat_eq
  simp [BitVec.toNat_ofNat, Nat.and_mod_two_pow]
theorem iI_and {a b : Int} (ha : 0 ≤ a) (hb : 0 ≤ b) : iI a &&& iI b = iI ((a.toNat &&& b.toNat : Nat) : Int) := by
  rw [iI_nI ha, iI_nI hb, nx_and', ← iI_nat]

/-! ===== values, locals ===== -/
abbrev pv : Type := Int ⊕ Nat
abbrev st_T : Type := Nat → Int → Int
def pV (v : pv) : Value := match v with
  | .inl z => .int (iI z)
  | .inr a => .ref a
theorem pV_cat (v : pv) : (pV v).category = 1 := by cases v <;> rfl
theorem pV_sum (st : List pv) : ((st.map pV).map fun v => v.category).sum = st.length := by
  induction st with
  | nil => rfl
  | cons a t ih =>
    simp only [List.map_cons, List.sum_cons, List.length_cons, pV_cat] at ih ⊢
    omega
def us (S : st_T) (k : Nat) (g : Int → Int) : st_T := fun k' => if k' = k then g else S k'
def ua (f : Int → Int) (i v : Int) : Int → Int := fun j => if j = i then v else f j
theorem us_s {S : st_T} {k : Nat} {g : Int → Int} : us S k g k = g := if_pos rfl
theorem us_n {S : st_T} {k k' : Nat} {g : Int → Int} (h : k' ≠ k) : us S k g k' = S k' := if_neg h
theorem ua_s {f : Int → Int} {i v : Int} : ua f i v i = v := if_pos rfl
theorem ua_n {f : Int → Int} {i j v : Int} (h : j ≠ i) : ua f i v j = f j := if_neg h
def cl_has (ls : Array Slot) (nL : Nat) (lv : List (Option pv)) : Prop := ls.size = nL ∧ lv_wf ls ∧ ∀ (i : Nat) (v : pv), lv[i]? = some (some v) → ls[i]? = some (.val (pV v))
def cl_as (lv : List (Option pv)) : List (Nat × Value) := (List.range lv.length).filterMap (fun i => match lv[i]? with
  | some (some v) => some (i, pV v)
  | _ => none)
theorem cl_mem {lv : List (Option pv)} {i : Nat} {v : pv} (h : lv[i]? = some (some v)) : (i, pV v) ∈ cl_as lv := by
  refine List.mem_filterMap.mpr ⟨i, ?_, ?_⟩
  · rw [List.mem_range]
    exact (List.getElem?_eq_some_iff.mp h).1
  · rw [h]
theorem cl_mem' {lv : List (Option pv)} {q : Nat × Value} (h : q ∈ cl_as lv) : ∃ v : pv, lv[q.1]? = some (some v) ∧ q.2 = pV v := by
  obtain ⟨i, -, hi⟩ := List.mem_filterMap.mp h
  split at hi
  next v hv =>
    cases hi
    exact ⟨v, hv, rfl⟩
  next => cases hi
theorem cl_to {ls : Array Slot} {nL : Nat} {lv : List (Option pv)} (h : cl_has ls nL lv) : lv_has ls nL (cl_as lv) := by
  refine ⟨h.1, h.2.1, fun q hq => ?_⟩
  obtain ⟨v, h1, h2⟩ := cl_mem' hq
  rw [h2]
  exact h.2.2 q.1 v h1
theorem cl_store {ls : Array Slot} {nL i : Nat} {lv : List (Option pv)} {v : pv} (h : lv_has ls nL ((i, pV v) :: (cl_as lv).filter (fun q => !(q.1 == i) && !(q.1 + 1 == i && q.2.category == 2)))) : cl_has ls nL (lv.set i (some v)) := by
  refine ⟨h.1, h.2.1, fun j w hj => ?_⟩
  by_cases e : j = i
  · subst e
    have hlt : j < lv.length := by
      have := (List.getElem?_eq_some_iff.mp hj).1
      simpa using this
    rw [List.getElem?_set_self hlt] at hj
    have hw : v = w := Option.some.inj (Option.some.inj hj)
    subst hw
    exact h.2.2 (j, pV v) List.mem_cons_self
  · rw [List.getElem?_set_ne (fun q => e q.symm)] at hj
    refine h.2.2 (j, pV w) (List.mem_cons_of_mem _ (List.mem_filter.mpr ⟨cl_mem hj, ?_⟩))
    simp [e, pV_cat]
theorem cl_sl (vs : List pv) : (lg_sl (vs.map pV)).length = vs.length := by
  induction vs with
  | nil => rfl
  | cons a t ih =>
    simp only [lg_sl, List.map_cons, List.flatMap_cons, List.length_append, List.length_cons, pV_cat] at ih ⊢
    simp at ih ⊢
    omega
theorem cl_args (vs : List pv) : ∀ (n i : Nat) (v : pv), vs[i]? = some v → (n + i, pV v) ∈ lv_args n (vs.map pV) := by
  induction vs with
  | nil => intro n i v h; simp at h
  | cons a t ih =>
    intro n i v h
    have hc : ¬ (pV a).category = 2 := by rw [pV_cat]; decide
    simp only [List.map_cons, lv_args, if_neg hc]
    cases i with
    | zero =>
      simp at h
      subst h
      exact List.mem_cons_self
    | succ i =>
      have := ih (n + 1) i v (by simpa using h)
      rw [show n + 1 + i = n + (i + 1) by omega] at this
      exact List.mem_cons_of_mem _ this
/-- a method's locals at its entry -/
theorem cl_entry (vs : List pv) {n : Nat} (h : vs.length ≤ n) : cl_has ((lg_sl (vs.map pV) ++ List.replicate (n - (lg_sl (vs.map pV)).length) Slot.unset).toArray) n (vs.map some ++ List.replicate (n - vs.length) none) := by
  have h0 := lv_entry (vs.map pV) (n := n) (by rw [cl_sl]; exact h)
  refine ⟨h0.1, h0.2.1, fun i v hi => ?_⟩
  have hlt : i < vs.length := by
    rcases Nat.lt_or_ge i vs.length with q | q
    · exact q
    · rw [List.getElem?_append_right (by simpa using q), List.getElem?_replicate] at hi
      split at hi
      · cases hi
      · cases hi
  rw [List.getElem?_append_left (by simpa using hlt), List.getElem?_map] at hi
  cases hv : vs[i]? with
  | none => rw [hv] at hi; cases hi
  | some w =>
    rw [hv] at hi
    have hw : w = v := by simpa using hi
    subst hw
    have := h0.2.2 _ (cl_args vs 0 i w hv)
    simpa using this

/-! ===== the place in a run: its fixed parts E, then code, locals' number, the state S, pc, locals, stack ===== -/
abbrev vwCl : List vw_C := [(RX0, TX0, 13), (RX1, TX1, 10)]
abbrev ct_T : Type := (Program × Launch × Env × Room × State) × (MethodId × Array Value × List Frame × Method × Code) × (Nat × Nat × (State → Prop)) × (va_G × (Nat → Prop) × String × (st_T → va_W) × ClassId)
def ct_R (E : ct_T) : Room := E.1.2.2.2.1
def ct_ok (E : ct_T) (cc : ByteArray) (nL : Nat) : Prop := match E with
  | ((p, l, e, R, s), (m, args, below, meth, c), (cells, slots, Q), (D, A, own, wf, d)) => p.tables.exec = Jvm.exec ∧ c.code = cc ∧ c.maxLocals = nL ∧ s.vm.findClass own = some m.cls ∧ (∀ w ∈ lw_all, w.before args s = true) ∧ va_K D vwCl [(d, .int)] s ∧ (∀ S : st_T, va_D A (wf S)) ∧ (∀ q, s.heap.size ≤ q → A q) ∧ cells ≤ R.cells ∧ slots ≤ R.slots
def G (E : ct_T) (cc : ByteArray) (nL : Nat) (S : st_T) (pc : Nat) (lv : List (Option pv)) (st : List pv) : Prop := match E with
  | ((p, l, e, R, s), (m, args, below, meth, c), (cells, slots, Q), (D, A, own, wf, d)) => ct_ok ((p, l, e, R, s), (m, args, below, meth, c), (cells, slots, Q), (D, A, own, wf, d)) cc nL → ∀ (H : Heap) (locs : List Loc) (ls : Array Slot), va_P D vwCl (wf S) H → va_S A s.heap H locs → cl_has ls nL lv → W p l e R s m args below meth c H locs cells slots Q (F0 m pc ls (st.map pV))
section
variable {E : ct_T} {cc : ByteArray} {nL : Nat} {S : st_T} {pc : Nat} {lv : List (Option pv)} {st : List pv}
theorem g_iconst {z : Int} (pc' : Nat) (hd : decode cc pc = .ok (.iconst z, 1)) (hp : pc + 1 = pc') (k : G E cc nL S pc' lv (.inl z :: st)) : G E cc nL S pc lv st := by
  subst hp
  obtain ⟨⟨p, l, e, R, s⟩, ⟨m, args, below, meth, c⟩, ⟨cells, slots, Q⟩, ⟨D, A, own, wf, d⟩⟩ := E
  intro C H locs ls hP hS hl
  exact lv_iconst C.1 C.2.1 hd rfl (k C H locs ls hP hS hl)
theorem g_bipush {z : Int} (pc' : Nat) (hd : decode cc pc = .ok (.bipush z, 2)) (hp : pc + 2 = pc') (hv : (Int8.ofInt z).toInt32 = iI z) (k : G E cc nL S pc' lv (.inl z :: st)) : G E cc nL S pc lv st := by
  subst hp
  obtain ⟨⟨p, l, e, R, s⟩, ⟨m, args, below, meth, c⟩, ⟨cells, slots, Q⟩, ⟨D, A, own, wf, d⟩⟩ := E
  intro C H locs ls hP hS hl
  exact lv_bipush C.1 C.2.1 hd hv (k C H locs ls hP hS hl)
theorem g_sipush {z : Int} (pc' : Nat) (hd : decode cc pc = .ok (.sipush z, 3)) (hp : pc + 3 = pc') (hv : (Int16.ofInt z).toInt32 = iI z) (k : G E cc nL S pc' lv (.inl z :: st)) : G E cc nL S pc lv st := by
  subst hp
  obtain ⟨⟨p, l, e, R, s⟩, ⟨m, args, below, meth, c⟩, ⟨cells, slots, Q⟩, ⟨D, A, own, wf, d⟩⟩ := E
  intro C H locs ls hP hS hl
  exact lv_sipush C.1 C.2.1 hd hv (k C H locs ls hP hS hl)
theorem g_iload_n {i : Fin 4} {z : Int} (pc' : Nat) (hd : decode cc pc = .ok (.iload_n i, 1)) (hp : pc + 1 = pc') (hv : lv[(i : Nat)]? = some (some (.inl z))) (k : G E cc nL S pc' lv (.inl z :: st)) : G E cc nL S pc lv st := by
  subst hp
  obtain ⟨⟨p, l, e, R, s⟩, ⟨m, args, below, meth, c⟩, ⟨cells, slots, Q⟩, ⟨D, A, own, wf, d⟩⟩ := E
  intro C H locs ls hP hS hl
  exact lv_iload_n C.1 C.2.1 hd rfl (hl.2.2 _ _ hv) (k C H locs ls hP hS hl)
theorem g_iload {i : Nat} {z : Int} (pc' : Nat) (hd : decode cc pc = .ok (.iload i, 2)) (hp : pc + 2 = pc') (hv : lv[i]? = some (some (.inl z))) (k : G E cc nL S pc' lv (.inl z :: st)) : G E cc nL S pc lv st := by
  subst hp
  obtain ⟨⟨p, l, e, R, s⟩, ⟨m, args, below, meth, c⟩, ⟨cells, slots, Q⟩, ⟨D, A, own, wf, d⟩⟩ := E
  intro C H locs ls hP hS hl
  exact lv_iload C.1 C.2.1 hd (hl.2.2 _ _ hv) (k C H locs ls hP hS hl)
theorem g_aload_n {i : Fin 4} {a : Nat} (pc' : Nat) (hd : decode cc pc = .ok (.aload_n i, 1)) (hp : pc + 1 = pc') (hv : lv[(i : Nat)]? = some (some (.inr a))) (k : G E cc nL S pc' lv (.inr a :: st)) : G E cc nL S pc lv st := by
  subst hp
  obtain ⟨⟨p, l, e, R, s⟩, ⟨m, args, below, meth, c⟩, ⟨cells, slots, Q⟩, ⟨D, A, own, wf, d⟩⟩ := E
  intro C H locs ls hP hS hl
  exact lv_aload_n C.1 C.2.1 hd rfl (hl.2.2 _ _ hv) (k C H locs ls hP hS hl)
theorem g_istore_n {i : Fin 4} {z : Int} (pc' : Nat) (hd : decode cc pc = .ok (.istore_n i, 1)) (hp : pc + 1 = pc') (hi : (i : Nat) < nL) (k : G E cc nL S pc' (lv.set (i : Nat) (some (.inl z))) st) : G E cc nL S pc lv (.inl z :: st) := by
  subst hp
  obtain ⟨⟨p, l, e, R, s⟩, ⟨m, args, below, meth, c⟩, ⟨cells, slots, Q⟩, ⟨D, A, own, wf, d⟩⟩ := E
  intro C H locs ls hP hS hl
  exact lv_istore_n C.1 C.2.1 hd rfl (cl_to hl) hi rfl (fun ls' h => k C H locs ls' hP hS (cl_store (v := .inl z) h))
theorem g_istore {i : Nat} {z : Int} (pc' : Nat) (hd : decode cc pc = .ok (.istore i, 2)) (hp : pc + 2 = pc') (hi : i < nL) (k : G E cc nL S pc' (lv.set i (some (.inl z))) st) : G E cc nL S pc lv (.inl z :: st) := by
  subst hp
  obtain ⟨⟨p, l, e, R, s⟩, ⟨m, args, below, meth, c⟩, ⟨cells, slots, Q⟩, ⟨D, A, own, wf, d⟩⟩ := E
  intro C H locs ls hP hS hl
  exact lv_istore C.1 C.2.1 hd (cl_to hl) hi rfl (fun ls' h => k C H locs ls' hP hS (cl_store (v := .inl z) h))
theorem g_astore_n {i : Fin 4} {a : Nat} (pc' : Nat) (hd : decode cc pc = .ok (.astore_n i, 1)) (hp : pc + 1 = pc') (hi : (i : Nat) < nL) (k : G E cc nL S pc' (lv.set (i : Nat) (some (.inr a))) st) : G E cc nL S pc lv (.inr a :: st) := by
  subst hp
  obtain ⟨⟨p, l, e, R, s⟩, ⟨m, args, below, meth, c⟩, ⟨cells, slots, Q⟩, ⟨D, A, own, wf, d⟩⟩ := E
  intro C H locs ls hP hS hl
  exact lv_astore_n C.1 C.2.1 hd rfl (cl_to hl) hi rfl (fun ls' h => k C H locs ls' hP hS (cl_store (v := .inr a) h))
theorem g_iinc {i : Nat} {z n : Int} (pc' : Nat) (hd : decode cc pc = .ok (.iinc i n, 3)) (hp : pc + 3 = pc') (hi : i < nL) (hv : lv[i]? = some (some (.inl z))) (k : G E cc nL S pc' (lv.set i (some (.inl (z + n)))) st) : G E cc nL S pc lv st := by
  subst hp
  obtain ⟨⟨p, l, e, R, s⟩, ⟨m, args, below, meth, c⟩, ⟨cells, slots, Q⟩, ⟨D, A, own, wf, d⟩⟩ := E
  intro C H locs ls hP hS hl
  obtain ⟨j, hj⟩ := List.getElem?_of_mem (cl_mem hv)
  exact lv_iinc (v := iI (z + n)) C.1 C.2.1 hd (cl_to hl) hj (iI_add z n) hi rfl (fun ls' h => k C H locs ls' hP hS (cl_store (v := .inl (z + n)) h))
theorem g_iadd {a b : Int} (pc' : Nat) (hd : decode cc pc = .ok (.iadd, 1)) (hp : pc + 1 = pc') (k : G E cc nL S pc' lv (.inl (a + b) :: st)) : G E cc nL S pc lv (.inl b :: .inl a :: st) := by
  subst hp
  obtain ⟨⟨p, l, e, R, s⟩, ⟨m, args, below, meth, c⟩, ⟨cells, slots, Q⟩, ⟨D, A, own, wf, d⟩⟩ := E
  intro C H locs ls hP hS hl
  refine lv_iadd C.1 C.2.1 hd ?_
  rw [iI_add]
  exact k C H locs ls hP hS hl
theorem g_isub {a b : Int} (pc' : Nat) (hd : decode cc pc = .ok (.isub, 1)) (hp : pc + 1 = pc') (k : G E cc nL S pc' lv (.inl (a - b) :: st)) : G E cc nL S pc lv (.inl b :: .inl a :: st) := by
  subst hp
  obtain ⟨⟨p, l, e, R, s⟩, ⟨m, args, below, meth, c⟩, ⟨cells, slots, Q⟩, ⟨D, A, own, wf, d⟩⟩ := E
  intro C H locs ls hP hS hl
  refine lv_isub C.1 C.2.1 hd ?_
  rw [iI_sub]
  exact k C H locs ls hP hS hl
theorem g_imul {a b : Int} (pc' : Nat) (hd : decode cc pc = .ok (.imul, 1)) (hp : pc + 1 = pc') (k : G E cc nL S pc' lv (.inl (a * b) :: st)) : G E cc nL S pc lv (.inl b :: .inl a :: st) := by
  subst hp
  obtain ⟨⟨p, l, e, R, s⟩, ⟨m, args, below, meth, c⟩, ⟨cells, slots, Q⟩, ⟨D, A, own, wf, d⟩⟩ := E
  intro C H locs ls hP hS hl
  refine lv_imul C.1 C.2.1 hd ?_
  rw [iI_mul]
  exact k C H locs ls hP hS hl
theorem g_ineg {a : Int} (pc' : Nat) (hd : decode cc pc = .ok (.ineg, 1)) (hp : pc + 1 = pc') (k : G E cc nL S pc' lv (.inl (-a) :: st)) : G E cc nL S pc lv (.inl a :: st) := by
  subst hp
  obtain ⟨⟨p, l, e, R, s⟩, ⟨m, args, below, meth, c⟩, ⟨cells, slots, Q⟩, ⟨D, A, own, wf, d⟩⟩ := E
  intro C H locs ls hP hS hl
  refine lv_ineg C.1 C.2.1 hd ?_
  rw [iI_neg]
  exact k C H locs ls hP hS hl
theorem g_idiv {a b : Int} (pc' : Nat) (hd : decode cc pc = .ok (.idiv, 1)) (hp : pc + 1 = pc') (ha : 0 ≤ a ∧ a ≤ 2147483647) (hb : 0 < b ∧ b ≤ 2147483647) (k : G E cc nL S pc' lv (.inl (a / b) :: st)) : G E cc nL S pc lv (.inl b :: .inl a :: st) := by
  subst hp
  obtain ⟨⟨p, l, e, R, s⟩, ⟨m, args, below, meth, c⟩, ⟨cells, slots, Q⟩, ⟨D, A, own, wf, d⟩⟩ := E
  intro C H locs ls hP hS hl
  refine lv_idiv C.1 C.2.1 hd (fun q => ?_) ?_
  · rw [← iI_0, iI_eq (by omega) (by omega)] at q
    omega
  · rw [iI_div ha hb]
    exact k C H locs ls hP hS hl
theorem g_irem {a b : Int} (pc' : Nat) (hd : decode cc pc = .ok (.irem, 1)) (hp : pc + 1 = pc') (ha : 0 ≤ a ∧ a ≤ 2147483647) (hb : 0 < b ∧ b ≤ 2147483647) (k : G E cc nL S pc' lv (.inl (a % b) :: st)) : G E cc nL S pc lv (.inl b :: .inl a :: st) := by
  subst hp
  obtain ⟨⟨p, l, e, R, s⟩, ⟨m, args, below, meth, c⟩, ⟨cells, slots, Q⟩, ⟨D, A, own, wf, d⟩⟩ := E
  intro C H locs ls hP hS hl
  refine lv_irem C.1 C.2.1 hd (fun q => ?_) ?_
  · rw [← iI_0, iI_eq (by omega) (by omega)] at q
    omega
  · rw [iI_rem ha hb]
    exact k C H locs ls hP hS hl
theorem g_ishr {a b : Int} (pc' : Nat) (hd : decode cc pc = .ok (.ishr, 1)) (hp : pc + 1 = pc') (ha : 0 ≤ a ∧ a ≤ 2147483647) (hb : 0 ≤ b ∧ b < 31) (k : G E cc nL S pc' lv (.inl (a / 2 ^ b.toNat) :: st)) : G E cc nL S pc lv (.inl b :: .inl a :: st) := by
  subst hp
  obtain ⟨⟨p, l, e, R, s⟩, ⟨m, args, below, meth, c⟩, ⟨cells, slots, Q⟩, ⟨D, A, own, wf, d⟩⟩ := E
  intro C H locs ls hP hS hl
  refine lv_ishr C.1 C.2.1 hd ?_
  rw [iI_shr ha hb]
  exact k C H locs ls hP hS hl
theorem g_ishl {b : Int} (pc' : Nat) (hd : decode cc pc = .ok (.ishl, 1)) (hp : pc + 1 = pc') (hb : 0 ≤ b ∧ b < 31) (k : G E cc nL S pc' lv (.inl (2 ^ b.toNat) :: st)) : G E cc nL S pc lv (.inl b :: .inl 1 :: st) := by
  subst hp
  obtain ⟨⟨p, l, e, R, s⟩, ⟨m, args, below, meth, c⟩, ⟨cells, slots, Q⟩, ⟨D, A, own, wf, d⟩⟩ := E
  intro C H locs ls hP hS hl
  refine lv_ishl C.1 C.2.1 hd ?_
  rw [iI_shl1 hb]
  exact k C H locs ls hP hS hl
theorem g_iand {a b : Int} (pc' : Nat) (hd : decode cc pc = .ok (.iand, 1)) (hp : pc + 1 = pc') (ha : 0 ≤ a) (hb : 0 ≤ b) (k : G E cc nL S pc' lv (.inl ((a.toNat &&& b.toNat : Nat) : Int) :: st)) : G E cc nL S pc lv (.inl b :: .inl a :: st) := by
  subst hp
  obtain ⟨⟨p, l, e, R, s⟩, ⟨m, args, below, meth, c⟩, ⟨cells, slots, Q⟩, ⟨D, A, own, wf, d⟩⟩ := E
  intro C H locs ls hP hS hl
  refine lv_iand C.1 C.2.1 hd ?_
  rw [iI_and ha hb]
  exact k C H locs ls hP hS hl
theorem g_iand1 {a : Int} (pc' : Nat) (hd : decode cc pc = .ok (.iand, 1)) (hp : pc + 1 = pc') (ha : 0 ≤ a ∧ a ≤ 2147483647) (k : G E cc nL S pc' lv (.inl (a % 2) :: st)) : G E cc nL S pc lv (.inl 1 :: .inl a :: st) := by
  subst hp
  obtain ⟨⟨p, l, e, R, s⟩, ⟨m, args, below, meth, c⟩, ⟨cells, slots, Q⟩, ⟨D, A, own, wf, d⟩⟩ := E
  intro C H locs ls hP hS hl
  refine lv_iand C.1 C.2.1 hd ?_
  rw [iI_and1 ha]
  exact k C H locs ls hP hS hl
theorem g_dup {v : pv} (pc' : Nat) (hd : decode cc pc = .ok (.dup, 1)) (hp : pc + 1 = pc') (k : G E cc nL S pc' lv (v :: v :: st)) : G E cc nL S pc lv (v :: st) := by
  subst hp
  obtain ⟨⟨p, l, e, R, s⟩, ⟨m, args, below, meth, c⟩, ⟨cells, slots, Q⟩, ⟨D, A, own, wf, d⟩⟩ := E
  intro C H locs ls hP hS hl
  exact lv_dup C.1 C.2.1 hd (pV_cat v) (k C H locs ls hP hS hl)
theorem g_dup2 {v w : pv} (pc' : Nat) (hd : decode cc pc = .ok (.dup2, 1)) (hp : pc + 1 = pc') (k : G E cc nL S pc' lv (v :: w :: v :: w :: st)) : G E cc nL S pc lv (v :: w :: st) := by
  subst hp
  obtain ⟨⟨p, l, e, R, s⟩, ⟨m, args, below, meth, c⟩, ⟨cells, slots, Q⟩, ⟨D, A, own, wf, d⟩⟩ := E
  intro C H locs ls hP hS hl
  exact lv_dup2_11 C.1 C.2.1 hd (pV_cat v) (pV_cat w) (k C H locs ls hP hS hl)
theorem g_goto {off : Int} (tgt : Nat) (hd : decode cc pc = .ok (.goto off, 3)) (ht : (pc : Int) + off = (tgt : Int)) (k : G E cc nL S tgt lv st) : G E cc nL S pc lv st := by
  obtain ⟨⟨p, l, e, R, s⟩, ⟨m, args, below, meth, c⟩, ⟨cells, slots, Q⟩, ⟨D, A, own, wf, d⟩⟩ := E
  intro C H locs ls hP hS hl
  exact lv_goto C.1 C.2.1 hd ht (k C H locs ls hP hS hl)
theorem g_icmp_eq {a b : Int} {off : Int} (tgt pc' : Nat) (hd : decode cc pc = .ok (.if_icmp .eq off, 3)) (ht : (pc : Int) + off = (tgt : Int)) (hp : pc + 3 = pc') (ha : -2147483648 ≤ a ∧ a ≤ 2147483647) (hb : -2147483648 ≤ b ∧ b ≤ 2147483647) (kt : a = b → G E cc nL S tgt lv st) (kf : a ≠ b → G E cc nL S pc' lv st) : G E cc nL S pc lv (.inl b :: .inl a :: st) := by
  subst hp
  obtain ⟨⟨p, l, e, R, s⟩, ⟨m, args, below, meth, c⟩, ⟨cells, slots, Q⟩, ⟨D, A, own, wf, d⟩⟩ := E
  intro C H locs ls hP hS hl
  exact lv_icmp_eq C.1 C.2.1 hd ht (fun q => kt ((iI_eq ha hb).mp q) C H locs ls hP hS hl) (fun q => kf (fun z => q ((iI_eq ha hb).mpr z)) C H locs ls hP hS hl)
theorem g_icmp_ne {a b : Int} {off : Int} (tgt pc' : Nat) (hd : decode cc pc = .ok (.if_icmp .ne off, 3)) (ht : (pc : Int) + off = (tgt : Int)) (hp : pc + 3 = pc') (ha : -2147483648 ≤ a ∧ a ≤ 2147483647) (hb : -2147483648 ≤ b ∧ b ≤ 2147483647) (kt : a ≠ b → G E cc nL S tgt lv st) (kf : a = b → G E cc nL S pc' lv st) : G E cc nL S pc lv (.inl b :: .inl a :: st) := by
  subst hp
  obtain ⟨⟨p, l, e, R, s⟩, ⟨m, args, below, meth, c⟩, ⟨cells, slots, Q⟩, ⟨D, A, own, wf, d⟩⟩ := E
  intro C H locs ls hP hS hl
  exact lv_icmp_ne C.1 C.2.1 hd ht (fun q => kt (fun z => q ((iI_eq ha hb).mpr z)) C H locs ls hP hS hl) (fun q => kf ((iI_eq ha hb).mp q) C H locs ls hP hS hl)
theorem g_icmp_lt {a b : Int} {off : Int} (tgt pc' : Nat) (hd : decode cc pc = .ok (.if_icmp .lt off, 3)) (ht : (pc : Int) + off = (tgt : Int)) (hp : pc + 3 = pc') (ha : -2147483648 ≤ a ∧ a ≤ 2147483647) (hb : -2147483648 ≤ b ∧ b ≤ 2147483647) (kt : a < b → G E cc nL S tgt lv st) (kf : b ≤ a → G E cc nL S pc' lv st) : G E cc nL S pc lv (.inl b :: .inl a :: st) := by
  subst hp
  obtain ⟨⟨p, l, e, R, s⟩, ⟨m, args, below, meth, c⟩, ⟨cells, slots, Q⟩, ⟨D, A, own, wf, d⟩⟩ := E
  intro C H locs ls hP hS hl
  exact lv_icmp_lt C.1 C.2.1 hd ht (fun q => kt ((iI_lt ha hb).mp q) C H locs ls hP hS hl) (fun q => kf (Int.not_lt.mp (fun z => q ((iI_lt ha hb).mpr z))) C H locs ls hP hS hl)
theorem g_icmp_ge {a b : Int} {off : Int} (tgt pc' : Nat) (hd : decode cc pc = .ok (.if_icmp .ge off, 3)) (ht : (pc : Int) + off = (tgt : Int)) (hp : pc + 3 = pc') (ha : -2147483648 ≤ a ∧ a ≤ 2147483647) (hb : -2147483648 ≤ b ∧ b ≤ 2147483647) (kt : b ≤ a → G E cc nL S tgt lv st) (kf : a < b → G E cc nL S pc' lv st) : G E cc nL S pc lv (.inl b :: .inl a :: st) := by
  subst hp
  obtain ⟨⟨p, l, e, R, s⟩, ⟨m, args, below, meth, c⟩, ⟨cells, slots, Q⟩, ⟨D, A, own, wf, d⟩⟩ := E
  intro C H locs ls hP hS hl
  exact lv_icmp_ge C.1 C.2.1 hd ht (fun q => kt ((iI_le hb ha).mp q) C H locs ls hP hS hl) (fun q => kf (Int.not_le.mp (fun z => q ((iI_le hb ha).mpr z))) C H locs ls hP hS hl)
theorem g_icmp_gt {a b : Int} {off : Int} (tgt pc' : Nat) (hd : decode cc pc = .ok (.if_icmp .gt off, 3)) (ht : (pc : Int) + off = (tgt : Int)) (hp : pc + 3 = pc') (ha : -2147483648 ≤ a ∧ a ≤ 2147483647) (hb : -2147483648 ≤ b ∧ b ≤ 2147483647) (kt : b < a → G E cc nL S tgt lv st) (kf : a ≤ b → G E cc nL S pc' lv st) : G E cc nL S pc lv (.inl b :: .inl a :: st) := by
  subst hp
  obtain ⟨⟨p, l, e, R, s⟩, ⟨m, args, below, meth, c⟩, ⟨cells, slots, Q⟩, ⟨D, A, own, wf, d⟩⟩ := E
  intro C H locs ls hP hS hl
  exact lv_icmp_gt C.1 C.2.1 hd ht (fun q => kt ((iI_lt hb ha).mp q) C H locs ls hP hS hl) (fun q => kf (Int.not_lt.mp (fun z => q ((iI_lt hb ha).mpr z))) C H locs ls hP hS hl)
theorem g_icmp_le {a b : Int} {off : Int} (tgt pc' : Nat) (hd : decode cc pc = .ok (.if_icmp .le off, 3)) (ht : (pc : Int) + off = (tgt : Int)) (hp : pc + 3 = pc') (ha : -2147483648 ≤ a ∧ a ≤ 2147483647) (hb : -2147483648 ≤ b ∧ b ≤ 2147483647) (kt : a ≤ b → G E cc nL S tgt lv st) (kf : b < a → G E cc nL S pc' lv st) : G E cc nL S pc lv (.inl b :: .inl a :: st) := by
  subst hp
  obtain ⟨⟨p, l, e, R, s⟩, ⟨m, args, below, meth, c⟩, ⟨cells, slots, Q⟩, ⟨D, A, own, wf, d⟩⟩ := E
  intro C H locs ls hP hS hl
  exact lv_icmp_le C.1 C.2.1 hd ht (fun q => kt ((iI_le ha hb).mp q) C H locs ls hP hS hl) (fun q => kf (Int.not_le.mp (fun z => q ((iI_le ha hb).mpr z))) C H locs ls hP hS hl)
theorem g_if_eq {a : Int} {off : Int} (tgt pc' : Nat) (hd : decode cc pc = .ok (.ifCond .eq off, 3)) (ht : (pc : Int) + off = (tgt : Int)) (hp : pc + 3 = pc') (ha : -2147483648 ≤ a ∧ a ≤ 2147483647) (kt : a = 0 → G E cc nL S tgt lv st) (kf : a ≠ 0 → G E cc nL S pc' lv st) : G E cc nL S pc lv (.inl a :: st) := by
  subst hp
  obtain ⟨⟨p, l, e, R, s⟩, ⟨m, args, below, meth, c⟩, ⟨cells, slots, Q⟩, ⟨D, A, own, wf, d⟩⟩ := E
  intro C H locs ls hP hS hl
  have hb : -2147483648 ≤ (0 : Int) ∧ (0 : Int) ≤ 2147483647 := by decide
  refine lv_if_eq C.1 C.2.1 hd ht (fun q => ?_) (fun q => ?_)
  · rw [← iI_0] at q
    exact kt ((iI_eq ha hb).mp q) C H locs ls hP hS hl
  · rw [← iI_0] at q
    exact kf (fun z => q ((iI_eq ha hb).mpr z)) C H locs ls hP hS hl
theorem g_if_ne {a : Int} {off : Int} (tgt pc' : Nat) (hd : decode cc pc = .ok (.ifCond .ne off, 3)) (ht : (pc : Int) + off = (tgt : Int)) (hp : pc + 3 = pc') (ha : -2147483648 ≤ a ∧ a ≤ 2147483647) (kt : a ≠ 0 → G E cc nL S tgt lv st) (kf : a = 0 → G E cc nL S pc' lv st) : G E cc nL S pc lv (.inl a :: st) := by
  subst hp
  obtain ⟨⟨p, l, e, R, s⟩, ⟨m, args, below, meth, c⟩, ⟨cells, slots, Q⟩, ⟨D, A, own, wf, d⟩⟩ := E
  intro C H locs ls hP hS hl
  have hb : -2147483648 ≤ (0 : Int) ∧ (0 : Int) ≤ 2147483647 := by decide
  refine lv_if_ne C.1 C.2.1 hd ht (fun q => ?_) (fun q => ?_)
  · rw [← iI_0] at q
    exact kt (fun z => q ((iI_eq ha hb).mpr z)) C H locs ls hP hS hl
  · rw [← iI_0] at q
    exact kf ((iI_eq ha hb).mp q) C H locs ls hP hS hl
theorem g_if_lt {a : Int} {off : Int} (tgt pc' : Nat) (hd : decode cc pc = .ok (.ifCond .lt off, 3)) (ht : (pc : Int) + off = (tgt : Int)) (hp : pc + 3 = pc') (ha : -2147483648 ≤ a ∧ a ≤ 2147483647) (kt : a < 0 → G E cc nL S tgt lv st) (kf : 0 ≤ a → G E cc nL S pc' lv st) : G E cc nL S pc lv (.inl a :: st) := by
  subst hp
  obtain ⟨⟨p, l, e, R, s⟩, ⟨m, args, below, meth, c⟩, ⟨cells, slots, Q⟩, ⟨D, A, own, wf, d⟩⟩ := E
  intro C H locs ls hP hS hl
  have hb : -2147483648 ≤ (0 : Int) ∧ (0 : Int) ≤ 2147483647 := by decide
  refine lv_if_lt C.1 C.2.1 hd ht (fun q => ?_) (fun q => ?_)
  · rw [← iI_0] at q
    exact kt ((iI_lt ha hb).mp q) C H locs ls hP hS hl
  · rw [← iI_0] at q
    exact kf (Int.not_lt.mp (fun z => q ((iI_lt ha hb).mpr z))) C H locs ls hP hS hl
theorem g_if_ge {a : Int} {off : Int} (tgt pc' : Nat) (hd : decode cc pc = .ok (.ifCond .ge off, 3)) (ht : (pc : Int) + off = (tgt : Int)) (hp : pc + 3 = pc') (ha : -2147483648 ≤ a ∧ a ≤ 2147483647) (kt : 0 ≤ a → G E cc nL S tgt lv st) (kf : a < 0 → G E cc nL S pc' lv st) : G E cc nL S pc lv (.inl a :: st) := by
  subst hp
  obtain ⟨⟨p, l, e, R, s⟩, ⟨m, args, below, meth, c⟩, ⟨cells, slots, Q⟩, ⟨D, A, own, wf, d⟩⟩ := E
  intro C H locs ls hP hS hl
  have hb : -2147483648 ≤ (0 : Int) ∧ (0 : Int) ≤ 2147483647 := by decide
  refine lv_if_ge C.1 C.2.1 hd ht (fun q => ?_) (fun q => ?_)
  · rw [← iI_0] at q
    exact kt ((iI_le hb ha).mp q) C H locs ls hP hS hl
  · rw [← iI_0] at q
    exact kf (Int.not_le.mp (fun z => q ((iI_le hb ha).mpr z))) C H locs ls hP hS hl
theorem g_if_gt {a : Int} {off : Int} (tgt pc' : Nat) (hd : decode cc pc = .ok (.ifCond .gt off, 3)) (ht : (pc : Int) + off = (tgt : Int)) (hp : pc + 3 = pc') (ha : -2147483648 ≤ a ∧ a ≤ 2147483647) (kt : 0 < a → G E cc nL S tgt lv st) (kf : a ≤ 0 → G E cc nL S pc' lv st) : G E cc nL S pc lv (.inl a :: st) := by
  subst hp
  obtain ⟨⟨p, l, e, R, s⟩, ⟨m, args, below, meth, c⟩, ⟨cells, slots, Q⟩, ⟨D, A, own, wf, d⟩⟩ := E
  intro C H locs ls hP hS hl
  have hb : -2147483648 ≤ (0 : Int) ∧ (0 : Int) ≤ 2147483647 := by decide
  refine lv_if_gt C.1 C.2.1 hd ht (fun q => ?_) (fun q => ?_)
  · rw [← iI_0] at q
    exact kt ((iI_lt hb ha).mp q) C H locs ls hP hS hl
  · rw [← iI_0] at q
    exact kf (Int.not_lt.mp (fun z => q ((iI_lt hb ha).mpr z))) C H locs ls hP hS hl
theorem g_if_le {a : Int} {off : Int} (tgt pc' : Nat) (hd : decode cc pc = .ok (.ifCond .le off, 3)) (ht : (pc : Int) + off = (tgt : Int)) (hp : pc + 3 = pc') (ha : -2147483648 ≤ a ∧ a ≤ 2147483647) (kt : a ≤ 0 → G E cc nL S tgt lv st) (kf : 0 < a → G E cc nL S pc' lv st) : G E cc nL S pc lv (.inl a :: st) := by
  subst hp
  obtain ⟨⟨p, l, e, R, s⟩, ⟨m, args, below, meth, c⟩, ⟨cells, slots, Q⟩, ⟨D, A, own, wf, d⟩⟩ := E
  intro C H locs ls hP hS hl
  have hb : -2147483648 ≤ (0 : Int) ∧ (0 : Int) ≤ 2147483647 := by decide
  refine lv_if_le C.1 C.2.1 hd ht (fun q => ?_) (fun q => ?_)
  · rw [← iI_0] at q
    exact kt ((iI_le ha hb).mp q) C H locs ls hP hS hl
  · rw [← iI_0] at q
    exact kf (Int.not_le.mp (fun z => q ((iI_le ha hb).mpr z))) C H locs ls hP hS hl
end
end
section
/-! ===== the worlds of the two classes; rows for fields, arrays, calls; contracts ===== -/
abbrev cA_ (d : ClassId) (n : Nat) (f : Int → Int) : va_E := .inl (d, n, .inl (fun j : Nat => iI (f (j : Int))))
def xFl (h : Nat → Nat) (S : st_T) : List Value := [.ref (h 1), .ref (h 2), .ref (h 3), .int (iI (S 3 0)), .ref (h 4), .ref (h 5), .ref (h 6), .ref (h 7), .ref (h 8), .ref (h 9), .ref (h 10), .ref (h 11), .ref (h 12)]
def xW (h : Nat → Nat) (d : ClassId) (S : st_T) : va_W := [(h 0, .inr (0, xFl h S)), (h 1, cA_ d 49 (S 0)), (h 2, cA_ d 7 (S 1)), (h 3, cA_ d 81 (S 2)), (h 4, cA_ d 6 (S 4)), (h 5, cA_ d 6 (S 5)), (h 6, cA_ d 6 (S 6)), (h 7, cA_ d 81 (S 7)), (h 8, cA_ d 81 (S 8)), (h 9, cA_ d 9 (S 9)), (h 10, cA_ d 9 (S 10)), (h 11, cA_ d 9 (S 11)), (h 12, cA_ d 7 (S 12))]
def mFl (h : Nat → Nat) (S : st_T) : List Value := [.ref (h 1), .ref (h 2), .int (iI (S 2 0)), .ref (h 3), .ref (h 4), .ref (h 5), .ref (h 6), .ref (h 7), .ref (h 8), .ref (h 9)]
def mW (h : Nat → Nat) (d : ClassId) (S : st_T) : va_W := [(h 0, .inr (1, mFl h S)), (h 1, cA_ d 49 (S 0)), (h 2, cA_ d 7 (S 1)), (h 3, cA_ d 6 (S 3)), (h 4, cA_ d 6 (S 4)), (h 5, cA_ d 6 (S 5)), (h 6, cA_ d 49 (S 6)), (h 7, cA_ d 7 (S 7)), (h 8, cA_ d 7 (S 8)), (h 9, cA_ d 7 (S 9))]
abbrev wf_T : Type := (Nat → Nat) → ClassId → st_T → va_W
def ct_c (E : ct_T) (own : String) (wf : wf_T) (h : Nat → Nat) : Prop := match E with
  | (_, _, _, (_, _, own', wf', d)) => own' = own ∧ wf' = wf h d
theorem va_D_fst {A : Nat → Prop} {w w' : va_W} (h : w.map Prod.fst = w'.map Prod.fst) (hD : va_D A w) : va_D A w' := by
  have key : ∀ (i : Nat) (q : Nat × va_E), w'[i]? = some q → ∃ q0 : Nat × va_E, w[i]? = some q0 ∧ q0.1 = q.1 := by
    intro i q hq
    have h1 : (w.map Prod.fst)[i]? = some q.1 := by rw [h, List.getElem?_map, hq]; rfl
    rw [List.getElem?_map] at h1
    cases hw : w[i]? with
    | none => rw [hw] at h1; cases h1
    | some q0 =>
      rw [hw] at h1
      exact ⟨q0, rfl, Option.some.inj h1⟩
  refine ⟨fun i j p q hi hj hpq => ?_, fun k q hk => ?_⟩
  · obtain ⟨p0, a1, a2⟩ := key i p hi
    obtain ⟨q0, b1, b2⟩ := key j q hj
    exact hD.1 i j p0 q0 a1 b1 (by rw [a2, b2, hpq])
  · obtain ⟨q0, a1, a2⟩ := key k q hk
    rw [← a2]
    exact hD.2 k q0 a1
section
variable {E : ct_T} {cc : ByteArray} {nL : Nat} {S : st_T} {pc : Nat} {lv : List (Option pv)} {st : List pv} {own : String} {wf : wf_T} {h : Nat → Nat}
theorem g_ald (hE : ct_c E own wf h) {z : Int} {a : Nat} (q k n : Nat) (pc' : Nat) (hq : ∀ d, (wf h d S)[q]? = some (a, cA_ d n (S k))) (hn : n < 100000) (hd : decode cc pc = .ok (.iaload, 1)) (hp : pc + 1 = pc') (hz : 0 ≤ z ∧ z < n) (kk : G E cc nL S pc' lv (.inl (S k z) :: st)) : G E cc nL S pc lv (.inl z :: .inr a :: st) := by
  subst hp
  obtain ⟨⟨p, l, e, R, s⟩, ⟨m, args, below, meth, c⟩, ⟨cells, slots, Q⟩, ⟨D, A, own', wf', d⟩⟩ := E
  obtain ⟨rfl, rfl⟩ := hE
  intro C H locs ls hP hS hl
  have e3 : (((iI z).toNatClampNeg : Nat) : Int) = z := by rw [iI_cl ⟨hz.1, by omega⟩]; exact Int.toNat_of_nonneg hz.1
  refine va_iald C.1 C.2.1 C.2.2.2.2.2.1 hP q 0 (hq d) rfl (iI_in hz hn) hd ?_
  simp only [e3]
  exact kk C H locs ls hP hS hl
theorem g_ast (hE : ct_c E own wf h) {z v : Int} {a : Nat} (q k n : Nat) (pc' : Nat) (hq : ∀ d, (wf h d S)[q]? = some (a, cA_ d n (S k))) (hs : ∀ (d : ClassId) (g : Int → Int), (wf h d S).set q (a, cA_ d n g) = wf h d (us S k g)) (hn : n < 100000) (hd : decode cc pc = .ok (.iastore, 1)) (hp : pc + 1 = pc') (hz : 0 ≤ z ∧ z < n) (kk : G E cc nL (us S k (ua (S k) z v)) pc' lv st) : G E cc nL S pc lv (.inl v :: .inl z :: .inr a :: st) := by
  subst hp
  obtain ⟨⟨p, l, e, R, s⟩, ⟨m, args, below, meth, c⟩, ⟨cells, slots, Q⟩, ⟨D, A, own', wf', d⟩⟩ := E
  obtain ⟨rfl, rfl⟩ := hE
  intro C H locs ls hP hS hl
  refine va_iast C.1 C.2.1 C.2.2.2.2.2.1 hP (C.2.2.2.2.2.2.1 S) hS q 0 (hq d) rfl (iI_in hz hn) hd (fun H1 locs1 hP1 hD1 hS1 => ?_)
  have e : upd (fun j : Nat => iI (S k (j : Int))) (iI z).toNatClampNeg (iI v) = fun j : Nat => iI (ua (S k) z v (j : Int)) := by
    funext j
    rw [iI_cl ⟨hz.1, by omega⟩]
    unfold upd ua
    by_cases hj : j = z.toNat
    · rw [if_pos hj, if_pos (by omega)]
    · rw [if_neg hj, if_neg (by omega)]
  rw [e, hs d (ua (S k) z v)] at hP1
  exact kk C H1 locs1 ls hP1 hS1 hl
theorem g_ldc (hE : ct_c E own wf h) {idx : Nat} {v : Int32} (z : Int) (pc' : Nat) (hq : Cond.constant own idx v ∈ lw_all) (hv : v = iI z) (hd : decode cc pc = .ok (.ldc idx, 2)) (hp : pc + 2 = pc') (k : G E cc nL S pc' lv (.inl z :: st)) : G E cc nL S pc lv st := by
  subst hp
  obtain ⟨⟨p, l, e, R, s⟩, ⟨m, args, below, meth, c⟩, ⟨cells, slots, Q⟩, ⟨D, A, own', wf', d⟩⟩ := E
  obtain ⟨rfl, rfl⟩ := hE
  intro C H locs ls hP hS hl
  refine lv_ldc C.1 C.2.1 C.2.2.2.1 (C.2.2.2.2.1 _ hq) hd ?_
  rw [hv]
  exact k C H locs ls hP hS hl

theorem xg_trusts (hE : ct_c E RX0 xW h) (pc' : Nat) (hd : decode cc pc = .ok (.getfield 7, 3)) (hp : pc + 3 = pc') (k : G E cc nL S pc' lv (.inr (h 1) :: st)) : G E cc nL S pc lv (.inr (h 0) :: st) := by
  subst hp
  obtain ⟨⟨p, l, e, R, s⟩, ⟨m, args, below, meth, c⟩, ⟨cells, slots, Q⟩, ⟨D, A, own', wf', d⟩⟩ := E
  obtain ⟨rfl, rfl⟩ := hE
  intro C H locs ls hP hS hl
  exact va_get (D := D) (ci := 0) (v := .ref (h 1)) (C := RX0) (T := TX0) (N := 13) C.1 C.2.1 C.2.2.2.2.1 in_X0 C.2.2.2.1 C.2.2.2.2.2.1 hP 0 rfl rfl 0 (by decide) (C.2.2.2.2.1 _ q35) (fun _ h9 => h9) rfl hd (k C H locs ls hP hS hl)
theorem xl_trusts (hE : ct_c E RX0 xW h) {z : Int} (pc' : Nat) (hd : decode cc pc = .ok (.iaload, 1)) (hp : pc + 1 = pc') (hz : 0 ≤ z ∧ z < 49) (kk : G E cc nL S pc' lv (.inl (S 0 z) :: st)) : G E cc nL S pc lv (.inl z :: .inr (h 1) :: st) := g_ald hE 1 0 49 pc' (fun _ => rfl) (by decide) hd hp (by omega) kk
theorem xs_trusts (hE : ct_c E RX0 xW h) {z v : Int} (pc' : Nat) (hd : decode cc pc = .ok (.iastore, 1)) (hp : pc + 1 = pc') (hz : 0 ≤ z ∧ z < 49) (kk : G E cc nL (us S 0 (ua (S 0) z v)) pc' lv st) : G E cc nL S pc lv (.inl v :: .inl z :: .inr (h 1) :: st) := g_ast hE 1 0 49 pc' (fun _ => rfl) (fun _ _ => rfl) (by decide) hd hp (by omega) kk
theorem xg_positions (hE : ct_c E RX0 xW h) (pc' : Nat) (hd : decode cc pc = .ok (.getfield 13, 3)) (hp : pc + 3 = pc') (k : G E cc nL S pc' lv (.inr (h 2) :: st)) : G E cc nL S pc lv (.inr (h 0) :: st) := by
  subst hp
  obtain ⟨⟨p, l, e, R, s⟩, ⟨m, args, below, meth, c⟩, ⟨cells, slots, Q⟩, ⟨D, A, own', wf', d⟩⟩ := E
  obtain ⟨rfl, rfl⟩ := hE
  intro C H locs ls hP hS hl
  exact va_get (D := D) (ci := 0) (v := .ref (h 2)) (C := RX0) (T := TX0) (N := 13) C.1 C.2.1 C.2.2.2.2.1 in_X0 C.2.2.2.1 C.2.2.2.2.2.1 hP 0 rfl rfl 1 (by decide) (C.2.2.2.2.1 _ q36) (fun _ h9 => h9) rfl hd (k C H locs ls hP hS hl)
theorem xl_positions (hE : ct_c E RX0 xW h) {z : Int} (pc' : Nat) (hd : decode cc pc = .ok (.iaload, 1)) (hp : pc + 1 = pc') (hz : 0 ≤ z ∧ z < 7) (kk : G E cc nL S pc' lv (.inl (S 1 z) :: st)) : G E cc nL S pc lv (.inl z :: .inr (h 2) :: st) := g_ald hE 2 1 7 pc' (fun _ => rfl) (by decide) hd hp (by omega) kk
theorem xs_positions (hE : ct_c E RX0 xW h) {z v : Int} (pc' : Nat) (hd : decode cc pc = .ok (.iastore, 1)) (hp : pc + 1 = pc') (hz : 0 ≤ z ∧ z < 7) (kk : G E cc nL (us S 1 (ua (S 1) z v)) pc' lv st) : G E cc nL S pc lv (.inl v :: .inl z :: .inr (h 2) :: st) := g_ast hE 2 1 7 pc' (fun _ => rfl) (fun _ _ => rfl) (by decide) hd hp (by omega) kk
theorem xg_free (hE : ct_c E RX0 xW h) (pc' : Nat) (hd : decode cc pc = .ok (.getfield 16, 3)) (hp : pc + 3 = pc') (k : G E cc nL S pc' lv (.inr (h 3) :: st)) : G E cc nL S pc lv (.inr (h 0) :: st) := by
  subst hp
  obtain ⟨⟨p, l, e, R, s⟩, ⟨m, args, below, meth, c⟩, ⟨cells, slots, Q⟩, ⟨D, A, own', wf', d⟩⟩ := E
  obtain ⟨rfl, rfl⟩ := hE
  intro C H locs ls hP hS hl
  exact va_get (D := D) (ci := 0) (v := .ref (h 3)) (C := RX0) (T := TX0) (N := 13) C.1 C.2.1 C.2.2.2.2.1 in_X0 C.2.2.2.1 C.2.2.2.2.2.1 hP 0 rfl rfl 2 (by decide) (C.2.2.2.2.1 _ q37) (fun _ h9 => h9) rfl hd (k C H locs ls hP hS hl)
theorem xl_free (hE : ct_c E RX0 xW h) {z : Int} (pc' : Nat) (hd : decode cc pc = .ok (.iaload, 1)) (hp : pc + 1 = pc') (hz : 0 ≤ z ∧ z < 81) (kk : G E cc nL S pc' lv (.inl (S 2 z) :: st)) : G E cc nL S pc lv (.inl z :: .inr (h 3) :: st) := g_ald hE 3 2 81 pc' (fun _ => rfl) (by decide) hd hp (by omega) kk
theorem xs_free (hE : ct_c E RX0 xW h) {z v : Int} (pc' : Nat) (hd : decode cc pc = .ok (.iastore, 1)) (hp : pc + 1 = pc') (hz : 0 ≤ z ∧ z < 81) (kk : G E cc nL (us S 2 (ua (S 2) z v)) pc' lv st) : G E cc nL S pc lv (.inl v :: .inl z :: .inr (h 3) :: st) := g_ast hE 3 2 81 pc' (fun _ => rfl) (fun _ _ => rfl) (by decide) hd hp (by omega) kk
theorem xg_gathered (hE : ct_c E RX0 xW h) (pc' : Nat) (hd : decode cc pc = .ok (.getfield 46, 3)) (hp : pc + 3 = pc') (k : G E cc nL S pc' lv (.inl (S 3 0) :: st)) : G E cc nL S pc lv (.inr (h 0) :: st) := by
  subst hp
  obtain ⟨⟨p, l, e, R, s⟩, ⟨m, args, below, meth, c⟩, ⟨cells, slots, Q⟩, ⟨D, A, own', wf', d⟩⟩ := E
  obtain ⟨rfl, rfl⟩ := hE
  intro C H locs ls hP hS hl
  exact va_get (D := D) (ci := 0) (v := .int (iI (S 3 0))) (C := RX0) (T := TX0) (N := 13) C.1 C.2.1 C.2.2.2.2.1 in_X0 C.2.2.2.1 C.2.2.2.2.2.1 hP 0 rfl rfl 3 (by decide) (C.2.2.2.2.1 _ q38) (fun _ h9 => h9) rfl hd (k C H locs ls hP hS hl)
theorem xp_gathered (hE : ct_c E RX0 xW h) {v : Int} (pc' : Nat) (hd : decode cc pc = .ok (.putfield 46, 3)) (hp : pc + 3 = pc') (k : G E cc nL (us S 3 (fun _ => v)) pc' lv st) : G E cc nL S pc lv (.inl v :: .inr (h 0) :: st) := by
  subst hp
  obtain ⟨⟨p, l, e, R, s⟩, ⟨m, args, below, meth, c⟩, ⟨cells, slots, Q⟩, ⟨D, A, own', wf', d⟩⟩ := E
  obtain ⟨rfl, rfl⟩ := hE
  intro C H locs ls hP hS hl
  refine va_put (D := D) (ci := 0) (v := .int (iI v)) (ty := .int) (C := RX0) (T := TX0) (N := 13) C.1 C.2.1 C.2.2.2.2.1 in_X0 tyX0 tyX0_ok nmX0 C.2.2.2.1 C.2.2.2.2.2.1 hP (C.2.2.2.2.2.2.1 S) hS 0 rfl rfl 3 (by decide) (C.2.2.2.2.1 _ q38) (fun _ h9 => h9) rfl (by decide +kernel) rfl rfl (Nat.le_of_ble_eq_true rfl) hd (fun H1 locs1 hP1 hD1 hS1 => ?_)
  exact k C H1 locs1 ls hP1 hS1 hl
theorem xg_payers (hE : ct_c E RX0 xW h) (pc' : Nat) (hd : decode cc pc = .ok (.getfield 19, 3)) (hp : pc + 3 = pc') (k : G E cc nL S pc' lv (.inr (h 4) :: st)) : G E cc nL S pc lv (.inr (h 0) :: st) := by
  subst hp
  obtain ⟨⟨p, l, e, R, s⟩, ⟨m, args, below, meth, c⟩, ⟨cells, slots, Q⟩, ⟨D, A, own', wf', d⟩⟩ := E
  obtain ⟨rfl, rfl⟩ := hE
  intro C H locs ls hP hS hl
  exact va_get (D := D) (ci := 0) (v := .ref (h 4)) (C := RX0) (T := TX0) (N := 13) C.1 C.2.1 C.2.2.2.2.1 in_X0 C.2.2.2.1 C.2.2.2.2.2.1 hP 0 rfl rfl 4 (by decide) (C.2.2.2.2.1 _ q39) (fun _ h9 => h9) rfl hd (k C H locs ls hP hS hl)
theorem xl_payers (hE : ct_c E RX0 xW h) {z : Int} (pc' : Nat) (hd : decode cc pc = .ok (.iaload, 1)) (hp : pc + 1 = pc') (hz : 0 ≤ z ∧ z < 6) (kk : G E cc nL S pc' lv (.inl (S 4 z) :: st)) : G E cc nL S pc lv (.inl z :: .inr (h 4) :: st) := g_ald hE 4 4 6 pc' (fun _ => rfl) (by decide) hd hp (by omega) kk
theorem xs_payers (hE : ct_c E RX0 xW h) {z v : Int} (pc' : Nat) (hd : decode cc pc = .ok (.iastore, 1)) (hp : pc + 1 = pc') (hz : 0 ≤ z ∧ z < 6) (kk : G E cc nL (us S 4 (ua (S 4) z v)) pc' lv st) : G E cc nL S pc lv (.inl v :: .inl z :: .inr (h 4) :: st) := g_ast hE 4 4 6 pc' (fun _ => rfl) (fun _ _ => rfl) (by decide) hd hp (by omega) kk
theorem xg_payees (hE : ct_c E RX0 xW h) (pc' : Nat) (hd : decode cc pc = .ok (.getfield 22, 3)) (hp : pc + 3 = pc') (k : G E cc nL S pc' lv (.inr (h 5) :: st)) : G E cc nL S pc lv (.inr (h 0) :: st) := by
  subst hp
  obtain ⟨⟨p, l, e, R, s⟩, ⟨m, args, below, meth, c⟩, ⟨cells, slots, Q⟩, ⟨D, A, own', wf', d⟩⟩ := E
  obtain ⟨rfl, rfl⟩ := hE
  intro C H locs ls hP hS hl
  exact va_get (D := D) (ci := 0) (v := .ref (h 5)) (C := RX0) (T := TX0) (N := 13) C.1 C.2.1 C.2.2.2.2.1 in_X0 C.2.2.2.1 C.2.2.2.2.2.1 hP 0 rfl rfl 5 (by decide) (C.2.2.2.2.1 _ q40) (fun _ h9 => h9) rfl hd (k C H locs ls hP hS hl)
theorem xl_payees (hE : ct_c E RX0 xW h) {z : Int} (pc' : Nat) (hd : decode cc pc = .ok (.iaload, 1)) (hp : pc + 1 = pc') (hz : 0 ≤ z ∧ z < 6) (kk : G E cc nL S pc' lv (.inl (S 5 z) :: st)) : G E cc nL S pc lv (.inl z :: .inr (h 5) :: st) := g_ald hE 5 5 6 pc' (fun _ => rfl) (by decide) hd hp (by omega) kk
theorem xs_payees (hE : ct_c E RX0 xW h) {z v : Int} (pc' : Nat) (hd : decode cc pc = .ok (.iastore, 1)) (hp : pc + 1 = pc') (hz : 0 ≤ z ∧ z < 6) (kk : G E cc nL (us S 5 (ua (S 5) z v)) pc' lv st) : G E cc nL S pc lv (.inl v :: .inl z :: .inr (h 5) :: st) := g_ast hE 5 5 6 pc' (fun _ => rfl) (fun _ _ => rfl) (by decide) hd hp (by omega) kk
theorem xg_amounts (hE : ct_c E RX0 xW h) (pc' : Nat) (hd : decode cc pc = .ok (.getfield 25, 3)) (hp : pc + 3 = pc') (k : G E cc nL S pc' lv (.inr (h 6) :: st)) : G E cc nL S pc lv (.inr (h 0) :: st) := by
  subst hp
  obtain ⟨⟨p, l, e, R, s⟩, ⟨m, args, below, meth, c⟩, ⟨cells, slots, Q⟩, ⟨D, A, own', wf', d⟩⟩ := E
  obtain ⟨rfl, rfl⟩ := hE
  intro C H locs ls hP hS hl
  exact va_get (D := D) (ci := 0) (v := .ref (h 6)) (C := RX0) (T := TX0) (N := 13) C.1 C.2.1 C.2.2.2.2.1 in_X0 C.2.2.2.1 C.2.2.2.2.2.1 hP 0 rfl rfl 6 (by decide) (C.2.2.2.2.1 _ q41) (fun _ h9 => h9) rfl hd (k C H locs ls hP hS hl)
theorem xl_amounts (hE : ct_c E RX0 xW h) {z : Int} (pc' : Nat) (hd : decode cc pc = .ok (.iaload, 1)) (hp : pc + 1 = pc') (hz : 0 ≤ z ∧ z < 6) (kk : G E cc nL S pc' lv (.inl (S 6 z) :: st)) : G E cc nL S pc lv (.inl z :: .inr (h 6) :: st) := g_ald hE 6 6 6 pc' (fun _ => rfl) (by decide) hd hp (by omega) kk
theorem xs_amounts (hE : ct_c E RX0 xW h) {z v : Int} (pc' : Nat) (hd : decode cc pc = .ok (.iastore, 1)) (hp : pc + 1 = pc') (hz : 0 ≤ z ∧ z < 6) (kk : G E cc nL (us S 6 (ua (S 6) z v)) pc' lv st) : G E cc nL S pc lv (.inl v :: .inl z :: .inr (h 6) :: st) := g_ast hE 6 6 6 pc' (fun _ => rfl) (fun _ _ => rfl) (by decide) hd hp (by omega) kk
theorem xg_work (hE : ct_c E RX0 xW h) (pc' : Nat) (hd : decode cc pc = .ok (.getfield 28, 3)) (hp : pc + 3 = pc') (k : G E cc nL S pc' lv (.inr (h 7) :: st)) : G E cc nL S pc lv (.inr (h 0) :: st) := by
  subst hp
  obtain ⟨⟨p, l, e, R, s⟩, ⟨m, args, below, meth, c⟩, ⟨cells, slots, Q⟩, ⟨D, A, own', wf', d⟩⟩ := E
  obtain ⟨rfl, rfl⟩ := hE
  intro C H locs ls hP hS hl
  exact va_get (D := D) (ci := 0) (v := .ref (h 7)) (C := RX0) (T := TX0) (N := 13) C.1 C.2.1 C.2.2.2.2.1 in_X0 C.2.2.2.1 C.2.2.2.2.2.1 hP 0 rfl rfl 7 (by decide) (C.2.2.2.2.1 _ q42) (fun _ h9 => h9) rfl hd (k C H locs ls hP hS hl)
theorem xl_work (hE : ct_c E RX0 xW h) {z : Int} (pc' : Nat) (hd : decode cc pc = .ok (.iaload, 1)) (hp : pc + 1 = pc') (hz : 0 ≤ z ∧ z < 81) (kk : G E cc nL S pc' lv (.inl (S 7 z) :: st)) : G E cc nL S pc lv (.inl z :: .inr (h 7) :: st) := g_ald hE 7 7 81 pc' (fun _ => rfl) (by decide) hd hp (by omega) kk
theorem xs_work (hE : ct_c E RX0 xW h) {z v : Int} (pc' : Nat) (hd : decode cc pc = .ok (.iastore, 1)) (hp : pc + 1 = pc') (hz : 0 ≤ z ∧ z < 81) (kk : G E cc nL (us S 7 (ua (S 7) z v)) pc' lv st) : G E cc nL S pc lv (.inl v :: .inl z :: .inr (h 7) :: st) := g_ast hE 7 7 81 pc' (fun _ => rfl) (fun _ _ => rfl) (by decide) hd hp (by omega) kk
theorem xg_owed (hE : ct_c E RX0 xW h) (pc' : Nat) (hd : decode cc pc = .ok (.getfield 31, 3)) (hp : pc + 3 = pc') (k : G E cc nL S pc' lv (.inr (h 8) :: st)) : G E cc nL S pc lv (.inr (h 0) :: st) := by
  subst hp
  obtain ⟨⟨p, l, e, R, s⟩, ⟨m, args, below, meth, c⟩, ⟨cells, slots, Q⟩, ⟨D, A, own', wf', d⟩⟩ := E
  obtain ⟨rfl, rfl⟩ := hE
  intro C H locs ls hP hS hl
  exact va_get (D := D) (ci := 0) (v := .ref (h 8)) (C := RX0) (T := TX0) (N := 13) C.1 C.2.1 C.2.2.2.2.1 in_X0 C.2.2.2.1 C.2.2.2.2.2.1 hP 0 rfl rfl 8 (by decide) (C.2.2.2.2.1 _ q43) (fun _ h9 => h9) rfl hd (k C H locs ls hP hS hl)
theorem xl_owed (hE : ct_c E RX0 xW h) {z : Int} (pc' : Nat) (hd : decode cc pc = .ok (.iaload, 1)) (hp : pc + 1 = pc') (hz : 0 ≤ z ∧ z < 81) (kk : G E cc nL S pc' lv (.inl (S 8 z) :: st)) : G E cc nL S pc lv (.inl z :: .inr (h 8) :: st) := g_ald hE 8 8 81 pc' (fun _ => rfl) (by decide) hd hp (by omega) kk
theorem xs_owed (hE : ct_c E RX0 xW h) {z v : Int} (pc' : Nat) (hd : decode cc pc = .ok (.iastore, 1)) (hp : pc + 1 = pc') (hz : 0 ≤ z ∧ z < 81) (kk : G E cc nL (us S 8 (ua (S 8) z v)) pc' lv st) : G E cc nL S pc lv (.inl v :: .inl z :: .inr (h 8) :: st) := g_ast hE 8 8 81 pc' (fun _ => rfl) (fun _ _ => rfl) (by decide) hd hp (by omega) kk
theorem xg_cameFrom (hE : ct_c E RX0 xW h) (pc' : Nat) (hd : decode cc pc = .ok (.getfield 34, 3)) (hp : pc + 3 = pc') (k : G E cc nL S pc' lv (.inr (h 9) :: st)) : G E cc nL S pc lv (.inr (h 0) :: st) := by
  subst hp
  obtain ⟨⟨p, l, e, R, s⟩, ⟨m, args, below, meth, c⟩, ⟨cells, slots, Q⟩, ⟨D, A, own', wf', d⟩⟩ := E
  obtain ⟨rfl, rfl⟩ := hE
  intro C H locs ls hP hS hl
  exact va_get (D := D) (ci := 0) (v := .ref (h 9)) (C := RX0) (T := TX0) (N := 13) C.1 C.2.1 C.2.2.2.2.1 in_X0 C.2.2.2.1 C.2.2.2.2.2.1 hP 0 rfl rfl 9 (by decide) (C.2.2.2.2.1 _ q44) (fun _ h9 => h9) rfl hd (k C H locs ls hP hS hl)
theorem xl_cameFrom (hE : ct_c E RX0 xW h) {z : Int} (pc' : Nat) (hd : decode cc pc = .ok (.iaload, 1)) (hp : pc + 1 = pc') (hz : 0 ≤ z ∧ z < 9) (kk : G E cc nL S pc' lv (.inl (S 9 z) :: st)) : G E cc nL S pc lv (.inl z :: .inr (h 9) :: st) := g_ald hE 9 9 9 pc' (fun _ => rfl) (by decide) hd hp (by omega) kk
theorem xs_cameFrom (hE : ct_c E RX0 xW h) {z v : Int} (pc' : Nat) (hd : decode cc pc = .ok (.iastore, 1)) (hp : pc + 1 = pc') (hz : 0 ≤ z ∧ z < 9) (kk : G E cc nL (us S 9 (ua (S 9) z v)) pc' lv st) : G E cc nL S pc lv (.inl v :: .inl z :: .inr (h 9) :: st) := g_ast hE 9 9 9 pc' (fun _ => rfl) (fun _ _ => rfl) (by decide) hd hp (by omega) kk
theorem xg_line (hE : ct_c E RX0 xW h) (pc' : Nat) (hd : decode cc pc = .ok (.getfield 37, 3)) (hp : pc + 3 = pc') (k : G E cc nL S pc' lv (.inr (h 10) :: st)) : G E cc nL S pc lv (.inr (h 0) :: st) := by
  subst hp
  obtain ⟨⟨p, l, e, R, s⟩, ⟨m, args, below, meth, c⟩, ⟨cells, slots, Q⟩, ⟨D, A, own', wf', d⟩⟩ := E
  obtain ⟨rfl, rfl⟩ := hE
  intro C H locs ls hP hS hl
  exact va_get (D := D) (ci := 0) (v := .ref (h 10)) (C := RX0) (T := TX0) (N := 13) C.1 C.2.1 C.2.2.2.2.1 in_X0 C.2.2.2.1 C.2.2.2.2.2.1 hP 0 rfl rfl 10 (by decide) (C.2.2.2.2.1 _ q45) (fun _ h9 => h9) rfl hd (k C H locs ls hP hS hl)
theorem xl_line (hE : ct_c E RX0 xW h) {z : Int} (pc' : Nat) (hd : decode cc pc = .ok (.iaload, 1)) (hp : pc + 1 = pc') (hz : 0 ≤ z ∧ z < 9) (kk : G E cc nL S pc' lv (.inl (S 10 z) :: st)) : G E cc nL S pc lv (.inl z :: .inr (h 10) :: st) := g_ald hE 10 10 9 pc' (fun _ => rfl) (by decide) hd hp (by omega) kk
theorem xs_line (hE : ct_c E RX0 xW h) {z v : Int} (pc' : Nat) (hd : decode cc pc = .ok (.iastore, 1)) (hp : pc + 1 = pc') (hz : 0 ≤ z ∧ z < 9) (kk : G E cc nL (us S 10 (ua (S 10) z v)) pc' lv st) : G E cc nL S pc lv (.inl v :: .inl z :: .inr (h 10) :: st) := g_ast hE 10 10 9 pc' (fun _ => rfl) (fun _ _ => rfl) (by decide) hd hp (by omega) kk
theorem xg_distance (hE : ct_c E RX0 xW h) (pc' : Nat) (hd : decode cc pc = .ok (.getfield 40, 3)) (hp : pc + 3 = pc') (k : G E cc nL S pc' lv (.inr (h 11) :: st)) : G E cc nL S pc lv (.inr (h 0) :: st) := by
  subst hp
  obtain ⟨⟨p, l, e, R, s⟩, ⟨m, args, below, meth, c⟩, ⟨cells, slots, Q⟩, ⟨D, A, own', wf', d⟩⟩ := E
  obtain ⟨rfl, rfl⟩ := hE
  intro C H locs ls hP hS hl
  exact va_get (D := D) (ci := 0) (v := .ref (h 11)) (C := RX0) (T := TX0) (N := 13) C.1 C.2.1 C.2.2.2.2.1 in_X0 C.2.2.2.1 C.2.2.2.2.2.1 hP 0 rfl rfl 11 (by decide) (C.2.2.2.2.1 _ q46) (fun _ h9 => h9) rfl hd (k C H locs ls hP hS hl)
theorem xl_distance (hE : ct_c E RX0 xW h) {z : Int} (pc' : Nat) (hd : decode cc pc = .ok (.iaload, 1)) (hp : pc + 1 = pc') (hz : 0 ≤ z ∧ z < 9) (kk : G E cc nL S pc' lv (.inl (S 11 z) :: st)) : G E cc nL S pc lv (.inl z :: .inr (h 11) :: st) := g_ald hE 11 11 9 pc' (fun _ => rfl) (by decide) hd hp (by omega) kk
theorem xs_distance (hE : ct_c E RX0 xW h) {z v : Int} (pc' : Nat) (hd : decode cc pc = .ok (.iastore, 1)) (hp : pc + 1 = pc') (hz : 0 ≤ z ∧ z < 9) (kk : G E cc nL (us S 11 (ua (S 11) z v)) pc' lv st) : G E cc nL S pc lv (.inl v :: .inl z :: .inr (h 11) :: st) := g_ast hE 11 11 9 pc' (fun _ => rfl) (fun _ _ => rfl) (by decide) hd hp (by omega) kk
theorem xg_change (hE : ct_c E RX0 xW h) (pc' : Nat) (hd : decode cc pc = .ok (.getfield 43, 3)) (hp : pc + 3 = pc') (k : G E cc nL S pc' lv (.inr (h 12) :: st)) : G E cc nL S pc lv (.inr (h 0) :: st) := by
  subst hp
  obtain ⟨⟨p, l, e, R, s⟩, ⟨m, args, below, meth, c⟩, ⟨cells, slots, Q⟩, ⟨D, A, own', wf', d⟩⟩ := E
  obtain ⟨rfl, rfl⟩ := hE
  intro C H locs ls hP hS hl
  exact va_get (D := D) (ci := 0) (v := .ref (h 12)) (C := RX0) (T := TX0) (N := 13) C.1 C.2.1 C.2.2.2.2.1 in_X0 C.2.2.2.1 C.2.2.2.2.2.1 hP 0 rfl rfl 12 (by decide) (C.2.2.2.2.1 _ q47) (fun _ h9 => h9) rfl hd (k C H locs ls hP hS hl)
theorem xl_change (hE : ct_c E RX0 xW h) {z : Int} (pc' : Nat) (hd : decode cc pc = .ok (.iaload, 1)) (hp : pc + 1 = pc') (hz : 0 ≤ z ∧ z < 7) (kk : G E cc nL S pc' lv (.inl (S 12 z) :: st)) : G E cc nL S pc lv (.inl z :: .inr (h 12) :: st) := g_ald hE 12 12 7 pc' (fun _ => rfl) (by decide) hd hp (by omega) kk
theorem xs_change (hE : ct_c E RX0 xW h) {z v : Int} (pc' : Nat) (hd : decode cc pc = .ok (.iastore, 1)) (hp : pc + 1 = pc') (hz : 0 ≤ z ∧ z < 7) (kk : G E cc nL (us S 12 (ua (S 12) z v)) pc' lv st) : G E cc nL S pc lv (.inl v :: .inl z :: .inr (h 12) :: st) := g_ast hE 12 12 7 pc' (fun _ => rfl) (fun _ _ => rfl) (by decide) hd hp (by omega) kk
theorem mg_trusts (hE : ct_c E RX1 mW h) (pc' : Nat) (hd : decode cc pc = .ok (.getfield 7, 3)) (hp : pc + 3 = pc') (k : G E cc nL S pc' lv (.inr (h 1) :: st)) : G E cc nL S pc lv (.inr (h 0) :: st) := by
  subst hp
  obtain ⟨⟨p, l, e, R, s⟩, ⟨m, args, below, meth, c⟩, ⟨cells, slots, Q⟩, ⟨D, A, own', wf', d⟩⟩ := E
  obtain ⟨rfl, rfl⟩ := hE
  intro C H locs ls hP hS hl
  exact va_get (D := D) (ci := 1) (v := .ref (h 1)) (C := RX1) (T := TX1) (N := 10) C.1 C.2.1 C.2.2.2.2.1 in_X1 C.2.2.2.1 C.2.2.2.2.2.1 hP 0 rfl rfl 0 (by decide) (C.2.2.2.2.1 _ q200) (fun _ h9 => h9) rfl hd (k C H locs ls hP hS hl)
theorem ml_trusts (hE : ct_c E RX1 mW h) {z : Int} (pc' : Nat) (hd : decode cc pc = .ok (.iaload, 1)) (hp : pc + 1 = pc') (hz : 0 ≤ z ∧ z < 49) (kk : G E cc nL S pc' lv (.inl (S 0 z) :: st)) : G E cc nL S pc lv (.inl z :: .inr (h 1) :: st) := g_ald hE 1 0 49 pc' (fun _ => rfl) (by decide) hd hp (by omega) kk
theorem ms_trusts (hE : ct_c E RX1 mW h) {z v : Int} (pc' : Nat) (hd : decode cc pc = .ok (.iastore, 1)) (hp : pc + 1 = pc') (hz : 0 ≤ z ∧ z < 49) (kk : G E cc nL (us S 0 (ua (S 0) z v)) pc' lv st) : G E cc nL S pc lv (.inl v :: .inl z :: .inr (h 1) :: st) := g_ast hE 1 0 49 pc' (fun _ => rfl) (fun _ _ => rfl) (by decide) hd hp (by omega) kk
theorem mg_positions (hE : ct_c E RX1 mW h) (pc' : Nat) (hd : decode cc pc = .ok (.getfield 13, 3)) (hp : pc + 3 = pc') (k : G E cc nL S pc' lv (.inr (h 2) :: st)) : G E cc nL S pc lv (.inr (h 0) :: st) := by
  subst hp
  obtain ⟨⟨p, l, e, R, s⟩, ⟨m, args, below, meth, c⟩, ⟨cells, slots, Q⟩, ⟨D, A, own', wf', d⟩⟩ := E
  obtain ⟨rfl, rfl⟩ := hE
  intro C H locs ls hP hS hl
  exact va_get (D := D) (ci := 1) (v := .ref (h 2)) (C := RX1) (T := TX1) (N := 10) C.1 C.2.1 C.2.2.2.2.1 in_X1 C.2.2.2.1 C.2.2.2.2.2.1 hP 0 rfl rfl 1 (by decide) (C.2.2.2.2.1 _ q201) (fun _ h9 => h9) rfl hd (k C H locs ls hP hS hl)
theorem ml_positions (hE : ct_c E RX1 mW h) {z : Int} (pc' : Nat) (hd : decode cc pc = .ok (.iaload, 1)) (hp : pc + 1 = pc') (hz : 0 ≤ z ∧ z < 7) (kk : G E cc nL S pc' lv (.inl (S 1 z) :: st)) : G E cc nL S pc lv (.inl z :: .inr (h 2) :: st) := g_ald hE 2 1 7 pc' (fun _ => rfl) (by decide) hd hp (by omega) kk
theorem ms_positions (hE : ct_c E RX1 mW h) {z v : Int} (pc' : Nat) (hd : decode cc pc = .ok (.iastore, 1)) (hp : pc + 1 = pc') (hz : 0 ≤ z ∧ z < 7) (kk : G E cc nL (us S 1 (ua (S 1) z v)) pc' lv st) : G E cc nL S pc lv (.inl v :: .inl z :: .inr (h 2) :: st) := g_ast hE 2 1 7 pc' (fun _ => rfl) (fun _ _ => rfl) (by decide) hd hp (by omega) kk
theorem mg_listed (hE : ct_c E RX1 mW h) (pc' : Nat) (hd : decode cc pc = .ok (.getfield 56, 3)) (hp : pc + 3 = pc') (k : G E cc nL S pc' lv (.inl (S 2 0) :: st)) : G E cc nL S pc lv (.inr (h 0) :: st) := by
  subst hp
  obtain ⟨⟨p, l, e, R, s⟩, ⟨m, args, below, meth, c⟩, ⟨cells, slots, Q⟩, ⟨D, A, own', wf', d⟩⟩ := E
  obtain ⟨rfl, rfl⟩ := hE
  intro C H locs ls hP hS hl
  exact va_get (D := D) (ci := 1) (v := .int (iI (S 2 0))) (C := RX1) (T := TX1) (N := 10) C.1 C.2.1 C.2.2.2.2.1 in_X1 C.2.2.2.1 C.2.2.2.2.2.1 hP 0 rfl rfl 2 (by decide) (C.2.2.2.2.1 _ q202) (fun _ h9 => h9) rfl hd (k C H locs ls hP hS hl)
theorem mp_listed (hE : ct_c E RX1 mW h) {v : Int} (pc' : Nat) (hd : decode cc pc = .ok (.putfield 56, 3)) (hp : pc + 3 = pc') (k : G E cc nL (us S 2 (fun _ => v)) pc' lv st) : G E cc nL S pc lv (.inl v :: .inr (h 0) :: st) := by
  subst hp
  obtain ⟨⟨p, l, e, R, s⟩, ⟨m, args, below, meth, c⟩, ⟨cells, slots, Q⟩, ⟨D, A, own', wf', d⟩⟩ := E
  obtain ⟨rfl, rfl⟩ := hE
  intro C H locs ls hP hS hl
  refine va_put (D := D) (ci := 1) (v := .int (iI v)) (ty := .int) (C := RX1) (T := TX1) (N := 10) C.1 C.2.1 C.2.2.2.2.1 in_X1 tyX1 tyX1_ok nmX1 C.2.2.2.1 C.2.2.2.2.2.1 hP (C.2.2.2.2.2.2.1 S) hS 0 rfl rfl 2 (by decide) (C.2.2.2.2.1 _ q202) (fun _ h9 => h9) rfl (by decide +kernel) rfl rfl (Nat.le_of_ble_eq_true rfl) hd (fun H1 locs1 hP1 hD1 hS1 => ?_)
  exact k C H1 locs1 ls hP1 hS1 hl
theorem mg_payers (hE : ct_c E RX1 mW h) (pc' : Nat) (hd : decode cc pc = .ok (.getfield 16, 3)) (hp : pc + 3 = pc') (k : G E cc nL S pc' lv (.inr (h 3) :: st)) : G E cc nL S pc lv (.inr (h 0) :: st) := by
  subst hp
  obtain ⟨⟨p, l, e, R, s⟩, ⟨m, args, below, meth, c⟩, ⟨cells, slots, Q⟩, ⟨D, A, own', wf', d⟩⟩ := E
  obtain ⟨rfl, rfl⟩ := hE
  intro C H locs ls hP hS hl
  exact va_get (D := D) (ci := 1) (v := .ref (h 3)) (C := RX1) (T := TX1) (N := 10) C.1 C.2.1 C.2.2.2.2.1 in_X1 C.2.2.2.1 C.2.2.2.2.2.1 hP 0 rfl rfl 3 (by decide) (C.2.2.2.2.1 _ q203) (fun _ h9 => h9) rfl hd (k C H locs ls hP hS hl)
theorem ml_payers (hE : ct_c E RX1 mW h) {z : Int} (pc' : Nat) (hd : decode cc pc = .ok (.iaload, 1)) (hp : pc + 1 = pc') (hz : 0 ≤ z ∧ z < 6) (kk : G E cc nL S pc' lv (.inl (S 3 z) :: st)) : G E cc nL S pc lv (.inl z :: .inr (h 3) :: st) := g_ald hE 3 3 6 pc' (fun _ => rfl) (by decide) hd hp (by omega) kk
theorem ms_payers (hE : ct_c E RX1 mW h) {z v : Int} (pc' : Nat) (hd : decode cc pc = .ok (.iastore, 1)) (hp : pc + 1 = pc') (hz : 0 ≤ z ∧ z < 6) (kk : G E cc nL (us S 3 (ua (S 3) z v)) pc' lv st) : G E cc nL S pc lv (.inl v :: .inl z :: .inr (h 3) :: st) := g_ast hE 3 3 6 pc' (fun _ => rfl) (fun _ _ => rfl) (by decide) hd hp (by omega) kk
theorem mg_payees (hE : ct_c E RX1 mW h) (pc' : Nat) (hd : decode cc pc = .ok (.getfield 19, 3)) (hp : pc + 3 = pc') (k : G E cc nL S pc' lv (.inr (h 4) :: st)) : G E cc nL S pc lv (.inr (h 0) :: st) := by
  subst hp
  obtain ⟨⟨p, l, e, R, s⟩, ⟨m, args, below, meth, c⟩, ⟨cells, slots, Q⟩, ⟨D, A, own', wf', d⟩⟩ := E
  obtain ⟨rfl, rfl⟩ := hE
  intro C H locs ls hP hS hl
  exact va_get (D := D) (ci := 1) (v := .ref (h 4)) (C := RX1) (T := TX1) (N := 10) C.1 C.2.1 C.2.2.2.2.1 in_X1 C.2.2.2.1 C.2.2.2.2.2.1 hP 0 rfl rfl 4 (by decide) (C.2.2.2.2.1 _ q204) (fun _ h9 => h9) rfl hd (k C H locs ls hP hS hl)
theorem ml_payees (hE : ct_c E RX1 mW h) {z : Int} (pc' : Nat) (hd : decode cc pc = .ok (.iaload, 1)) (hp : pc + 1 = pc') (hz : 0 ≤ z ∧ z < 6) (kk : G E cc nL S pc' lv (.inl (S 4 z) :: st)) : G E cc nL S pc lv (.inl z :: .inr (h 4) :: st) := g_ald hE 4 4 6 pc' (fun _ => rfl) (by decide) hd hp (by omega) kk
theorem ms_payees (hE : ct_c E RX1 mW h) {z v : Int} (pc' : Nat) (hd : decode cc pc = .ok (.iastore, 1)) (hp : pc + 1 = pc') (hz : 0 ≤ z ∧ z < 6) (kk : G E cc nL (us S 4 (ua (S 4) z v)) pc' lv st) : G E cc nL S pc lv (.inl v :: .inl z :: .inr (h 4) :: st) := g_ast hE 4 4 6 pc' (fun _ => rfl) (fun _ _ => rfl) (by decide) hd hp (by omega) kk
theorem mg_amounts (hE : ct_c E RX1 mW h) (pc' : Nat) (hd : decode cc pc = .ok (.getfield 22, 3)) (hp : pc + 3 = pc') (k : G E cc nL S pc' lv (.inr (h 5) :: st)) : G E cc nL S pc lv (.inr (h 0) :: st) := by
  subst hp
  obtain ⟨⟨p, l, e, R, s⟩, ⟨m, args, below, meth, c⟩, ⟨cells, slots, Q⟩, ⟨D, A, own', wf', d⟩⟩ := E
  obtain ⟨rfl, rfl⟩ := hE
  intro C H locs ls hP hS hl
  exact va_get (D := D) (ci := 1) (v := .ref (h 5)) (C := RX1) (T := TX1) (N := 10) C.1 C.2.1 C.2.2.2.2.1 in_X1 C.2.2.2.1 C.2.2.2.2.2.1 hP 0 rfl rfl 5 (by decide) (C.2.2.2.2.1 _ q205) (fun _ h9 => h9) rfl hd (k C H locs ls hP hS hl)
theorem ml_amounts (hE : ct_c E RX1 mW h) {z : Int} (pc' : Nat) (hd : decode cc pc = .ok (.iaload, 1)) (hp : pc + 1 = pc') (hz : 0 ≤ z ∧ z < 6) (kk : G E cc nL S pc' lv (.inl (S 5 z) :: st)) : G E cc nL S pc lv (.inl z :: .inr (h 5) :: st) := g_ald hE 5 5 6 pc' (fun _ => rfl) (by decide) hd hp (by omega) kk
theorem ms_amounts (hE : ct_c E RX1 mW h) {z v : Int} (pc' : Nat) (hd : decode cc pc = .ok (.iastore, 1)) (hp : pc + 1 = pc') (hz : 0 ≤ z ∧ z < 6) (kk : G E cc nL (us S 5 (ua (S 5) z v)) pc' lv st) : G E cc nL S pc lv (.inl v :: .inl z :: .inr (h 5) :: st) := g_ast hE 5 5 6 pc' (fun _ => rfl) (fun _ _ => rfl) (by decide) hd hp (by omega) kk
theorem mg_owed (hE : ct_c E RX1 mW h) (pc' : Nat) (hd : decode cc pc = .ok (.getfield 25, 3)) (hp : pc + 3 = pc') (k : G E cc nL S pc' lv (.inr (h 6) :: st)) : G E cc nL S pc lv (.inr (h 0) :: st) := by
  subst hp
  obtain ⟨⟨p, l, e, R, s⟩, ⟨m, args, below, meth, c⟩, ⟨cells, slots, Q⟩, ⟨D, A, own', wf', d⟩⟩ := E
  obtain ⟨rfl, rfl⟩ := hE
  intro C H locs ls hP hS hl
  exact va_get (D := D) (ci := 1) (v := .ref (h 6)) (C := RX1) (T := TX1) (N := 10) C.1 C.2.1 C.2.2.2.2.1 in_X1 C.2.2.2.1 C.2.2.2.2.2.1 hP 0 rfl rfl 6 (by decide) (C.2.2.2.2.1 _ q206) (fun _ h9 => h9) rfl hd (k C H locs ls hP hS hl)
theorem ml_owed (hE : ct_c E RX1 mW h) {z : Int} (pc' : Nat) (hd : decode cc pc = .ok (.iaload, 1)) (hp : pc + 1 = pc') (hz : 0 ≤ z ∧ z < 49) (kk : G E cc nL S pc' lv (.inl (S 6 z) :: st)) : G E cc nL S pc lv (.inl z :: .inr (h 6) :: st) := g_ald hE 6 6 49 pc' (fun _ => rfl) (by decide) hd hp (by omega) kk
theorem ms_owed (hE : ct_c E RX1 mW h) {z v : Int} (pc' : Nat) (hd : decode cc pc = .ok (.iastore, 1)) (hp : pc + 1 = pc') (hz : 0 ≤ z ∧ z < 49) (kk : G E cc nL (us S 6 (ua (S 6) z v)) pc' lv st) : G E cc nL S pc lv (.inl v :: .inl z :: .inr (h 6) :: st) := g_ast hE 6 6 49 pc' (fun _ => rfl) (fun _ _ => rfl) (by decide) hd hp (by omega) kk
theorem mg_reached (hE : ct_c E RX1 mW h) (pc' : Nat) (hd : decode cc pc = .ok (.getfield 28, 3)) (hp : pc + 3 = pc') (k : G E cc nL S pc' lv (.inr (h 7) :: st)) : G E cc nL S pc lv (.inr (h 0) :: st) := by
  subst hp
  obtain ⟨⟨p, l, e, R, s⟩, ⟨m, args, below, meth, c⟩, ⟨cells, slots, Q⟩, ⟨D, A, own', wf', d⟩⟩ := E
  obtain ⟨rfl, rfl⟩ := hE
  intro C H locs ls hP hS hl
  exact va_get (D := D) (ci := 1) (v := .ref (h 7)) (C := RX1) (T := TX1) (N := 10) C.1 C.2.1 C.2.2.2.2.1 in_X1 C.2.2.2.1 C.2.2.2.2.2.1 hP 0 rfl rfl 7 (by decide) (C.2.2.2.2.1 _ q207) (fun _ h9 => h9) rfl hd (k C H locs ls hP hS hl)
theorem ml_reached (hE : ct_c E RX1 mW h) {z : Int} (pc' : Nat) (hd : decode cc pc = .ok (.iaload, 1)) (hp : pc + 1 = pc') (hz : 0 ≤ z ∧ z < 7) (kk : G E cc nL S pc' lv (.inl (S 7 z) :: st)) : G E cc nL S pc lv (.inl z :: .inr (h 7) :: st) := g_ald hE 7 7 7 pc' (fun _ => rfl) (by decide) hd hp (by omega) kk
theorem ms_reached (hE : ct_c E RX1 mW h) {z v : Int} (pc' : Nat) (hd : decode cc pc = .ok (.iastore, 1)) (hp : pc + 1 = pc') (hz : 0 ≤ z ∧ z < 7) (kk : G E cc nL (us S 7 (ua (S 7) z v)) pc' lv st) : G E cc nL S pc lv (.inl v :: .inl z :: .inr (h 7) :: st) := g_ast hE 7 7 7 pc' (fun _ => rfl) (fun _ _ => rfl) (by decide) hd hp (by omega) kk
theorem mg_price (hE : ct_c E RX1 mW h) (pc' : Nat) (hd : decode cc pc = .ok (.getfield 31, 3)) (hp : pc + 3 = pc') (k : G E cc nL S pc' lv (.inr (h 8) :: st)) : G E cc nL S pc lv (.inr (h 0) :: st) := by
  subst hp
  obtain ⟨⟨p, l, e, R, s⟩, ⟨m, args, below, meth, c⟩, ⟨cells, slots, Q⟩, ⟨D, A, own', wf', d⟩⟩ := E
  obtain ⟨rfl, rfl⟩ := hE
  intro C H locs ls hP hS hl
  exact va_get (D := D) (ci := 1) (v := .ref (h 8)) (C := RX1) (T := TX1) (N := 10) C.1 C.2.1 C.2.2.2.2.1 in_X1 C.2.2.2.1 C.2.2.2.2.2.1 hP 0 rfl rfl 8 (by decide) (C.2.2.2.2.1 _ q208) (fun _ h9 => h9) rfl hd (k C H locs ls hP hS hl)
theorem ml_price (hE : ct_c E RX1 mW h) {z : Int} (pc' : Nat) (hd : decode cc pc = .ok (.iaload, 1)) (hp : pc + 1 = pc') (hz : 0 ≤ z ∧ z < 7) (kk : G E cc nL S pc' lv (.inl (S 8 z) :: st)) : G E cc nL S pc lv (.inl z :: .inr (h 8) :: st) := g_ald hE 8 8 7 pc' (fun _ => rfl) (by decide) hd hp (by omega) kk
theorem ms_price (hE : ct_c E RX1 mW h) {z v : Int} (pc' : Nat) (hd : decode cc pc = .ok (.iastore, 1)) (hp : pc + 1 = pc') (hz : 0 ≤ z ∧ z < 7) (kk : G E cc nL (us S 8 (ua (S 8) z v)) pc' lv st) : G E cc nL S pc lv (.inl v :: .inl z :: .inr (h 8) :: st) := g_ast hE 8 8 7 pc' (fun _ => rfl) (fun _ _ => rfl) (by decide) hd hp (by omega) kk
theorem mg_before (hE : ct_c E RX1 mW h) (pc' : Nat) (hd : decode cc pc = .ok (.getfield 34, 3)) (hp : pc + 3 = pc') (k : G E cc nL S pc' lv (.inr (h 9) :: st)) : G E cc nL S pc lv (.inr (h 0) :: st) := by
  subst hp
  obtain ⟨⟨p, l, e, R, s⟩, ⟨m, args, below, meth, c⟩, ⟨cells, slots, Q⟩, ⟨D, A, own', wf', d⟩⟩ := E
  obtain ⟨rfl, rfl⟩ := hE
  intro C H locs ls hP hS hl
  exact va_get (D := D) (ci := 1) (v := .ref (h 9)) (C := RX1) (T := TX1) (N := 10) C.1 C.2.1 C.2.2.2.2.1 in_X1 C.2.2.2.1 C.2.2.2.2.2.1 hP 0 rfl rfl 9 (by decide) (C.2.2.2.2.1 _ q209) (fun _ h9 => h9) rfl hd (k C H locs ls hP hS hl)
theorem ml_before (hE : ct_c E RX1 mW h) {z : Int} (pc' : Nat) (hd : decode cc pc = .ok (.iaload, 1)) (hp : pc + 1 = pc') (hz : 0 ≤ z ∧ z < 7) (kk : G E cc nL S pc' lv (.inl (S 9 z) :: st)) : G E cc nL S pc lv (.inl z :: .inr (h 9) :: st) := g_ald hE 9 9 7 pc' (fun _ => rfl) (by decide) hd hp (by omega) kk
theorem ms_before (hE : ct_c E RX1 mW h) {z v : Int} (pc' : Nat) (hd : decode cc pc = .ok (.iastore, 1)) (hp : pc + 1 = pc') (hz : 0 ≤ z ∧ z < 7) (kk : G E cc nL (us S 9 (ua (S 9) z v)) pc' lv st) : G E cc nL S pc lv (.inl v :: .inl z :: .inr (h 9) :: st) := g_ast hE 9 9 7 pc' (fun _ => rfl) (fun _ _ => rfl) (by decide) hd hp (by omega) kk
end
/-! ===== contracts ===== -/
def rk (k : Nat) : Room := { frames := k, cells := 0, slots := 0, locals := 40 * k }
def c_args (rcv : Bool) (h : Nat → Nat) (av : List Int) : List pv := match rcv with
  | true => .inr (h 0) :: av.map Sum.inl
  | false => av.map Sum.inl
def c_pre (wf : wf_T) (D : va_G) (d : ClassId) (h : Nat → Nat) (sz : Nat) (S : st_T) : State → Prop := fun U => U.heap.size = sz ∧ va_P D vwCl (wf h d S) U.heap ∧ va_K D vwCl [(d, .int)] U ∧ va_D (fun _ => True) (wf h d S)
def c_post (wf : wf_T) (D : va_G) (d : ClassId) (h : Nat → Nat) : st_T → State → Prop := fun u t => va_P D vwCl (wf h d u) t.heap ∧ va_K D vwCl [(d, .int)] t
/-- a method that answers an int (or a boolean): from every state S with Pre it returns some z, behind it the state is some S' with Post S z S' -/
def c_meti (wf : wf_T) (y : MethodName) (cc : ByteArray) (nL : Nat) (ret : FieldType) (rm : Room) (rcv : Bool) (av : List Int) (Pre : st_T → Prop) (Post : st_T → Int → st_T → Prop) : Prop :=
  ∀ (l : Launch) (D : va_G) (d : ClassId) (h : Nat → Nat) (sz : Nat) (S : st_T), Pre S → Met l y (ws_ y cc nL (some ret)) rm (va_Pc ((c_args rcv h av).map pV) (c_pre wf D d h sz S)) (va_Qi (fun (r : Int32) (u : st_T) => ∃ z : Int, r = iI z ∧ Post S z u) (c_post wf D d h) (va_A (wf h d S) sz)) 0 0 (va_A (wf h d S) sz)
def c_metv (wf : wf_T) (y : MethodName) (cc : ByteArray) (nL : Nat) (rm : Room) (rcv : Bool) (av : List Int) (Pre : st_T → Prop) (Post : st_T → st_T → Prop) : Prop :=
  ∀ (l : Launch) (D : va_G) (d : ClassId) (h : Nat → Nat) (sz : Nat) (S : st_T), Pre S → Met l y (ws_ y cc nL none) rm (va_Pc ((c_args rcv h av).map pV) (c_pre wf D d h sz S)) (va_Qv (fun (u : st_T) => Post S u) (c_post wf D d h) (va_A (wf h d S) sz)) 0 0 (va_A (wf h d S) sz)
theorem c_meti_of {own : String} {wf : wf_T} {y : MethodName} {cc : ByteArray} {nL : Nat} {ret : FieldType} {rm : Room} {rcv : Bool} {av : List Int} {Pre : st_T → Prop} {Post : st_T → Int → st_T → Prop} (hy : plainName y.cls = true) (hyc : y.cls = own) (hwf : ∀ (h : Nat → Nat) (d : ClassId) (S S' : st_T), (wf h d S).map Prod.fst = (wf h d S').map Prod.fst) (hlen : ∀ h, (c_args rcv h av).length ≤ nL)
    (body : ∀ (E : ct_T) (h : Nat → Nat) (S : st_T), ct_c E own wf h → ct_R E = rm → Pre S → (∀ (S' : st_T) (z : Int) (pc : Nat) (lv : List (Option pv)), decode cc pc = .ok (.ireturn, 1) → narrow ret (.int (iI z)) = .int (iI z) → Post S z S' → G E cc nL S' pc lv [.inl z]) → G E cc nL S 0 ((c_args rcv h av).map some ++ List.replicate (nL - (c_args rcv h av).length) none) []) : c_meti wf y cc nL ret rm rcv av Pre Post := by
  intro l D d h sz S hpre
  refine Met.ofW (cc := cc) (maxL := nL) (ret := some ret) hy rfl ?_
  intro p e s m args below meth c s₁ B hml hv
  obtain ⟨rfl, hsz, hP, hK, hD0⟩ := hv
  have hts0 := atoms_spec (ws := ws_ y cc nL (some ret)) B.pre
  have hts : ∀ w ∈ lw_all, w.before _ s = true := fun w h => hts0 w (List.mem_cons_of_mem _ h)
  have hown : s.vm.findClass own = some m.cls := hyc ▸ findClass_of_methodNamed B.named
  have hlocks := B.notSynchronized
  subst hsz
  have hl := cl_entry (c_args rcv h av) (n := nL) (hlen h)
  rw [lg_entry_eq]
  generalize (lg_sl ((c_args rcv h av).map pV) ++ List.replicate (nL - (lg_sl ((c_args rcv h av).map pV)).length) Slot.unset).toArray = ls at hl ⊢
  have hDA : ∀ S' : st_T, va_D (va_A (wf h d S) s.heap.size) (wf h d S') := fun S' => va_D_fst (hwf h d S S') hD0.self
  refine body ((p, l, e, (headSpec (ws_ y cc nL (some ret)) rm).room, s), (m, ((c_args rcv h av).map pV).toArray, below, meth, c), (0, 0, MQ below (va_Qi (fun (r : Int32) (u : st_T) => ∃ z : Int, r = iI z ∧ Post S z u) (c_post wf D d h) (va_A (wf h d S) s.heap.size)) ((c_args rcv h av).map pV).toArray s 0 0 (va_A (wf h d S) s.heap.size)), (D, va_A (wf h d S) s.heap.size, own, wf h d, d)) h S ⟨rfl, rfl⟩ rfl hpre ?_ ⟨B.exec, B.bytes, hml, hown, hts, hK, hDA, fun q hq => Or.inr hq, Nat.zero_le _, Nat.zero_le _⟩ s.heap [] ls hP va_S.rf hl
  intro S' z pc lv hd hn hpost C H locs ls' hP' hS' hl'
  exact W.zret (v := iI z) B.exec B.bytes B.returns hn (fun t ht hW => ⟨⟨iI z, S', rfl, ⟨z, rfl, hpost⟩, by rw [ht]; exact hP', va_K.moved hW.alike hK⟩, hS'.F ht⟩) hS'.2.2 hd hlocks
theorem c_metv_of {own : String} {wf : wf_T} {y : MethodName} {cc : ByteArray} {nL : Nat} {rm : Room} {rcv : Bool} {av : List Int} {Pre : st_T → Prop} {Post : st_T → st_T → Prop} (hy : plainName y.cls = true) (hyc : y.cls = own) (hwf : ∀ (h : Nat → Nat) (d : ClassId) (S S' : st_T), (wf h d S).map Prod.fst = (wf h d S').map Prod.fst) (hlen : ∀ h, (c_args rcv h av).length ≤ nL)
    (body : ∀ (E : ct_T) (h : Nat → Nat) (S : st_T), ct_c E own wf h → ct_R E = rm → Pre S → (∀ (S' : st_T) (pc : Nat) (lv : List (Option pv)), decode cc pc = .ok (.return_, 1) → Post S S' → G E cc nL S' pc lv []) → G E cc nL S 0 ((c_args rcv h av).map some ++ List.replicate (nL - (c_args rcv h av).length) none) []) : c_metv wf y cc nL rm rcv av Pre Post := by
  intro l D d h sz S hpre
  refine Met.ofW (cc := cc) (maxL := nL) (ret := none) hy rfl ?_
  intro p e s m args below meth c s₁ B hml hv
  obtain ⟨rfl, hsz, hP, hK, hD0⟩ := hv
  have hts0 := atoms_spec (ws := ws_ y cc nL none) B.pre
  have hts : ∀ w ∈ lw_all, w.before _ s = true := fun w h => hts0 w (List.mem_cons_of_mem _ h)
  have hown : s.vm.findClass own = some m.cls := hyc ▸ findClass_of_methodNamed B.named
  have hlocks := B.notSynchronized
  subst hsz
  have hl := cl_entry (c_args rcv h av) (n := nL) (hlen h)
  rw [lg_entry_eq]
  generalize (lg_sl ((c_args rcv h av).map pV) ++ List.replicate (nL - (lg_sl ((c_args rcv h av).map pV)).length) Slot.unset).toArray = ls at hl ⊢
  have hDA : ∀ S' : st_T, va_D (va_A (wf h d S) s.heap.size) (wf h d S') := fun S' => va_D_fst (hwf h d S S') hD0.self
  refine body ((p, l, e, (headSpec (ws_ y cc nL none) rm).room, s), (m, ((c_args rcv h av).map pV).toArray, below, meth, c), (0, 0, MQ below (va_Qv (fun (u : st_T) => Post S u) (c_post wf D d h) (va_A (wf h d S) s.heap.size)) ((c_args rcv h av).map pV).toArray s 0 0 (va_A (wf h d S) s.heap.size)), (D, va_A (wf h d S) s.heap.size, own, wf h d, d)) h S ⟨rfl, rfl⟩ rfl hpre ?_ ⟨B.exec, B.bytes, hml, hown, hts, hK, hDA, fun q hq => Or.inr hq, Nat.zero_le _, Nat.zero_le _⟩ s.heap [] ls hP va_S.rf hl
  intro S' pc lv hd hpost C H locs ls' hP' hS' hl'
  exact W.vret B.exec B.bytes B.returns (fun t ht hW => ⟨⟨S', rfl, hpost, by rw [ht]; exact hP', va_K.moved hW.alike hK⟩, hS'.F ht⟩) hS'.2.2 hd hlocks
theorem xW_fst (h : Nat → Nat) (d : ClassId) (S S' : st_T) : (xW h d S).map Prod.fst = (xW h d S').map Prod.fst := rfl
theorem mW_fst (h : Nat → Nat) (d : ClassId) (S S' : st_T) : (mW h d S).map Prod.fst = (mW h d S').map Prod.fst := rfl
/-- what the kit asks of a class's world: its object stands first -/
def wf_ob (own : String) (wf : wf_T) : Prop := ∀ (h : Nat → Nat) (d : ClassId) (S : st_T), ∃ (ci : Nat) (q : vw_C) (fs : List Value), vwCl[ci]? = some q ∧ q.1 = own ∧ (wf h d S)[0]? = some (h 0, .inr (ci, fs))
theorem xW_ob : wf_ob RX0 xW := fun _ _ _ => ⟨0, _, _, rfl, rfl, rfl⟩
theorem mW_ob : wf_ob RX1 mW := fun _ _ _ => ⟨1, _, _, rfl, rfl, rfl⟩
theorem c_pre_blind {wf : wf_T} {D : va_G} {d : ClassId} {h : Nat → Nat} {sz : Nat} {S : st_T} {av : List Value} : FrameBlind (va_Pc av (c_pre wf D d h sz S)) := by
  intro a U g mk q
  obtain ⟨q0, q1, qP, qK, qD⟩ := q
  exact ⟨q0, q1, qP, va_K.moved (u := U) (U := U.calling g mk a) (Vm.Alike.refl U.vm) qK, qD⟩
section
variable {E : ct_T} {cc : ByteArray} {nL : Nat} {S : st_T} {pc : Nat} {lv : List (Option pv)} {st : List pv} {own : String} {wf : wf_T} {h : Nat → Nat}
/-- a call of a method of the own class -/
theorem g_calli {na : Nat} {y : MethodName} {ccy : ByteArray} {nLy idx : Nat} {ret : FieldType} {rm : Room} {av : List Int} {Pre : st_T → Prop} {Post : st_T → Int → st_T → Prop} (hM : c_meti wf y ccy nLy ret rm true av Pre Post) (hob : wf_ob own wf) (hG : GoodIn lw_all (wsV own idx own y (ws_ y ccy nLy (some ret)))) (hy : y.cls = own ∧ y.cls ≠ "java/lang/invoke/MethodHandle" ∧ y.cls ≠ "java/lang/invoke/VarHandle" ∧ (parseMethodDescriptor y.desc).map (fun d => d.parameters.length) = some na) (hna : av.length = na) (hrm : rm.cells = 0 ∧ rm.slots = 0)
    (hE : ct_c E own wf h) (hR : rm.frames + 1 ≤ (ct_R E).frames ∧ 8 + (nLy + 11) + rm.locals ≤ (ct_R E).locals) (pc' : Nat) (hd : decode cc pc = .ok (.invokevirtual idx, 3)) (hp : pc + 3 = pc') (rest : List pv) (hst : st = (av.map Sum.inl).reverse ++ .inr (h 0) :: rest) (hrest : rest.length ≤ 8) (hpre : Pre S) (k : ∀ (z : Int) (S' : st_T), Post S z S' → G E cc nL S' pc' lv (.inl z :: rest)) : G E cc nL S pc lv st := by
  subst hp
  obtain ⟨⟨p, l, e, R, s⟩, ⟨m, args, below, meth, c⟩, ⟨cells, slots, Q⟩, ⟨D, A, own', wf', d⟩⟩ := E
  obtain ⟨rfl, rfl⟩ := hE
  intro C H locs ls hP hS hl
  obtain ⟨hx, hb, hml, hown, hts, hK, hD, hA, hc, hs⟩ := id C
  have hF : ∀ q, va_A (wf h d S) H.size q → A q := by
    intro q hq
    rcases hq with ⟨i, x, hi⟩ | hq
    · exact (hD S).2 i _ hi
    · exact hA q (Nat.le_trans hS.1 hq)
  obtain ⟨ci, q, fs, o1, o2, o3⟩ := hob h d S
  have hrecv := va_recv hK hP o1 o3
  rw [o2] at hrecv
  refine va_calli (va_runV (As := (av.map Sum.inl).map pV) (rest := rest.map pV) ⟨hx, hb, hml, hown, hts⟩ (hM l D d h H.size S hpre) (cwV na hts hG rfl hrm.1 hrm.2 hy hR) ⟨c_pre_blind, hrecv, fun U hU hW => ⟨rfl, by rw [hU], by rw [hU]; exact hP, va_K.moved hW.alike hK, (hD S).weaken (fun _ _ _ _ => trivial)⟩⟩ rfl (by rw [List.length_map, List.length_map]; exact hna) hl.1 (by rw [hst]; simp [pV]) (lv_room (by rw [pV_sum]; exact hrest)) hd ⟨hc, hs⟩) hS (fun q _ h => hF q h) hF (fun r u t H1 locs1 ht hvm hw hB hz1 hk1 hS1 => ?_)
  obtain ⟨z, rfl, hpost⟩ := hw
  obtain ⟨hP1, hK1⟩ := hB
  rw [ht] at hP1
  exact k z u hpost C H1 locs1 ls hP1 hS1 hl
theorem g_callv {na : Nat} {y : MethodName} {ccy : ByteArray} {nLy idx : Nat} {rm : Room} {av : List Int} {Pre : st_T → Prop} {Post : st_T → st_T → Prop} (hM : c_metv wf y ccy nLy rm true av Pre Post) (hob : wf_ob own wf) (hG : GoodIn lw_all (wsV own idx own y (ws_ y ccy nLy none))) (hy : y.cls = own ∧ y.cls ≠ "java/lang/invoke/MethodHandle" ∧ y.cls ≠ "java/lang/invoke/VarHandle" ∧ (parseMethodDescriptor y.desc).map (fun d => d.parameters.length) = some na) (hna : av.length = na) (hrm : rm.cells = 0 ∧ rm.slots = 0)
    (hE : ct_c E own wf h) (hR : rm.frames + 1 ≤ (ct_R E).frames ∧ 8 + (nLy + 11) + rm.locals ≤ (ct_R E).locals) (pc' : Nat) (hd : decode cc pc = .ok (.invokevirtual idx, 3)) (hp : pc + 3 = pc') (rest : List pv) (hst : st = (av.map Sum.inl).reverse ++ .inr (h 0) :: rest) (hrest : rest.length ≤ 8) (hpre : Pre S) (k : ∀ (S' : st_T), Post S S' → G E cc nL S' pc' lv rest) : G E cc nL S pc lv st := by
  subst hp
  obtain ⟨⟨p, l, e, R, s⟩, ⟨m, args, below, meth, c⟩, ⟨cells, slots, Q⟩, ⟨D, A, own', wf', d⟩⟩ := E
  obtain ⟨rfl, rfl⟩ := hE
  intro C H locs ls hP hS hl
  obtain ⟨hx, hb, hml, hown, hts, hK, hD, hA, hc, hs⟩ := id C
  have hF : ∀ q, va_A (wf h d S) H.size q → A q := by
    intro q hq
    rcases hq with ⟨i, x, hi⟩ | hq
    · exact (hD S).2 i _ hi
    · exact hA q (Nat.le_trans hS.1 hq)
  obtain ⟨ci, q, fs, o1, o2, o3⟩ := hob h d S
  have hrecv := va_recv hK hP o1 o3
  rw [o2] at hrecv
  refine va_callv (va_runV (As := (av.map Sum.inl).map pV) (rest := rest.map pV) ⟨hx, hb, hml, hown, hts⟩ (hM l D d h H.size S hpre) (cwV na hts hG rfl hrm.1 hrm.2 hy hR) ⟨c_pre_blind, hrecv, fun U hU hW => ⟨rfl, by rw [hU], by rw [hU]; exact hP, va_K.moved hW.alike hK, (hD S).weaken (fun _ _ _ _ => trivial)⟩⟩ rfl (by rw [List.length_map, List.length_map]; exact hna) hl.1 (by rw [hst]; simp [pV]) (lv_room (by rw [pV_sum]; exact hrest)) hd ⟨hc, hs⟩) hS (fun q _ h => hF q h) hF (fun u t H1 locs1 ht hvm hw hB hz1 hk1 hS1 => ?_)
  obtain ⟨hP1, hK1⟩ := hB
  rw [ht] at hP1
  exact k u hw C H1 locs1 ls hP1 hS1 hl
/-- a call of a static method of the own class -/
theorem g_calls {na : Nat} {y : MethodName} {ccy : ByteArray} {nLy idx : Nat} {ret : FieldType} {rm : Room} {av : List Int} {Pre : st_T → Prop} {Post : st_T → Int → st_T → Prop} (hM : c_meti wf y ccy nLy ret rm false av Pre Post) (hG : GoodIn lw_all (va_wsS own idx y (ws_ y ccy nLy (some ret)))) (hy : y.cls ≠ "java/lang/invoke/MethodHandle" ∧ y.cls ≠ "java/lang/invoke/VarHandle" ∧ (parseMethodDescriptor y.desc).map (fun d => d.parameters.length) = some na) (hna : av.length = na) (hrm : rm.cells = 0 ∧ rm.slots = 0)
    (hE : ct_c E own wf h) (hR : rm.frames + 1 ≤ (ct_R E).frames ∧ 8 + (nLy + 11) + rm.locals ≤ (ct_R E).locals) (pc' : Nat) (hd : decode cc pc = .ok (.invokestatic idx, 3)) (hp : pc + 3 = pc') (rest : List pv) (hst : st = (av.map Sum.inl).reverse ++ rest) (hrest : rest.length ≤ 8) (hpre : Pre S) (k : ∀ (z : Int) (S' : st_T), Post S z S' → G E cc nL S' pc' lv (.inl z :: rest)) : G E cc nL S pc lv st := by
  subst hp
  obtain ⟨⟨p, l, e, R, s⟩, ⟨m, args, below, meth, c⟩, ⟨cells, slots, Q⟩, ⟨D, A, own', wf', d⟩⟩ := E
  obtain ⟨rfl, rfl⟩ := hE
  intro C H locs ls hP hS hl
  obtain ⟨hx, hb, hml, hown, hts, hK, hD, hA, hc, hs⟩ := id C
  have hF : ∀ q, va_A (wf h d S) H.size q → A q := by
    intro q hq
    rcases hq with ⟨i, x, hi⟩ | hq
    · exact (hD S).2 i _ hi
    · exact hA q (Nat.le_trans hS.1 hq)
  refine va_calli (va_runS (As := (av.map Sum.inl).map pV) (rest := rest.map pV) ⟨hx, hb, hml, hown, hts⟩ (hM l D d h H.size S hpre) (va_cwS na hts hG rfl hrm.1 hrm.2 hy hR) ⟨c_pre_blind, fun U hU hW => ⟨rfl, by rw [hU], by rw [hU]; exact hP, va_K.moved hW.alike hK, (hD S).weaken (fun _ _ _ _ => trivial)⟩⟩ rfl (by rw [List.length_map, List.length_map]; exact hna) hl.1 (by rw [hst]; simp [pV]) (lv_room (by rw [pV_sum]; exact hrest)) hd ⟨hc, hs⟩) hS (fun q _ h => hF q h) hF (fun r u t H1 locs1 ht hvm hw hB hz1 hk1 hS1 => ?_)
  obtain ⟨z, rfl, hpost⟩ := hw
  obtain ⟨hP1, hK1⟩ := hB
  rw [ht] at hP1
  exact k z u hpost C H1 locs1 ls hP1 hS1 hl
end
end
section
/-! ===== sums over 0 .. n-1, cuts ===== -/
def sg (f : Int → Int) : Nat → Int
  | 0 => 0
  | n + 1 => sg f n + f (n : Int)
theorem sg_congr {f g : Int → Int} {n : Nat} (h : ∀ i : Int, 0 ≤ i → i < n → f i = g i) : sg f n = sg g n := by
  induction n with
  | zero => rfl
  | succ n ih =>
    show sg f n + f n = sg g n + g n
    rw [ih (fun i h1 h2 => h i h1 (by omega)), h n (by omega) (by omega)]
theorem sg_add {f g : Int → Int} {n : Nat} : sg (fun i => f i + g i) n = sg f n + sg g n := by
  induction n with
  | zero => rfl
  | succ n ih =>
    show sg (fun i => f i + g i) n + (f n + g n) = (sg f n + f n) + (sg g n + g n)
    rw [ih]; omega
theorem sg_sub {f g : Int → Int} {n : Nat} : sg (fun i => f i - g i) n = sg f n - sg g n := by
  induction n with
  | zero => rfl
  | succ n ih =>
    show sg (fun i => f i - g i) n + (f n - g n) = (sg f n + f n) - (sg g n + g n)
    rw [ih]; omega
theorem sg_mul {f : Int → Int} {c : Int} {n : Nat} : sg (fun i => c * f i) n = c * sg f n := by
  induction n with
  | zero => simp [sg]
  | succ n ih =>
    show sg (fun i => c * f i) n + c * f n = c * (sg f n + f n)
    rw [ih, Int.mul_add]
theorem sg_zero {f : Int → Int} {n : Nat} (h : ∀ i : Int, 0 ≤ i → i < n → f i = 0) : sg f n = 0 := by
  induction n with
  | zero => rfl
  | succ n ih =>
    show sg f n + f n = 0
    rw [ih (fun i h1 h2 => h i h1 (by omega)), h n (by omega) (by omega)]; rfl
theorem sg_le {f g : Int → Int} {n : Nat} (h : ∀ i : Int, 0 ≤ i → i < n → f i ≤ g i) : sg f n ≤ sg g n := by
  induction n with
  | zero => exact Int.le_refl _
  | succ n ih =>
    show sg f n + f n ≤ sg g n + g n
    have h1 := ih (fun i h1 h2 => h i h1 (by omega))
    have h2 := h n (by omega) (by omega)
    omega
theorem sg_nn {f : Int → Int} {n : Nat} (h : ∀ i : Int, 0 ≤ i → i < n → 0 ≤ f i) : 0 ≤ sg f n := by
  have h1 := sg_le (f := fun _ => 0) (g := f) (n := n) h
  rw [sg_zero (f := fun _ => 0) (fun _ _ _ => rfl)] at h1
  exact h1
/-- one place changed -/
theorem sg_one {f g : Int → Int} {n : Nat} {a : Int} (h0 : 0 ≤ a) (h1 : a < n) (h : ∀ i : Int, 0 ≤ i → i < n → i ≠ a → f i = g i) : sg f n = sg g n + (f a - g a) := by
  induction n with
  | zero => omega
  | succ n ih =>
    show sg f n + f n = sg g n + g n + (f a - g a)
    by_cases e : a = n
    · rw [sg_congr (f := f) (g := g) (fun i h2 h3 => h i h2 (by omega) (by omega)), e]
      omega
    · rw [ih (by omega) (fun i h2 h3 h4 => h i h2 (by omega) h4), h n (by omega) (by omega) (fun q => e q.symm)]
      omega
theorem sg_at {c : Int} {n : Nat} {a : Int} (h0 : 0 ≤ a) (h1 : a < n) : sg (fun i => if i = a then c else 0) n = c := by
  rw [sg_one (g := fun _ => 0) h0 h1 (fun i _ _ h => if_neg h), sg_zero (f := fun _ => 0) (fun _ _ _ => rfl), if_pos rfl]
  omega
theorem sg_el {f : Int → Int} {n : Nat} {a : Int} (h0 : 0 ≤ a) (h1 : a < n) (h : ∀ i : Int, 0 ≤ i → i < n → 0 ≤ f i) : f a ≤ sg f n := by
  have h2 := sg_le (f := fun i => if i = a then f a else 0) (g := f) (n := n) (fun i q1 q2 => by
    by_cases e : i = a
    · rw [if_pos e, e]; exact Int.le_refl _
    · rw [if_neg e]; exact h i q1 q2)
  rw [sg_at h0 h1] at h2
  exact h2
theorem sg_swap {f : Int → Int → Int} {m n : Nat} : sg (fun i => sg (fun j => f i j) m) n = sg (fun j => sg (fun i => f i j) n) m := by
  induction n with
  | zero =>
    show (0 : Int) = _
    rw [sg_zero]
    intro i _ _
    rfl
  | succ n ih =>
    show sg (fun i => sg (fun j => f i j) m) n + sg (fun j => f n j) m = _
    rw [ih, ← sg_add]
    rfl
theorem sg_app {f : Int → Int} {m n : Nat} : sg f (m + n) = sg f m + sg (fun i => f (m + i)) n := by
  induction n with
  | zero => simp [sg]
  | succ n ih =>
    show sg f (m + n) + f ((m + n : Nat) : Int) = sg f m + (sg (fun i => f (m + i)) n + f (m + n))
    rw [ih, Int.natCast_add]
    omega
theorem sg_flat {F : Int → Int → Int} {k m : Nat} (hk : 0 < k) : sg (fun p => F (p / k) (p % k)) (m * k) = sg (fun u => sg (fun v => F u v) k) m := by
  induction m with
  | zero => simp [sg]
  | succ m ih =>
    rw [Nat.succ_mul, sg_app, ih]
    show _ = sg (fun u => sg (fun v => F u v) k) m + sg (fun v => F m v) k
    congr 1
    refine sg_congr (fun i h1 h2 => ?_)
    have e1 : (((m * k : Nat) : Int) + i) / (k : Int) = m := by
      rw [Int.natCast_mul, Int.add_comm, Int.add_mul_ediv_right _ _ (by omega), Int.ediv_eq_zero_of_lt h1 h2]
      omega
    have e2 : (((m * k : Nat) : Int) + i) % (k : Int) = i := by
      rw [Int.natCast_mul, Int.add_comm, Int.add_mul_emod_self_right, Int.emod_eq_of_lt h1 h2]
    rw [e1, e2]
/-- what goes from the part z to the rest -/
def cap (w : Int → Int → Int) (n : Nat) (z : Int → Bool) : Int := sg (fun u => sg (fun v => if z u = true ∧ z v = false then w u v else 0) n) n
theorem cap_nn {w : Int → Int → Int} {n : Nat} {z : Int → Bool} (h : ∀ u v : Int, 0 ≤ u → u < n → 0 ≤ v → v < n → 0 ≤ w u v) : 0 ≤ cap w n z := by
  refine sg_nn (fun u h1 h2 => sg_nn (fun v h3 h4 => ?_))
  split
  · exact h u v h1 h2 h3 h4
  · exact Int.le_refl _
def inz (w : Int → Int → Int) (n : Nat) (z : Int → Bool) : Int := sg (fun u => sg (fun v => if z u = true ∧ z v = true then w u v else 0) n) n
theorem cap_row {w : Int → Int → Int} {n : Nat} {z : Int → Bool} : sg (fun u => if z u = true then sg (w u) n else 0) n = cap w n z + inz w n z := by
  unfold cap inz
  rw [← sg_add]
  refine sg_congr (fun u _ _ => ?_)
  rw [← sg_add]
  by_cases hu : z u = true
  · rw [if_pos hu]
    refine sg_congr (fun v _ _ => ?_)
    cases hv : z v <;> simp [hu, hv]
  · rw [if_neg hu, sg_zero]
    intro v _ _
    simp [hu]
theorem inz_pair {w w' : Int → Int → Int} {n : Nat} {z : Int → Bool} (h : ∀ u v : Int, 0 ≤ u → u < n → 0 ≤ v → v < n → w' u v + w' v u = w u v + w v u) : inz w' n z = inz w n z := by
  have key : ∀ x : Int → Int → Int, 2 * inz x n z = sg (fun u => sg (fun v => if z u = true ∧ z v = true then x u v + x v u else 0) n) n := by
    intro x
    have e : inz x n z = sg (fun u => sg (fun v => if z u = true ∧ z v = true then x v u else 0) n) n := by
      unfold inz
      rw [sg_swap]
      refine sg_congr (fun u _ _ => sg_congr (fun v _ _ => ?_))
      by_cases hu : z u = true <;> by_cases hv : z v = true <;> simp [hu, hv]
    have e2 : 2 * inz x n z = inz x n z + inz x n z := by omega
    rw [e2]
    conv => lhs; rhs; rw [e]
    unfold inz
    rw [← sg_add]
    refine sg_congr (fun u _ _ => ?_)
    rw [← sg_add]
    refine sg_congr (fun v _ _ => ?_)
    split <;> omega
  have e : 2 * inz w' n z = 2 * inz w n z := by
    rw [key, key]
    refine sg_congr (fun u h1 h2 => sg_congr (fun v h3 h4 => ?_))
    rw [h u v h1 h2 h3 h4]
  omega
/-- pairs' sums the same, rows changed by dl: the cut changes by what dl is in all on z -/
theorem cap_move {w w' : Int → Int → Int} {n : Nat} {z : Int → Bool} {dl : Int → Int} (h : ∀ u v : Int, 0 ≤ u → u < n → 0 ≤ v → v < n → w' u v + w' v u = w u v + w v u) (hr : ∀ u : Int, 0 ≤ u → u < n → sg (w' u) n = sg (w u) n + dl u) : cap w' n z = cap w n z + sg (fun u => if z u = true then dl u else 0) n := by
  have h1 := cap_row (w := w) (n := n) (z := z)
  have h2 := cap_row (w := w') (n := n) (z := z)
  rw [inz_pair h] at h2
  have h3 : sg (fun u => if z u = true then sg (w' u) n else 0) n = sg (fun u => if z u = true then sg (w u) n else 0) n + sg (fun u => if z u = true then dl u else 0) n := by
    rw [← sg_add]
    refine sg_congr (fun u q1 q2 => ?_)
    by_cases hu : z u = true
    · rw [if_pos hu, if_pos hu, if_pos hu, hr u q1 q2]
    · rw [if_neg hu, if_neg hu, if_neg hu]; rfl
  omega
/-- sending r from a in z to b outside -/
theorem cap_sent {w w' : Int → Int → Int} {n : Nat} {z : Int → Bool} {a b r : Int} (ha : 0 ≤ a ∧ a < n) (hb : 0 ≤ b ∧ b < n) (hza : z a = true) (hzb : z b = false) (h : ∀ u v : Int, 0 ≤ u → u < n → 0 ≤ v → v < n → w' u v + w' v u = w u v + w v u) (hr : ∀ u : Int, 0 ≤ u → u < n → sg (w' u) n = sg (w u) n + (if u = b then r else 0) - (if u = a then r else 0)) : cap w' n z = cap w n z - r := by
  have hab : a ≠ b := fun e => by rw [e, hzb] at hza; cases hza
  rw [cap_move (dl := fun u => (if u = b then r else 0) - (if u = a then r else 0)) h (fun u h1 h2 => by rw [hr u h1 h2]; omega)]
  have e : sg (fun u => if z u = true then (if u = b then r else 0) - (if u = a then r else 0) else 0) n = sg (fun u => if u = a then -r else 0) n := by
    refine sg_congr (fun u _ _ => ?_)
    by_cases hu : u = a
    · subst hu
      simp [hza, hab]
    · by_cases hub : u = b
      · subst hub
        simp [hzb, hu]
      · simp [hu, hub]
  rw [e, sg_at ha.1 ha.2]
  omega
end
section
/-! ===== sets of members as masks; slack; the state's law ===== -/
def inS (set u : Int) : Prop := set / 2 ^ u.toNat % 2 = 1
theorem inS_dec (set u : Int) : inS set u ∨ ¬ inS set u := Decidable.em (set / 2 ^ u.toNat % 2 = 1)
/-- what those in a set trust those outside for, less their positions -/
def slk (T P : Int → Int) (set : Int) : Int := sg (fun p => if set / 2 ^ (p / 7).toNat % 2 = 1 ∧ ¬ set / 2 ^ (p % 7).toNat % 2 = 1 then T p else 0) 49 - sg (fun u => if set / 2 ^ u.toNat % 2 = 1 then P u else 0) 7
/-- the mask of those that z does not hold -/
def mkS (z : Int → Bool) : Int := (if z 0 = true then 0 else 1) + (if z 1 = true then 0 else 2) + (if z 2 = true then 0 else 4) + (if z 3 = true then 0 else 8) + (if z 4 = true then 0 else 16) + (if z 5 = true then 0 else 32) + (if z 6 = true then 0 else 64)
theorem mkS_rng (z : Int → Bool) : 0 ≤ mkS z ∧ mkS z < 128 := by
  unfold mkS
  repeat' split
  all_goals omega
theorem mkS_in (z : Int → Bool) {u : Int} (h0 : 0 ≤ u) (h1 : u < 7) : inS (mkS z) u ↔ z u = false := by
  have h : u = 0 ∨ u = 1 ∨ u = 2 ∨ u = 3 ∨ u = 4 ∨ u = 5 ∨ u = 6 := by omega
  unfold mkS inS
  rcases h with rfl | rfl | rfl | rfl | rfl | rfl | rfl <;> generalize z 0 = b0 <;> generalize z 1 = b1 <;> generalize z 2 = b2 <;> generalize z 3 = b3 <;> generalize z 4 = b4 <;> generalize z 5 = b5 <;> generalize z 6 = b6 <;> revert b0 b1 b2 b3 b4 b5 b6 <;> decide +kernel
abbrev mF (F : Int → Int) (u v : Int) : Int := F (9 * u + v)
abbrev mT (T : Int → Int) (u v : Int) : Int := T (7 * v + u)
theorem slk_cap {T P : Int → Int} {set : Int} {z : Int → Bool} (hz : ∀ u : Int, 0 ≤ u → u < 7 → (z u = true ↔ ¬ inS set u)) (hP : sg P 7 = 0) : slk T P set = cap (mT T) 7 z + sg (fun u => if z u = true then P u else 0) 7 := by
  have e1 : sg (fun p => if set / 2 ^ (p / 7).toNat % 2 = 1 ∧ ¬ set / 2 ^ (p % 7).toNat % 2 = 1 then T p else 0) 49 = sg (fun a => sg (fun b => if set / 2 ^ a.toNat % 2 = 1 ∧ ¬ set / 2 ^ b.toNat % 2 = 1 then T (7 * a + b) else 0) 7) 7 := by
    rw [← sg_flat (F := fun a b => if set / 2 ^ a.toNat % 2 = 1 ∧ ¬ set / 2 ^ b.toNat % 2 = 1 then T (7 * a + b) else 0) (k := 7) (m := 7) (by decide)]
    refine sg_congr (fun p h1 h2 => ?_)
    show _ = if set / 2 ^ (p / 7).toNat % 2 = 1 ∧ ¬ set / 2 ^ (p % 7).toNat % 2 = 1 then T (7 * (p / 7) + p % 7) else 0
    rw [show 7 * (p / 7) + p % 7 = p by omega]
  have e2 : sg (fun a => sg (fun b => if set / 2 ^ a.toNat % 2 = 1 ∧ ¬ set / 2 ^ b.toNat % 2 = 1 then T (7 * a + b) else 0) 7) 7 = cap (mT T) 7 z := by
    unfold cap
    rw [sg_swap]
    refine sg_congr (fun u h1 h2 => sg_congr (fun v h3 h4 => ?_))
    have q1 := hz u h1 h2
    have q2 := hz v h3 h4
    unfold inS at q1 q2
    by_cases c1 : set / 2 ^ u.toNat % 2 = 1 <;> by_cases c2 : set / 2 ^ v.toNat % 2 = 1 <;> simp [c1, c2] at q1 q2 ⊢ <;> simp [q1, q2]
  have e3 : sg P 7 = sg (fun u => if z u = true then P u else 0) 7 + sg (fun u => if set / 2 ^ u.toNat % 2 = 1 then P u else 0) 7 := by
    rw [← sg_add]
    refine sg_congr (fun u h1 h2 => ?_)
    have q1 := hz u h1 h2
    unfold inS at q1
    by_cases c1 : set / 2 ^ u.toNat % 2 = 1 <;> simp [c1] at q1 ⊢ <;> simp [q1]
  unfold slk
  rw [e1, e2]
  omega
/-- trusts T, positions P and what is free F belong together -/
def InvF (T P F : Int → Int) : Prop :=
  (∀ j : Int, 0 ≤ j → j < 81 → 0 ≤ F j ∧ F j ≤ 2000) ∧ (∀ j : Int, 0 ≤ j → j < 81 → (7 ≤ j / 9 ∨ 7 ≤ j % 9) → F j = 0) ∧
  (∀ u v : Int, 0 ≤ u → u < 7 → 0 ≤ v → v < 7 → F (9 * u + v) + F (9 * v + u) = T (7 * v + u) + T (7 * u + v)) ∧
  (∀ u : Int, 0 ≤ u → u < 7 → sg (mF F u) 7 = sg (mT T u) 7 + P u) ∧
  (∀ j : Int, 0 ≤ j → j < 49 → 0 ≤ T j ∧ T j ≤ 1000) ∧ (∀ u : Int, 0 ≤ u → u < 7 → T (7 * u + u) = 0)
theorem sg_const {B : Int} {n : Nat} : sg (fun _ => B) n = n * B := by
  induction n with
  | zero => simp [sg]
  | succ n ih =>
    show sg (fun _ => B) n + B = _
    rw [ih, Int.natCast_succ, Int.add_mul, Int.one_mul]
theorem inv_cap {T P F : Int → Int} {z : Int → Bool} (h : InvF T P F) : cap (mF F) 7 z = cap (mT T) 7 z + sg (fun u => if z u = true then P u else 0) 7 := by
  refine cap_move (w := mT T) (w' := mF F) (fun u v h1 h2 h3 h4 => ?_) (fun u h1 h2 => h.2.2.2.1 u h1 h2)
  exact h.2.2.1 u v h1 (by omega) h3 (by omega)
theorem cap_all {w : Int → Int → Int} {n : Nat} : cap w n (fun _ => true) = 0 := by
  refine sg_zero (fun u _ _ => sg_zero (fun v _ _ => ?_))
  simp
theorem inv_P0 {T P F : Int → Int} (h : InvF T P F) : sg P 7 = 0 := by
  have h1 := inv_cap (z := fun _ => true) h
  rw [cap_all, cap_all] at h1
  simp only [if_true] at h1
  have e : sg (fun u => P u) 7 = sg P 7 := rfl
  omega
theorem inv_slk {T P F : Int → Int} {set : Int} {z : Int → Bool} (h : InvF T P F) (hz : ∀ u : Int, 0 ≤ u → u < 7 → (z u = true ↔ ¬ inS set u)) : slk T P set = cap (mF F) 7 z := by
  rw [inv_cap h, slk_cap hz (inv_P0 h)]
def zS (set : Int) : Int → Bool := fun u => decide (¬ set / 2 ^ u.toNat % 2 = 1)
theorem zS_ok (set : Int) : ∀ u : Int, zS set u = true ↔ ¬ inS set u := fun u => by
  unfold zS inS
  simp
theorem inv_pos {T P F : Int → Int} (h : InvF T P F) (set : Int) : 0 ≤ slk T P set := by
  rw [inv_slk h (fun u _ _ => zS_ok set u)]
  exact cap_nn (fun u v h1 h2 h3 h4 => (h.1 _ (by omega) (by omega)).1)
theorem cap_le {w : Int → Int → Int} {n : Nat} {z : Int → Bool} {B : Int} (hB : 0 ≤ B) (h : ∀ u v : Int, 0 ≤ u → u < n → 0 ≤ v → v < n → w u v ≤ B) : cap w n z ≤ n * (n * B) := by
  have h1 : cap w n z ≤ sg (fun _ => (n : Int) * B) n := by
    refine sg_le (fun u h1 h2 => ?_)
    rw [← sg_const]
    refine sg_le (fun v h3 h4 => ?_)
    split
    · exact h u v h1 h2 h3 h4
    · exact hB
  rw [sg_const] at h1
  exact h1
/-- a cut of nine nodes, the last two apart -/
theorem cap9 {w : Int → Int → Int} {z : Int → Bool} : cap w 9 z = cap w 7 z + sg (fun u => (if z u = true ∧ z 7 = false then w u 7 else 0) + (if z u = true ∧ z 8 = false then w u 8 else 0)) 7 + sg (fun v => if z 7 = true ∧ z v = false then w 7 v else 0) 9 + sg (fun v => if z 8 = true ∧ z v = false then w 8 v else 0) 9 := by
  have e : sg (fun u => sg (fun v => if z u = true ∧ z v = false then w u v else 0) 9) 7 = cap w 7 z + sg (fun u => (if z u = true ∧ z 7 = false then w u 7 else 0) + (if z u = true ∧ z 8 = false then w u 8 else 0)) 7 := by
    unfold cap
    rw [← sg_add]
    refine sg_congr (fun u _ _ => ?_)
    show (sg (fun v => if z u = true ∧ z v = false then w u v else 0) 7 + (if z u = true ∧ z 7 = false then w u 7 else 0)) + (if z u = true ∧ z 8 = false then w u 8 else 0) = _
    omega
  show (sg (fun u => sg (fun v => if z u = true ∧ z v = false then w u v else 0) 9) 7 + sg (fun v => if z 7 = true ∧ z v = false then w 7 v else 0) 9) + sg (fun v => if z 8 = true ∧ z v = false then w 8 v else 0) 9 = _
  rw [e]
/-- what sending from a to b has done -/
def Sent (W W' : Int → Int) (a b lim r : Int) : Prop :=
  0 ≤ r ∧ r ≤ lim ∧ (∀ j : Int, 0 ≤ j → j < 81 → 0 ≤ W' j) ∧ (∀ u v : Int, 0 ≤ u → u < 9 → 0 ≤ v → v < 9 → W' (9 * u + v) + W' (9 * v + u) = W (9 * u + v) + W (9 * v + u)) ∧
  (∀ u : Int, 0 ≤ u → u < 9 → sg (mF W' u) 9 = sg (mF W u) 9 + (if u = b then r else 0) - (if u = a then r else 0)) ∧
  (r < lim → ∃ z : Int → Bool, z a = true ∧ z b = false ∧ cap (mF W') 9 z = 0)
theorem sent_cap {W W' : Int → Int} {a b lim r : Int} {z : Int → Bool} (h : Sent W W' a b lim r) (ha : 0 ≤ a ∧ a < 9) (hb : 0 ≤ b ∧ b < 9) (h1 : z a = true) (h2 : z b = false) : cap (mF W') 9 z = cap (mF W) 9 z - r :=
  cap_sent (w := mF W) (w' := mF W') (n := 9) ha hb h1 h2 (fun u v q1 q2 q3 q4 => h.2.2.2.1 u v q1 q2 q3 q4) (fun u q1 q2 => h.2.2.2.2.1 u q1 q2)
theorem sent_le {W W' : Int → Int} {a b lim r : Int} {z : Int → Bool} (h : Sent W W' a b lim r) (ha : 0 ≤ a ∧ a < 9) (hb : 0 ≤ b ∧ b < 9) (h1 : z a = true) (h2 : z b = false) : r ≤ cap (mF W) 9 z := by
  have e := sent_cap h ha hb h1 h2
  have e2 : 0 ≤ cap (mF W') 9 z := cap_nn (fun u v q1 q2 q3 q4 => h.2.2.1 _ (by omega) (by omega))
  omega
theorem sent_eq {W W' : Int → Int} {a b lim r : Int} (h : Sent W W' a b lim r) (ha : 0 ≤ a ∧ a < 9) (hb : 0 ≤ b ∧ b < 9) (hr : r < lim) : ∃ z : Int → Bool, z a = true ∧ z b = false ∧ cap (mF W) 9 z = r := by
  obtain ⟨z, h1, h2, h3⟩ := h.2.2.2.2.2 hr
  have e := sent_cap h ha hb h1 h2
  exact ⟨z, h1, h2, by omega⟩
def hold (held set : Int) : Prop := ((set.toNat &&& held.toNat : Nat) : Int) = held
/-- the least slack of the sets that hold 'held' and not u -/
def IsMin (T P : Int → Int) (held u r : Int) : Prop := (∃ set : Int, 0 ≤ set ∧ set < 128 ∧ hold held set ∧ ¬ inS set u ∧ slk T P set = r) ∧ ∀ set : Int, 0 ≤ set → set < 128 → hold held set → ¬ inS set u → r ≤ slk T P set
theorem isMin_uniq {T P : Int → Int} {held u r r' : Int} (h : IsMin T P held u r) (h' : IsMin T P held u r') : r = r' := by
  obtain ⟨⟨s, a1, a2, a3, a4, a5⟩, a6⟩ := h
  obtain ⟨⟨t, b1, b2, b3, b4, b5⟩, b6⟩ := h'
  have h1 := a6 t b1 b2 b3 b4
  have h2 := b6 s a1 a2 a3 a4
  omega
theorem inS_nat (n i : Nat) : inS (n : Int) (i : Int) ↔ n.testBit i = true := by
  unfold inS
  rw [Nat.testBit_eq_decide_div_mod_eq]
  simp only [Int.toNat_natCast, decide_eq_true_eq]
  have e : ((n : Int) / 2 ^ i % 2 : Int) = ((n / 2 ^ i % 2 : Nat) : Int) := by simp
  rw [e]
  omega
theorem hold_iff {held set : Int} (h0 : 0 ≤ held ∧ held < 128) (h1 : 0 ≤ set) : hold held set ↔ ∀ i : Int, 0 ≤ i → i < 7 → inS held i → inS set i := by
  obtain ⟨a, rfl⟩ : ∃ a : Nat, held = (a : Int) := ⟨held.toNat, by omega⟩
  obtain ⟨b, rfl⟩ : ∃ b : Nat, set = (b : Int) := ⟨set.toNat, by omega⟩
  unfold hold
  simp only [Int.toNat_natCast]
  constructor
  · intro h i q1 q2 q3
    obtain ⟨j, rfl⟩ : ∃ j : Nat, i = (j : Int) := ⟨i.toNat, by omega⟩
    rw [inS_nat] at q3 ⊢
    have h' : b &&& a = a := by omega
    rw [← h', Nat.testBit_and] at q3
    simp at q3
    exact q3.1
  · intro h
    have h' : b &&& a = a := by
      apply Nat.eq_of_testBit_eq
      intro i
      rw [Nat.testBit_and]
      cases hb : a.testBit i with
      | false => simp
      | true =>
        have hi : i < 7 := by
          rcases Nat.lt_or_ge i 7 with q | q
          · exact q
          · have : a < 2 ^ i := Nat.lt_of_lt_of_le (show a < 2 ^ 7 by omega) (Nat.pow_le_pow_right (by decide) q)
            rw [Nat.testBit_lt_two_pow this] at hb
            cases hb
        have := h (i : Int) (by omega) (by omega) ((inS_nat a i).mpr hb)
        rw [inS_nat] at this
        simp [this]
    omega
theorem pow_rng {v : Int} (h0 : 0 ≤ v) (h1 : v < 7) : 0 ≤ (2 : Int) ^ v.toNat ∧ (2 : Int) ^ v.toNat < 128 := by
  have h : v = 0 ∨ v = 1 ∨ v = 2 ∨ v = 3 ∨ v = 4 ∨ v = 5 ∨ v = 6 := by omega
  rcases h with rfl | rfl | rfl | rfl | rfl | rfl | rfl <;> decide
theorem inS_pow {v i : Int} (h0 : 0 ≤ v) (h1 : v < 7) (h2 : 0 ≤ i) (h3 : i < 7) : inS (2 ^ v.toNat) i ↔ i = v := by
  have h : v = 0 ∨ v = 1 ∨ v = 2 ∨ v = 3 ∨ v = 4 ∨ v = 5 ∨ v = 6 := by omega
  have g : i = 0 ∨ i = 1 ∨ i = 2 ∨ i = 3 ∨ i = 4 ∨ i = 5 ∨ i = 6 := by omega
  unfold inS
  rcases h with rfl | rfl | rfl | rfl | rfl | rfl | rfl <;> rcases g with rfl | rfl | rfl | rfl | rfl | rfl | rfl <;> decide
theorem hold_pow {v set : Int} (h0 : 0 ≤ v) (h1 : v < 7) (h2 : 0 ≤ set) : hold (2 ^ v.toNat) set ↔ inS set v := by
  rw [hold_iff (pow_rng h0 h1) h2]
  constructor
  · intro h
    exact h v h0 h1 ((inS_pow h0 h1 h0 h1).mpr rfl)
  · intro h i q1 q2 q3
    rw [(inS_pow h0 h1 q1 q2).mp q3]
    exact h
end
section
/-! ===== what sending means for the state, call by call ===== -/
theorem cap_congr {w w' : Int → Int → Int} {n : Nat} {z : Int → Bool} (h : ∀ u v : Int, 0 ≤ u → u < n → 0 ≤ v → v < n → z u = true → z v = false → w u v = w' u v) : cap w n z = cap w' n z := by
  refine sg_congr (fun u h1 h2 => sg_congr (fun v h3 h4 => ?_))
  by_cases c : z u = true ∧ z v = false
  · rw [if_pos c, if_pos c, h u v h1 h2 h3 h4 c.1 c.2]
  · rw [if_neg c, if_neg c]
theorem cap_one {w w' : Int → Int → Int} {n : Nat} {z : Int → Bool} {a b : Int} (ha : 0 ≤ a ∧ a < n) (hb : 0 ≤ b ∧ b < n) (za : z a = true) (zb : z b = false) (h : ∀ u v : Int, 0 ≤ u → u < n → 0 ≤ v → v < n → z u = true → z v = false → ¬ (u = a ∧ v = b) → w' u v = w u v) : cap w' n z = cap w n z + (w' a b - w a b) := by
  unfold cap
  rw [sg_one (f := fun u => sg (fun v => if z u = true ∧ z v = false then w' u v else 0) n) (g := fun u => sg (fun v => if z u = true ∧ z v = false then w u v else 0) n) ha.1 ha.2 (fun u h1 h2 hu => sg_congr (fun v h3 h4 => ?_))]
  · rw [sg_one (f := fun v => if z a = true ∧ z v = false then w' a v else 0) (g := fun v => if z a = true ∧ z v = false then w a v else 0) hb.1 hb.2 (fun v h3 h4 hv => ?_)]
    · rw [if_pos ⟨za, zb⟩, if_pos ⟨za, zb⟩]
      omega
    · by_cases c : z a = true ∧ z v = false
      · rw [if_pos c, if_pos c, h a v ha.1 ha.2 h3 h4 c.1 c.2 (fun q => hv q.2)]
      · rw [if_neg c, if_neg c]
  · by_cases c : z u = true ∧ z v = false
    · rw [if_pos c, if_pos c, h u v h1 h2 h3 h4 c.1 c.2 (fun q => hu q.1)]
    · rw [if_neg c, if_neg c]
theorem cap9_free {T P F : Int → Int} {z : Int → Bool} (h : InvF T P F) : cap (mF F) 9 z = cap (mF F) 7 z := by
  have z0 : ∀ u v : Int, 0 ≤ u → u < 9 → 0 ≤ v → v < 9 → (7 ≤ u ∨ 7 ≤ v) → F (9 * u + v) = 0 := fun u v h1 h2 h3 h4 h5 => h.2.1 _ (by omega) (by omega) (by omega)
  rw [cap9, sg_zero, sg_zero, sg_zero]
  · omega
  · intro v h1 h2
    show (if z 8 = true ∧ z v = false then F (9 * 8 + v) else 0) = 0
    rw [z0 8 v (by omega) (by omega) h1 (by omega) (by omega)]
    simp
  · intro v h1 h2
    show (if z 7 = true ∧ z v = false then F (9 * 7 + v) else 0) = 0
    rw [z0 7 v (by omega) (by omega) h1 (by omega) (by omega)]
    simp
  · intro u h1 h2
    show (if z u = true ∧ z 7 = false then F (9 * u + 7) else 0) + (if z u = true ∧ z 8 = false then F (9 * u + 8) else 0) = 0
    rw [z0 u 7 h1 (by omega) (by omega) (by omega) (by omega), z0 u 8 h1 (by omega) (by omega) (by omega) (by omega)]
    simp
/-- the cuts of what is sent over are those of the state, less K: what is sent answers the least slack -/
theorem x_minK {T P F W W' : Int → Int} {u v K lim r : Int} (hI : InvF T P F) (hu : 0 ≤ u ∧ u < 7) (hv : 0 ≤ v ∧ v < 7) (hc : ∀ z : Int → Bool, z u = true → z v = false → cap (mF W) 9 z = cap (mF F) 7 z - K) (hs : Sent W W' u v lim r) : (r < lim → IsMin T P (2 ^ v.toNat) u (r + K)) ∧ ∀ m : Int, IsMin T P (2 ^ v.toNat) u m → r + K ≤ m := by
  have low : ∀ set : Int, 0 ≤ set → set < 128 → hold (2 ^ v.toNat) set → ¬ inS set u → r + K ≤ slk T P set := by
    intro set s0 s1 s2 s3
    rw [inv_slk hI (z := zS set) (fun x _ _ => zS_ok set x)]
    have za : zS set u = true := (zS_ok set u).mpr s3
    have zb : zS set v = false := by
      cases e : zS set v with
      | false => rfl
      | true => exact absurd ((hold_pow hv.1 hv.2 s0).mp s2) ((zS_ok set v).mp e)
    have h1 := sent_le hs ⟨hu.1, by omega⟩ ⟨hv.1, by omega⟩ za zb
    rw [hc _ za zb] at h1
    omega
  refine ⟨fun hr => ?_, fun m hm => ?_⟩
  · obtain ⟨z, z1, z2, z3⟩ := sent_eq hs ⟨hu.1, by omega⟩ ⟨hv.1, by omega⟩ hr
    rw [hc z z1 z2] at z3
    refine ⟨⟨mkS z, (mkS_rng z).1, (mkS_rng z).2, (hold_pow hv.1 hv.2 (mkS_rng z).1).mpr ((mkS_in z hv.1 hv.2).mpr z2), fun q => ?_, ?_⟩, low⟩
    · have := (mkS_in z hu.1 hu.2).mp q
      rw [z1] at this
      cases this
    · rw [inv_slk hI (z := z) (fun x q1 q2 => by rw [mkS_in z q1 q2]; cases z x <;> simp)]
      omega
  · obtain ⟨⟨set, s0, s1, s2, s3, s4⟩, -⟩ := hm
    rw [← s4]
    exact low set s0 s1 s2 s3
theorem x_cap0 {T P F W : Int → Int} {z : Int → Bool} (hI : InvF T P F) (hW : ∀ j : Int, 0 ≤ j → j < 81 → W j = F j) : cap (mF W) 9 z = cap (mF F) 7 z := by
  rw [← cap9_free hI]
  exact cap_congr (fun u v h1 h2 h3 h4 _ _ => hW _ (by omega) (by omega))
theorem x_small {T P F W W' : Int → Int} {u v r lim : Int} (hI : InvF T P F) (hu : 0 ≤ u ∧ u < 7) (hv : 0 ≤ v ∧ v < 7) (huv : u ≠ v) (hW : ∀ j : Int, 0 ≤ j → j < 81 → W j ≤ F j) (hs : Sent W W' u v lim r) : r ≤ 162000 := by
  have h1 := sent_le (z := fun x => decide (x = u)) hs ⟨hu.1, by omega⟩ ⟨hv.1, by omega⟩ (by simp) (by simp; exact fun q => huv q.symm)
  have h2 : cap (mF W) 9 (fun x => decide (x = u)) ≤ 9 * (9 * 2000) := cap_le (by decide) (fun a b q1 q2 q3 q4 => by
    have := hW (9 * a + b) (by omega) (by omega)
    have := (hI.1 (9 * a + b) (by omega) (by omega)).2
    show W (9 * a + b) ≤ 2000
    omega)
  omega
theorem x_most {T P F W W' : Int → Int} {u v r : Int} (hI : InvF T P F) (hu : 0 ≤ u ∧ u < 7) (hv : 0 ≤ v ∧ v < 7) (huv : u ≠ v) (hW : ∀ j : Int, 0 ≤ j → j < 81 → W j = F j) (hs : Sent W W' u v 1000000 r) : IsMin T P (2 ^ v.toNat) u r := by
  have h1 := x_small hI hu hv huv (fun j a b => Int.le_of_eq (hW j a b)) hs
  have h2 := (x_minK (K := 0) hI hu hv (fun z _ _ => by rw [x_cap0 hI hW]; omega) hs).1 (by omega)
  simpa using h2
/-- a state put together again out of what is left -/
theorem inv_mk {T P F W F' : Int → Int} (hnn : ∀ j : Int, 0 ≤ j → j < 81 → 0 ≤ W j) (hp : ∀ u v : Int, 0 ≤ u → u < 7 → 0 ≤ v → v < 7 → W (9 * u + v) + W (9 * v + u) = T (7 * v + u) + T (7 * u + v)) (hr : ∀ u : Int, 0 ≤ u → u < 7 → sg (mF W u) 7 = sg (mT T u) 7 + P u) (hT : ∀ j : Int, 0 ≤ j → j < 49 → 0 ≤ T j ∧ T j ≤ 1000) (hd : ∀ u : Int, 0 ≤ u → u < 7 → T (7 * u + u) = 0)
    (hF : ∀ j : Int, 0 ≤ j → j < 81 → (7 ≤ j / 9 ∨ 7 ≤ j % 9) → F j = 0) (h1 : ∀ u v : Int, 0 ≤ u → u < 7 → 0 ≤ v → v < 7 → F' (9 * u + v) = W (9 * u + v)) (h2 : ∀ j : Int, 0 ≤ j → j < 81 → (7 ≤ j / 9 ∨ 7 ≤ j % 9) → F' j = F j) : InvF T P F' := by
  refine ⟨fun j a b => ?_, fun j a b c => by rw [h2 j a b c]; exact hF j a b c, fun u v a b c d => by rw [h1 u v a b c d, h1 v u c d a b]; exact hp u v a b c d, fun u a b => ?_, hT, hd⟩
  · by_cases c : 7 ≤ j / 9 ∨ 7 ≤ j % 9
    · rw [h2 j a b c, hF j a b c]
      omega
    · have e : 9 * (j / 9) + j % 9 = j := by omega
      have e1 := h1 (j / 9) (j % 9) (by omega) (by omega) (by omega) (by omega)
      have e2 := hp (j / 9) (j % 9) (by omega) (by omega) (by omega) (by omega)
      have e3 := hnn (9 * (j % 9) + j / 9) (by omega) (by omega)
      have e4 := hT (7 * (j % 9) + j / 9) (by omega) (by omega)
      have e5 := hT (7 * (j / 9) + j % 9) (by omega) (by omega)
      have e6 := hnn j a b
      rw [e] at e1 e2
      rw [e1]
      omega
  · rw [← hr u a b]
    exact sg_congr (fun v c d => h1 u v a b c (by omega))
/-- rows of nine, where neither source nor sink stands in -/
theorem row79 {W W' : Int → Int} (hnn : ∀ j : Int, 0 ≤ j → j < 81 → 0 ≤ W' j) (hp : ∀ u v : Int, 0 ≤ u → u < 9 → 0 ≤ v → v < 9 → W' (9 * u + v) + W' (9 * v + u) = W (9 * u + v) + W (9 * v + u)) (hz : ∀ j : Int, 0 ≤ j → j < 81 → (7 ≤ j / 9 ∨ 7 ≤ j % 9) → W j = 0) {u : Int} (h0 : 0 ≤ u) (h1 : u < 7) : sg (mF W' u) 9 = sg (mF W' u) 7 := by
  have a1 := hp u 7 h0 (by omega) (by omega) (by omega)
  have a2 := hp u 8 h0 (by omega) (by omega) (by omega)
  have b1 := hz (9 * u + 7) (by omega) (by omega) (by omega)
  have b2 := hz (9 * 7 + u) (by omega) (by omega) (by omega)
  have b3 := hz (9 * u + 8) (by omega) (by omega) (by omega)
  have b4 := hz (9 * 8 + u) (by omega) (by omega) (by omega)
  have c1 := hnn (9 * u + 7) (by omega) (by omega)
  have c2 := hnn (9 * 7 + u) (by omega) (by omega)
  have c3 := hnn (9 * u + 8) (by omega) (by omega)
  have c4 := hnn (9 * 8 + u) (by omega) (by omega)
  show sg (mF W' u) 7 + W' (9 * u + 7) + W' (9 * u + 8) = _
  omega
theorem row79s {W : Int → Int} (hz : ∀ j : Int, 0 ≤ j → j < 81 → (7 ≤ j / 9 ∨ 7 ≤ j % 9) → W j = 0) {u : Int} (h0 : 0 ≤ u) (h1 : u < 7) : sg (mF W u) 9 = sg (mF W u) 7 := by
  have b1 := hz (9 * u + 7) (by omega) (by omega) (by omega)
  have b3 := hz (9 * u + 8) (by omega) (by omega) (by omega)
  show sg (mF W u) 7 + W (9 * u + 7) + W (9 * u + 8) = _
  omega
/-- pay: all is sent -/
theorem x_pay {T P F W W' F' : Int → Int} {u v a : Int} (hI : InvF T P F) (hu : 0 ≤ u ∧ u < 7) (hv : 0 ≤ v ∧ v < 7) (huv : u ≠ v) (hW : ∀ j : Int, 0 ≤ j → j < 81 → W j = F j) (hs : Sent W W' u v a a) (h1 : ∀ u v : Int, 0 ≤ u → u < 7 → 0 ≤ v → v < 7 → F' (9 * u + v) = W' (9 * u + v)) (h2 : ∀ j : Int, 0 ≤ j → j < 81 → (7 ≤ j / 9 ∨ 7 ≤ j % 9) → F' j = F j) : InvF T (ua (ua P u (P u - a)) v (ua P u (P u - a) v + a)) F' := by
  have hz : ∀ j : Int, 0 ≤ j → j < 81 → (7 ≤ j / 9 ∨ 7 ≤ j % 9) → W j = 0 := fun j q1 q2 q3 => by rw [hW j q1 q2]; exact hI.2.1 j q1 q2 q3
  refine inv_mk hs.2.2.1 (fun x y q1 q2 q3 q4 => ?_) (fun x q1 q2 => ?_) hI.2.2.2.2.1 hI.2.2.2.2.2 hI.2.1 h1 h2
  · rw [hs.2.2.2.1 x y q1 (by omega) q3 (by omega), hW _ (by omega) (by omega), hW _ (by omega) (by omega)]
    exact hI.2.2.1 x y q1 q2 q3 q4
  · rw [← row79 hs.2.2.1 hs.2.2.2.1 hz q1 q2, hs.2.2.2.2.1 x q1 (by omega), row79s hz q1 q2, sg_congr (g := mF F x) (fun y q3 q4 => hW _ (by omega) (by omega)), hI.2.2.2.1 x q1 q2]
    have hvu : v ≠ u := fun e => huv e.symm
    by_cases c1 : x = v
    · subst c1
      rw [if_pos rfl, if_neg hvu, ua_s, ua_n hvu]
      omega
    · by_cases c2 : x = u
      · subst c2
        rw [if_neg c1, if_pos rfl, ua_n c1, ua_s]
        omega
      · rw [if_neg c1, if_neg c2, ua_n c1, ua_n c2]
        omega
theorem col_one {T : Int → Int} {u v a x : Int} (hu : 0 ≤ u ∧ u < 7) (hv : 0 ≤ v ∧ v < 7) (hx : 0 ≤ x ∧ x < 7) : sg (mT (ua T (7 * u + v) a) x) 7 = sg (mT T x) 7 + (if x = v then a - T (7 * u + v) else 0) := by
  by_cases c : x = v
  · subst c
    rw [if_pos rfl, sg_one (f := mT (ua T (7 * u + x) a) x) (g := mT T x) hu.1 hu.2 (fun y q1 q2 q3 => ua_n (by omega))]
    show _ + (ua T (7 * u + x) a (7 * u + x) - T (7 * u + x)) = _
    rw [ua_s]
  · rw [if_neg c, sg_congr (f := mT (ua T (7 * u + v) a) x) (g := mT T x) (fun y q1 q2 => ua_n (by omega))]
    omega
theorem row_one {F : Int → Int} {u v a x : Int} {n : Nat} (hn : n ≤ 9) (hu : 0 ≤ u ∧ u < n) (hv : 0 ≤ v ∧ v < n) (hx : 0 ≤ x ∧ x < n) : sg (mF (ua F (9 * u + v) a) x) n = sg (mF F x) n + (if x = u then a - F (9 * u + v) else 0) := by
  by_cases c : x = u
  · subst c
    rw [if_pos rfl, sg_one (f := mF (ua F (9 * x + v) a) x) (g := mF F x) hv.1 hv.2 (fun y q1 q2 q3 => ua_n (by omega))]
    show _ + (ua F (9 * x + v) a (9 * x + v) - F (9 * x + v)) = _
    rw [ua_s]
  · rw [if_neg c, sg_congr (f := mF (ua F (9 * u + v) a) x) (g := mF F x) (fun y q1 q2 => ua_n (by omega))]
    omega
/-- trust grows -/
theorem x_trust {T P F : Int → Int} {u v a : Int} (hI : InvF T P F) (hu : 0 ≤ u ∧ u < 7) (hv : 0 ≤ v ∧ v < 7) (huv : u ≠ v) (ha : 0 ≤ a) (ha2 : T (7 * u + v) + a ≤ 1000) : InvF (ua T (7 * u + v) (T (7 * u + v) + a)) P (ua F (9 * v + u) (F (9 * v + u) + a)) := by
  have hT' : ∀ j : Int, 0 ≤ j → j < 49 → 0 ≤ ua T (7 * u + v) (T (7 * u + v) + a) j ∧ ua T (7 * u + v) (T (7 * u + v) + a) j ≤ 1000 := by
    intro j q1 q2
    have := hI.2.2.2.2.1 (7 * u + v) (by omega) (by omega)
    have h2 := hI.2.2.2.2.1 j q1 q2
    unfold ua
    split
    · omega
    · exact h2
  refine inv_mk (W := ua F (9 * v + u) (F (9 * v + u) + a)) (F := F) (fun j q1 q2 => ?_) (fun x y q1 q2 q3 q4 => ?_) (fun x q1 q2 => ?_) hT' (fun x q1 q2 => ?_) hI.2.1 (fun _ _ _ _ _ _ => rfl) (fun j q1 q2 q3 => ua_n (by omega))
  · have := hI.1 j q1 q2
    have := hI.1 (9 * v + u) (by omega) (by omega)
    unfold ua
    split <;> omega
  · have h := hI.2.2.1 x y q1 q2 q3 q4
    have hvu : v ≠ u := fun e => huv e.symm
    by_cases c1 : x = v ∧ y = u
    · obtain ⟨rfl, rfl⟩ := c1
      rw [ua_s, ua_n (by omega), ua_s, ua_n (by omega)]
      omega
    · by_cases c2 : x = u ∧ y = v
      · obtain ⟨rfl, rfl⟩ := c2
        rw [ua_n (by omega), ua_s, ua_n (by omega), ua_s]
        omega
      · rw [ua_n (by omega), ua_n (by omega), ua_n (by omega), ua_n (by omega)]
        exact h
  · rw [row_one (by decide) hv hu ⟨q1, q2⟩, col_one hu hv ⟨q1, q2⟩, hI.2.2.2.1 x q1 q2]
    split <;> omega
  · rw [ua_n (by omega)]
    exact hI.2.2.2.2.2 x q1 q2
/-- trust falls by no more than is free -/
theorem x_wd1 {T P F W F' : Int → Int} {u v a : Int} (hI : InvF T P F) (hu : 0 ≤ u ∧ u < 7) (hv : 0 ≤ v ∧ v < 7) (huv : u ≠ v) (ha : 0 ≤ a) (ha2 : a ≤ T (7 * u + v)) (hl : 0 ≤ F (9 * v + u) - a) (hW : ∀ j : Int, 0 ≤ j → j < 81 → W j = F j)
    (h1 : ∀ x y : Int, 0 ≤ x → x < 7 → 0 ≤ y → y < 7 → F' (9 * x + y) = ua W (9 * v + u) (F (9 * v + u) - a) (9 * x + y)) (h2 : ∀ j : Int, 0 ≤ j → j < 81 → (7 ≤ j / 9 ∨ 7 ≤ j % 9) → F' j = F j) : InvF (ua T (7 * u + v) (T (7 * u + v) - a)) P F' := by
  have hT' : ∀ j : Int, 0 ≤ j → j < 49 → 0 ≤ ua T (7 * u + v) (T (7 * u + v) - a) j ∧ ua T (7 * u + v) (T (7 * u + v) - a) j ≤ 1000 := by
    intro j q1 q2
    have := hI.2.2.2.2.1 (7 * u + v) (by omega) (by omega)
    have h2 := hI.2.2.2.2.1 j q1 q2
    unfold ua
    split
    · omega
    · exact h2
  refine inv_mk (W := ua F (9 * v + u) (F (9 * v + u) - a)) (F := F) (fun j q1 q2 => ?_) (fun x y q1 q2 q3 q4 => ?_) (fun x q1 q2 => ?_) hT' (fun x q1 q2 => ?_) hI.2.1 (fun x y q1 q2 q3 q4 => ?_) h2
  · have := hI.1 j q1 q2
    unfold ua
    split <;> omega
  · have h := hI.2.2.1 x y q1 q2 q3 q4
    by_cases c1 : x = v ∧ y = u
    · obtain ⟨rfl, rfl⟩ := c1
      rw [ua_s, ua_n (by omega), ua_s, ua_n (by omega)]
      omega
    · by_cases c2 : x = u ∧ y = v
      · obtain ⟨rfl, rfl⟩ := c2
        rw [ua_n (by omega), ua_s, ua_n (by omega), ua_s]
        omega
      · rw [ua_n (by omega), ua_n (by omega), ua_n (by omega), ua_n (by omega)]
        exact h
  · rw [row_one (by decide) hv hu ⟨q1, q2⟩, col_one hu hv ⟨q1, q2⟩, hI.2.2.2.1 x q1 q2]
    split <;> omega
  · rw [ua_n (by omega)]
    exact hI.2.2.2.2.2 x q1 q2
  · rw [h1 x y q1 q2 q3 q4]
    unfold ua
    split
    · rfl
    · exact hW _ (by omega) (by omega)
/-- trust falls by more than is free: what is above goes other ways -/
theorem x_wd2 {T P F W W' F' : Int → Int} {u v a : Int} (hI : InvF T P F) (hu : 0 ≤ u ∧ u < 7) (hv : 0 ≤ v ∧ v < 7) (huv : u ≠ v) (ha2 : a ≤ T (7 * u + v)) (hl : F (9 * v + u) - a < 0) (hW : ∀ j : Int, 0 ≤ j → j < 81 → W j = ua (ua F (9 * v + u) 0) (9 * u + v) (F (9 * u + v) + (F (9 * v + u) - a)) j) (hs : Sent W W' v u (a - F (9 * v + u)) (a - F (9 * v + u)))
    (h1 : ∀ x y : Int, 0 ≤ x → x < 7 → 0 ≤ y → y < 7 → F' (9 * x + y) = W' (9 * x + y)) (h2 : ∀ j : Int, 0 ≤ j → j < 81 → (7 ≤ j / 9 ∨ 7 ≤ j % 9) → F' j = F j) : InvF (ua T (7 * u + v) (T (7 * u + v) - a)) P F' := by
  have hF1 := hI.1 (9 * v + u) (by omega) (by omega)
  have hT' : ∀ j : Int, 0 ≤ j → j < 49 → 0 ≤ ua T (7 * u + v) (T (7 * u + v) - a) j ∧ ua T (7 * u + v) (T (7 * u + v) - a) j ≤ 1000 := by
    intro j q1 q2
    have := hI.2.2.2.2.1 (7 * u + v) (by omega) (by omega)
    have h2 := hI.2.2.2.2.1 j q1 q2
    unfold ua
    split
    · omega
    · exact h2
  have hz : ∀ j : Int, 0 ≤ j → j < 81 → (7 ≤ j / 9 ∨ 7 ≤ j % 9) → W j = 0 := fun j q1 q2 q3 => by
    rw [hW j q1 q2, ua_n (by omega), ua_n (by omega)]
    exact hI.2.1 j q1 q2 q3
  refine inv_mk hs.2.2.1 (fun x y q1 q2 q3 q4 => ?_) (fun x q1 q2 => ?_) hT' (fun x q1 q2 => ?_) hI.2.1 h1 h2
  · rw [hs.2.2.2.1 x y q1 (by omega) q3 (by omega), hW _ (by omega) (by omega), hW _ (by omega) (by omega)]
    have h := hI.2.2.1 x y q1 q2 q3 q4
    by_cases c1 : x = v ∧ y = u
    · obtain ⟨rfl, rfl⟩ := c1
      rw [ua_n (by omega), ua_s, ua_s, ua_s, ua_n (by omega)]
      omega
    · by_cases c2 : x = u ∧ y = v
      · obtain ⟨rfl, rfl⟩ := c2
        rw [ua_s, ua_n (by omega), ua_s, ua_n (by omega), ua_s]
        omega
      · rw [ua_n (by omega), ua_n (by omega), ua_n (by omega), ua_n (by omega), ua_n (by omega), ua_n (by omega)]
        exact h
  · rw [← row79 hs.2.2.1 hs.2.2.2.1 hz q1 q2, hs.2.2.2.2.1 x q1 (by omega), row79s hz q1 q2, sg_congr (g := mF (ua (ua F (9 * v + u) 0) (9 * u + v) (F (9 * u + v) + (F (9 * v + u) - a))) x) (fun y q3 q4 => hW _ (by omega) (by omega)), row_one (by decide) hu hv ⟨q1, q2⟩, row_one (by decide) hv hu ⟨q1, q2⟩, col_one hu hv ⟨q1, q2⟩, hI.2.2.2.1 x q1 q2, ua_n (by omega)]
    have hvu : v ≠ u := fun e => huv e.symm
    by_cases c1 : x = v
    · subst c1
      rw [if_pos rfl, if_neg hvu, if_neg hvu, if_pos rfl, if_pos rfl]
      omega
    · by_cases c2 : x = u
      · subst c2
        rw [if_neg c1, if_pos rfl, if_pos rfl, if_neg c1, if_neg c1]
        omega
      · rw [if_neg c1, if_neg c2, if_neg c2, if_neg c1, if_neg c1]
        omega
  · rw [ua_n (by omega)]
    exact hI.2.2.2.2.2 x q1 q2
def IsPos (T P : Int → Int) : Prop := ∀ set : Int, 0 ≤ set → set < 128 → 0 ≤ slk T P set
theorem slk_one {T P : Int → Int} {set u v a : Int} (hu : 0 ≤ u ∧ u < 7) (hv : 0 ≤ v ∧ v < 7) (h1 : inS set u) (h2 : ¬ inS set v) : slk (ua T (7 * u + v) a) P set = slk T P set + (a - T (7 * u + v)) := by
  have e1 : (7 * u + v) / 7 = u := by omega
  have e2 : (7 * u + v) % 7 = v := by omega
  unfold inS at h1 h2
  unfold slk
  rw [sg_one (f := fun p => if set / 2 ^ (p / 7).toNat % 2 = 1 ∧ ¬ set / 2 ^ (p % 7).toNat % 2 = 1 then ua T (7 * u + v) a p else 0) (g := fun p => if set / 2 ^ (p / 7).toNat % 2 = 1 ∧ ¬ set / 2 ^ (p % 7).toNat % 2 = 1 then T p else 0) (a := 7 * u + v) (by omega) (by omega) (fun p q1 q2 q3 => by rw [ua_n q3])]
  simp only [e1, e2, ua_s]
  rw [if_pos ⟨h1, h2⟩, if_pos ⟨h1, h2⟩]
  omega
/-- not all that is above can go other ways: no state has these trusts and positions -/
theorem x_wd3 {T P F W W' : Int → Int} {u v a r : Int} (hI : InvF T P F) (hu : 0 ≤ u ∧ u < 7) (hv : 0 ≤ v ∧ v < 7) (huv : u ≠ v) (hW : ∀ j : Int, 0 ≤ j → j < 81 → W j = ua (ua F (9 * v + u) 0) (9 * u + v) (F (9 * u + v) + (F (9 * v + u) - a)) j) (hs : Sent W W' v u (a - F (9 * v + u)) r) (hr : r < a - F (9 * v + u)) : ¬ IsPos (ua T (7 * u + v) (T (7 * u + v) - a)) P := by
  have hc : ∀ z : Int → Bool, z v = true → z u = false → cap (mF W) 9 z = cap (mF F) 7 z - F (9 * v + u) := by
    intro z z1 z2
    rw [← cap9_free hI, cap_one (w := mF F) (w' := mF W) (a := v) (b := u) ⟨hv.1, by omega⟩ ⟨hu.1, by omega⟩ z1 z2 (fun x y q1 q2 q3 q4 q5 q6 q7 => ?_)]
    · have : W (9 * v + u) = 0 := by rw [hW _ (by omega) (by omega), ua_n (by omega), ua_s]
      show cap (mF F) 9 z + (W (9 * v + u) - F (9 * v + u)) = _
      omega
    · have hyx : ¬ (x = u ∧ y = v) := fun e => by rw [e.1, z2] at q5; cases q5
      show W (9 * x + y) = F (9 * x + y)
      rw [hW _ (by omega) (by omega), ua_n (by omega), ua_n (by omega)]
  obtain ⟨⟨set, s0, s1, s2, s3, s4⟩, -⟩ := (x_minK (K := F (9 * v + u)) hI hv hu hc hs).1 hr
  intro hp
  have h1 := hp set s0 s1
  rw [slk_one hu hv ((hold_pow hu.1 hu.2 s0).mp s2) s3] at h1
  omega
/-- round about: what can be turned -/
theorem x_round {T P F W W' : Int → Int} {u v r m : Int} (hI : InvF T P F) (hu : 0 ≤ u ∧ u < 7) (hv : 0 ≤ v ∧ v < 7) (huv : u ≠ v) (hW : ∀ j : Int, 0 ≤ j → j < 81 → W j = ua (ua F (9 * u + v) 0) (9 * v + u) 0 j) (hs : Sent W W' u v (F (9 * v + u)) r) (hm : IsMin T P (2 ^ v.toNat) u m) : r = if m - F (9 * u + v) < F (9 * v + u) then m - F (9 * u + v) else F (9 * v + u) := by
  have hc : ∀ z : Int → Bool, z u = true → z v = false → cap (mF W) 9 z = cap (mF F) 7 z - F (9 * u + v) := by
    intro z z1 z2
    rw [← cap9_free hI, cap_one (w := mF F) (w' := mF W) (a := u) (b := v) ⟨hu.1, by omega⟩ ⟨hv.1, by omega⟩ z1 z2 (fun x y q1 q2 q3 q4 q5 q6 q7 => ?_)]
    · have : W (9 * u + v) = 0 := by rw [hW _ (by omega) (by omega), ua_n (by omega), ua_s]
      show cap (mF F) 9 z + (W (9 * u + v) - F (9 * u + v)) = _
      omega
    · have hyx : ¬ (x = v ∧ y = u) := fun e => by rw [e.1, z2] at q5; cases q5
      show W (9 * x + y) = F (9 * x + y)
      rw [hW _ (by omega) (by omega), ua_n (by omega), ua_n (by omega)]
  have h := x_minK (K := F (9 * u + v)) hI hu hv hc hs
  have h2 := h.2 m hm
  have h3 := hs.2.1
  by_cases c : r < F (9 * v + u)
  · have := isMin_uniq (h.1 c) hm
    rw [if_pos (by omega)]
    omega
  · rw [if_neg (by omega)]
    omega
end
section
/-! ===== spread and clear ===== -/
theorem cap9_sk {T P F W : Int → Int} {z : Int → Bool} (hm : ∀ x y : Int, 0 ≤ x → x < 7 → 0 ≤ y → y < 7 → W (9 * x + y) = F (9 * x + y)) (h7 : ∀ x : Int, 0 ≤ x → x < 7 → W (9 * x + 7) = 0) (h8 : ∀ x : Int, 0 ≤ x → x < 9 → W (72 + x) = 0) (h77 : W 70 = 0) (h78 : W 71 = 0) : cap (mF W) 9 z = cap (mF F) 7 z + sg (fun x => if z x = true ∧ z 8 = false then W (9 * x + 8) else 0) 7 + sg (fun x => if z 7 = true ∧ z x = false then W (63 + x) else 0) 7 := by
  have e1 : cap (mF W) 7 z = cap (mF F) 7 z := cap_congr (fun u v q1 q2 q3 q4 _ _ => hm u v q1 (by omega) q3 (by omega))
  have e2 : sg (fun u => (if z u = true ∧ z 7 = false then mF W u 7 else 0) + (if z u = true ∧ z 8 = false then mF W u 8 else 0)) 7 = sg (fun x => if z x = true ∧ z 8 = false then W (9 * x + 8) else 0) 7 := by
    refine sg_congr (fun u q1 q2 => ?_)
    show (if z u = true ∧ z 7 = false then W (9 * u + 7) else 0) + (if z u = true ∧ z 8 = false then W (9 * u + 8) else 0) = _
    rw [h7 u q1 (by omega)]
    simp
  have e3 : sg (fun v => if z 7 = true ∧ z v = false then mF W 7 v else 0) 9 = sg (fun x => if z 7 = true ∧ z x = false then W (63 + x) else 0) 7 := by
    show sg (fun v => if z 7 = true ∧ z v = false then mF W 7 v else 0) 7 + (if z 7 = true ∧ z 7 = false then W 70 else 0) + (if z 7 = true ∧ z 8 = false then W 71 else 0) = _
    rw [h77, h78]
    simp
    rfl
  have e4 : sg (fun v => if z 8 = true ∧ z v = false then mF W 8 v else 0) 9 = 0 := by
    refine sg_zero (fun v q1 q2 => ?_)
    show (if z 8 = true ∧ z v = false then W (72 + v) else 0) = 0
    rw [h8 v q1 (by omega)]
    simp
  rw [cap9, e1, e2, e3, e4]
  omega
theorem x_spread {T P F W W' : Int → Int} {u held r : Int} (hI : InvF T P F) (hu : 0 ≤ u ∧ u < 7) (hh : 0 ≤ held ∧ held < 128) (hhu : ¬ inS held u) (hm : ∀ j : Int, 0 ≤ j → j < 81 → (¬ j % 9 = 8 ∨ 63 ≤ j) → W j = F j) (h8 : ∀ x : Int, 0 ≤ x → x < 7 → W (9 * x + 8) = if held / 2 ^ x.toNat % 2 = 1 then 1000000 else 0) (hs : Sent W W' u 8 1000000 r) : IsMin T P held u r := by
  have hc : ∀ z : Int → Bool, z 8 = false → cap (mF W) 9 z = cap (mF F) 7 z + sg (fun x => if z x = true then W (9 * x + 8) else 0) 7 := by
    intro z z8
    rw [cap9_sk (T := T) (P := P) (F := F) (fun x y q1 q2 q3 q4 => hm _ (by omega) (by omega) (by omega)) (fun x q1 q2 => by rw [hm _ (by omega) (by omega) (by omega)]; exact hI.2.1 _ (by omega) (by omega) (by omega)) (fun x q1 q2 => by rw [hm _ (by omega) (by omega) (by omega)]; exact hI.2.1 _ (by omega) (by omega) (by omega)) (by rw [hm _ (by omega) (by omega) (by omega)]; exact hI.2.1 _ (by omega) (by omega) (by omega)) (by rw [hm _ (by omega) (by omega) (by omega)]; exact hI.2.1 _ (by omega) (by omega) (by omega))]
    rw [sg_zero (f := fun x => if z 7 = true ∧ z x = false then W (63 + x) else 0) (fun x q1 q2 => by
      rw [hm _ (by omega) (by omega) (by omega), hI.2.1 (63 + x) (by omega) (by omega) (by omega)]
      simp)]
    simp only [z8, and_true]
    omega
  have nn : ∀ z : Int → Bool, ∀ x : Int, 0 ≤ x → x < 7 → 0 ≤ (if z x = true then W (9 * x + 8) else 0) := by
    intro z x q1 q2
    rw [h8 x q1 q2]
    split
    · split <;> omega
    · omega
  have low : ∀ set : Int, 0 ≤ set → set < 128 → hold held set → ¬ inS set u → r ≤ slk T P set := by
    intro set s0 s1 s2 s3
    have hsub := (hold_iff hh s0).mp s2
    have hz8 : (fun x => if x = 8 then false else zS set x) 8 = false := by simp
    have h1 := sent_le (z := fun x => if x = 8 then false else zS set x) hs ⟨hu.1, by omega⟩ (by omega) (by
      show (if u = 8 then false else zS set u) = true
      rw [if_neg (by omega)]
      exact (zS_ok set u).mpr s3) hz8
    rw [hc _ hz8, sg_zero (fun x q1 q2 => by
      show (if (if x = 8 then false else zS set x) = true then W (9 * x + 8) else 0) = 0
      rw [if_neg (show ¬ x = 8 by omega)]
      split
      next hx =>
        rw [h8 x q1 q2, if_neg]
        intro hq
        exact (zS_ok set x).mp hx (hsub x q1 (by omega) hq)
      next => rfl)] at h1
    rw [inv_slk hI (z := fun x => if x = 8 then false else zS set x) (fun x q1 q2 => by
      show (if x = 8 then false else zS set x) = true ↔ _
      rw [if_neg (by omega)]
      exact zS_ok set x)]
    omega
  have hr : r < 1000000 := by
    have hz8 : (fun x : Int => decide (x = u)) 8 = false := by simp; omega
    have h1 := sent_le (z := fun x => decide (x = u)) hs ⟨hu.1, by omega⟩ (by omega) (by simp) hz8
    rw [hc _ hz8, sg_zero (fun x q1 q2 => by
      show (if decide (x = u) = true then W (9 * x + 8) else 0) = 0
      split
      next hx =>
        have hx : x = u := by simpa using hx
        subst hx
        rw [h8 x q1 q2, if_neg]
        exact hhu
      next => rfl)] at h1
    have h2 : cap (mF F) 7 (fun x => decide (x = u)) ≤ 7 * (7 * 2000) := cap_le (by decide) (fun a b q1 q2 q3 q4 => (hI.1 (9 * a + b) (by omega) (by omega)).2)
    omega
  obtain ⟨z, z1, z2, z3⟩ := sent_eq hs ⟨hu.1, by omega⟩ (by omega) hr
  rw [hc z z2] at z3
  have hn : 0 ≤ cap (mF F) 7 z := cap_nn (fun a b q1 q2 q3 q4 => (hI.1 (9 * a + b) (by omega) (by omega)).1)
  have hz0 : ∀ x : Int, 0 ≤ x → x < 7 → inS held x → z x = false := by
    intro x q1 q2 q3
    cases hx : z x with
    | false => rfl
    | true =>
      have h1 := sg_el (f := fun x => if z x = true then W (9 * x + 8) else 0) (n := 7) q1 q2 (nn z)
      have h2 : (if z x = true then W (9 * x + 8) else 0) = 1000000 := by
        rw [if_pos hx, h8 x q1 q2, if_pos (show held / 2 ^ x.toNat % 2 = 1 from q3)]
      rw [h2] at h1
      omega
  have hs0 : sg (fun x => if z x = true then W (9 * x + 8) else 0) 7 = 0 := sg_zero (fun x q1 q2 => by
    show (if z x = true then W (9 * x + 8) else 0) = 0
    split
    next hx =>
      rw [h8 x q1 q2, if_neg]
      intro hq
      rw [hz0 x q1 q2 hq] at hx
      cases hx
    next => rfl)
  refine ⟨⟨mkS z, (mkS_rng z).1, (mkS_rng z).2, (hold_iff hh (mkS_rng z).1).mpr (fun i q1 q2 q3 => (mkS_in z q1 q2).mpr (hz0 i q1 q2 q3)), fun q => ?_, ?_⟩, low⟩
  · have := (mkS_in z hu.1 hu.2).mp q
    rw [z1] at this
    cases this
  · rw [inv_slk hI (z := z) (fun x q1 q2 => by rw [mkS_in z q1 q2]; cases z x <;> simp)]
    omega
theorem slk_P {T P c : Int → Int} {set : Int} : slk T (fun u => P u + c u) set = slk T P set - sg (fun u => if set / 2 ^ u.toNat % 2 = 1 then c u else 0) 7 := by
  unfold slk
  have e : sg (fun u => if set / 2 ^ u.toNat % 2 = 1 then P u + c u else 0) 7 = sg (fun u => if set / 2 ^ u.toNat % 2 = 1 then P u else 0) 7 + sg (fun u => if set / 2 ^ u.toNat % 2 = 1 then c u else 0) 7 := by
    rw [← sg_add]
    refine sg_congr (fun u _ _ => ?_)
    split <;> omega
  rw [e]
  omega
def pos (x : Int) : Int := if 0 < x then x else 0
def neg (x : Int) : Int := if x < 0 then -x else 0
theorem pos_nn (x : Int) : 0 ≤ pos x := by unfold pos; split <;> omega
theorem neg_nn (x : Int) : 0 ≤ neg x := by unfold neg; split <;> omega
theorem pos_neg (x : Int) : pos x - neg x = x := by
  unfold pos neg
  split <;> split <;> omega
/-- the work over which clear sends -/
def ClrW (F W c : Int → Int) : Prop := (∀ x y : Int, 0 ≤ x → x < 7 → 0 ≤ y → y < 7 → W (9 * x + y) = F (9 * x + y)) ∧ (∀ x : Int, 0 ≤ x → x < 7 → W (9 * x + 7) = 0) ∧ (∀ x : Int, 0 ≤ x → x < 9 → W (72 + x) = 0) ∧ W 70 = 0 ∧ W 71 = 0 ∧ (∀ x : Int, 0 ≤ x → x < 7 → W (9 * x + 8) = pos (c x)) ∧ (∀ x : Int, 0 ≤ x → x < 7 → W (63 + x) = neg (c x))
theorem clr_cap {T P F W c : Int → Int} {z : Int → Bool} (h : ClrW F W c) (hc : sg c 7 = 0) (z7 : z 7 = true) (z8 : z 8 = false) : cap (mF W) 9 z - sg (fun x => pos (c x)) 7 = cap (mF F) 7 z - sg (fun x => if z x = true then 0 else c x) 7 := by
  rw [cap9_sk (T := T) (P := P) (F := F) h.1 h.2.1 h.2.2.1 h.2.2.2.1 h.2.2.2.2.1]
  have e1 : sg (fun x => if z x = true ∧ z 8 = false then W (9 * x + 8) else 0) 7 = sg (fun x => if z x = true then pos (c x) else 0) 7 := by
    refine sg_congr (fun x q1 q2 => ?_)
    rw [h.2.2.2.2.2.1 x q1 q2]
    simp [z8]
  have e2 : sg (fun x => if z 7 = true ∧ z x = false then W (63 + x) else 0) 7 = sg (fun x => if z x = true then 0 else neg (c x)) 7 := by
    refine sg_congr (fun x q1 q2 => ?_)
    rw [h.2.2.2.2.2.2 x q1 q2]
    cases z x <;> simp [z7]
  have e3 : sg (fun x => pos (c x)) 7 = sg (fun x => if z x = true then pos (c x) else 0) 7 + sg (fun x => if z x = true then 0 else neg (c x)) 7 + sg (fun x => if z x = true then 0 else c x) 7 := by
    rw [← sg_add, ← sg_add]
    refine sg_congr (fun x q1 q2 => ?_)
    have := pos_neg (c x)
    cases z x <;> simp <;> omega
  rw [e1, e2]
  omega
theorem x_clr_no {T P F W W' c : Int → Int} {r : Int} (hI : InvF T P F) (h : ClrW F W c) (hc : sg c 7 = 0) (hs : Sent W W' 7 8 (sg (fun x => pos (c x)) 7) r) (hr : r < sg (fun x => pos (c x)) 7) : ¬ IsPos T (fun u => P u + c u) := by
  obtain ⟨z, z1, z2, z3⟩ := sent_eq hs (by omega) (by omega) hr
  have e := clr_cap (T := T) (P := P) h hc z1 z2
  intro hp
  have h1 := hp (mkS z) (mkS_rng z).1 (mkS_rng z).2
  rw [slk_P, inv_slk hI (z := z) (fun x q1 q2 => by rw [mkS_in z q1 q2]; cases z x <;> simp)] at h1
  have e2 : sg (fun u => if mkS z / 2 ^ u.toNat % 2 = 1 then c u else 0) 7 = sg (fun x => if z x = true then 0 else c x) 7 := by
    refine sg_congr (fun x q1 q2 => ?_)
    have q := mkS_in z q1 q2
    unfold inS at q
    cases hx : z x with
    | false => rw [hx] at q; simp [q.mpr rfl]
    | true =>
      rw [hx] at q
      rw [if_neg (fun y => by have := q.mp y; cases this)]
      simp
  omega
theorem x_clr_ok {T P F W W' F' c : Int → Int} (hI : InvF T P F) (h : ClrW F W c) (hc : sg c 7 = 0) (hs : Sent W W' 7 8 (sg (fun x => pos (c x)) 7) (sg (fun x => pos (c x)) 7)) (h1 : ∀ u v : Int, 0 ≤ u → u < 7 → 0 ≤ v → v < 7 → F' (9 * u + v) = W' (9 * u + v)) (h2 : ∀ j : Int, 0 ≤ j → j < 81 → (7 ≤ j / 9 ∨ 7 ≤ j % 9) → F' j = F j) : InvF T (fun u => P u + c u) F' := by
  obtain ⟨hm, h7, h8, h77, h78, hp, hn⟩ := h
  have hpn : sg (fun x => pos (c x)) 7 - sg (fun x => neg (c x)) 7 = 0 := by
    rw [← sg_sub, ← hc]
    exact sg_congr (fun x _ _ => pos_neg (c x))
  have r7 : sg (mF W 7) 9 = sg (fun x => neg (c x)) 7 := by
    show sg (mF W 7) 7 + W 70 + W 71 = _
    rw [h77, h78, sg_congr (f := mF W 7) (g := fun x => neg (c x)) (fun x q1 q2 => hn x q1 q2), Int.add_zero, Int.add_zero]
  have r7' := hs.2.2.2.2.1 7 (by omega) (by omega)
  rw [if_neg (by decide), if_pos rfl, r7] at r7'
  have a7 : ∀ x : Int, 0 ≤ x → x < 7 → W' (63 + x) = 0 := by
    intro x q1 q2
    have q := sg_el (f := mF W' 7) (n := 9) q1 (show x < 9 by omega) (fun i a b => hs.2.2.1 _ (by omega) (by omega))
    have q3 := hs.2.2.1 (63 + x) (by omega) (by omega)
    have q4 : mF W' 7 x = W' (63 + x) := rfl
    omega
  have r8 : sg (mF W 8) 9 = 0 := sg_zero (fun x q1 q2 => h8 x q1 (by omega))
  have r8' := hs.2.2.2.2.1 8 (by omega) (by omega)
  rw [if_pos rfl, if_neg (by decide), r8] at r8'
  have w80 := hs.2.2.2.1 8 8 (by omega) (by omega) (by omega) (by omega)
  have w79 := hs.2.2.2.1 8 7 (by omega) (by omega) (by omega) (by omega)
  have n79 := hs.2.2.1 79 (by omega) (by omega)
  have n71 := hs.2.2.1 71 (by omega) (by omega)
  have z80 := h8 8 (by omega) (by omega)
  have z79 := h8 7 (by omega) (by omega)
  have s8 : sg (mF W' 8) 7 = sg (fun x => pos (c x)) 7 := by
    have e : sg (mF W' 8) 9 = sg (mF W' 8) 7 + W' 79 + W' 80 := rfl
    have e1 : W' (9 * 8 + 8) = W' 80 := rfl
    have e2 : W (9 * 8 + 8) = W 80 := rfl
    have e3 : W' (9 * 8 + 7) = W' 79 := rfl
    have e4 : W' (9 * 7 + 8) = W' 71 := rfl
    have e5 : W (9 * 8 + 7) = W 79 := rfl
    have e6 : W (9 * 7 + 8) = W 71 := rfl
    have e7 : W (72 + 8) = W 80 := rfl
    have e8 : W (72 + 7) = W 79 := rfl
    omega
  have p8 : ∀ x : Int, 0 ≤ x → x < 7 → W' (9 * x + 8) + W' (72 + x) = pos (c x) := by
    intro x q1 q2
    have q := hs.2.2.2.1 x 8 q1 (by omega) (by omega) (by omega)
    have e' : W (9 * 8 + x) = 0 := h8 x q1 (by omega)
    rw [hp x q1 q2, e'] at q
    have e : W' (9 * 8 + x) = W' (72 + x) := rfl
    omega
  have s8' : sg (fun x => W' (9 * x + 8)) 7 = 0 := by
    have e : sg (fun x => W' (9 * x + 8)) 7 + sg (mF W' 8) 7 = sg (fun x => pos (c x)) 7 := by
      rw [← sg_add]
      exact sg_congr (fun x q1 q2 => p8 x q1 q2)
    omega
  have a8 : ∀ x : Int, 0 ≤ x → x < 7 → W' (9 * x + 8) = 0 := by
    intro x q1 q2
    have q := sg_el (f := fun x => W' (9 * x + 8)) (n := 7) q1 q2 (fun i a b => hs.2.2.1 _ (by omega) (by omega))
    have q3 := hs.2.2.1 (9 * x + 8) (by omega) (by omega)
    have q4 : (fun x => W' (9 * x + 8)) x = W' (9 * x + 8) := rfl
    omega
  refine inv_mk hs.2.2.1 (fun x y q1 q2 q3 q4 => ?_) (fun x q1 q2 => ?_) hI.2.2.2.2.1 hI.2.2.2.2.2 hI.2.1 h1 h2
  · rw [hs.2.2.2.1 x y q1 (by omega) q3 (by omega), hm x y q1 q2 q3 q4, hm y x q3 q4 q1 q2]
    exact hI.2.2.1 x y q1 q2 q3 q4
  · have q := hs.2.2.2.2.1 x q1 (by omega)
    rw [if_neg (by omega), if_neg (by omega)] at q
    have e1 : sg (mF W' x) 9 = sg (mF W' x) 7 + W' (9 * x + 7) + W' (9 * x + 8) := rfl
    have e2 : sg (mF W x) 9 = sg (mF W x) 7 + W (9 * x + 7) + W (9 * x + 8) := rfl
    have e3 : sg (mF W x) 7 = sg (mF F x) 7 := sg_congr (fun y q3 q4 => hm x y q1 q2 q3 (by omega))
    have q7 := hs.2.2.2.1 x 7 q1 (by omega) (by omega) (by omega)
    have e4 : W' (9 * 7 + x) = W' (63 + x) := rfl
    have e5 : W (9 * 7 + x) = W (63 + x) := rfl
    rw [e4, e5, a7 x q1 q2, hn x q1 q2, h7 x q1 q2] at q7
    have q8 := a8 x q1 q2
    have q9 := hI.2.2.2.1 x q1 q2
    have q10 := pos_neg (c x)
    have q11 := h7 x q1 q2
    have q12 := hp x q1 q2
    omega
end
section
/-! ===== ways: breadth first, narrowest, push, send ===== -/
def itn (cf : Int → Int) (b : Int) : Nat → Int
  | 0 => b
  | k + 1 => cf (itn cf b k)
/-- cf leads from b back to a along what is free -/
def WayD (W cf dep : Int → Int) (a b : Int) : Prop := cf a = a ∧ 0 ≤ cf b ∧ ∀ n : Int, 0 ≤ n → n < 9 → 0 ≤ cf n → n ≠ a → (cf n < 9 ∧ 0 ≤ cf (cf n) ∧ 0 ≤ dep (cf n) ∧ dep (cf n) < dep n ∧ dep n ≤ 8 ∧ 0 < W (9 * cf n + n))
def Way (W cf : Int → Int) (a b : Int) : Prop := ∃ dep : Int → Int, WayD W cf dep a b
theorem itn_a {cf : Int → Int} {a b : Int} {i : Nat} (ha : cf a = a) (hi : itn cf b i = a) : ∀ k : Nat, i ≤ k → itn cf b k = a := by
  intro k hk
  induction k with
  | zero =>
    have : i = 0 := by omega
    subst this
    exact hi
  | succ k ih =>
    by_cases e : i = k + 1
    · subst e; exact hi
    · show cf (itn cf b k) = a
      rw [ih (by omega), ha]
/-- the state of push before its step i -/
def PushI (W W' cf dep : Int → Int) (a b c : Int) (i : Nat) : Prop :=
  (∀ u v : Int, 0 ≤ u → u < 9 → 0 ≤ v → v < 9 → W' (9 * u + v) + W' (9 * v + u) = W (9 * u + v) + W (9 * v + u)) ∧
  (∀ u : Int, 0 ≤ u → u < 9 → sg (mF W' u) 9 = sg (mF W u) 9 + (if u = b then c else 0) - (if u = itn cf b i then c else 0)) ∧
  (∀ j : Int, 0 ≤ j → j < 81 → 0 ≤ W' j) ∧
  (∀ x : Int, 0 ≤ x → x < 9 → 0 ≤ cf x → x ≠ a → dep x ≤ dep (itn cf b i) → W' (9 * cf x + x) = W (9 * cf x + x))
theorem push_0 {W cf dep : Int → Int} {a b c : Int} (hW : ∀ j : Int, 0 ≤ j → j < 81 → 0 ≤ W j) : PushI W W cf dep a b c 0 := by
  refine ⟨fun _ _ _ _ _ _ => rfl, fun u _ _ => ?_, hW, fun _ _ _ _ _ _ => rfl⟩
  show _ = _ + (if u = b then c else 0) - (if u = b then c else 0)
  omega
theorem push_s {W W' cf dep : Int → Int} {a b c : Int} {i : Nat} (hw : WayD W cf dep a b) (h : PushI W W' cf dep a b c i) (hc : 0 ≤ c) (h0 : 0 ≤ itn cf b i) (h1 : itn cf b i < 9) (h2 : 0 ≤ cf (itn cf b i)) (hne : itn cf b i ≠ a) (hle : c ≤ W (9 * cf (itn cf b i) + itn cf b i)) :
    PushI W (ua (ua W' (9 * cf (itn cf b i) + itn cf b i) (W' (9 * cf (itn cf b i) + itn cf b i) - c)) (9 * itn cf b i + cf (itn cf b i)) (ua W' (9 * cf (itn cf b i) + itn cf b i) (W' (9 * cf (itn cf b i) + itn cf b i) - c) (9 * itn cf b i + cf (itn cf b i)) + c)) cf dep a b c (i + 1) := by
  obtain ⟨p1, p2, p3, p4⟩ := h
  obtain ⟨t1, t2, t3, t4, t5, t6⟩ := hw.2.2 _ h0 h1 h2 hne
  have hi : itn cf b (i + 1) = cf (itn cf b i) := rfl
  have hold := p4 _ h0 h1 h2 hne (Int.le_refl _)
  rw [PushI, hi]
  generalize itn cf b i = x at *
  generalize hu : cf x = u at *
  have hux : u ≠ x := fun e => by rw [e] at t4; omega
  have hn1 : 9 * x + u ≠ 9 * u + x := by omega
  have e1 : ua W' (9 * u + x) (W' (9 * u + x) - c) (9 * x + u) = W' (9 * x + u) := ua_n hn1
  rw [e1]
  refine ⟨fun y z q1 q2 q3 q4 => ?_, fun y q1 q2 => ?_, fun j q1 q2 => ?_, fun y q1 q2 q3 q4 q5 => ?_⟩
  · have q := p1 y z q1 q2 q3 q4
    by_cases c1 : y = u ∧ z = x
    · obtain ⟨rfl, rfl⟩ := c1
      rw [ua_n (by omega), ua_s, ua_s]
      omega
    · by_cases c2 : y = x ∧ z = u
      · obtain ⟨rfl, rfl⟩ := c2
        rw [ua_s, ua_n (by omega), ua_s]
        omega
      · rw [ua_n (by omega), ua_n (by omega), ua_n (by omega), ua_n (by omega)]
        exact q
  · have q := p2 y q1 q2
    rw [row_one (n := 9) (by decide) ⟨h0, h1⟩ ⟨h2, t1⟩ ⟨q1, q2⟩, row_one (n := 9) (by decide) ⟨h2, t1⟩ ⟨h0, h1⟩ ⟨q1, q2⟩, q, e1]
    by_cases c1 : y = u
    · subst c1
      rw [if_neg hux, if_pos rfl, if_pos rfl, if_neg hux]
      omega
    · by_cases c2 : y = x
      · subst c2
        rw [if_pos rfl, if_neg c1, if_pos rfl, if_neg c1]
        omega
      · rw [if_neg c2, if_neg c1, if_neg c2, if_neg c1]
        omega
  · have q := p3 j q1 q2
    have q' := p3 (9 * x + u) (by omega) (by omega)
    by_cases c1 : j = 9 * x + u
    · subst c1
      rw [ua_s]
      omega
    · rw [ua_n c1]
      by_cases c2 : j = 9 * u + x
      · subst c2
        rw [ua_s]
        omega
      · rw [ua_n c2]
        exact q
  · have q := p4 y q1 q2 q3 q4 (by omega)
    have hyx : y ≠ x := fun e => by rw [e] at q5; omega
    obtain ⟨s1, s2, s3, s4, s5, s6⟩ := hw.2.2 y q1 q2 q3 q4
    rw [ua_n, ua_n (by omega), q]
    intro e
    have e1 : cf y = x := by omega
    have e2 : y = u := by omega
    rw [e1, e2] at s4
    omega
theorem push_e {W W' cf dep : Int → Int} {a b c : Int} {i : Nat} (h : PushI W W' cf dep a b c i) (hi : itn cf b i = a) : (∀ u v : Int, 0 ≤ u → u < 9 → 0 ≤ v → v < 9 → W' (9 * u + v) + W' (9 * v + u) = W (9 * u + v) + W (9 * v + u)) ∧ (∀ u : Int, 0 ≤ u → u < 9 → sg (mF W' u) 9 = sg (mF W u) 9 + (if u = b then c else 0) - (if u = a then c else 0)) ∧ (∀ j : Int, 0 ≤ j → j < 81 → 0 ≤ W' j) := by
  refine ⟨h.1, fun u q1 q2 => ?_, h.2.2.1⟩
  have := h.2.1 u q1 q2
  rw [hi] at this
  exact this
/-- the state of the search: put places of the line filled, those before 'at' looked at whole, of 'at' itself all before v -/
def Bfs (W cf ln ps : Int → Int) (a put at_ v : Int) : Prop :=
  (1 ≤ put ∧ put ≤ 9) ∧ (cf a = a ∧ ps a = 0) ∧
  (∀ i : Int, 0 ≤ i → i < put → 0 ≤ ln i ∧ ln i < 9 ∧ 0 ≤ cf (ln i) ∧ ps (ln i) = i) ∧
  (∀ x : Int, 0 ≤ x → x < 9 → -1 ≤ cf x ∧ cf x < 9) ∧
  (∀ x : Int, 0 ≤ x → x < 9 → 0 ≤ cf x → 0 ≤ ps x ∧ ps x < put ∧ ln (ps x) = x) ∧
  (∀ x : Int, 0 ≤ x → x < 9 → 0 ≤ cf x → x ≠ a → 0 ≤ cf (cf x) ∧ ps (cf x) < ps x ∧ 0 < W (9 * cf x + x)) ∧
  (∀ i y : Int, 0 ≤ i → i < put → 0 ≤ y → y < 9 → (i < at_ ∨ (i = at_ ∧ y < v)) → 0 < W (9 * ln i + y) → 0 ≤ cf y) ∧
  sg (fun x => if 0 ≤ cf x then 1 else 0) 9 = put
theorem bfs_0 {W : Int → Int} {cf0 ln0 : Int → Int} {a : Int} (ha : 0 ≤ a ∧ a < 9) (hc : ∀ x : Int, 0 ≤ x → x < 9 → cf0 x = -1) : Bfs W (ua cf0 a a) (ua ln0 0 a) (fun _ => 0) a 1 0 0 := by
  refine ⟨by omega, ⟨ua_s, rfl⟩, fun i q1 q2 => ?_, fun x q1 q2 => ?_, fun x q1 q2 q3 => ?_, fun x q1 q2 q3 q4 => ?_, fun i y q1 q2 q3 q4 q5 => ?_, ?_⟩
  · have : i = 0 := by omega
    subst this
    rw [ua_s, ua_s]
    exact ⟨ha.1, ha.2, ha.1, rfl⟩
  · by_cases e : x = a
    · subst e; rw [ua_s]; omega
    · rw [ua_n e, hc x q1 q2]; omega
  · by_cases e : x = a
    · subst e
      refine ⟨Int.le_refl 0, (by decide : (0 : Int) < 1), ?_⟩
      exact ua_s
    · rw [ua_n e, hc x q1 q2] at q3; omega
  · rw [ua_n q4, hc x q1 q2] at q3; omega
  · omega
  · rw [sg_one (g := fun _ => 0) (n := 9) ha.1 ha.2 (fun i q1 q2 q3 => by rw [ua_n q3, hc i q1 q2]; rfl), sg_zero (f := fun _ => 0) (fun _ _ _ => rfl)]
    rw [ua_s, if_pos ha.1]
    rfl
/-- v is found from u = ln at -/
theorem bfs_new {W cf ln ps : Int → Int} {a put at_ v : Int} (h : Bfs W cf ln ps a put at_ v) (ha : 0 ≤ at_ ∧ at_ < put) (hv : 0 ≤ v ∧ v < 9) (hw : 0 < W (9 * ln at_ + v)) (hc : cf v < 0) : put < 9 ∧ Bfs W (ua cf v (ln at_)) (ua ln put v) (ua ps v put) a (put + 1) at_ (v + 1) := by
  obtain ⟨h1, h2, h3, h4, h5, h6, h7, h8⟩ := h
  have hav : a ≠ v := fun e => by
    subst e
    have := h2.1
    omega
  obtain ⟨l1, l2, l3, l4⟩ := h3 at_ ha.1 ha.2
  have hlv : ln at_ ≠ v := fun e => by rw [e] at l3; omega
  have hp : put < 9 := by
    have q := sg_le (f := fun x => if 0 ≤ cf x then 1 else 0) (g := fun x => if x = v then 0 else 1) (n := 9) (fun i q1 q2 => by
      by_cases e : i = v
      · subst e; rw [if_neg (by omega), if_pos rfl]; exact Int.le_refl _
      · rw [if_neg e]; split <;> omega)
    have q2 : sg (fun x => if x = v then (0 : Int) else 1) 9 = 8 := by
      rw [sg_one (g := fun _ => 1) (n := 9) hv.1 hv.2 (fun i _ _ e => if_neg e), sg_const, if_pos rfl]
      rfl
    omega
  refine ⟨hp, by omega, ⟨by rw [ua_n hav]; exact h2.1, by rw [ua_n hav]; exact h2.2⟩, fun i q1 q2 => ?_, fun x q1 q2 => ?_, fun x q1 q2 q3 => ?_, fun x q1 q2 q3 q4 => ?_, fun i y q1 q2 q3 q4 q5 q6 => ?_, ?_⟩
  · by_cases e : i = put
    · subst e
      rw [ua_s, ua_s, ua_s]
      omega
    · obtain ⟨s1, s2, s3, s4⟩ := h3 i q1 (by omega)
      have hne : ln i ≠ v := fun e => by rw [e] at s3; omega
      rw [ua_n e, ua_n hne, ua_n hne]
      exact ⟨s1, s2, s3, s4⟩
  · by_cases e : x = v
    · subst e; rw [ua_s]; omega
    · rw [ua_n e]; exact h4 x q1 q2
  · by_cases e : x = v
    · subst e
      rw [ua_s, ua_s]
      omega
    · rw [ua_n e] at q3
      obtain ⟨s1, s2, s3⟩ := h5 x q1 q2 q3
      rw [ua_n e, ua_n (by omega)]
      exact ⟨s1, by omega, s3⟩
  · by_cases e : x = v
    · subst e
      rw [ua_s, ua_n hlv, ua_n hlv, ua_s]
      exact ⟨l3, by omega, hw⟩
    · rw [ua_n e] at q3 ⊢
      obtain ⟨s1, s2, s3⟩ := h6 x q1 q2 q3 q4
      have hne : cf x ≠ v := fun e => by rw [e] at s1; omega
      rw [ua_n hne, ua_n hne, ua_n e]
      exact ⟨s1, s2, s3⟩
  · by_cases e : y = v
    · subst e; rw [ua_s]; exact l1
    · rw [ua_n e]
      have hi : i ≠ put := by omega
      rw [ua_n hi] at q6
      exact h7 i y q1 (by omega) q3 q4 (by omega) q6
  · rw [sg_one (g := fun x => if 0 ≤ cf x then 1 else 0) (n := 9) hv.1 hv.2 (fun i q1 q2 q3 => by rw [ua_n q3]), h8]
    rw [ua_s, if_pos l1, if_neg (by omega)]
    rfl
theorem bfs_old {W cf ln ps : Int → Int} {a put at_ v : Int} (h : Bfs W cf ln ps a put at_ v) (hn : ¬ (0 < W (9 * ln at_ + v) ∧ cf v < 0)) : Bfs W cf ln ps a put at_ (v + 1) := by
  obtain ⟨h1, h2, h3, h4, h5, h6, h7, h8⟩ := h
  refine ⟨h1, h2, h3, h4, h5, h6, fun i y q1 q2 q3 q4 q5 q6 => ?_, h8⟩
  by_cases e : i = at_ ∧ y = v
  · obtain ⟨rfl, rfl⟩ := e
    omega
  · exact h7 i y q1 q2 q3 q4 (by omega) q6
theorem bfs_next {W cf ln ps : Int → Int} {a put at_ : Int} (h : Bfs W cf ln ps a put at_ 9) : Bfs W cf ln ps a put (at_ + 1) 0 := by
  obtain ⟨h1, h2, h3, h4, h5, h6, h7, h8⟩ := h
  exact ⟨h1, h2, h3, h4, h5, h6, fun i y q1 q2 q3 q4 q5 q6 => h7 i y q1 q2 q3 q4 (by omega) q6, h8⟩
theorem bfs_way {W cf ln ps : Int → Int} {a b put at_ v : Int} (h : Bfs W cf ln ps a put at_ v) (hb : 0 ≤ cf b) : Way W cf a b := by
  obtain ⟨h1, h2, h3, h4, h5, h6, h7, h8⟩ := h
  refine ⟨ps, h2.1, hb, fun n q1 q2 q3 q4 => ?_⟩
  obtain ⟨s1, s2, s3⟩ := h6 n q1 q2 q3 q4
  have r1 := h4 n q1 q2
  obtain ⟨r2, r3, -⟩ := h5 n q1 q2 q3
  obtain ⟨r4, -, -⟩ := h5 (cf n) q3 (by omega) s1
  exact ⟨by omega, s1, r4, s2, by omega, s3⟩
theorem bfs_cut {W cf ln ps : Int → Int} {a b put at_ v : Int} (h : Bfs W cf ln ps a put at_ v) (ha : 0 ≤ a) (hat : put ≤ at_) (hb : cf b < 0) : ∃ z : Int → Bool, z a = true ∧ z b = false ∧ ∀ u y : Int, 0 ≤ u → u < 9 → 0 ≤ y → y < 9 → z u = true → z y = false → W (9 * u + y) ≤ 0 := by
  obtain ⟨h1, h2, h3, h4, h5, h6, h7, h8⟩ := h
  refine ⟨fun x => decide (0 ≤ cf x), by simp [h2.1, ha], by simp [hb], fun u y q1 q2 q3 q4 q5 q6 => ?_⟩
  have q5 : 0 ≤ cf u := by simpa using q5
  have q6 : cf y < 0 := by simpa using q6
  obtain ⟨s1, s2, s3⟩ := h5 u q1 q2 q5
  rcases Int.lt_or_le 0 (W (9 * u + y)) with c | c
  · have := h7 (ps u) y s1 s2 q3 q4 (by omega) (by rw [s3]; exact c)
    omega
  · exact c
end
section
/-! ===== cheapest ways: rounds of relaxing, with a potential that holds ===== -/
/-- one node's state, reached: a root not yet bettered, or bettered from cf v -/
def BfN (n : Nat) (Ed : Int → Int → Prop) (cs : Int → Int → Int) (pt : Int → Int) (rt : Int → Prop) (INF : Int) (dist cf tau rd : Int → Int) (k t v : Int) : Prop :=
  ((cf v = -1 ∧ rt v ∧ dist v = 0 ∧ rd v = 0) ∨ (0 ≤ cf v ∧ cf v < n ∧ Ed (cf v) v ∧ dist (cf v) < INF ∧ dist (cf v) + cs (cf v) v ≤ dist v ∧ (dist v = dist (cf v) + cs (cf v) v → tau (cf v) < tau v) ∧ rd v ≤ rd (cf v) + 1 ∧ (rt v → dist v < 0))) ∧ 0 ≤ rd v ∧ rd v ≤ k ∧ 0 ≤ tau v ∧ tau v ≤ t ∧ pt v ≤ dist v ∧ -t ≤ dist v ∧ dist v ≤ t
def Bf (n : Nat) (Ed : Int → Int → Prop) (cs : Int → Int → Int) (pt : Int → Int) (rt : Int → Prop) (ix : Int → Int → Int) (INF : Int) (dist cf tau rd : Int → Int) (k i t : Int) : Prop :=
  (∀ v : Int, 0 ≤ v → v < n → dist v < INF → BfN n Ed cs pt rt INF dist cf tau rd k t v) ∧
  (∀ v : Int, 0 ≤ v → v < n → rt v → dist v < INF ∧ dist v ≤ 0) ∧
  (∀ v : Int, 0 ≤ v → v < n → ¬ dist v < INF → dist v = INF ∧ cf v = -1) ∧
  (∀ u v : Int, 0 ≤ u → u < n → 0 ≤ v → v < n → Ed u v → dist u < INF → ((ix u v < i ∧ rd u ≤ k - 1) ∨ (i ≤ ix u v ∧ rd u ≤ k - 2)) → dist v ≤ dist u + cs u v)
section
variable {n : Nat} {Ed : Int → Int → Prop} {cs : Int → Int → Int} {pt : Int → Int} {rt : Int → Prop} {ix : Int → Int → Int} {INF : Int} {dist cf tau rd : Int → Int} {k i t : Int}
theorem bf_0 (hpt : ∀ v : Int, 0 ≤ v → v < n → rt v → pt v ≤ 0) (hI : 0 < INF) (hx : ∀ u v : Int, 0 ≤ u → u < n → 0 ≤ v → v < n → 0 ≤ ix u v) (h : ∀ v : Int, 0 ≤ v → v < n → cf v = -1 ∧ ((rt v ∧ dist v = 0) ∨ (¬ rt v ∧ dist v = INF))) : Bf n Ed cs pt rt ix INF dist cf (fun _ => 0) (fun _ => 0) 1 0 0 := by
  refine ⟨fun v q1 q2 q3 => ?_, fun v q1 q2 q3 => ?_, fun v q1 q2 q3 => ?_, fun u v q1 q2 q3 q4 q5 q6 q7 => ?_⟩
  · obtain ⟨a1, a2⟩ := h v q1 q2
    rcases a2 with ⟨a2, a3⟩ | ⟨a2, a3⟩
    · have := hpt v q1 q2 a2
      exact ⟨Or.inl ⟨a1, a2, a3, rfl⟩, Int.le_refl 0, (by decide : (0 : Int) ≤ 1), Int.le_refl 0, Int.le_refl 0, by omega, by omega, by omega⟩
    · omega
  · obtain ⟨a1, a2⟩ := h v q1 q2
    rcases a2 with ⟨a2, a3⟩ | ⟨a2, a3⟩
    · omega
    · exact absurd q3 a2
  · obtain ⟨a1, a2⟩ := h v q1 q2
    rcases a2 with ⟨a2, a3⟩ | ⟨a2, a3⟩
    · omega
    · exact ⟨a3, a1⟩
  · rcases q7 with ⟨b, -⟩ | ⟨-, b⟩
    · have := hx u v q1 q2 q3 q4
      omega
    · have b : (0 : Int) ≤ 1 - 2 := b
      omega
theorem bf_next (h : Bf n Ed cs pt rt ix INF dist cf tau rd k i t) (hi : ∀ u v : Int, 0 ≤ u → u < n → 0 ≤ v → v < n → 0 ≤ ix u v ∧ ix u v < i) : Bf n Ed cs pt rt ix INF dist cf tau rd (k + 1) 0 t := by
  obtain ⟨h1, h2, h3, h4⟩ := h
  refine ⟨fun v q1 q2 q3 => ?_, h2, h3, fun u v q1 q2 q3 q4 q5 q6 q7 => ?_⟩
  · obtain ⟨a, b1, b2, b3⟩ := h1 v q1 q2 q3
    exact ⟨a, b1, by omega, b3⟩
  · have := hi u v q1 q2 q3 q4
    exact h4 u v q1 q2 q3 q4 q5 q6 (Or.inl (by omega))
theorem bf_no {u v : Int} (h : Bf n Ed cs pt rt ix INF dist cf tau rd k i t) (hix : ∀ p q : Int, 0 ≤ p → p < n → 0 ≤ q → q < n → ix p q = i → p = u ∧ q = v) (hc : ¬ (Ed u v ∧ dist u < INF ∧ dist u + cs u v < dist v)) : Bf n Ed cs pt rt ix INF dist cf tau rd k (i + 1) (t + 1) := by
  obtain ⟨h1, h2, h3, h4⟩ := h
  refine ⟨fun x q1 q2 q3 => ?_, h2, h3, fun p q q1 q2 q3 q4 q5 q6 q7 => ?_⟩
  · obtain ⟨a, b1, b2, b3, b4, b5, b6, b7⟩ := h1 x q1 q2 q3
    exact ⟨a, b1, b2, b3, by omega, b5, by omega, by omega⟩
  · by_cases e : ix p q = i
    · obtain ⟨rfl, rfl⟩ := hix p q q1 q2 q3 q4 e
      rcases Int.lt_or_le (dist p + cs p q) (dist q) with c | c
      · exact absurd ⟨q5, q6, c⟩ hc
      · exact c
    · exact h4 p q q1 q2 q3 q4 q5 q6 (by omega)
theorem bf_yes {u v : Int} (h : Bf n Ed cs pt rt ix INF dist cf tau rd k i t) (hu : 0 ≤ u ∧ u < n) (hv : 0 ≤ v ∧ v < n) (huv : u ≠ v) (hi : ix u v = i) (hix : ∀ p q : Int, 0 ≤ p → p < n → 0 ≤ q → q < n → ix p q = i → p = u ∧ q = v) (hcs : ∀ p q : Int, -1 ≤ cs p q ∧ cs p q ≤ 1) (hpt : ∀ p q : Int, 0 ≤ p → p < n → 0 ≤ q → q < n → Ed p q → pt q ≤ pt p + cs p q) (hk : 1 ≤ k) (ht : 0 ≤ t ∧ t + 1 < INF) (c1 : Ed u v) (c2 : dist u < INF) (c3 : dist u + cs u v < dist v) :
    Bf n Ed cs pt rt ix INF (ua dist v (dist u + cs u v)) (ua cf v u) (ua tau v (t + 1)) (ua rd v k) k (i + 1) (t + 1) := by
  obtain ⟨h1, h2, h3, h4⟩ := h
  obtain ⟨-, u1, u2, u3, u4, u5, u6, u7⟩ := h1 u hu.1 hu.2 c2
  have hc := hcs u v
  have hp := hpt u v hu.1 hu.2 hv.1 hv.2 c1
  have hrd : k - 1 ≤ rd u := by
    rcases Int.lt_or_le (rd u) (k - 1) with c | c
    · have := h4 u v hu.1 hu.2 hv.1 hv.2 c1 c2 (Or.inr (by omega))
      omega
    · exact c
  refine ⟨fun x q1 q2 q3 => ?_, fun x q1 q2 q3 => ?_, fun x q1 q2 q3 => ?_, fun p q q1 q2 q3 q4 q5 q6 q7 => ?_⟩
  · unfold BfN
    by_cases e : x = v
    · subst e
      rw [ua_s, ua_s, ua_s, ua_s, ua_n huv, ua_n huv, ua_n huv]
      refine ⟨Or.inr ⟨hu.1, hu.2, c1, c2, Int.le_refl _, fun _ => by omega, by omega, fun q => ?_⟩, by omega, by omega, by omega, by omega, by omega, by omega, by omega⟩
      have := (h2 x q1 q2 q).2
      omega
    · rw [ua_n e] at q3
      obtain ⟨a, b1, b2, b3, b4, b5, b6, b7⟩ := h1 x q1 q2 q3
      rw [ua_n e, ua_n e, ua_n e, ua_n e]
      refine ⟨?_, b1, b2, b3, by omega, b5, by omega, by omega⟩
      rcases a with a | ⟨a1, a2, a3, a4, a5, a6, a7, a8⟩
      · exact Or.inl a
      · refine Or.inr ⟨a1, a2, a3, ?_⟩
        by_cases e2 : cf x = v
        · rw [e2] at a4 a5 a6 a7 ⊢
          rw [ua_s, ua_s, ua_s]
          obtain ⟨-, w1, w2, -⟩ := h1 v hv.1 hv.2 a4
          exact ⟨by omega, by omega, fun q => by omega, by omega, a8⟩
        · rw [ua_n e2, ua_n e2, ua_n e2]
          exact ⟨a4, a5, a6, a7, a8⟩
  · have := h2 x q1 q2 q3
    by_cases e : x = v
    · subst e
      rw [ua_s]
      omega
    · rw [ua_n e]
      exact this
  · by_cases e : x = v
    · subst e
      rw [ua_s] at q3
      omega
    · rw [ua_n e] at q3 ⊢
      rw [ua_n e]
      exact h3 x q1 q2 q3
  · by_cases e : p = v
    · subst e
      rw [ua_s] at q7
      omega
    · rw [ua_n e] at q6 q7 ⊢
      by_cases e2 : q = v
      · subst e2
        rw [ua_s]
        by_cases e3 : p = u
        · subst e3
          exact Int.le_refl _
        · have hne : ix p q ≠ i := fun z => e3 (hix p q q1 q2 q3 q4 z).1
          have := h4 p q q1 q2 q3 q4 q5 q6 (by omega)
          omega
      · rw [ua_n e2]
        have hne : ix p q ≠ i := fun z => e2 (hix p q q1 q2 q3 q4 z).2
        exact h4 p q q1 q2 q3 q4 q5 q6 (by omega)
end
theorem sg_lt {f g : Int → Int} {n : Nat} {a : Int} (h0 : 0 ≤ a) (h1 : a < n) (h : ∀ i : Int, 0 ≤ i → i < n → f i ≤ g i) (ha : f a < g a) : sg f n < sg g n := by
  have q := sg_le (f := fun i => if i = a then f a + 1 else f i) (g := g) (n := n) (fun i q1 q2 => by
    by_cases e : i = a
    · rw [if_pos e, e]; omega
    · rw [if_neg e]; exact h i q1 q2)
  rw [sg_one (g := f) h0 h1 (fun i _ _ e => if_neg e), if_pos rfl] at q
  omega
/-- how many of n stand below v by rank -/
def dp (n : Nat) (rk_ : Int → Int) (v : Int) : Int := sg (fun x => if rk_ x < rk_ v then 1 else 0) n
theorem dp_nn {n : Nat} {r : Int → Int} {v : Int} : 0 ≤ dp n r v := sg_nn (fun x _ _ => by split <;> omega)
theorem dp_lt {n : Nat} {r : Int → Int} {u v : Int} (hu : 0 ≤ u ∧ u < n) (h : r u < r v) : dp n r u < dp n r v := by
  refine sg_lt hu.1 hu.2 (fun x _ _ => ?_) ?_
  · by_cases c : r x < r u
    · rw [if_pos c, if_pos (by omega)]; exact Int.le_refl _
    · rw [if_neg c]; split <;> omega
  · show (if r u < r u then (1 : Int) else 0) < (if r u < r v then 1 else 0)
    rw [if_neg (by omega), if_pos h]
    decide
theorem dp_le {n : Nat} {r : Int → Int} {v : Int} (hv : 0 ≤ v ∧ v < n) : dp n r v ≤ n - 1 := by
  have q := sg_le (f := fun x => if r x < r v then 1 else 0) (g := fun x => if x = v then 0 else 1) (n := n) (fun i q1 q2 => by
    by_cases e : i = v
    · subst e; rw [if_neg (by omega), if_pos rfl]; exact Int.le_refl _
    · rw [if_neg e]; split <;> omega)
  rw [sg_one (f := fun x => if x = v then (0 : Int) else 1) (g := fun _ => 1) (n := n) hv.1 hv.2 (fun i _ _ e => if_neg e), sg_const, if_pos rfl] at q
  unfold dp
  omega
/-- behind all rounds: nothing is left to better; cf leads back to a root, and each step is tight -/
theorem bf_end {n : Nat} {Ed : Int → Int → Prop} {cs : Int → Int → Int} {pt : Int → Int} {rt : Int → Prop} {ix : Int → Int → Int} {INF : Int} {dist cf tau rd : Int → Int} {i t : Int} (h : Bf n Ed cs pt rt ix INF dist cf tau rd n i t) (hi : ∀ u v : Int, 0 ≤ u → u < n → 0 ≤ v → v < n → 0 ≤ ix u v ∧ ix u v < i) (hpt : ∀ p q : Int, 0 ≤ p → p < n → 0 ≤ q → q < n → Ed p q → pt q ≤ pt p + cs p q) (ht : t < 1000) :
    ∃ dep : Int → Int, (∀ v : Int, 0 ≤ v → v < n → dist v < INF → 0 ≤ dep v ∧ dep v ≤ n - 1 ∧ ((cf v = -1 ∧ rt v ∧ dist v = 0) ∨ (0 ≤ cf v ∧ cf v < n ∧ Ed (cf v) v ∧ dist (cf v) < INF ∧ dist v = dist (cf v) + cs (cf v) v ∧ dep (cf v) < dep v ∧ (rt v → dist v < 0)))) ∧
      (∀ u v : Int, 0 ≤ u → u < n → 0 ≤ v → v < n → Ed u v → dist u < INF → dist v ≤ dist u + cs u v) := by
  obtain ⟨h1, h2, h3, h4⟩ := h
  let r : Int → Int := fun v => (dist v - pt v) * 1000 + tau v
  have hr : ∀ v : Int, 0 ≤ v → v < n → dist v < INF → 0 ≤ cf v → r (cf v) < r v := by
    intro v q1 q2 q3 q4
    obtain ⟨a, -, -, b3, b4, b5, -, -⟩ := h1 v q1 q2 q3
    rcases a with a | ⟨a1, a2, a3, a4, a5, a6, a7, a8⟩
    · omega
    · obtain ⟨-, -, -, c3, c4, c5, -, -⟩ := h1 (cf v) a1 a2 a4
      have hp := hpt (cf v) v a1 a2 q1 q2 a3
      show (dist (cf v) - pt (cf v)) * 1000 + tau (cf v) < (dist v - pt v) * 1000 + tau v
      by_cases e : dist v = dist (cf v) + cs (cf v) v
      · have := a6 e
        omega
      · omega
  have hrd : ∀ (m : Nat) (v : Int), 0 ≤ v → v < n → dist v < INF → dp n r v ≤ m → rd v ≤ dp n r v := by
    intro m
    induction m with
    | zero =>
      intro v q1 q2 q3 q4
      obtain ⟨a, -⟩ := h1 v q1 q2 q3
      have hnn := dp_nn (n := n) (r := r) (v := v)
      rcases a with a | ⟨a1, a2, a3, a4, a5, a6, a7, a8⟩
      · omega
      · have := dp_lt (n := n) (r := r) ⟨a1, a2⟩ (hr v q1 q2 q3 a1)
        have := dp_nn (n := n) (r := r) (v := cf v)
        omega
    | succ m ih =>
      intro v q1 q2 q3 q4
      obtain ⟨a, -⟩ := h1 v q1 q2 q3
      have hnn := dp_nn (n := n) (r := r) (v := v)
      rcases a with a | ⟨a1, a2, a3, a4, a5, a6, a7, a8⟩
      · omega
      · have l1 := dp_lt (n := n) (r := r) ⟨a1, a2⟩ (hr v q1 q2 q3 a1)
        have l2 := ih (cf v) a1 a2 a4 (by omega)
        omega
  have hed : ∀ u v : Int, 0 ≤ u → u < n → 0 ≤ v → v < n → Ed u v → dist u < INF → dist v ≤ dist u + cs u v := by
    intro u v q1 q2 q3 q4 q5 q6
    have l1 := dp_le (n := n) (r := r) ⟨q1, q2⟩
    have l2 := hrd (dp n r u).toNat u q1 q2 q6 (by have := dp_nn (n := n) (r := r) (v := u); omega)
    exact h4 u v q1 q2 q3 q4 q5 q6 (Or.inl ⟨(hi u v q1 q2 q3 q4).2, by omega⟩)
  refine ⟨dp n r, fun v q1 q2 q3 => ⟨dp_nn, dp_le ⟨q1, q2⟩, ?_⟩, hed⟩
  obtain ⟨a, -⟩ := h1 v q1 q2 q3
  rcases a with ⟨a1, a2, a3, -⟩ | ⟨a1, a2, a3, a4, a5, a6, a7, a8⟩
  · exact Or.inl ⟨a1, a2, a3⟩
  · have := hed (cf v) v a1 a2 q1 q2 a3 a4
    exact Or.inr ⟨a1, a2, a3, a4, by omega, dp_lt ⟨a1, a2⟩ (hr v q1 q2 q3 a1), a8⟩
/-- the new potential: the distances -/
theorem bf_pot {n : Nat} {Ed : Int → Int → Prop} {cs : Int → Int → Int} {pt : Int → Int} {INF : Int} {dist : Int → Int} (hed : ∀ u v : Int, 0 ≤ u → u < n → 0 ≤ v → v < n → Ed u v → dist u < INF → dist v ≤ dist u + cs u v) (hd : ∀ v : Int, 0 ≤ v → v < n → dist v < INF → dist v ≤ 1000) (hI : 1002 ≤ INF) (hpt : ∀ p q : Int, 0 ≤ p → p < n → 0 ≤ q → q < n → Ed p q → pt q ≤ pt p + cs p q) (hcs : ∀ p q : Int, -1 ≤ cs p q ∧ cs p q ≤ 1) :
    ∃ pt' : Int → Int, (∀ p q : Int, 0 ≤ p → p < n → 0 ≤ q → q < n → Ed p q → pt' q ≤ pt' p + cs p q) ∧ (∀ v : Int, dist v < INF → pt' v = dist v) := by
  refine ⟨fun v => if dist v < INF then dist v else pt v + (1001 + sg (fun x => neg (pt x)) n), fun p q q1 q2 q3 q4 q5 => ?_, fun v h => if_pos h⟩
  show (if dist q < INF then dist q else pt q + (1001 + sg (fun x => neg (pt x)) n)) ≤ (if dist p < INF then dist p else pt p + (1001 + sg (fun x => neg (pt x)) n)) + cs p q
  have hc := hcs p q
  by_cases c1 : dist p < INF
  · have e := hed p q q1 q2 q3 q4 q5 c1
    have e2 := hd p q1 q2 c1
    rw [if_pos c1, if_pos (by omega)]
    exact e
  · rw [if_neg c1]
    by_cases c2 : dist q < INF
    · rw [if_pos c2]
      have e2 := hd q q3 q4 c2
      have e3 := sg_el (f := fun x => neg (pt x)) (n := n) q1 q2 (fun x _ _ => neg_nn _)
      have e4 : -pt p ≤ neg (pt p) := by unfold neg; split <;> omega
      have e5 : neg (pt p) ≤ sg (fun x => neg (pt x)) n := e3
      omega
    · rw [if_neg c2]
      have := hpt p q q1 q2 q3 q4 q5
      omega
end
section
/-! ===== debts: what is owed d, what may be owed c0, potentials; the least sum ===== -/
def cst (d : Int → Int → Int) (u v : Int) : Int := if 7 ≤ u ∨ 7 ≤ v then 0 else if d u v < 0 then -1 else 1
def rm_ (c0 d : Int → Int → Int) (u v : Int) : Int := if d u v < 0 ∧ ¬ (7 ≤ u ∨ 7 ≤ v) then -(d u v) else c0 u v - d u v
theorem cst_rng (d : Int → Int → Int) (u v : Int) : -1 ≤ cst d u v ∧ cst d u v ≤ 1 := by
  unfold cst
  split
  · omega
  · split <;> omega
def Flo (n : Nat) (c0 d : Int → Int → Int) (pt : Int → Int) : Prop :=
  (∀ u v : Int, 0 ≤ u → u < n → 0 ≤ v → v < n → d u v = -(d v u)) ∧ (∀ u v : Int, 0 ≤ u → u < n → 0 ≤ v → v < n → d u v ≤ c0 u v) ∧
  (∀ u v : Int, 0 ≤ u → u < n → 0 ≤ v → v < n → d u v < c0 u v → pt v ≤ pt u + cst d u v)
def up2 (d : Int → Int → Int) (u v a : Int) : Int → Int → Int := fun x y => if x = u ∧ y = v then d x y + a else if x = v ∧ y = u then d x y - a else d x y
theorem up2_1 {d : Int → Int → Int} {u v a : Int} : up2 d u v a u v = d u v + a := if_pos ⟨rfl, rfl⟩
theorem up2_2 {d : Int → Int → Int} {u v a : Int} (h : u ≠ v) : up2 d u v a v u = d v u - a := by
  unfold up2
  rw [if_neg (fun q => h q.2), if_pos ⟨rfl, rfl⟩]
theorem up2_n {d : Int → Int → Int} {u v a x y : Int} (h1 : ¬ (x = u ∧ y = v)) (h2 : ¬ (x = v ∧ y = u)) : up2 d u v a x y = d x y := by
  unfold up2
  rw [if_neg h1, if_neg h2]
/-- the capacities: none below 0; towards source and sink in one direction only -/
def Cap0 (n : Nat) (c0 : Int → Int → Int) : Prop := (∀ u v : Int, 0 ≤ u → u < n → 0 ≤ v → v < n → 0 ≤ c0 u v) ∧ ∀ u v : Int, 0 ≤ u → u < n → 0 ≤ v → v < n → (7 ≤ u ∨ 7 ≤ v) → 0 < c0 v u → c0 u v = 0
section
variable {n : Nat} {c0 d : Int → Int → Int} {pt : Int → Int} {u v a : Int}
theorem rm_le (hc : Cap0 n c0) (hF : Flo n c0 d pt) (hu : 0 ≤ u ∧ u < n) (hv : 0 ≤ v ∧ v < n) (h : a ≤ rm_ c0 d u v) : d u v + a ≤ c0 u v ∧ (d u v < 0 → a ≤ -(d u v)) := by
  have h1 := hc.1 u v hu.1 hu.2 hv.1 hv.2
  unfold rm_ at h
  split at h
  · omega
  · refine ⟨by omega, fun q => ?_⟩
    have h2 := hF.1 u v hu.1 hu.2 hv.1 hv.2
    have h3 := hF.2.1 v u hv.1 hv.2 hu.1 hu.2
    have h4 := hc.2 u v hu.1 hu.2 hv.1 hv.2 (by omega) (by omega)
    omega
theorem aug_flo (hc : Cap0 n c0) (hF : Flo n c0 d pt) (hu : 0 ≤ u ∧ u < n) (hv : 0 ≤ v ∧ v < n) (huv : u ≠ v) (ht : pt v = pt u + cst d u v) (ha : 0 < a) (h : a ≤ rm_ c0 d u v) : Flo n c0 (up2 d u v a) pt := by
  obtain ⟨r1, r2⟩ := rm_le hc hF hu hv h
  obtain ⟨f1, f2, f3⟩ := hF
  have hvu : v ≠ u := fun e => huv e.symm
  have as := f1 u v hu.1 hu.2 hv.1 hv.2
  refine ⟨fun x y q1 q2 q3 q4 => ?_, fun x y q1 q2 q3 q4 => ?_, fun x y q1 q2 q3 q4 q5 => ?_⟩
  · by_cases c1 : x = u ∧ y = v
    · obtain ⟨rfl, rfl⟩ := c1
      rw [up2_1, up2_2 huv]
      omega
    · by_cases c2 : x = v ∧ y = u
      · obtain ⟨rfl, rfl⟩ := c2
        rw [up2_1, up2_2 huv]
        omega
      · rw [up2_n c1 c2, up2_n (fun q => c2 ⟨q.2, q.1⟩) (fun q => c1 ⟨q.2, q.1⟩)]
        exact f1 x y q1 q2 q3 q4
  · have := f2 x y q1 q2 q3 q4
    by_cases c1 : x = u ∧ y = v
    · obtain ⟨rfl, rfl⟩ := c1
      rw [up2_1]
      exact r1
    · by_cases c2 : x = v ∧ y = u
      · obtain ⟨rfl, rfl⟩ := c2
        rw [up2_2 huv]
        omega
      · rw [up2_n c1 c2]
        exact this
  · by_cases c1 : x = u ∧ y = v
    · obtain ⟨rfl, rfl⟩ := c1
      unfold cst at ht ⊢
      rw [up2_1]
      split at ht
      next e => rw [if_pos e]; omega
      next e =>
        rw [if_neg e]
        split at ht <;> split <;> omega
    · by_cases c2 : x = v ∧ y = u
      · obtain ⟨rfl, rfl⟩ := c2
        unfold cst at ht ⊢
        rw [up2_2 huv]
        split at ht
        next e => rw [if_pos (Or.comm.mp e)]; omega
        next e =>
          rw [if_neg (fun q => e (Or.comm.mp q))]
          split at ht <;> split <;> omega
      · rw [up2_n c1 c2] at q5
        have e : cst (up2 d u v a) x y = cst d x y := by
          unfold cst
          rw [up2_n c1 c2]
        rw [e]
        exact f3 x y q1 q2 q3 q4 q5
end
theorem sg2_one {f g : Int → Int → Int} {m n : Nat} {a b : Int} (ha : 0 ≤ a ∧ a < m) (hb : 0 ≤ b ∧ b < n) (h : ∀ u v : Int, 0 ≤ u → u < m → 0 ≤ v → v < n → ¬ (u = a ∧ v = b) → f u v = g u v) : sg (fun u => sg (f u) n) m = sg (fun u => sg (g u) n) m + (f a b - g a b) := by
  rw [sg_one (f := fun u => sg (f u) n) (g := fun u => sg (g u) n) ha.1 ha.2 (fun u q1 q2 e => sg_congr (fun v q3 q4 => h u v q1 q2 q3 q4 (fun q => e q.1)))]
  rw [sg_one (f := f a) (g := g a) hb.1 hb.2 (fun v q3 q4 e => h a v ha.1 ha.2 q3 q4 (fun q => e q.2))]
  omega
def cost (d : Int → Int → Int) : Int := sg (fun u => sg (fun v => pos (d u v)) 7) 7
theorem up2_pos {d : Int → Int → Int} {u v a : Int} (hu : 0 ≤ u ∧ u < 7) (hv : 0 ≤ v ∧ v < 7) (huv : u ≠ v) : cost (up2 d u v a) = cost d + (pos (d u v + a) - pos (d u v)) + (pos (d v u - a) - pos (d v u)) := by
  unfold cost
  have hvu : ¬ (u = v ∧ v = u) := fun q => huv q.1
  rw [sg2_one (f := fun x y => pos (up2 d u v a x y)) (g := fun x y => if x = v ∧ y = u then pos (d v u - a) else pos (d x y)) hu hv (fun x y q1 q2 q3 q4 e => by
    by_cases c : x = v ∧ y = u
    · obtain ⟨rfl, rfl⟩ := c
      rw [if_pos ⟨rfl, rfl⟩, up2_2 huv]
    · rw [if_neg c, up2_n e c])]
  rw [sg2_one (f := fun x y => if x = v ∧ y = u then pos (d v u - a) else pos (d x y)) (g := fun x y => pos (d x y)) hv hu (fun x y q1 q2 q3 q4 e => if_neg e)]
  simp only [up2_1, if_neg hvu, and_self, if_true]
  omega
theorem aug_cost {n : Nat} {c0 d : Int → Int → Int} {pt : Int → Int} {u v a : Int} (hc : Cap0 n c0) (hF : Flo n c0 d pt) (hu : 0 ≤ u ∧ u < n) (hv : 0 ≤ v ∧ v < n) (huv : u ≠ v) (ha : 0 < a) (h : a ≤ rm_ c0 d u v) : cost (up2 d u v a) = cost d + a * cst d u v := by
  obtain ⟨r1, r2⟩ := rm_le hc hF hu hv h
  have as := hF.1 u v hu.1 hu.2 hv.1 hv.2
  by_cases c : 7 ≤ u ∨ 7 ≤ v
  · have e : cst d u v = 0 := if_pos c
    rw [e, Int.mul_zero]
    unfold cost
    rw [Int.add_zero]
    refine sg_congr (fun x q1 q2 => sg_congr (fun y q3 q4 => ?_))
    rw [up2_n (by omega) (by omega)]
  · rw [up2_pos ⟨hu.1, by omega⟩ ⟨hv.1, by omega⟩ huv]
    have e : cst d u v = if d u v < 0 then -1 else 1 := if_neg c
    rw [e]
    by_cases c2 : d u v < 0
    · rw [if_pos c2]
      have := r2 c2
      unfold pos
      repeat' split
      all_goals omega
    · rw [if_neg c2]
      unfold pos
      repeat' split
      all_goals omega
theorem up2_row {d : Int → Int → Int} {n : Nat} {u v a x : Int} (hu : 0 ≤ u ∧ u < n) (hv : 0 ≤ v ∧ v < n) (huv : u ≠ v) : sg (up2 d u v a x) n = sg (d x) n + (if x = u then a else 0) - (if x = v then a else 0) := by
  by_cases c1 : x = u
  · subst c1
    rw [if_pos rfl, if_neg huv, sg_one (f := up2 d x v a x) (g := d x) hv.1 hv.2 (fun y q1 q2 e => up2_n (fun q => e q.2) (fun q => huv q.1)), up2_1]
    omega
  · by_cases c2 : x = v
    · subst c2
      rw [if_neg c1, if_pos rfl, sg_one (f := up2 d u x a x) (g := d x) hu.1 hu.2 (fun y q1 q2 e => up2_n (fun q => c1 q.1) (fun q => e q.2)), up2_2 huv]
      omega
    · rw [if_neg c1, if_neg c2, sg_congr (f := up2 d u v a x) (g := d x) (fun y q1 q2 => up2_n (fun q => c1 q.1) (fun q => c2 q.1))]
      omega
/-- cf leads back, each step tight -/
def Tre (n : Nat) (c0 d : Int → Int → Int) (dist cf dep : Int → Int) (INF : Int) : Prop := ∀ v : Int, 0 ≤ v → v < n → dist v < INF → 0 ≤ dep v ∧ dep v ≤ n - 1 ∧ (0 ≤ cf v → cf v < n ∧ d (cf v) v < c0 (cf v) v ∧ dist (cf v) < INF ∧ dist v = dist (cf v) + cst d (cf v) v ∧ dep (cf v) < dep v)
/-- before step i of sending a along the way that ends in b -/
def Aug (n : Nat) (c0 d d' : Int → Int → Int) (pt dist cf dep : Int → Int) (INF a b : Int) (i : Nat) : Prop :=
  Flo n c0 d' pt ∧ (∀ x : Int, 0 ≤ x → x < n → sg (d' x) n = sg (d x) n + (if x = itn cf b i then a else 0) - (if x = b then a else 0)) ∧
  (∀ x : Int, 0 ≤ x → x < n → dist x < INF → 0 ≤ cf x → dep x ≤ dep (itn cf b i) → d' (cf x) x = d (cf x) x) ∧
  cost d' = cost d + a * (dist b - dist (itn cf b i))
theorem aug_0 {n : Nat} {c0 d : Int → Int → Int} {pt dist cf dep : Int → Int} {INF a b : Int} (h : Flo n c0 d pt) : Aug n c0 d d pt dist cf dep INF a b 0 := by
  refine ⟨h, fun x _ _ => ?_, fun _ _ _ _ _ _ => rfl, ?_⟩
  · show _ = _ + (if x = b then a else 0) - (if x = b then a else 0)
    omega
  · show _ = _ + a * (dist b - dist b)
    rw [Int.sub_self, Int.mul_zero, Int.add_zero]
theorem aug_s {n : Nat} {c0 d d' : Int → Int → Int} {pt dist cf dep : Int → Int} {INF a b : Int} {i : Nat} (hc : Cap0 n c0) (hT : Tre n c0 d dist cf dep INF) (hpt : ∀ v : Int, dist v < INF → pt v = dist v) (h : Aug n c0 d d' pt dist cf dep INF a b i) (h0 : 0 ≤ itn cf b i) (h1 : itn cf b i < n) (h2 : dist (itn cf b i) < INF) (h3 : 0 ≤ cf (itn cf b i)) (ha : 0 < a) (hr : a ≤ rm_ c0 d (cf (itn cf b i)) (itn cf b i)) :
    d' (cf (itn cf b i)) (itn cf b i) = d (cf (itn cf b i)) (itn cf b i) ∧ Aug n c0 d (up2 d' (cf (itn cf b i)) (itn cf b i) a) pt dist cf dep INF a b (i + 1) := by
  obtain ⟨p1, p2, p3, p4⟩ := h
  obtain ⟨t1, t2, t3⟩ := hT _ h0 h1 h2
  obtain ⟨t4, t5, t6, t7, t8⟩ := t3 h3
  have hi : itn cf b (i + 1) = cf (itn cf b i) := rfl
  have same := p3 _ h0 h1 h2 h3 (Int.le_refl _)
  refine ⟨same, ?_⟩
  rw [Aug, hi]
  generalize itn cf b i = x at *
  generalize hu : cf x = u at *
  have hux : u ≠ x := fun e => by rw [e] at t8; omega
  have hcs : cst d' u x = cst d u x := by unfold cst; rw [same]
  have hrm : rm_ c0 d' u x = rm_ c0 d u x := by unfold rm_; rw [same]
  have htight : pt x = pt u + cst d' u x := by rw [hpt x h2, hpt u t6, hcs]; exact t7
  refine ⟨aug_flo hc p1 ⟨h3, t4⟩ ⟨h0, h1⟩ hux htight ha (by rw [hrm]; exact hr), fun y q1 q2 => ?_, fun y q1 q2 q3 q4 q5 => ?_, ?_⟩
  · rw [up2_row ⟨h3, t4⟩ ⟨h0, h1⟩ hux, p2 y q1 q2]
    omega
  · obtain ⟨s1, s2, s3⟩ := hT y q1 q2 q3
    obtain ⟨s4, s5, s6, s7, s8⟩ := s3 q4
    have hyx : y ≠ x := fun e => by rw [e] at q5; omega
    rw [up2_n (fun q => hyx q.2) (fun q => by
      have e2 : y = u := q.2
      rw [q.1, e2] at s8
      omega)]
    exact p3 y q1 q2 q3 q4 (by omega)
  · rw [aug_cost hc p1 ⟨h3, t4⟩ ⟨h0, h1⟩ hux ha (by rw [hrm]; exact hr), p4, hcs]
    have e : dist b - dist u = (dist b - dist x) + cst d u x := by omega
    rw [e, Int.mul_add]
    omega
/-- the least sum of debts is one number -/
def Opt (T P : Int → Int) (r : Int) : Prop := ∃ (d : Int → Int → Int) (pt : Int → Int), Flo 7 (mT T) d pt ∧ (∀ u : Int, 0 ≤ u → u < 7 → sg (d u) 7 = -(P u)) ∧ cost d = r
theorem opt_pair {x x' y y' c e : Int} (h1 : x = -y) (h2 : x' = -y') (hc : c = -1 ∨ c = 1) (hce : c = if x < 0 then -1 else 1) (hx : x < x') (he : e ≤ c) : (x' - x) * e ≤ pos x' + pos y' - pos x - pos y := by
  have h3 : (x' - x) * e ≤ (x' - x) * c := Int.mul_le_mul_of_nonneg_left he (by omega)
  have h4 : (x' - x) * c ≤ pos x' + pos y' - pos x - pos y := by
    unfold pos
    rcases hc with rfl | rfl
    · have : x < 0 := by
        by_cases q : x < 0
        · exact q
        · rw [if_neg q] at hce; omega
      repeat' split
      all_goals omega
    · have : ¬ x < 0 := fun q => by rw [if_pos q] at hce; omega
      repeat' split
      all_goals omega
  omega
theorem opt_le {T P : Int → Int} {d d' : Int → Int → Int} {pt pt' : Int → Int} (h : Flo 7 (mT T) d pt) (h' : Flo 7 (mT T) d' pt') (hr : ∀ u : Int, 0 ≤ u → u < 7 → sg (d u) 7 = sg (d' u) 7) : cost d ≤ cost d' := by
  have key : ∀ u v : Int, 0 ≤ u → u < 7 → 0 ≤ v → v < 7 → (d' u v - d u v) * (pt v - pt u) ≤ pos (d' u v) + pos (d' v u) - pos (d u v) - pos (d v u) := by
    intro u v q1 q2 q3 q4
    have a1 := h.1 u v q1 q2 q3 q4
    have a2 := h'.1 u v q1 q2 q3 q4
    have b1 := h'.2.1 u v q1 q2 q3 q4
    have b2 := h'.2.1 v u q3 q4 q1 q2
    have cc : ∀ x y : Int, 0 ≤ x → x < 7 → 0 ≤ y → y < 7 → cst d x y = if d x y < 0 then -1 else 1 := fun x y _ _ _ _ => if_neg (by omega)
    have c2 : ∀ x y : Int, (if d x y < 0 then (-1 : Int) else 1) = -1 ∨ (if d x y < 0 then (-1 : Int) else 1) = 1 := fun x y => by split <;> simp
    rcases Int.lt_trichotomy (d u v) (d' u v) with c | c | c
    · have e := h.2.2 u v q1 q2 q3 q4 (by omega)
      rw [cc u v q1 q2 q3 q4] at e
      exact opt_pair a1 a2 (c2 u v) rfl c (by omega)
    · have e1 : d' u v - d u v = 0 := by omega
      have e2 : d' v u = d v u := by omega
      rw [e1, e2, c, Int.zero_mul]
      omega
    · have e := h.2.2 v u q3 q4 q1 q2 (by omega)
      rw [cc v u q3 q4 q1 q2] at e
      have := opt_pair (x := d v u) (x' := d' v u) (y := d u v) (y' := d' u v) (c := if d v u < 0 then -1 else 1) (e := pt u - pt v) (by omega) (by omega) (c2 v u) rfl (by omega) (by omega)
      have e3 : (d' u v - d u v) * (pt v - pt u) = (d' v u - d v u) * (pt u - pt v) := by
        rw [show d' u v - d u v = -(d' v u - d v u) by omega, show pt v - pt u = -(pt u - pt v) by omega, Int.neg_mul_neg]
      omega
  have hsum : sg (fun u => sg (fun v => (d' u v - d u v) * (pt v - pt u)) 7) 7 ≤ sg (fun u => sg (fun v => pos (d' u v) + pos (d' v u) - pos (d u v) - pos (d v u)) 7) 7 := sg_le (fun u q1 q2 => sg_le (fun v q3 q4 => key u v q1 q2 q3 q4))
  have sw : ∀ x : Int → Int → Int, sg (fun u => sg (fun v => pos (x v u)) 7) 7 = cost x := fun x => by
    rw [sg_swap]
    rfl
  have e1 : sg (fun u => sg (fun v => pos (d' u v) + pos (d' v u) - pos (d u v) - pos (d v u)) 7) 7 = cost d' + cost d' - cost d - cost d := by
    have s1 : sg (fun u => sg (fun v => pos (d' u v) + pos (d' v u) - pos (d u v) - pos (d v u)) 7) 7 = cost d' + sg (fun u => sg (fun v => pos (d' v u)) 7) 7 - cost d - sg (fun u => sg (fun v => pos (d v u)) 7) 7 := by
      unfold cost
      rw [← sg_add, ← sg_sub, ← sg_sub]
      refine sg_congr (fun u _ _ => ?_)
      rw [← sg_add, ← sg_sub, ← sg_sub]
    rw [s1, sw, sw]
  have row0 : ∀ u : Int, 0 ≤ u → u < 7 → sg (fun v => d' u v - d u v) 7 = 0 := fun u q1 q2 => by
    rw [sg_sub]
    have := hr u q1 q2
    have e1 : sg (fun v => d' u v) 7 = sg (d' u) 7 := rfl
    have e2 : sg (fun v => d u v) 7 = sg (d u) 7 := rfl
    omega
  have col0 : ∀ v : Int, 0 ≤ v → v < 7 → sg (fun u => d' u v - d u v) 7 = 0 := fun v q1 q2 => by
    have e : sg (fun u => d' u v - d u v) 7 = sg (fun u => (-1) * (d' v u - d v u)) 7 := sg_congr (fun u q3 q4 => by
      have a1 := h.1 u v q3 q4 q1 q2
      have a2 := h'.1 u v q3 q4 q1 q2
      omega)
    rw [e, sg_mul, row0 v q1 q2]
    rfl
  have e2 : sg (fun u => sg (fun v => (d' u v - d u v) * (pt v - pt u)) 7) 7 = 0 := by
    have s1 : sg (fun u => sg (fun v => (d' u v - d u v) * (pt v - pt u)) 7) 7 = sg (fun u => sg (fun v => pt v * (d' u v - d u v)) 7) 7 - sg (fun u => sg (fun v => pt u * (d' u v - d u v)) 7) 7 := by
      rw [← sg_sub]
      refine sg_congr (fun u _ _ => ?_)
      rw [← sg_sub]
      refine sg_congr (fun v _ _ => ?_)
      rw [Int.mul_sub, Int.mul_comm (pt v), Int.mul_comm (pt u)]
    have s2 : sg (fun u => sg (fun v => pt u * (d' u v - d u v)) 7) 7 = 0 := sg_zero (fun u q1 q2 => by rw [sg_mul, row0 u q1 q2, Int.mul_zero])
    have s3 : sg (fun u => sg (fun v => pt v * (d' u v - d u v)) 7) 7 = 0 := by
      rw [sg_swap]
      exact sg_zero (fun v q1 q2 => by rw [sg_mul, col0 v q1 q2, Int.mul_zero])
    rw [s1, s2, s3]
    rfl
  omega
theorem opt_uniq {T P : Int → Int} {r r' : Int} (h : Opt T P r) (h' : Opt T P r') : r = r' := by
  obtain ⟨d, pt, h1, h2, h3⟩ := h
  obtain ⟨d', pt', h1', h2', h3'⟩ := h'
  have q1 := opt_le (P := P) h1 h1' (fun u a b => by rw [h2 u a b, h2' u a b])
  have q2 := opt_le (P := P) h1' h1 (fun u a b => by rw [h2 u a b, h2' u a b])
  omega
end
section
/-! ===== CreditNetwork: isMember, arePair, copyFree, keepWork ===== -/
set_option maxRecDepth 10000
theorem x_isMember (u : Int) (hu : -2147483648 ≤ u ∧ u ≤ 2147483647) : c_meti xW yX0_isMember cX0_isMember 1 .boolean (rk 0) false [u] (fun _ => True) (fun S z S' => S' = S ∧ z = if 0 ≤ u ∧ u < 7 then 1 else 0) := by
  refine c_meti_of (own := RX0) (by decide) rfl xW_fst (fun _ => by simp [c_args]) ?_
  intro E h S0 hE hR _ hret
  show G E cX0_isMember 1 S0 0 [some (.inl u)] []
  refine g_iload_n 1 dX0_isMember_0 rfl rfl ?_
  refine g_if_lt 14 4 dX0_isMember_1 (by decide) rfl (by omega) (fun h1 => ?_) (fun h1 => ?_)
  · refine g_iconst 15 dX0_isMember_14 rfl ?_
    exact hret _ _ _ _ dX0_isMember_15 rfl ⟨rfl, by rw [if_neg (by omega)]⟩
  · refine g_iload_n 5 dX0_isMember_4 rfl rfl ?_
    refine g_bipush 7 dX0_isMember_5 rfl (by decide) ?_
    refine g_icmp_ge 14 10 dX0_isMember_7 (by decide) rfl (by omega) (by omega) (fun h2 => ?_) (fun h2 => ?_)
    · refine g_iconst 15 dX0_isMember_14 rfl ?_
      exact hret _ _ _ _ dX0_isMember_15 rfl ⟨rfl, by rw [if_neg (by omega)]⟩
    · refine g_iconst 11 dX0_isMember_10 rfl ?_
      refine g_goto 15 dX0_isMember_11 (by decide) ?_
      exact hret _ _ _ _ dX0_isMember_15 rfl ⟨rfl, by rw [if_pos (by omega)]⟩
def isPr (u v : Int) : Prop := (0 ≤ u ∧ u < 7) ∧ (0 ≤ v ∧ v < 7) ∧ u ≠ v
theorem x_arePair (u v : Int) (hu : -2147483648 ≤ u ∧ u ≤ 2147483647) (hv : -2147483648 ≤ v ∧ v ≤ 2147483647) : c_meti xW yX0_arePair cX0_arePair 2 .boolean (rk 1) false [u, v] (fun _ => True) (fun S z S' => S' = S ∧ ((z = 1 ∧ isPr u v) ∨ (z = 0 ∧ ¬ isPr u v))) := by
  refine c_meti_of (own := RX0) (by decide) rfl xW_fst (fun _ => by simp [c_args]) ?_
  intro E h S0 hE hR _ hret
  show G E cX0_arePair 2 S0 0 [some (.inl u), some (.inl v)] []
  unfold isPr at hret
  refine g_iload_n 1 dX0_arePair_0 rfl rfl ?_
  refine g_calls (na := 1) (x_isMember u hu) (lw_S q83 q84 q25 q85) (by decide +kernel) rfl ⟨rfl, rfl⟩ hE (by rw [hR]; decide) 4 dX0_arePair_1 rfl [] rfl (by simp) trivial (fun z S hz => ?_)
  obtain ⟨rfl, hz⟩ := hz
  refine g_if_eq 23 7 dX0_arePair_4 (by decide) rfl (by rw [hz]; split <;> decide) (fun h1 => ?_) (fun h1 => ?_)
  · have h1 : ¬ (0 ≤ u ∧ u < 7) := fun q => by rw [hz, if_pos q] at h1; omega
    refine g_iconst 24 dX0_arePair_23 rfl ?_
    exact hret _ _ _ _ dX0_arePair_24 rfl ⟨rfl, Or.inr ⟨rfl, by omega⟩⟩
  · have h1 : 0 ≤ u ∧ u < 7 := Decidable.byContradiction (fun q => by rw [hz, if_neg q] at h1; omega)
    refine g_iload_n 8 dX0_arePair_7 rfl rfl ?_
    refine g_calls (na := 1) (x_isMember v hv) (lw_S q83 q84 q25 q85) (by decide +kernel) rfl ⟨rfl, rfl⟩ hE (by rw [hR]; decide) 11 dX0_arePair_8 rfl [] rfl (by simp) trivial (fun z2 S hz2 => ?_)
    obtain ⟨rfl, hz2⟩ := hz2
    refine g_if_eq 23 14 dX0_arePair_11 (by decide) rfl (by rw [hz2]; split <;> decide) (fun h2 => ?_) (fun h2 => ?_)
    · have h2 : ¬ (0 ≤ v ∧ v < 7) := fun q => by rw [hz2, if_pos q] at h2; omega
      refine g_iconst 24 dX0_arePair_23 rfl ?_
      exact hret _ _ _ _ dX0_arePair_24 rfl ⟨rfl, Or.inr ⟨rfl, by omega⟩⟩
    · have h2 : 0 ≤ v ∧ v < 7 := Decidable.byContradiction (fun q => by rw [hz2, if_neg q] at h2; omega)
      refine g_iload_n 15 dX0_arePair_14 rfl rfl ?_
      refine g_iload_n 16 dX0_arePair_15 rfl rfl ?_
      refine g_icmp_eq 23 19 dX0_arePair_16 (by decide) rfl (by omega) (by omega) (fun h3 => ?_) (fun h3 => ?_)
      · refine g_iconst 24 dX0_arePair_23 rfl ?_
        exact hret _ _ _ _ dX0_arePair_24 rfl ⟨rfl, Or.inr ⟨rfl, by omega⟩⟩
      · refine g_iconst 20 dX0_arePair_19 rfl ?_
        refine g_goto 24 dX0_arePair_20 (by decide) ?_
        exact hret _ _ _ _ dX0_arePair_24 rfl ⟨rfl, Or.inl ⟨rfl, h1, h2, h3⟩⟩
theorem x_copyFree : c_metv xW yX0_copyFree cX0_copyFree 2 (rk 0) true [] (fun _ => True) (fun S S' => (∀ j : Int, 0 ≤ j → j < 81 → S' 7 j = S 2 j) ∧ ∀ k, k ≠ 7 → S' k = S k) := by
  refine c_metv_of (own := RX0) (by decide) rfl xW_fst (fun _ => by simp [c_args]) ?_
  intro E h S0 hE hR _ hret
  show G E cX0_copyFree 2 S0 0 [some (.inr (h 0)), none] []
  refine g_iconst 1 dX0_copyFree_0 rfl ?_
  refine g_istore_n 2 dX0_copyFree_1 rfl (by decide) ?_
  suffices loop : ∀ (n : Nat) (i : Int) (S : st_T), 0 ≤ i → i ≤ 81 → 81 - i < n → (∀ j : Int, 0 ≤ j → j < i → S 7 j = S0 2 j) → (∀ k, k ≠ 7 → S k = S0 k) → G E cX0_copyFree 2 S 2 [some (.inr (h 0)), some (.inl i)] [] from loop 82 0 S0 (by decide) (by decide) (by decide) (fun j a b => by omega) (fun _ _ => rfl)
  intro n
  induction n with
  | zero => intro i S h0 h1 hn; omega
  | succ n ih =>
    intro i S h0 h1 hn hw hk
    refine g_iload_n 3 dX0_copyFree_2 rfl rfl ?_
    refine g_bipush 5 dX0_copyFree_3 rfl (by decide) ?_
    refine g_icmp_ge 26 8 dX0_copyFree_5 (by decide) rfl (by omega) (by omega) (fun hc => ?_) (fun hc => ?_)
    · exact hret _ _ _ dX0_copyFree_26 ⟨fun j a b => hw j a (by omega), hk⟩
    · refine g_aload_n 9 dX0_copyFree_8 rfl rfl ?_
      refine xg_work hE 12 dX0_copyFree_9 rfl ?_
      refine g_iload_n 13 dX0_copyFree_12 rfl rfl ?_
      refine g_aload_n 14 dX0_copyFree_13 rfl rfl ?_
      refine xg_free hE 17 dX0_copyFree_14 rfl ?_
      refine g_iload_n 18 dX0_copyFree_17 rfl rfl ?_
      refine xl_free hE 19 dX0_copyFree_18 rfl (by omega) ?_
      refine xs_work hE 20 dX0_copyFree_19 rfl (by omega) ?_
      refine g_iinc 23 dX0_copyFree_20 rfl (by decide) rfl ?_
      refine g_goto 2 dX0_copyFree_23 (by decide) ?_
      refine ih (i + 1) _ (by omega) (by omega) (by omega) (fun j a b => ?_) (fun k q => ?_)
      · rw [us_s]
        by_cases e : j = i
        · subst e
          rw [ua_s, hk 2 (by decide)]
        · rw [ua_n e]
          exact hw j a (by omega)
      · rw [us_n q]
        exact hk k q
theorem x_keepWork : c_metv xW yX0_keepWork cX0_keepWork 3 (rk 0) true [] (fun _ => True) (fun S S' => (∀ u v : Int, 0 ≤ u → u < 7 → 0 ≤ v → v < 7 → S' 2 (9 * u + v) = S 7 (9 * u + v)) ∧ (∀ j : Int, 0 ≤ j → j < 81 → (7 ≤ j / 9 ∨ 7 ≤ j % 9) → S' 2 j = S 2 j) ∧ ∀ k, k ≠ 2 → S' k = S k) := by
  refine c_metv_of (own := RX0) (by decide) rfl xW_fst (fun _ => by simp [c_args]) ?_
  intro E h S0 hE hR _ hret
  show G E cX0_keepWork 3 S0 0 [some (.inr (h 0)), none, none] []
  refine g_iconst 1 dX0_keepWork_0 rfl ?_
  refine g_istore_n 2 dX0_keepWork_1 rfl (by decide) ?_
  suffices loop : ∀ (n : Nat) (u : Int) (x : Option pv) (S : st_T), 0 ≤ u → u ≤ 7 → 7 - u < n → (∀ a b : Int, 0 ≤ a → a < u → 0 ≤ b → b < 7 → S 2 (9 * a + b) = S0 7 (9 * a + b)) → (∀ j : Int, 0 ≤ j → j < 81 → (7 ≤ j / 9 ∨ 7 ≤ j % 9) → S 2 j = S0 2 j) → (∀ k, k ≠ 2 → S k = S0 k) → G E cX0_keepWork 3 S 2 [some (.inr (h 0)), some (.inl u), x] [] from loop 8 0 _ S0 (by decide) (by decide) (by decide) (fun j a b => by omega) (fun _ _ _ _ => rfl) (fun _ _ => rfl)
  intro n
  induction n with
  | zero => intro u x S h0 h1 hn; omega
  | succ n ih =>
    intro u x S h0 h1 hn hw hz hk
    refine g_iload_n 3 dX0_keepWork_2 rfl rfl ?_
    refine g_bipush 5 dX0_keepWork_3 rfl (by decide) ?_
    refine g_icmp_ge 50 8 dX0_keepWork_5 (by decide) rfl (by omega) (by omega) (fun hc => ?_) (fun hc => ?_)
    · exact hret _ _ _ dX0_keepWork_50 ⟨fun a b q1 q2 q3 q4 => hw a b q1 (by omega) q3 q4, hz, hk⟩
    · refine g_iconst 9 dX0_keepWork_8 rfl ?_
      refine g_istore_n 10 dX0_keepWork_9 rfl (by decide) ?_
      suffices loop2 : ∀ (n : Nat) (v : Int) (S : st_T), 0 ≤ v → v ≤ 7 → 7 - v < n → (∀ a b : Int, 0 ≤ a → a < 7 → 0 ≤ b → b < 7 → (a < u ∨ (a = u ∧ b < v)) → S 2 (9 * a + b) = S0 7 (9 * a + b)) → (∀ j : Int, 0 ≤ j → j < 81 → (7 ≤ j / 9 ∨ 7 ≤ j % 9) → S 2 j = S0 2 j) → (∀ k, k ≠ 2 → S k = S0 k) → G E cX0_keepWork 3 S 10 [some (.inr (h 0)), some (.inl u), some (.inl v)] [] from loop2 8 0 S (by decide) (by decide) (by decide) (fun a b q1 q2 q3 q4 q5 => hw a b q1 (by omega) q3 q4) hz hk
      intro n2
      induction n2 with
      | zero => intro v S h0 h1 hn; omega
      | succ n2 ih2 =>
        intro v S g0 g1 gn hw hz hk
        refine g_iload_n 11 dX0_keepWork_10 rfl rfl ?_
        refine g_bipush 13 dX0_keepWork_11 rfl (by decide) ?_
        refine g_icmp_ge 44 16 dX0_keepWork_13 (by decide) rfl (by omega) (by omega) (fun hc2 => ?_) (fun hc2 => ?_)
        · refine g_iinc 47 dX0_keepWork_44 rfl (by decide) rfl ?_
          refine g_goto 2 dX0_keepWork_47 (by decide) ?_
          exact ih (u + 1) _ S (by omega) (by omega) (by omega) (fun a b q1 q2 q3 q4 => hw a b q1 (by omega) q3 q4 (by omega)) hz hk
        · refine g_aload_n 17 dX0_keepWork_16 rfl rfl ?_
          refine xg_free hE 20 dX0_keepWork_17 rfl ?_
          refine g_bipush 22 dX0_keepWork_20 rfl (by decide) ?_
          refine g_iload_n 23 dX0_keepWork_22 rfl rfl ?_
          refine g_imul 24 dX0_keepWork_23 rfl ?_
          refine g_iload_n 25 dX0_keepWork_24 rfl rfl ?_
          refine g_iadd 26 dX0_keepWork_25 rfl ?_
          refine g_aload_n 27 dX0_keepWork_26 rfl rfl ?_
          refine xg_work hE 30 dX0_keepWork_27 rfl ?_
          refine g_bipush 32 dX0_keepWork_30 rfl (by decide) ?_
          refine g_iload_n 33 dX0_keepWork_32 rfl rfl ?_
          refine g_imul 34 dX0_keepWork_33 rfl ?_
          refine g_iload_n 35 dX0_keepWork_34 rfl rfl ?_
          refine g_iadd 36 dX0_keepWork_35 rfl ?_
          refine xl_work hE 37 dX0_keepWork_36 rfl (by omega) ?_
          refine xs_free hE 38 dX0_keepWork_37 rfl (by omega) ?_
          refine g_iinc 41 dX0_keepWork_38 rfl (by decide) rfl ?_
          refine g_goto 10 dX0_keepWork_41 (by decide) ?_
          refine ih2 (v + 1) _ (by omega) (by omega) (by omega) (fun a b q1 q2 q3 q4 q5 => ?_) (fun j q1 q2 q3 => ?_) (fun k q => ?_)
          · rw [us_s]
            by_cases e : a = u ∧ b = v
            · obtain ⟨rfl, rfl⟩ := e
              rw [ua_s, hk 7 (by decide)]
            · rw [ua_n (by omega)]
              exact hw a b q1 q2 q3 q4 (by omega)
          · rw [us_s, ua_n (by omega)]
            exact hz j q1 q2 q3
          · rw [us_n q]
            exact hk k q
end
section
/-! ===== CreditNetwork: findWay, narrowest, push ===== -/
set_option maxRecDepth 10000
theorem x_findWay (a b : Int) (ha : 0 ≤ a ∧ a < 9) (hb : 0 ≤ b ∧ b < 9) : c_meti xW yX0_findWay cX0_findWay 7 .boolean (rk 0) true [a, b] (fun S => ∀ j : Int, 0 ≤ j → j < 81 → -2147483648 ≤ S 7 j ∧ S 7 j ≤ 2147483647) (fun S z S' => (∀ k, k ≠ 9 → k ≠ 10 → S' k = S k) ∧ ((z = 1 ∧ Way (S 7) (S' 9) a b) ∨ (z = 0 ∧ ∃ zz : Int → Bool, zz a = true ∧ zz b = false ∧ ∀ u y : Int, 0 ≤ u → u < 9 → 0 ≤ y → y < 9 → zz u = true → zz y = false → S 7 (9 * u + y) ≤ 0))) := by
  refine c_meti_of (own := RX0) (by decide) rfl xW_fst (fun _ => by simp [c_args]) ?_
  intro E h S0 hE hR hB hret
  show G E cX0_findWay 7 S0 0 [some (.inr (h 0)), some (.inl a), some (.inl b), none, none, none, none] []
  have fin : ∀ (S : st_T) (ps : Int → Int) (put at_ : Int) (x5 x6 : Option pv), (∀ k, k ≠ 9 → k ≠ 10 → S k = S0 k) → Bfs (S0 7) (S 9) (S 10) ps a put at_ 0 → put ≤ at_ → G E cX0_findWay 7 S 130 [some (.inr (h 0)), some (.inl a), some (.inl b), some (.inl put), some (.inl at_), x5, x6] [] := by
    intro S ps put at_ x5 x6 hk hb2 hat
    refine g_aload_n 131 dX0_findWay_130 rfl rfl ?_
    refine xg_cameFrom hE 134 dX0_findWay_131 rfl ?_
    refine g_iload_n 135 dX0_findWay_134 rfl rfl ?_
    refine xl_cameFrom hE 136 dX0_findWay_135 rfl (by omega) ?_
    have hcf := hb2.2.2.2.1 b hb.1 hb.2
    refine g_if_lt 143 139 dX0_findWay_136 (by decide) rfl (by omega) (fun hc => ?_) (fun hc => ?_)
    · refine g_iconst 144 dX0_findWay_143 rfl ?_
      exact hret _ _ _ _ dX0_findWay_144 rfl ⟨hk, Or.inr ⟨rfl, bfs_cut hb2 ha.1 hat hc⟩⟩
    · refine g_iconst 140 dX0_findWay_139 rfl ?_
      refine g_goto 144 dX0_findWay_140 (by decide) ?_
      exact hret _ _ _ _ dX0_findWay_144 rfl ⟨hk, Or.inl ⟨rfl, bfs_way hb2 hc⟩⟩
  have loop2 : ∀ (n : Nat) (S : st_T) (ps : Int → Int) (put at_ : Int) (x5 x6 : Option pv), 0 ≤ at_ → at_ ≤ 9 → 9 - at_ < n → (∀ k, k ≠ 9 → k ≠ 10 → S k = S0 k) → Bfs (S0 7) (S 9) (S 10) ps a put at_ 0 → G E cX0_findWay 7 S 40 [some (.inr (h 0)), some (.inl a), some (.inl b), some (.inl put), some (.inl at_), x5, x6] [] := by
    intro n
    induction n with
    | zero => intro S ps put at_ x5 x6 h0 h1 hn; omega
    | succ n ih =>
      intro S ps put at_ x5 x6 h0 h1 hn hk hb2
      have hp := hb2.1
      refine g_iload 42 dX0_findWay_40 rfl rfl ?_
      refine g_iload_n 43 dX0_findWay_42 rfl rfl ?_
      refine g_icmp_ge 130 46 dX0_findWay_43 (by decide) rfl (by omega) (by omega) (fun hc1 => ?_) (fun hc1 => ?_)
      · exact fin S ps put at_ _ _ hk hb2 hc1
      · refine g_iload 48 dX0_findWay_46 rfl rfl ?_
        refine g_bipush 50 dX0_findWay_48 rfl (by decide) ?_
        refine g_icmp_ge 130 53 dX0_findWay_50 (by decide) rfl (by omega) (by omega) (fun hc2 => ?_) (fun hc2 => ?_)
        · exact fin S ps put at_ _ _ hk hb2 (by omega)
        · refine g_aload_n 54 dX0_findWay_53 rfl rfl ?_
          refine xg_line hE 57 dX0_findWay_54 rfl ?_
          refine g_iload 59 dX0_findWay_57 rfl rfl ?_
          refine xl_line hE 60 dX0_findWay_59 rfl (by omega) ?_
          refine g_istore 62 dX0_findWay_60 rfl (by decide) ?_
          refine g_iconst 63 dX0_findWay_62 rfl ?_
          refine g_istore 65 dX0_findWay_63 rfl (by decide) ?_
          suffices loop3 : ∀ (n : Nat) (S : st_T) (ps : Int → Int) (put u v : Int), 0 ≤ v → v ≤ 9 → 9 - v < n → (∀ k, k ≠ 9 → k ≠ 10 → S k = S0 k) → Bfs (S0 7) (S 9) (S 10) ps a put at_ v → at_ < put → u = S 10 at_ → G E cX0_findWay 7 S 65 [some (.inr (h 0)), some (.inl a), some (.inl b), some (.inl put), some (.inl at_), some (.inl u), some (.inl v)] [] from loop3 10 S ps put _ 0 (by decide) (by decide) (by decide) hk hb2 hc1 rfl
          intro n2
          induction n2 with
          | zero => intro S ps put u v g0 g1 gn; omega
          | succ n2 ih2 =>
            intro S ps put u v g0 g1 gn hk hb2 hap hu
            have hp := hb2.1
            have hu2 := hb2.2.2.1 at_ h0 hap
            rw [← hu] at hu2
            have e7 : S 7 = S0 7 := hk 7 (by decide) (by decide)
            refine g_iload 67 dX0_findWay_65 rfl rfl ?_
            refine g_bipush 69 dX0_findWay_67 rfl (by decide) ?_
            refine g_icmp_ge 124 72 dX0_findWay_69 (by decide) rfl (by omega) (by omega) (fun hc3 => ?_) (fun hc3 => ?_)
            · refine g_iinc 127 dX0_findWay_124 rfl (by decide) rfl ?_
              refine g_goto 40 dX0_findWay_127 (by decide) ?_
              have hv : v = 9 := by omega
              subst hv
              exact ih S ps put (at_ + 1) _ _ (by omega) (by omega) (by omega) hk (bfs_next hb2)
            · refine g_aload_n 73 dX0_findWay_72 rfl rfl ?_
              refine xg_work hE 76 dX0_findWay_73 rfl ?_
              refine g_bipush 78 dX0_findWay_76 rfl (by decide) ?_
              refine g_iload 80 dX0_findWay_78 rfl rfl ?_
              refine g_imul 81 dX0_findWay_80 rfl ?_
              refine g_iload 83 dX0_findWay_81 rfl rfl ?_
              refine g_iadd 84 dX0_findWay_83 rfl ?_
              refine xl_work hE 85 dX0_findWay_84 rfl (by omega) ?_
              refine g_if_le 118 88 dX0_findWay_85 (by decide) rfl (by rw [e7]; exact hB _ (by omega) (by omega)) (fun hc4 => ?_) (fun hc4 => ?_)
              · refine g_iinc 121 dX0_findWay_118 rfl (by decide) rfl ?_
                refine g_goto 65 dX0_findWay_121 (by decide) ?_
                exact ih2 S ps put u (v + 1) (by omega) (by omega) (by omega) hk (bfs_old hb2 (by rw [← hu, ← e7]; omega)) hap hu
              · refine g_aload_n 89 dX0_findWay_88 rfl rfl ?_
                refine xg_cameFrom hE 92 dX0_findWay_89 rfl ?_
                refine g_iload 94 dX0_findWay_92 rfl rfl ?_
                refine xl_cameFrom hE 95 dX0_findWay_94 rfl (by omega) ?_
                have hcf := hb2.2.2.2.1 v g0 (by omega)
                refine g_if_ge 118 98 dX0_findWay_95 (by decide) rfl (by omega) (fun hc5 => ?_) (fun hc5 => ?_)
                · refine g_iinc 121 dX0_findWay_118 rfl (by decide) rfl ?_
                  refine g_goto 65 dX0_findWay_121 (by decide) ?_
                  exact ih2 S ps put u (v + 1) (by omega) (by omega) (by omega) hk (bfs_old hb2 (by omega)) hap hu
                · have hnew := bfs_new hb2 ⟨h0, hap⟩ ⟨g0, by omega⟩ (by rw [← hu, ← e7]; exact hc4) hc5
                  have hput := hnew.1
                  rw [← hu] at hnew
                  refine g_aload_n 99 dX0_findWay_98 rfl rfl ?_
                  refine xg_cameFrom hE 102 dX0_findWay_99 rfl ?_
                  refine g_iload 104 dX0_findWay_102 rfl rfl ?_
                  refine g_iload 106 dX0_findWay_104 rfl rfl ?_
                  refine xs_cameFrom hE 107 dX0_findWay_106 rfl (by omega) ?_
                  refine g_aload_n 108 dX0_findWay_107 rfl rfl ?_
                  refine xg_line hE 111 dX0_findWay_108 rfl ?_
                  refine g_iload_n 112 dX0_findWay_111 rfl rfl ?_
                  refine g_iload 114 dX0_findWay_112 rfl rfl ?_
                  refine xs_line hE 115 dX0_findWay_114 rfl (by omega) ?_
                  refine g_iinc 118 dX0_findWay_115 rfl (by decide) rfl ?_
                  refine g_iinc 121 dX0_findWay_118 rfl (by decide) rfl ?_
                  refine g_goto 65 dX0_findWay_121 (by decide) ?_
                  refine ih2 _ (ua ps v put) (put + 1) u (v + 1) (by omega) (by omega) (by omega) (fun k q1 q2 => ?_) hnew.2 (by omega) ?_
                  · rw [us_n q2, us_n q1]
                    exact hk k q1 q2
                  · rw [us_s, us_n (by decide), ua_n (by omega)]
                    exact hu
  refine g_iconst 1 dX0_findWay_0 rfl ?_
  refine g_istore_n 2 dX0_findWay_1 rfl (by decide) ?_
  suffices loop : ∀ (n : Nat) (i : Int) (S : st_T), 0 ≤ i → i ≤ 9 → 9 - i < n → (∀ j : Int, 0 ≤ j → j < i → S 9 j = -1) → (∀ k, k ≠ 9 → k ≠ 10 → S k = S0 k) → G E cX0_findWay 7 S 2 [some (.inr (h 0)), some (.inl a), some (.inl b), some (.inl i), none, none, none] [] from loop 10 0 S0 (by decide) (by decide) (by decide) (fun j a b => by omega) (fun _ _ _ => rfl)
  intro n
  induction n with
  | zero => intro i S h0 h1 hn; omega
  | succ n ih =>
    intro i S h0 h1 hn hw hk
    refine g_iload_n 3 dX0_findWay_2 rfl rfl ?_
    refine g_bipush 5 dX0_findWay_3 rfl (by decide) ?_
    refine g_icmp_ge 21 8 dX0_findWay_5 (by decide) rfl (by omega) (by omega) (fun hc => ?_) (fun hc => ?_)
    · refine g_aload_n 22 dX0_findWay_21 rfl rfl ?_
      refine xg_cameFrom hE 25 dX0_findWay_22 rfl ?_
      refine g_iload_n 26 dX0_findWay_25 rfl rfl ?_
      refine g_iload_n 27 dX0_findWay_26 rfl rfl ?_
      refine xs_cameFrom hE 28 dX0_findWay_27 rfl (by omega) ?_
      refine g_aload_n 29 dX0_findWay_28 rfl rfl ?_
      refine xg_line hE 32 dX0_findWay_29 rfl ?_
      refine g_iconst 33 dX0_findWay_32 rfl ?_
      refine g_iload_n 34 dX0_findWay_33 rfl rfl ?_
      refine xs_line hE 35 dX0_findWay_34 rfl (by omega) ?_
      refine g_iconst 36 dX0_findWay_35 rfl ?_
      refine g_istore_n 37 dX0_findWay_36 rfl (by decide) ?_
      refine g_iconst 38 dX0_findWay_37 rfl ?_
      refine g_istore 40 dX0_findWay_38 rfl (by decide) ?_
      refine loop2 10 _ (fun _ => 0) 1 0 _ _ (by decide) (by decide) (by decide) (fun k q1 q2 => ?_) ?_
      · rw [us_n q2, us_n q1]
        exact hk k q1 q2
      · exact bfs_0 ha (fun x q1 q2 => hw x q1 (by omega))
    · refine g_aload_n 9 dX0_findWay_8 rfl rfl ?_
      refine xg_cameFrom hE 12 dX0_findWay_9 rfl ?_
      refine g_iload_n 13 dX0_findWay_12 rfl rfl ?_
      refine g_iconst 14 dX0_findWay_13 rfl ?_
      refine xs_cameFrom hE 15 dX0_findWay_14 rfl (by omega) ?_
      refine g_iinc 18 dX0_findWay_15 rfl (by decide) rfl ?_
      refine g_goto 2 dX0_findWay_18 (by decide) ?_
      refine ih (i + 1) _ (by omega) (by omega) (by omega) (fun j q1 q2 => ?_) (fun k q1 q2 => ?_)
      · rw [us_s]
        by_cases e : j = i
        · subst e
          rw [ua_s]
        · rw [ua_n e]
          exact hw j q1 (by omega)
      · rw [us_n q1]
        exact hk k q1 q2
theorem x_narrowest (a b : Int) (ha : 0 ≤ a ∧ a < 9) (hb : 0 ≤ b ∧ b < 9) : c_meti xW yX0_narrowest cX0_narrowest 8 .int (rk 0) true [a, b] (fun S => Way (S 7) (S 9) a b ∧ ∀ j : Int, 0 ≤ j → j < 81 → 0 ≤ S 7 j ∧ S 7 j ≤ 2147483647) (fun S z S' => S' = S ∧ 1 ≤ z ∧ z ≤ 1000000 ∧ ∀ k : Nat, itn (S 9) b k ≠ a → z ≤ S 7 (9 * S 9 (itn (S 9) b k) + itn (S 9) b k)) := by
  refine c_meti_of (own := RX0) (by decide) rfl xW_fst (fun _ => by simp [c_args]) ?_
  intro E h S hE hR hpre hret
  obtain ⟨⟨dep, hw⟩, hB⟩ := hpre
  show G E cX0_narrowest 8 S 0 [some (.inr (h 0)), some (.inl a), some (.inl b), none, none, none, none, none] []
  have fin : ∀ (i : Nat) (least : Int) (x4 x5 x6 x7 : Option pv), (1 ≤ least ∧ least ≤ 1000000) → (∀ k : Nat, k < i → itn (S 9) b k ≠ a → least ≤ S 7 (9 * S 9 (itn (S 9) b k) + itn (S 9) b k)) → itn (S 9) b i = a → G E cX0_narrowest 8 S 69 [some (.inr (h 0)), some (.inl a), some (.inl b), some (.inl least), x4, x5, x6, x7] [] := by
    intro i least x4 x5 x6 x7 h1 h2 h3
    refine g_iload_n 70 dX0_narrowest_69 rfl rfl ?_
    refine hret _ _ _ _ dX0_narrowest_70 rfl ⟨rfl, h1.1, h1.2, fun k hk => ?_⟩
    rcases Nat.lt_or_ge k i with c | c
    · exact h2 k c hk
    · exact absurd (itn_a hw.1 h3 k c) hk
  refine g_ldc hE (1000000) 2 q107 (by decide) dX0_narrowest_0 rfl ?_
  refine g_istore_n 3 dX0_narrowest_2 rfl (by decide) ?_
  refine g_iload_n 4 dX0_narrowest_3 rfl rfl ?_
  refine g_istore 6 dX0_narrowest_4 rfl (by decide) ?_
  refine g_iconst 7 dX0_narrowest_6 rfl ?_
  refine g_istore 9 dX0_narrowest_7 rfl (by decide) ?_
  suffices loop : ∀ (n : Nat) (i : Nat) (c at_ least : Int) (x6 x7 : Option pv), c = i → at_ = itn (S 9) b i → i ≤ 9 → 9 - c < n → (1 ≤ least ∧ least ≤ 1000000) → (∀ k : Nat, k < i → itn (S 9) b k ≠ a → least ≤ S 7 (9 * S 9 (itn (S 9) b k) + itn (S 9) b k)) → (0 ≤ at_ ∧ at_ < 9) → 0 ≤ S 9 at_ → (at_ ≠ a → dep at_ ≤ 8 - c) → G E cX0_narrowest 8 S 9 [some (.inr (h 0)), some (.inl a), some (.inl b), some (.inl least), some (.inl at_), some (.inl c), x6, x7] [] from loop 10 0 0 b 1000000 _ _ rfl rfl (by decide) (by decide) (by decide) (fun k hk => by omega) hb hw.2.1 (fun q => by
    have := hw.2.2 b hb.1 hb.2 hw.2.1 q
    omega)
  intro n
  induction n with
  | zero => intro i c at_ least x6 x7 hci hat hi hn; omega
  | succ n ih =>
    intro i c at_ least x6 x7 hci hat hi hn hl hmin hr hcf hdep
    refine g_iload 11 dX0_narrowest_9 rfl rfl ?_
    refine g_bipush 13 dX0_narrowest_11 rfl (by decide) ?_
    refine g_icmp_ge 69 16 dX0_narrowest_13 (by decide) rfl (by omega) (by omega) (fun hc1 => ?_) (fun hc1 => ?_)
    · have hata : at_ = a := Decidable.byContradiction (fun q => by
        have h1 := hdep q
        have h2 := hw.2.2 at_ hr.1 hr.2 hcf q
        omega)
      exact fin i least _ _ _ _ hl hmin (by rw [← hat]; exact hata)
    · refine g_iload 18 dX0_narrowest_16 rfl rfl ?_
      refine g_iload_n 19 dX0_narrowest_18 rfl rfl ?_
      refine g_icmp_eq 69 22 dX0_narrowest_19 (by decide) rfl (by omega) (by omega) (fun hc2 => ?_) (fun hc2 => ?_)
      · exact fin i least _ _ _ _ hl hmin (by rw [← hat]; exact hc2)
      · have h2 := hw.2.2 at_ hr.1 hr.2 hcf hc2
        have h3 := hB (9 * S 9 at_ + at_) (by omega) (by omega)
        have hd := hdep hc2
        refine g_aload_n 23 dX0_narrowest_22 rfl rfl ?_
        refine xg_cameFrom hE 26 dX0_narrowest_23 rfl ?_
        refine g_iload 28 dX0_narrowest_26 rfl rfl ?_
        refine xl_cameFrom hE 29 dX0_narrowest_28 rfl (by omega) ?_
        refine g_istore 31 dX0_narrowest_29 rfl (by decide) ?_
        refine g_aload_n 32 dX0_narrowest_31 rfl rfl ?_
        refine xg_work hE 35 dX0_narrowest_32 rfl ?_
        refine g_bipush 37 dX0_narrowest_35 rfl (by decide) ?_
        refine g_iload 39 dX0_narrowest_37 rfl rfl ?_
        refine g_imul 40 dX0_narrowest_39 rfl ?_
        refine g_iload 42 dX0_narrowest_40 rfl rfl ?_
        refine g_iadd 43 dX0_narrowest_42 rfl ?_
        refine xl_work hE 44 dX0_narrowest_43 rfl (by omega) ?_
        refine g_istore 46 dX0_narrowest_44 rfl (by decide) ?_
        refine g_iload 48 dX0_narrowest_46 rfl rfl ?_
        refine g_iload_n 49 dX0_narrowest_48 rfl rfl ?_
        have go : ∀ least' : Int, (1 ≤ least' ∧ least' ≤ 1000000) → least' ≤ least → least' ≤ S 7 (9 * S 9 at_ + at_) → G E cX0_narrowest 8 S 58 [some (.inr (h 0)), some (.inl a), some (.inl b), some (.inl least), some (.inl at_), some (.inl c), some (.inl (S 9 at_)), some (.inl (S 7 (9 * S 9 at_ + at_)))] [.inl least'] := by
          intro least' l1 l2 l3
          refine g_istore_n 59 dX0_narrowest_58 rfl (by decide) ?_
          refine g_iload 61 dX0_narrowest_59 rfl rfl ?_
          refine g_istore 63 dX0_narrowest_61 rfl (by decide) ?_
          refine g_iinc 66 dX0_narrowest_63 rfl (by decide) rfl ?_
          refine g_goto 9 dX0_narrowest_66 (by decide) ?_
          refine ih (i + 1) (c + 1) (S 9 at_) least' _ _ (by omega) (by rw [hat]; rfl) (by omega) (by omega) l1 (fun k hk hne => ?_) (by omega) h2.2.1 (fun q => by omega)
          by_cases e : k = i
          · subst e
            rw [← hat]
            exact l3
          · have := hmin k (by omega) hne
            omega
        refine g_icmp_ge 57 52 dX0_narrowest_49 (by decide) rfl (by omega) (by omega) (fun hc3 => ?_) (fun hc3 => ?_)
        · refine g_iload_n 58 dX0_narrowest_57 rfl rfl ?_
          exact go least hl (Int.le_refl _) hc3
        · refine g_iload 54 dX0_narrowest_52 rfl rfl ?_
          refine g_goto 58 dX0_narrowest_54 (by decide) ?_
          exact go _ (by omega) (by omega) (Int.le_refl _)
theorem x_push (a b c : Int) (ha : 0 ≤ a ∧ a < 9) (hb : 0 ≤ b ∧ b < 9) (hc : 0 ≤ c) : c_metv xW yX0_push cX0_push 7 (rk 0) true [a, b, c] (fun S => Way (S 7) (S 9) a b ∧ (∀ j : Int, 0 ≤ j → j < 81 → 0 ≤ S 7 j) ∧ ∀ k : Nat, itn (S 9) b k ≠ a → c ≤ S 7 (9 * S 9 (itn (S 9) b k) + itn (S 9) b k)) (fun S S' => (∀ k, k ≠ 7 → S' k = S k) ∧ (∀ u v : Int, 0 ≤ u → u < 9 → 0 ≤ v → v < 9 → S' 7 (9 * u + v) + S' 7 (9 * v + u) = S 7 (9 * u + v) + S 7 (9 * v + u)) ∧ (∀ u : Int, 0 ≤ u → u < 9 → sg (mF (S' 7) u) 9 = sg (mF (S 7) u) 9 + (if u = b then c else 0) - (if u = a then c else 0)) ∧ (∀ j : Int, 0 ≤ j → j < 81 → 0 ≤ S' 7 j)) := by
  refine c_metv_of (own := RX0) (by decide) rfl xW_fst (fun _ => by simp [c_args]) ?_
  intro E h S0 hE hR hpre hret
  obtain ⟨⟨dep, hw⟩, hB, hmin⟩ := hpre
  show G E cX0_push 7 S0 0 [some (.inr (h 0)), some (.inl a), some (.inl b), some (.inl c), none, none, none] []
  refine g_iload_n 1 dX0_push_0 rfl rfl ?_
  refine g_istore 3 dX0_push_1 rfl (by decide) ?_
  refine g_iconst 4 dX0_push_3 rfl ?_
  refine g_istore 6 dX0_push_4 rfl (by decide) ?_
  suffices loop : ∀ (n : Nat) (i : Nat) (ci at_ : Int) (S : st_T) (x6 : Option pv), ci = i → at_ = itn (S0 9) b i → i ≤ 9 → 9 - ci < n → (∀ k, k ≠ 7 → S k = S0 k) → PushI (S0 7) (S 7) (S0 9) dep a b c i → (0 ≤ at_ ∧ at_ < 9) → 0 ≤ S0 9 at_ → (at_ ≠ a → dep at_ ≤ 8 - ci) → G E cX0_push 7 S 6 [some (.inr (h 0)), some (.inl a), some (.inl b), some (.inl c), some (.inl at_), some (.inl ci), x6] [] from loop 10 0 0 b S0 _ rfl rfl (by decide) (by decide) (fun _ _ => rfl) (push_0 hB) hb hw.2.1 (fun q => by
    have := hw.2.2 b hb.1 hb.2 hw.2.1 q
    omega)
  intro n
  induction n with
  | zero => intro i ci at_ S x6 hci hat hi hn; omega
  | succ n ih =>
    intro i ci at_ S x6 hci hat hi hn hk hP hr hcf hdep
    refine g_iload 8 dX0_push_6 rfl rfl ?_
    refine g_bipush 10 dX0_push_8 rfl (by decide) ?_
    refine g_icmp_ge 72 13 dX0_push_10 (by decide) rfl (by omega) (by omega) (fun hc1 => ?_) (fun hc1 => ?_)
    · have hata : at_ = a := Decidable.byContradiction (fun q => by
        have h1 := hdep q
        have h2 := hw.2.2 at_ hr.1 hr.2 hcf q
        omega)
      exact hret _ _ _ dX0_push_72 ⟨hk, push_e hP (by rw [← hat]; exact hata)⟩
    · refine g_iload 15 dX0_push_13 rfl rfl ?_
      refine g_iload_n 16 dX0_push_15 rfl rfl ?_
      refine g_icmp_eq 72 19 dX0_push_16 (by decide) rfl (by omega) (by omega) (fun hc2 => ?_) (fun hc2 => ?_)
      · exact hret _ _ _ dX0_push_72 ⟨hk, push_e hP (by rw [← hat]; exact hc2)⟩
      · have h2 := hw.2.2 at_ hr.1 hr.2 hcf hc2
        have hd := hdep hc2
        have e9 : S 9 = S0 9 := hk 9 (by decide)
        have hs := push_s hw hP hc (by rw [← hat]; exact hr.1) (by rw [← hat]; exact hr.2) (by rw [← hat]; exact hcf) (by rw [← hat]; exact hc2) (hmin i (by rw [← hat]; exact hc2))
        rw [← hat] at hs
        rw [← e9] at h2 hs
        have hcf2 : 0 ≤ S 9 at_ := by rw [e9]; exact hcf
        refine g_aload_n 20 dX0_push_19 rfl rfl ?_
        refine xg_cameFrom hE 23 dX0_push_20 rfl ?_
        refine g_iload 25 dX0_push_23 rfl rfl ?_
        refine xl_cameFrom hE 26 dX0_push_25 rfl (by omega) ?_
        refine g_istore 28 dX0_push_26 rfl (by decide) ?_
        refine g_aload_n 29 dX0_push_28 rfl rfl ?_
        refine xg_work hE 32 dX0_push_29 rfl ?_
        refine g_bipush 34 dX0_push_32 rfl (by decide) ?_
        refine g_iload 36 dX0_push_34 rfl rfl ?_
        refine g_imul 37 dX0_push_36 rfl ?_
        refine g_iload 39 dX0_push_37 rfl rfl ?_
        refine g_iadd 40 dX0_push_39 rfl ?_
        refine g_dup2 41 dX0_push_40 rfl ?_
        refine xl_work hE 42 dX0_push_41 rfl (by omega) ?_
        refine g_iload_n 43 dX0_push_42 rfl rfl ?_
        refine g_isub 44 dX0_push_43 rfl ?_
        refine xs_work hE 45 dX0_push_44 rfl (by omega) ?_
        refine g_aload_n 46 dX0_push_45 rfl rfl ?_
        refine xg_work hE 49 dX0_push_46 rfl ?_
        refine g_bipush 51 dX0_push_49 rfl (by decide) ?_
        refine g_iload 53 dX0_push_51 rfl rfl ?_
        refine g_imul 54 dX0_push_53 rfl ?_
        refine g_iload 56 dX0_push_54 rfl rfl ?_
        refine g_iadd 57 dX0_push_56 rfl ?_
        refine g_dup2 58 dX0_push_57 rfl ?_
        refine xl_work hE 59 dX0_push_58 rfl (by omega) ?_
        refine g_iload_n 60 dX0_push_59 rfl rfl ?_
        refine g_iadd 61 dX0_push_60 rfl ?_
        refine xs_work hE 62 dX0_push_61 rfl (by omega) ?_
        refine g_iload 64 dX0_push_62 rfl rfl ?_
        refine g_istore 66 dX0_push_64 rfl (by decide) ?_
        refine g_iinc 69 dX0_push_66 rfl (by decide) rfl ?_
        refine g_goto 6 dX0_push_69 (by decide) ?_
        rw [e9] at h2 hs ⊢
        refine ih (i + 1) (ci + 1) (S0 9 at_) _ _ (by omega) (by rw [hat]; rfl) (by omega) (by omega) (fun k q => ?_) hs (by omega) h2.2.1 (fun q => by omega)
        rw [us_n q, us_n q]
        exact hk k q
end
section
/-! ===== CreditNetwork: send ===== -/
set_option maxRecDepth 10000
/-- what is sent so far -/
def Snd (W W' : Int → Int) (a b lim r : Int) : Prop :=
  (0 ≤ r ∧ r ≤ lim) ∧ (∀ j : Int, 0 ≤ j → j < 81 → 0 ≤ W' j) ∧ (∀ u v : Int, 0 ≤ u → u < 9 → 0 ≤ v → v < 9 → W' (9 * u + v) + W' (9 * v + u) = W (9 * u + v) + W (9 * v + u)) ∧
  (∀ u : Int, 0 ≤ u → u < 9 → sg (mF W' u) 9 = sg (mF W u) 9 + (if u = b then r else 0) - (if u = a then r else 0))
theorem snd_top {W W' : Int → Int} {a b lim r : Int} (h : Snd W W' a b lim r) (hW : ∀ j : Int, 0 ≤ j → j < 81 → 0 ≤ W j ∧ W j ≤ 10000000) {j : Int} (h0 : 0 ≤ j) (h1 : j < 81) : 0 ≤ W' j ∧ W' j ≤ 2147483647 := by
  have e : 9 * (j / 9) + j % 9 = j := by omega
  have q := h.2.2.1 (j / 9) (j % 9) (by omega) (by omega) (by omega) (by omega)
  rw [e] at q
  have q1 := h.2.1 j h0 h1
  have q2 := h.2.1 (9 * (j % 9) + j / 9) (by omega) (by omega)
  have q3 := hW j h0 h1
  have q4 := hW (9 * (j % 9) + j / 9) (by omega) (by omega)
  omega
theorem snd_le {W W' : Int → Int} {a b lim r : Int} (h : Snd W W' a b lim r) (ha : 0 ≤ a ∧ a < 9) (hab : a ≠ b) : r ≤ sg (mF W a) 9 := by
  have q := h.2.2.2 a ha.1 ha.2
  rw [if_neg hab, if_pos rfl] at q
  have q2 : 0 ≤ sg (mF W' a) 9 := sg_nn (fun v q1 q2 => h.2.1 _ (by omega) (by omega))
  omega
theorem snd_sent {W W' : Int → Int} {a b lim r : Int} (h : Snd W W' a b lim r) (hz : r < lim → ∃ zz : Int → Bool, zz a = true ∧ zz b = false ∧ ∀ u y : Int, 0 ≤ u → u < 9 → 0 ≤ y → y < 9 → zz u = true → zz y = false → W' (9 * u + y) ≤ 0) : Sent W W' a b lim r := by
  refine ⟨h.1.1, h.1.2, h.2.1, h.2.2.1, h.2.2.2, fun hr => ?_⟩
  obtain ⟨zz, z1, z2, z3⟩ := hz hr
  refine ⟨zz, z1, z2, sg_zero (fun u q1 q2 => sg_zero (fun v q3 q4 => ?_))⟩
  split
  next c =>
    have q5 := z3 u v q1 (by omega) q3 (by omega) c.1 c.2
    have q6 := h.2.1 (9 * u + v) (by omega) (by omega)
    show W' (9 * u + v) = 0
    omega
  next => rfl
theorem snd_s {W W1 W2 : Int → Int} {a b lim r c : Int} (h : Snd W W1 a b lim r) (hc : 0 ≤ c) (hr : r + c ≤ lim) (h1 : ∀ u v : Int, 0 ≤ u → u < 9 → 0 ≤ v → v < 9 → W2 (9 * u + v) + W2 (9 * v + u) = W1 (9 * u + v) + W1 (9 * v + u)) (h2 : ∀ u : Int, 0 ≤ u → u < 9 → sg (mF W2 u) 9 = sg (mF W1 u) 9 + (if u = b then c else 0) - (if u = a then c else 0)) (h3 : ∀ j : Int, 0 ≤ j → j < 81 → 0 ≤ W2 j) : Snd W W2 a b lim (r + c) := by
  refine ⟨by have := h.1; omega, h3, fun u v q1 q2 q3 q4 => by rw [h1 u v q1 q2 q3 q4]; exact h.2.2.1 u v q1 q2 q3 q4, fun u q1 q2 => ?_⟩
  rw [h2 u q1 q2, h.2.2.2 u q1 q2]
  split <;> split <;> omega
theorem x_send (a b lim : Int) (ha : 0 ≤ a ∧ a < 9) (hb : 0 ≤ b ∧ b < 9) (hab : a ≠ b) (hl : 0 ≤ lim ∧ lim ≤ 2147483647) : c_meti xW yX0_send cX0_send 10 .int (rk 1) true [a, b, lim] (fun S => (∀ j : Int, 0 ≤ j → j < 81 → 0 ≤ S 7 j ∧ S 7 j ≤ 10000000) ∧ sg (mF (S 7) a) 9 ≤ 99999) (fun S z S' => (∀ k, k ≠ 7 → k ≠ 9 → k ≠ 10 → S' k = S k) ∧ Sent (S 7) (S' 7) a b lim z) := by
  refine c_meti_of (own := RX0) (by decide) rfl xW_fst (fun _ => by simp [c_args]) ?_
  intro E h S0 hE hR hpre hret
  obtain ⟨hW, hrow⟩ := hpre
  show G E cX0_send 10 S0 0 [some (.inr (h 0)), some (.inl a), some (.inl b), some (.inl lim), none, none, none, none, none, none] []
  have loop : ∀ (n : Nat) (c sent way : Int) (S : st_T) (x7 x8 x9 : Option pv), 0 ≤ c → c ≤ sent → 100000 - c < n → (∀ k, k ≠ 7 → k ≠ 9 → k ≠ 10 → S k = S0 k) → Snd (S0 7) (S 7) a b lim sent → ((way = 1 ∧ sent < lim ∧ Way (S 7) (S 9) a b) ∨ (way = 0 ∧ (sent < lim → ∃ zz : Int → Bool, zz a = true ∧ zz b = false ∧ ∀ u y : Int, 0 ≤ u → u < 9 → 0 ≤ y → y < 9 → zz u = true → zz y = false → S 7 (9 * u + y) ≤ 0))) → G E cX0_send 10 S 28 [some (.inr (h 0)), some (.inl a), some (.inl b), some (.inl lim), some (.inl sent), some (.inl way), some (.inl c), x7, x8, x9] [] := by
    intro n
    induction n with
    | zero =>
      intro c sent way S x7 x8 x9 h0 h1 hn hk hs
      have := snd_le hs ha hab
      omega
    | succ n ih =>
      intro c sent way S x7 x8 x9 h0 h1 hn hk hs hway
      have hsl := snd_le hs ha hab
      have hs1 := hs.1
      refine g_iload 30 dX0_send_28 rfl rfl ?_
      refine g_ldc hE (100000) 32 q102 (by decide) dX0_send_30 rfl ?_
      refine g_icmp_ge 113 35 dX0_send_32 (by decide) rfl (by omega) (by omega) (fun hc1 => ?_) (fun hc1 => ?_)
      · omega
      · refine g_iload 37 dX0_send_35 rfl rfl ?_
        refine g_if_eq 113 40 dX0_send_37 (by decide) rfl (by omega) (fun hc2 => ?_) (fun hc2 => ?_)
        · rcases hway with ⟨q, -⟩ | ⟨-, q⟩
          · omega
          · refine g_iload 115 dX0_send_113 rfl rfl ?_
            exact hret _ _ _ _ dX0_send_115 rfl ⟨hk, snd_sent hs q⟩
        · rcases hway with ⟨q1, q2, q3⟩ | ⟨q, -⟩
          · refine g_aload_n 41 dX0_send_40 rfl rfl ?_
            refine g_iload_n 42 dX0_send_41 rfl rfl ?_
            refine g_iload_n 43 dX0_send_42 rfl rfl ?_
            refine g_calli (na := 2) (x_narrowest a b ha hb) xW_ob (lw_V q103 q105 qs3 q25 q106) (by decide +kernel) rfl ⟨rfl, rfl⟩ hE (by rw [hR]; decide) 46 dX0_send_43 rfl [] rfl (by simp) ⟨q3, fun j a b => snd_top hs hW a b⟩ (fun most S1 hm => ?_)
            obtain ⟨rfl, hm1, hm2, hm3⟩ := hm
            refine g_istore 48 dX0_send_46 rfl (by decide) ?_
            refine g_iload_n 49 dX0_send_48 rfl rfl ?_
            refine g_iload 51 dX0_send_49 rfl rfl ?_
            refine g_isub 52 dX0_send_51 rfl ?_
            refine g_istore 54 dX0_send_52 rfl (by decide) ?_
            refine g_iload 56 dX0_send_54 rfl rfl ?_
            refine g_iload 58 dX0_send_56 rfl rfl ?_
            have go : ∀ (am : Int), 1 ≤ am → am ≤ most → am ≤ lim - sent → G E cX0_send 10 S1 68 [some (.inr (h 0)), some (.inl a), some (.inl b), some (.inl lim), some (.inl sent), some (.inl way), some (.inl c), some (.inl most), some (.inl (lim - sent)), x9] [.inl am] := by
              intro am a1 a2 a3
              refine g_istore 70 dX0_send_68 rfl (by decide) ?_
              refine g_aload_n 71 dX0_send_70 rfl rfl ?_
              refine g_iload_n 72 dX0_send_71 rfl rfl ?_
              refine g_iload_n 73 dX0_send_72 rfl rfl ?_
              refine g_iload 75 dX0_send_73 rfl rfl ?_
              refine g_callv (na := 3) (x_push a b am ha hb (by omega)) xW_ob (lw_V q108 q110 qs4 q25 q111) (by decide +kernel) rfl ⟨rfl, rfl⟩ hE (by rw [hR]; decide) 78 dX0_send_75 rfl [] rfl (by simp) ⟨q3, hs.2.1, fun k hk => Int.le_trans a2 (hm3 k hk)⟩ (fun S2 hp => ?_)
              obtain ⟨hp1, hp2, hp3, hp4⟩ := hp
              have hs2 := snd_s hs (show 0 ≤ am by omega) (by omega) hp2 hp3 hp4
              have hk2 : ∀ k, k ≠ 7 → k ≠ 9 → k ≠ 10 → S2 k = S0 k := fun k r1 r2 r3 => by rw [hp1 k r1]; exact hk k r1 r2 r3
              refine g_iload 80 dX0_send_78 rfl rfl ?_
              refine g_iload 82 dX0_send_80 rfl rfl ?_
              refine g_iadd 83 dX0_send_82 rfl ?_
              refine g_istore 85 dX0_send_83 rfl (by decide) ?_
              refine g_iload 87 dX0_send_85 rfl rfl ?_
              refine g_iload_n 88 dX0_send_87 rfl rfl ?_
              refine g_icmp_ge 104 91 dX0_send_88 (by decide) rfl (by omega) (by omega) (fun hc3 => ?_) (fun hc3 => ?_)
              · refine g_iconst 105 dX0_send_104 rfl ?_
                refine g_istore 107 dX0_send_105 rfl (by decide) ?_
                refine g_iinc 110 dX0_send_107 rfl (by decide) rfl ?_
                refine g_goto 28 dX0_send_110 (by decide) ?_
                exact ih (c + 1) (sent + am) 0 S2 _ _ _ (by omega) (by omega) (by omega) hk2 hs2 (Or.inr ⟨rfl, fun q => by omega⟩)
              · refine g_aload_n 92 dX0_send_91 rfl rfl ?_
                refine g_iload_n 93 dX0_send_92 rfl rfl ?_
                refine g_iload_n 94 dX0_send_93 rfl rfl ?_
                refine g_calli (na := 2) (x_findWay a b ha hb) xW_ob (lw_V q98 q100 qs2 q25 q101) (by decide +kernel) rfl ⟨rfl, rfl⟩ hE (by rw [hR]; decide) 97 dX0_send_94 rfl [] rfl (by simp) (fun j r1 r2 => by have := snd_top hs2 hW r1 r2; omega) (fun z S3 hf => ?_)
                obtain ⟨hf1, hf2⟩ := hf
                have e7 : S3 7 = S2 7 := hf1 7 (by decide) (by decide)
                have hk3 : ∀ k, k ≠ 7 → k ≠ 9 → k ≠ 10 → S3 k = S0 k := fun k r1 r2 r3 => by rw [hf1 k r2 r3]; exact hk2 k r1 r2 r3
                rw [← e7] at hs2 hf2
                have hz01 : z = 1 ∨ z = 0 := by rcases hf2 with ⟨q, -⟩ | ⟨q, -⟩ <;> omega
                refine g_if_eq 104 100 dX0_send_97 (by decide) rfl (by omega) (fun hc4 => ?_) (fun hc4 => ?_)
                · rcases hf2 with ⟨q, -⟩ | ⟨-, q⟩
                  · omega
                  · refine g_iconst 105 dX0_send_104 rfl ?_
                    refine g_istore 107 dX0_send_105 rfl (by decide) ?_
                    refine g_iinc 110 dX0_send_107 rfl (by decide) rfl ?_
                    refine g_goto 28 dX0_send_110 (by decide) ?_
                    exact ih (c + 1) (sent + am) 0 S3 _ _ _ (by omega) (by omega) (by omega) hk3 hs2 (Or.inr ⟨rfl, fun _ => q⟩)
                · rcases hf2 with ⟨-, q⟩ | ⟨q, -⟩
                  · refine g_iconst 101 dX0_send_100 rfl ?_
                    refine g_goto 105 dX0_send_101 (by decide) ?_
                    refine g_istore 107 dX0_send_105 rfl (by decide) ?_
                    refine g_iinc 110 dX0_send_107 rfl (by decide) rfl ?_
                    refine g_goto 28 dX0_send_110 (by decide) ?_
                    exact ih (c + 1) (sent + am) 1 S3 _ _ _ (by omega) (by omega) (by omega) hk3 hs2 (Or.inl ⟨rfl, hc3, q⟩)
                  · omega
            refine g_icmp_ge 66 61 dX0_send_58 (by decide) rfl (by omega) (by omega) (fun hc3 => ?_) (fun hc3 => ?_)
            · refine g_iload 68 dX0_send_66 rfl rfl ?_
              exact go _ (by omega) hc3 (Int.le_refl _)
            · refine g_iload 63 dX0_send_61 rfl rfl ?_
              refine g_goto 68 dX0_send_63 (by decide) ?_
              exact go _ (by omega) (Int.le_refl _) (by omega)
          · omega
  have hs0 : Snd (S0 7) (S0 7) a b lim 0 := ⟨⟨Int.le_refl 0, hl.1⟩, fun j q1 q2 => (hW j q1 q2).1, fun _ _ _ _ _ _ => rfl, fun u _ _ => by simp⟩
  refine g_iconst 1 dX0_send_0 rfl ?_
  refine g_istore 3 dX0_send_1 rfl (by decide) ?_
  refine g_iload 5 dX0_send_3 rfl rfl ?_
  refine g_iload_n 6 dX0_send_5 rfl rfl ?_
  refine g_icmp_ge 22 9 dX0_send_6 (by decide) rfl (by omega) (by omega) (fun hc => ?_) (fun hc => ?_)
  · refine g_iconst 23 dX0_send_22 rfl ?_
    refine g_istore 25 dX0_send_23 rfl (by decide) ?_
    refine g_iconst 26 dX0_send_25 rfl ?_
    refine g_istore 28 dX0_send_26 rfl (by decide) ?_
    exact loop 100001 0 0 0 S0 _ _ _ (by decide) (by decide) (by decide) (fun _ _ _ _ => rfl) hs0 (Or.inr ⟨rfl, fun q => by omega⟩)
  · refine g_aload_n 10 dX0_send_9 rfl rfl ?_
    refine g_iload_n 11 dX0_send_10 rfl rfl ?_
    refine g_iload_n 12 dX0_send_11 rfl rfl ?_
    refine g_calli (na := 2) (x_findWay a b ha hb) xW_ob (lw_V q98 q100 qs2 q25 q101) (by decide +kernel) rfl ⟨rfl, rfl⟩ hE (by rw [hR]; decide) 15 dX0_send_12 rfl [] rfl (by simp) (fun j r1 r2 => by have := hW j r1 r2; omega) (fun z S3 hf => ?_)
    obtain ⟨hf1, hf2⟩ := hf
    have e7 : S3 7 = S0 7 := hf1 7 (by decide) (by decide)
    rw [← e7] at hf2
    have hs3 : Snd (S0 7) (S3 7) a b lim 0 := by rw [e7]; exact hs0
    have hz01 : z = 1 ∨ z = 0 := by rcases hf2 with ⟨q, -⟩ | ⟨q, -⟩ <;> omega
    refine g_if_eq 22 18 dX0_send_15 (by decide) rfl (by omega) (fun hc4 => ?_) (fun hc4 => ?_)
    · rcases hf2 with ⟨q, -⟩ | ⟨-, q⟩
      · omega
      · refine g_iconst 23 dX0_send_22 rfl ?_
        refine g_istore 25 dX0_send_23 rfl (by decide) ?_
        refine g_iconst 26 dX0_send_25 rfl ?_
        refine g_istore 28 dX0_send_26 rfl (by decide) ?_
        exact loop 100001 0 0 0 S3 _ _ _ (by decide) (by decide) (by decide) (fun k _ q2 q3 => hf1 k q2 q3) hs3 (Or.inr ⟨rfl, fun _ => q⟩)
    · rcases hf2 with ⟨-, q⟩ | ⟨q, -⟩
      · refine g_iconst 19 dX0_send_18 rfl ?_
        refine g_goto 23 dX0_send_19 (by decide) ?_
        refine g_istore 25 dX0_send_23 rfl (by decide) ?_
        refine g_iconst 26 dX0_send_25 rfl ?_
        refine g_istore 28 dX0_send_26 rfl (by decide) ?_
        exact loop 100001 0 0 1 S3 _ _ _ (by decide) (by decide) (by decide) (fun k _ q2 q3 => hf1 k q2 q3) hs3 (Or.inl ⟨rfl, hc, q⟩)
      · omega
end
section
/-! ===== what each call answers and does, of trusts T, positions P, the gathered list: one relation for both classes ===== -/
def rTrust (T : Int → Int) (u v a z : Int) (T' : Int → Int) : Prop := (¬ isPr u v ∧ z = -1 ∧ T' = T) ∨ (isPr u v ∧ (a < 0 ∨ 1000 - T (7 * u + v) < a) ∧ z = -2 ∧ T' = T) ∨ (isPr u v ∧ ¬ (a < 0 ∨ 1000 - T (7 * u + v) < a) ∧ z = T (7 * u + v) + a ∧ T' = ua T (7 * u + v) (T (7 * u + v) + a))
theorem rTrust_u {T T1 T2 : Int → Int} {u v a y z : Int} (h : rTrust T u v a y T1) (h' : rTrust T u v a z T2) : y = z ∧ T1 = T2 := by
  rcases h with ⟨a1, a2, a3⟩ | ⟨a1, a2, a3, a4⟩ | ⟨a1, a2, a3, a4⟩ <;> rcases h' with ⟨b1, b2, b3⟩ | ⟨b1, b2, b3, b4⟩ | ⟨b1, b2, b3, b4⟩ <;> first | exact absurd a1 b1 | exact absurd b1 a1 | exact absurd a2 b2 | exact absurd b2 a2 | (subst_vars; exact ⟨rfl, rfl⟩)
def rWd (T P : Int → Int) (u v a z : Int) (T' : Int → Int) : Prop := (¬ isPr u v ∧ z = -1 ∧ T' = T) ∨ (isPr u v ∧ (a < 0 ∨ T (7 * u + v) < a) ∧ z = -2 ∧ T' = T) ∨ (isPr u v ∧ ¬ (a < 0 ∨ T (7 * u + v) < a) ∧ IsPos (ua T (7 * u + v) (T (7 * u + v) - a)) P ∧ z = T (7 * u + v) - a ∧ T' = ua T (7 * u + v) (T (7 * u + v) - a)) ∨ (isPr u v ∧ ¬ (a < 0 ∨ T (7 * u + v) < a) ∧ ¬ IsPos (ua T (7 * u + v) (T (7 * u + v) - a)) P ∧ z = -3 ∧ T' = T)
theorem rWd_u {T P T1 T2 : Int → Int} {u v a y z : Int} (h : rWd T P u v a y T1) (h' : rWd T P u v a z T2) : y = z ∧ T1 = T2 := by
  rcases h with ⟨a1, a2, a3⟩ | ⟨a1, a2, a3, a4⟩ | ⟨a1, a2, a3, a4, a5⟩ | ⟨a1, a2, a3, a4, a5⟩ <;> rcases h' with ⟨b1, b2, b3⟩ | ⟨b1, b2, b3, b4⟩ | ⟨b1, b2, b3, b4, b5⟩ | ⟨b1, b2, b3, b4, b5⟩ <;> first | exact absurd a1 b1 | exact absurd b1 a1 | exact absurd a2 b2 | exact absurd b2 a2 | exact absurd a3 b3 | exact absurd b3 a3 | (subst_vars; exact ⟨rfl, rfl⟩)
/-- m: the least slack of the sets with v and without u -/
def rPay (P : Int → Int) (u v a m z : Int) (P' : Int → Int) : Prop := (¬ isPr u v ∧ z = -1 ∧ P' = P) ∨ (isPr u v ∧ a < 0 ∧ z = -2 ∧ P' = P) ∨ (isPr u v ∧ ¬ a < 0 ∧ m < a ∧ z = -3 ∧ P' = P) ∨ (isPr u v ∧ ¬ a < 0 ∧ ¬ m < a ∧ z = P u - a ∧ P' = ua (ua P u (P u - a)) v (ua P u (P u - a) v + a))
theorem rPay_u {P P1 P2 : Int → Int} {u v a m y z : Int} (h : rPay P u v a m y P1) (h' : rPay P u v a m z P2) : y = z ∧ P1 = P2 := by
  rcases h with ⟨a1, a2, a3⟩ | ⟨a1, a2, a3, a4⟩ | ⟨a1, a2, a3, a4, a5⟩ | ⟨a1, a2, a3, a4, a5⟩ <;> rcases h' with ⟨b1, b2, b3⟩ | ⟨b1, b2, b3, b4⟩ | ⟨b1, b2, b3, b4, b5⟩ | ⟨b1, b2, b3, b4, b5⟩ <;> first | exact absurd a1 b1 | exact absurd b1 a1 | exact absurd a2 b2 | exact absurd b2 a2 | exact absurd a3 b3 | exact absurd b3 a3 | (subst_vars; exact ⟨rfl, rfl⟩)
def rGat (g : Int) (pr pe am : Int → Int) (u v a z g' : Int) (pr' pe' am' : Int → Int) : Prop := (¬ isPr u v ∧ z = -1 ∧ g' = g ∧ pr' = pr ∧ pe' = pe ∧ am' = am) ∨ (isPr u v ∧ (a < 0 ∨ 10000 < a) ∧ z = -2 ∧ g' = g ∧ pr' = pr ∧ pe' = pe ∧ am' = am) ∨ (isPr u v ∧ ¬ (a < 0 ∨ 10000 < a) ∧ ¬ g < 6 ∧ z = -3 ∧ g' = g ∧ pr' = pr ∧ pe' = pe ∧ am' = am) ∨ (isPr u v ∧ ¬ (a < 0 ∨ 10000 < a) ∧ g < 6 ∧ z = g + 1 ∧ g' = g + 1 ∧ pr' = ua pr g u ∧ pe' = ua pe g v ∧ am' = ua am g a)
theorem rGat_u {g g1 g2 : Int} {pr pe am pr1 pe1 am1 pr2 pe2 am2 : Int → Int} {u v a y z : Int} (h : rGat g pr pe am u v a y g1 pr1 pe1 am1) (h' : rGat g pr pe am u v a z g2 pr2 pe2 am2) : y = z ∧ g1 = g2 ∧ pr1 = pr2 ∧ pe1 = pe2 ∧ am1 = am2 := by
  rcases h with ⟨a1, a2, a3⟩ | ⟨a1, a2, a3, a4⟩ | ⟨a1, a2, a3, a4, a5⟩ | ⟨a1, a2, a3, a4, a5⟩ <;> rcases h' with ⟨b1, b2, b3⟩ | ⟨b1, b2, b3, b4⟩ | ⟨b1, b2, b3, b4, b5⟩ | ⟨b1, b2, b3, b4, b5⟩ <;> first | exact absurd a1 b1 | exact absurd b1 a1 | exact absurd a2 b2 | exact absurd b2 a2 | exact absurd a3 b3 | exact absurd b3 a3 | simp_all
def rMost (T P : Int → Int) (u v z : Int) : Prop := (¬ isPr u v ∧ z = -1) ∨ (isPr u v ∧ IsMin T P (2 ^ v.toNat) u z)
theorem rMost_u {T P : Int → Int} {u v y z : Int} (h : rMost T P u v y) (h' : rMost T P u v z) : y = z := by
  rcases h with ⟨a1, a2⟩ | ⟨a1, a2⟩ <;> rcases h' with ⟨b1, b2⟩ | ⟨b1, b2⟩ <;> first | exact absurd a1 b1 | exact absurd b1 a1 | omega | exact isMin_uniq a2 b2
def okS (u set : Int) : Prop := (0 ≤ u ∧ u < 7) ∧ 1 ≤ set ∧ set ≤ 127 ∧ ¬ inS set u
def rSpr (T P : Int → Int) (u set z : Int) : Prop := (¬ okS u set ∧ z = -1) ∨ (okS u set ∧ IsMin T P set u z)
theorem rSpr_u {T P : Int → Int} {u set y z : Int} (h : rSpr T P u set y) (h' : rSpr T P u set z) : y = z := by
  rcases h with ⟨a1, a2⟩ | ⟨a1, a2⟩ <;> rcases h' with ⟨b1, b2⟩ | ⟨b1, b2⟩ <;> first | exact absurd a1 b1 | exact absurd b1 a1 | omega | exact isMin_uniq a2 b2
def rLst (T : Int → Int) (u v m z : Int) : Prop := (¬ (isPr u v ∧ u ≤ v) ∧ z = -100000) ∨ ((isPr u v ∧ u ≤ v) ∧ z = if -(T (7 * u + v)) < -(m - T (7 * v + u)) then -(m - T (7 * v + u)) else -(T (7 * u + v)))
theorem rLst_u {T : Int → Int} {u v m y z : Int} (h : rLst T u v m y) (h' : rLst T u v m z) : y = z := by
  rcases h with ⟨a1, a2⟩ | ⟨a1, a2⟩ <;> rcases h' with ⟨b1, b2⟩ | ⟨b1, b2⟩ <;> first | exact absurd a1 b1 | exact absurd b1 a1 | (rw [a2, b2])
def rGrt (T : Int → Int) (u v m z : Int) : Prop := (¬ (isPr u v ∧ u ≤ v) ∧ z = -100000) ∨ ((isPr u v ∧ u ≤ v) ∧ z = if m - T (7 * u + v) < T (7 * v + u) then m - T (7 * u + v) else T (7 * v + u))
theorem rGrt_u {T : Int → Int} {u v m y z : Int} (h : rGrt T u v m y) (h' : rGrt T u v m z) : y = z := by
  rcases h with ⟨a1, a2⟩ | ⟨a1, a2⟩ <;> rcases h' with ⟨b1, b2⟩ | ⟨b1, b2⟩ <;> first | exact absurd a1 b1 | exact absurd b1 a1 | (rw [a2, b2])
def rOpn (T P : Int → Int) (a z : Int) : Prop := ∃ mm : Int → Int, (∀ c : Int, 0 ≤ c → c < 49 → c / 7 ≠ c % 7 → IsMin T P (2 ^ (c % 7).toNat) (c / 7) (mm c)) ∧ z = sg (fun c => if c / 7 ≠ c % 7 ∧ a ≤ mm c then 1 else 0) 49
theorem rOpn_u {T P : Int → Int} {a y z : Int} (h : rOpn T P a y) (h' : rOpn T P a z) : y = z := by
  obtain ⟨m1, a1, a2⟩ := h
  obtain ⟨m2, b1, b2⟩ := h'
  rw [a2, b2]
  refine sg_congr (fun c q1 q2 => ?_)
  by_cases e : c / 7 = c % 7
  · rw [if_neg (fun q => q.1 e), if_neg (fun q => q.1 e)]
  · rw [isMin_uniq (a1 c q1 (by omega) e) (b1 c q1 (by omega) e)]
/-- CreditNetwork's state between calls -/
def XI (S : st_T) : Prop := InvF (S 0) (S 1) (S 2) ∧ (0 ≤ S 3 0 ∧ S 3 0 ≤ 6) ∧ ∀ i : Int, 0 ≤ i → i < S 3 0 → (0 ≤ S 4 i ∧ S 4 i < 7) ∧ (0 ≤ S 5 i ∧ S 5 i < 7) ∧ (0 ≤ S 6 i ∧ S 6 i ≤ 10000)
theorem XI_keep {S S' : st_T} (h : XI S) (hk : ∀ k, k < 7 → S' k = S k) : XI S' := by
  unfold XI
  rw [hk 0 (by decide), hk 1 (by decide), hk 2 (by decide), hk 3 (by decide), hk 4 (by decide), hk 5 (by decide), hk 6 (by decide)]
  exact h
theorem inv_row {T P F W : Int → Int} {u : Int} (h : InvF T P F) (hu : 0 ≤ u ∧ u < 7) (hW : ∀ j : Int, 0 ≤ j → j < 81 → W j ≤ F j) : sg (mF W u) 9 ≤ 99999 := by
  have h1 : sg (mF W u) 9 ≤ sg (fun _ => 2000) 9 := sg_le (fun v q1 q2 => by
    have h2 := h.1 (9 * u + v) (by omega) (by omega)
    have h3 := hW (9 * u + v) (by omega) (by omega)
    show W (9 * u + v) ≤ 2000
    omega)
  rw [sg_const] at h1
  omega
theorem inv_P {T P F : Int → Int} {u : Int} (h : InvF T P F) (hu : 0 ≤ u ∧ u < 7) : -14000 ≤ P u ∧ P u ≤ 14000 := by
  have h1 := h.2.2.2.1 u hu.1 hu.2
  have h2 : sg (mF F u) 7 ≤ sg (fun _ => 2000) 7 := sg_le (fun v q1 q2 => (h.1 (9 * u + v) (by omega) (by omega)).2)
  have h3 : 0 ≤ sg (mF F u) 7 := sg_nn (fun v q1 q2 => (h.1 (9 * u + v) (by omega) (by omega)).1)
  have h4 : sg (mT T u) 7 ≤ sg (fun _ => 1000) 7 := sg_le (fun v q1 q2 => (h.2.2.2.2.1 (7 * v + u) (by omega) (by omega)).2)
  have h5 : 0 ≤ sg (mT T u) 7 := sg_nn (fun v q1 q2 => (h.2.2.2.2.1 (7 * v + u) (by omega) (by omega)).1)
  rw [sg_const] at h2 h4
  omega
end
section
/-! ===== CreditNetwork: trust, withdraw, pay, gather, forget, trusted, position, most ===== -/
set_option maxRecDepth 10000
theorem cx_trust (u v a : Int) (hu : -2147483648 ≤ u ∧ u ≤ 2147483647) (hv : -2147483648 ≤ v ∧ v ≤ 2147483647) (ha : -2147483648 ≤ a ∧ a ≤ 2147483647) : c_meti xW yX0_trust cX0_trust 5 .int (rk 2) true [u, v, a] XI (fun S z S' => XI S' ∧ rTrust (S 0) u v a z (S' 0) ∧ S' 1 = S 1 ∧ S' 3 = S 3 ∧ S' 4 = S 4 ∧ S' 5 = S 5 ∧ S' 6 = S 6) := by
  refine c_meti_of (own := RX0) (by decide) rfl xW_fst (fun _ => by simp [c_args]) ?_
  intro E h S0 hE hR hX hret
  show G E cX0_trust 5 S0 0 [some (.inr (h 0)), some (.inl u), some (.inl v), some (.inl a), none] []
  refine g_iload_n 1 dX0_trust_0 rfl rfl ?_
  refine g_iload_n 2 dX0_trust_1 rfl rfl ?_
  refine g_calls (na := 2) (x_arePair u v hu hv) (lw_S q80 q81 q25 q82) (by decide +kernel) rfl ⟨rfl, rfl⟩ hE (by rw [hR]; decide) 5 dX0_trust_2 rfl [] rfl (by simp) trivial (fun z S0 hz => ?_)
  obtain ⟨rfl, hz⟩ := hz
  have hz01 : z = 1 ∨ z = 0 := by rcases hz with ⟨q, -⟩ | ⟨q, -⟩ <;> omega
  refine g_if_ne 10 8 dX0_trust_5 (by decide) rfl (by omega) (fun hc => ?_) (fun hc => ?_)
  · have hp : isPr u v := by
      rcases hz with ⟨-, q⟩ | ⟨q, -⟩
      · exact q
      · omega
    have hp' := hp
    obtain ⟨p1, p2, p3⟩ := hp'
    have hT := hX.1.2.2.2.2.1 (7 * u + v) (by omega) (by omega)
    refine g_bipush 12 dX0_trust_10 rfl (by decide) ?_
    refine g_iload_n 13 dX0_trust_12 rfl rfl ?_
    refine g_imul 14 dX0_trust_13 rfl ?_
    refine g_iload_n 15 dX0_trust_14 rfl rfl ?_
    refine g_iadd 16 dX0_trust_15 rfl ?_
    refine g_istore 18 dX0_trust_16 rfl (by decide) ?_
    refine g_iload_n 19 dX0_trust_18 rfl rfl ?_
    refine g_if_lt 37 22 dX0_trust_19 (by decide) rfl (by omega) (fun h1 => ?_) (fun h1 => ?_)
    · refine g_bipush 39 dX0_trust_37 rfl (by decide) ?_
      exact hret _ _ _ _ dX0_trust_39 rfl ⟨hX, Or.inr (Or.inl ⟨hp, Or.inl h1, rfl, rfl⟩), rfl, rfl, rfl, rfl, rfl⟩
    · refine g_iload_n 23 dX0_trust_22 rfl rfl ?_
      refine g_sipush 26 dX0_trust_23 rfl (by decide) ?_
      refine g_aload_n 27 dX0_trust_26 rfl rfl ?_
      refine xg_trusts hE 30 dX0_trust_27 rfl ?_
      refine g_iload 32 dX0_trust_30 rfl rfl ?_
      refine xl_trusts hE 33 dX0_trust_32 rfl (by omega) ?_
      refine g_isub 34 dX0_trust_33 rfl ?_
      refine g_icmp_le 40 37 dX0_trust_34 (by decide) rfl (by omega) (by omega) (fun h2 => ?_) (fun h2 => ?_)
      · refine g_aload_n 41 dX0_trust_40 rfl rfl ?_
        refine xg_trusts hE 44 dX0_trust_41 rfl ?_
        refine g_iload 46 dX0_trust_44 rfl rfl ?_
        refine g_dup2 47 dX0_trust_46 rfl ?_
        refine xl_trusts hE 48 dX0_trust_47 rfl (by omega) ?_
        refine g_iload_n 49 dX0_trust_48 rfl rfl ?_
        refine g_iadd 50 dX0_trust_49 rfl ?_
        refine xs_trusts hE 51 dX0_trust_50 rfl (by omega) ?_
        refine g_aload_n 52 dX0_trust_51 rfl rfl ?_
        refine xg_free hE 55 dX0_trust_52 rfl ?_
        refine g_bipush 57 dX0_trust_55 rfl (by decide) ?_
        refine g_iload_n 58 dX0_trust_57 rfl rfl ?_
        refine g_imul 59 dX0_trust_58 rfl ?_
        refine g_iload_n 60 dX0_trust_59 rfl rfl ?_
        refine g_iadd 61 dX0_trust_60 rfl ?_
        refine g_dup2 62 dX0_trust_61 rfl ?_
        refine xl_free hE 63 dX0_trust_62 rfl (by omega) ?_
        refine g_iload_n 64 dX0_trust_63 rfl rfl ?_
        refine g_iadd 65 dX0_trust_64 rfl ?_
        refine xs_free hE 66 dX0_trust_65 rfl (by omega) ?_
        refine g_aload_n 67 dX0_trust_66 rfl rfl ?_
        refine xg_trusts hE 70 dX0_trust_67 rfl ?_
        refine g_iload 72 dX0_trust_70 rfl rfl ?_
        refine xl_trusts hE 73 dX0_trust_72 rfl (by omega) ?_
        refine hret _ _ _ _ dX0_trust_73 rfl ⟨⟨x_trust hX.1 p1 p2 p3 (by omega) (by omega), hX.2⟩, Or.inr (Or.inr ⟨hp, by omega, ?_, rfl⟩), rfl, rfl, rfl, rfl, rfl⟩
        rw [us_n (by decide), us_s, ua_s]
      · refine g_bipush 39 dX0_trust_37 rfl (by decide) ?_
        exact hret _ _ _ _ dX0_trust_39 rfl ⟨hX, Or.inr (Or.inl ⟨hp, Or.inr h2, rfl, rfl⟩), rfl, rfl, rfl, rfl, rfl⟩
  · have hp : ¬ isPr u v := by
      rcases hz with ⟨q, -⟩ | ⟨-, q⟩
      · omega
      · exact q
    refine g_iconst 9 dX0_trust_8 rfl ?_
    exact hret _ _ _ _ dX0_trust_9 rfl ⟨hX, Or.inl ⟨hp, rfl, rfl⟩, rfl, rfl, rfl, rfl, rfl⟩
theorem cx_withdraw (u v a : Int) (hu : -2147483648 ≤ u ∧ u ≤ 2147483647) (hv : -2147483648 ≤ v ∧ v ≤ 2147483647) (ha : -2147483648 ≤ a ∧ a ≤ 2147483647) : c_meti xW yX0_withdraw cX0_withdraw 8 .int (rk 2) true [u, v, a] XI (fun S z S' => XI S' ∧ rWd (S 0) (S 1) u v a z (S' 0) ∧ S' 1 = S 1 ∧ S' 3 = S 3 ∧ S' 4 = S 4 ∧ S' 5 = S 5 ∧ S' 6 = S 6) := by
  refine c_meti_of (own := RX0) (by decide) rfl xW_fst (fun _ => by simp [c_args]) ?_
  intro E h S0 hE hR hX hret
  show G E cX0_withdraw 8 S0 0 [some (.inr (h 0)), some (.inl u), some (.inl v), some (.inl a), none, none, none, none] []
  refine g_iload_n 1 dX0_withdraw_0 rfl rfl ?_
  refine g_iload_n 2 dX0_withdraw_1 rfl rfl ?_
  refine g_calls (na := 2) (x_arePair u v hu hv) (lw_S q80 q81 q25 q82) (by decide +kernel) rfl ⟨rfl, rfl⟩ hE (by rw [hR]; decide) 5 dX0_withdraw_2 rfl [] rfl (by simp) trivial (fun z S0 hz => ?_)
  obtain ⟨rfl, hz⟩ := hz
  have hz01 : z = 1 ∨ z = 0 := by rcases hz with ⟨q, -⟩ | ⟨q, -⟩ <;> omega
  refine g_if_ne 10 8 dX0_withdraw_5 (by decide) rfl (by omega) (fun hc => ?_) (fun hc => ?_)
  · have hp : isPr u v := by
      rcases hz with ⟨-, q⟩ | ⟨q, -⟩
      · exact q
      · omega
    have hp' := hp
    obtain ⟨p1, p2, p3⟩ := hp'
    have hT := hX.1.2.2.2.2.1 (7 * u + v) (by omega) (by omega)
    have hF1 := hX.1.1 (9 * v + u) (by omega) (by omega)
    have hF2 := hX.1.1 (9 * u + v) (by omega) (by omega)
    refine g_bipush 12 dX0_withdraw_10 rfl (by decide) ?_
    refine g_iload_n 13 dX0_withdraw_12 rfl rfl ?_
    refine g_imul 14 dX0_withdraw_13 rfl ?_
    refine g_iload_n 15 dX0_withdraw_14 rfl rfl ?_
    refine g_iadd 16 dX0_withdraw_15 rfl ?_
    refine g_istore 18 dX0_withdraw_16 rfl (by decide) ?_
    refine g_iload_n 19 dX0_withdraw_18 rfl rfl ?_
    refine g_if_lt 33 22 dX0_withdraw_19 (by decide) rfl (by omega) (fun h1 => ?_) (fun h1 => ?_)
    · refine g_bipush 35 dX0_withdraw_33 rfl (by decide) ?_
      exact hret _ _ _ _ dX0_withdraw_35 rfl ⟨hX, Or.inr (Or.inl ⟨hp, Or.inl h1, rfl, rfl⟩), rfl, rfl, rfl, rfl, rfl⟩
    · refine g_iload_n 23 dX0_withdraw_22 rfl rfl ?_
      refine g_aload_n 24 dX0_withdraw_23 rfl rfl ?_
      refine xg_trusts hE 27 dX0_withdraw_24 rfl ?_
      refine g_iload 29 dX0_withdraw_27 rfl rfl ?_
      refine xl_trusts hE 30 dX0_withdraw_29 rfl (by omega) ?_
      refine g_icmp_le 36 33 dX0_withdraw_30 (by decide) rfl (by omega) (by omega) (fun h2 => ?_) (fun h2 => ?_)
      · refine g_aload_n 37 dX0_withdraw_36 rfl rfl ?_
        refine g_callv (na := 0) (x_copyFree) xW_ob (lw_V q90 q92 qs0 q25 q93) (by decide +kernel) rfl ⟨rfl, rfl⟩ hE (by rw [hR]; decide) 40 dX0_withdraw_37 rfl [] rfl (by simp) trivial (fun S1 hS1 => ?_)
        obtain ⟨hw1, hk1⟩ := hS1
        have e2 : S1 2 = S0 2 := hk1 2 (by decide)
        have fin : ∀ (S4 : st_T) (x5 x6 x7 : Option pv), (∀ k, k < 7 → S4 k = S0 k) → (∀ F' : Int → Int, (∀ x y : Int, 0 ≤ x → x < 7 → 0 ≤ y → y < 7 → F' (9 * x + y) = S4 7 (9 * x + y)) → (∀ j : Int, 0 ≤ j → j < 81 → (7 ≤ j / 9 ∨ 7 ≤ j % 9) → F' j = S0 2 j) → InvF (ua (S0 0) (7 * u + v) (S0 0 (7 * u + v) - a)) (S0 1) F') → G E cX0_withdraw 8 S4 129 [some (.inr (h 0)), some (.inl u), some (.inl v), some (.inl a), some (.inl (7 * u + v)), x5, x6, x7] [] := by
          intro S4 x5 x6 x7 hk4 hI4
          refine g_aload_n 130 dX0_withdraw_129 rfl rfl ?_
          refine g_callv (na := 0) (x_keepWork) xW_ob (lw_V q112 q114 qs5 q25 q115) (by decide +kernel) rfl ⟨rfl, rfl⟩ hE (by rw [hR]; decide) 133 dX0_withdraw_130 rfl [] rfl (by simp) trivial (fun S5 hS5 => ?_)
          obtain ⟨hf1, hf2, hk5⟩ := hS5
          have hI5 := hI4 (S5 2) hf1 (fun j q1 q2 q3 => by rw [hf2 j q1 q2 q3, hk4 2 (by decide)])
          have g0 : S5 0 = S0 0 := by rw [hk5 0 (by decide), hk4 0 (by decide)]
          have g1 : S5 1 = S0 1 := by rw [hk5 1 (by decide), hk4 1 (by decide)]
          have g3 : S5 3 = S0 3 := by rw [hk5 3 (by decide), hk4 3 (by decide)]
          have g4 : S5 4 = S0 4 := by rw [hk5 4 (by decide), hk4 4 (by decide)]
          have g5 : S5 5 = S0 5 := by rw [hk5 5 (by decide), hk4 5 (by decide)]
          have g6 : S5 6 = S0 6 := by rw [hk5 6 (by decide), hk4 6 (by decide)]
          refine g_aload_n 134 dX0_withdraw_133 rfl rfl ?_
          refine xg_trusts hE 137 dX0_withdraw_134 rfl ?_
          refine g_iload 139 dX0_withdraw_137 rfl rfl ?_
          refine g_dup2 140 dX0_withdraw_139 rfl ?_
          refine xl_trusts hE 141 dX0_withdraw_140 rfl (by omega) ?_
          refine g_iload_n 142 dX0_withdraw_141 rfl rfl ?_
          refine g_isub 143 dX0_withdraw_142 rfl ?_
          refine xs_trusts hE 144 dX0_withdraw_143 rfl (by omega) ?_
          refine g_aload_n 145 dX0_withdraw_144 rfl rfl ?_
          refine xg_trusts hE 148 dX0_withdraw_145 rfl ?_
          refine g_iload 150 dX0_withdraw_148 rfl rfl ?_
          refine xl_trusts hE 151 dX0_withdraw_150 rfl (by omega) ?_
          rw [g0]
          refine hret _ _ _ _ dX0_withdraw_151 rfl ⟨⟨?_, ?_⟩, Or.inr (Or.inr (Or.inl ⟨hp, by omega, fun set _ _ => inv_pos hI5 set, ?_, rfl⟩)), g1, g3, g4, g5, g6⟩
          · show InvF (ua (S0 0) (7 * u + v) (S0 0 (7 * u + v) - a)) (S5 1) (S5 2)
            rw [g1]
            exact hI5
          · show (0 ≤ S5 3 0 ∧ S5 3 0 ≤ 6) ∧ ∀ i : Int, 0 ≤ i → i < S5 3 0 → (0 ≤ S5 4 i ∧ S5 4 i < 7) ∧ (0 ≤ S5 5 i ∧ S5 5 i < 7) ∧ (0 ≤ S5 6 i ∧ S5 6 i ≤ 10000)
            rw [g3, g4, g5, g6]
            exact hX.2
          · rw [us_s, ua_s]
        refine g_aload_n 41 dX0_withdraw_40 rfl rfl ?_
        refine xg_free hE 44 dX0_withdraw_41 rfl ?_
        refine g_bipush 46 dX0_withdraw_44 rfl (by decide) ?_
        refine g_iload_n 47 dX0_withdraw_46 rfl rfl ?_
        refine g_imul 48 dX0_withdraw_47 rfl ?_
        refine g_iload_n 49 dX0_withdraw_48 rfl rfl ?_
        refine g_iadd 50 dX0_withdraw_49 rfl ?_
        refine xl_free hE 51 dX0_withdraw_50 rfl (by omega) ?_
        refine g_iload_n 52 dX0_withdraw_51 rfl rfl ?_
        refine g_isub 53 dX0_withdraw_52 rfl ?_
        refine g_istore 55 dX0_withdraw_53 rfl (by decide) ?_
        refine g_iload 57 dX0_withdraw_55 rfl rfl ?_
        have e2v : S1 2 (9 * v + u) = S0 2 (9 * v + u) := by rw [e2]
        refine g_if_lt 76 60 dX0_withdraw_57 (by decide) rfl (by omega) (fun h3 => ?_) (fun h3 => ?_)
        · have hpair := hX.1.2.2.1 u v p1.1 p1.2 p2.1 p2.2
          have hTv := hX.1.2.2.2.2.1 (7 * v + u) (by omega) (by omega)
          refine g_iload 78 dX0_withdraw_76 rfl rfl ?_
          refine g_ineg 79 dX0_withdraw_78 rfl ?_
          refine g_istore 81 dX0_withdraw_79 rfl (by decide) ?_
          refine g_aload_n 82 dX0_withdraw_81 rfl rfl ?_
          refine xg_work hE 85 dX0_withdraw_82 rfl ?_
          refine g_bipush 87 dX0_withdraw_85 rfl (by decide) ?_
          refine g_iload_n 88 dX0_withdraw_87 rfl rfl ?_
          refine g_imul 89 dX0_withdraw_88 rfl ?_
          refine g_iload_n 90 dX0_withdraw_89 rfl rfl ?_
          refine g_iadd 91 dX0_withdraw_90 rfl ?_
          refine g_iconst 92 dX0_withdraw_91 rfl ?_
          refine xs_work hE 93 dX0_withdraw_92 rfl (by omega) ?_
          refine g_aload_n 94 dX0_withdraw_93 rfl rfl ?_
          refine xg_work hE 97 dX0_withdraw_94 rfl ?_
          refine g_bipush 99 dX0_withdraw_97 rfl (by decide) ?_
          refine g_iload_n 100 dX0_withdraw_99 rfl rfl ?_
          refine g_imul 101 dX0_withdraw_100 rfl ?_
          refine g_iload_n 102 dX0_withdraw_101 rfl rfl ?_
          refine g_iadd 103 dX0_withdraw_102 rfl ?_
          refine g_dup2 104 dX0_withdraw_103 rfl ?_
          refine xl_work hE 105 dX0_withdraw_104 rfl (by omega) ?_
          refine g_iload 107 dX0_withdraw_105 rfl rfl ?_
          refine g_isub 108 dX0_withdraw_107 rfl ?_
          refine xs_work hE 109 dX0_withdraw_108 rfl (by omega) ?_
          refine g_aload_n 110 dX0_withdraw_109 rfl rfl ?_
          refine g_iload_n 111 dX0_withdraw_110 rfl rfl ?_
          refine g_iload_n 112 dX0_withdraw_111 rfl rfl ?_
          refine g_iload 114 dX0_withdraw_112 rfl rfl ?_
          have hW3 : ∀ j : Int, 0 ≤ j → j < 81 → ua (ua (S1 7) (9 * v + u) 0) (9 * u + v) (ua (S1 7) (9 * v + u) 0 (9 * u + v) - -(S1 2 (9 * v + u) - a)) j = ua (ua (S0 2) (9 * v + u) 0) (9 * u + v) (S0 2 (9 * u + v) + (S0 2 (9 * v + u) - a)) j := by
            intro j q1 q2
            by_cases c1 : j = 9 * u + v
            · subst c1
              rw [ua_s, ua_s, ua_n (by omega), hw1 _ q1 q2]
              omega
            · rw [ua_n c1, ua_n c1]
              by_cases c2 : j = 9 * v + u
              · subst c2
                rw [ua_s, ua_s]
              · rw [ua_n c2, ua_n c2, hw1 _ q1 q2]
          have hpos3 : ∀ j : Int, 0 ≤ j → j < 81 → 0 ≤ ua (ua (S0 2) (9 * v + u) 0) (9 * u + v) (S0 2 (9 * u + v) + (S0 2 (9 * v + u) - a)) j ∧ ua (ua (S0 2) (9 * v + u) 0) (9 * u + v) (S0 2 (9 * u + v) + (S0 2 (9 * v + u) - a)) j ≤ S0 2 j := by
            intro j q1 q2
            have := hX.1.1 j q1 q2
            by_cases c1 : j = 9 * u + v
            · subst c1
              rw [ua_s]
              omega
            · rw [ua_n c1]
              by_cases c2 : j = 9 * v + u
              · subst c2
                rw [ua_s]
                omega
              · rw [ua_n c2]
                omega
          refine g_calli (na := 3) (x_send v u (-(S1 2 (9 * v + u) - a)) (by omega) (by omega) (fun e => p3 e.symm) (by omega)) xW_ob (lw_V q94 q96 qs1 q25 q97) (by decide +kernel) rfl ⟨rfl, rfl⟩ hE (by rw [hR]; decide) 117 dX0_withdraw_114 rfl [] rfl (by simp) ⟨fun j q1 q2 => by show 0 ≤ ua (ua (S1 7) (9 * v + u) 0) (9 * u + v) (ua (S1 7) (9 * v + u) 0 (9 * u + v) - -(S1 2 (9 * v + u) - a)) j ∧ ua (ua (S1 7) (9 * v + u) 0) (9 * u + v) (ua (S1 7) (9 * v + u) 0 (9 * u + v) - -(S1 2 (9 * v + u) - a)) j ≤ 10000000; rw [hW3 j q1 q2]; have := hpos3 j q1 q2; have := hX.1.1 j q1 q2; omega, inv_row (W := ua (ua (S1 7) (9 * v + u) 0) (9 * u + v) (ua (S1 7) (9 * v + u) 0 (9 * u + v) - -(S1 2 (9 * v + u) - a))) hX.1 p2 (fun j q1 q2 => by rw [hW3 j q1 q2]; exact (hpos3 j q1 q2).2)⟩ (fun sent S4 hS4 => ?_)
          obtain ⟨hk4, hs4⟩ := hS4
          have hs4' : Sent (ua (ua (S1 7) (9 * v + u) 0) (9 * u + v) (ua (S1 7) (9 * v + u) 0 (9 * u + v) - -(S1 2 (9 * v + u) - a))) (S4 7) v u (a - S0 2 (9 * v + u)) sent := by
            have e : a - S0 2 (9 * v + u) = -(S1 2 (9 * v + u) - a) := by omega
            rw [e]
            exact hs4
          have hsr := hs4'.1
          have hsl := hs4'.2.1
          have hk4' : ∀ k, k < 7 → S4 k = S0 k := fun k q => by
            rw [hk4 k (by omega) (by omega) (by omega), us_n (by omega), us_n (by omega)]
            exact hk1 k (by omega)
          refine g_istore 119 dX0_withdraw_117 rfl (by decide) ?_
          refine g_iload 121 dX0_withdraw_119 rfl rfl ?_
          refine g_iload 123 dX0_withdraw_121 rfl rfl ?_
          refine g_icmp_ge 129 126 dX0_withdraw_123 (by decide) rfl (by omega) (by omega) (fun h4 => ?_) (fun h4 => ?_)
          · refine fin S4 _ _ _ hk4' (fun F' f1 f2 => ?_)
            have hse : sent = a - S0 2 (9 * v + u) := by omega
            rw [hse] at hs4'
            exact x_wd2 hX.1 p1 p2 p3 (by omega) (by omega) hW3 hs4' f1 f2
          · refine g_bipush 128 dX0_withdraw_126 rfl (by decide) ?_
            have hno := x_wd3 hX.1 p1 p2 p3 hW3 hs4' (by omega)
            exact hret _ _ _ _ dX0_withdraw_128 rfl ⟨XI_keep hX hk4', Or.inr (Or.inr (Or.inr ⟨hp, by omega, hno, rfl, hk4' 0 (by decide)⟩)), hk4' 1 (by decide), hk4' 3 (by decide), hk4' 4 (by decide), hk4' 5 (by decide), hk4' 6 (by decide)⟩
        · refine g_aload_n 61 dX0_withdraw_60 rfl rfl ?_
          refine xg_work hE 64 dX0_withdraw_61 rfl ?_
          refine g_bipush 66 dX0_withdraw_64 rfl (by decide) ?_
          refine g_iload_n 67 dX0_withdraw_66 rfl rfl ?_
          refine g_imul 68 dX0_withdraw_67 rfl ?_
          refine g_iload_n 69 dX0_withdraw_68 rfl rfl ?_
          refine g_iadd 70 dX0_withdraw_69 rfl ?_
          refine g_iload 72 dX0_withdraw_70 rfl rfl ?_
          refine xs_work hE 73 dX0_withdraw_72 rfl (by omega) ?_
          refine g_goto 129 dX0_withdraw_73 (by decide) ?_
          refine fin _ _ _ _ (fun k q => ?_) (fun F' f1 f2 => ?_)
          · rw [us_n (by omega)]
            exact hk1 k (by omega)
          · refine x_wd1 (W := S1 7) hX.1 p1 p2 p3 (by omega) (by omega) (by omega) hw1 (fun x y q1 q2 q3 q4 => ?_) f2
            rw [f1 x y q1 q2 q3 q4, us_s, e2v]
      · refine g_bipush 35 dX0_withdraw_33 rfl (by decide) ?_
        exact hret _ _ _ _ dX0_withdraw_35 rfl ⟨hX, Or.inr (Or.inl ⟨hp, Or.inr h2, rfl, rfl⟩), rfl, rfl, rfl, rfl, rfl⟩
  · have hp : ¬ isPr u v := by
      rcases hz with ⟨q, -⟩ | ⟨-, q⟩
      · omega
      · exact q
    refine g_iconst 9 dX0_withdraw_8 rfl ?_
    exact hret _ _ _ _ dX0_withdraw_9 rfl ⟨hX, Or.inl ⟨hp, rfl, rfl⟩, rfl, rfl, rfl, rfl, rfl⟩
theorem cx_pay (u v a : Int) (hu : -2147483648 ≤ u ∧ u ≤ 2147483647) (hv : -2147483648 ≤ v ∧ v ≤ 2147483647) (ha : -2147483648 ≤ a ∧ a ≤ 2147483647) : c_meti xW yX0_pay cX0_pay 5 .int (rk 2) true [u, v, a] XI (fun S z S' => XI S' ∧ (∀ m : Int, (isPr u v → IsMin (S 0) (S 1) (2 ^ v.toNat) u m) → rPay (S 1) u v a m z (S' 1)) ∧ S' 0 = S 0 ∧ S' 3 = S 3 ∧ S' 4 = S 4 ∧ S' 5 = S 5 ∧ S' 6 = S 6) := by
  refine c_meti_of (own := RX0) (by decide) rfl xW_fst (fun _ => by simp [c_args]) ?_
  intro E h S0 hE hR hX hret
  show G E cX0_pay 5 S0 0 [some (.inr (h 0)), some (.inl u), some (.inl v), some (.inl a), none] []
  refine g_iload_n 1 dX0_pay_0 rfl rfl ?_
  refine g_iload_n 2 dX0_pay_1 rfl rfl ?_
  refine g_calls (na := 2) (x_arePair u v hu hv) (lw_S q80 q81 q25 q82) (by decide +kernel) rfl ⟨rfl, rfl⟩ hE (by rw [hR]; decide) 5 dX0_pay_2 rfl [] rfl (by simp) trivial (fun z S0 hz => ?_)
  obtain ⟨rfl, hz⟩ := hz
  have hz01 : z = 1 ∨ z = 0 := by rcases hz with ⟨q, -⟩ | ⟨q, -⟩ <;> omega
  refine g_if_ne 10 8 dX0_pay_5 (by decide) rfl (by omega) (fun hc => ?_) (fun hc => ?_)
  · have hp : isPr u v := by
      rcases hz with ⟨-, q⟩ | ⟨q, -⟩
      · exact q
      · omega
    have hp' := hp
    obtain ⟨p1, p2, p3⟩ := hp'
    refine g_iload_n 11 dX0_pay_10 rfl rfl ?_
    refine g_if_ge 17 14 dX0_pay_11 (by decide) rfl (by omega) (fun h1 => ?_) (fun h1 => ?_)
    · refine g_aload_n 18 dX0_pay_17 rfl rfl ?_
      refine g_callv (na := 0) (x_copyFree) xW_ob (lw_V q90 q92 qs0 q25 q93) (by decide +kernel) rfl ⟨rfl, rfl⟩ hE (by rw [hR]; decide) 21 dX0_pay_18 rfl [] rfl (by simp) trivial (fun S1 hS1 => ?_)
      obtain ⟨hw1, hk1⟩ := hS1
      refine g_aload_n 22 dX0_pay_21 rfl rfl ?_
      refine g_iload_n 23 dX0_pay_22 rfl rfl ?_
      refine g_iload_n 24 dX0_pay_23 rfl rfl ?_
      refine g_iload_n 25 dX0_pay_24 rfl rfl ?_
      refine g_calli (na := 3) (x_send u v a (by omega) (by omega) p3 (by omega)) xW_ob (lw_V q94 q96 qs1 q25 q97) (by decide +kernel) rfl ⟨rfl, rfl⟩ hE (by rw [hR]; decide) 28 dX0_pay_25 rfl [] rfl (by simp) ⟨fun j q1 q2 => by rw [hw1 j q1 q2]; have := hX.1.1 j q1 q2; omega, inv_row hX.1 p1 (fun j q1 q2 => Int.le_of_eq (hw1 j q1 q2))⟩ (fun sent S4 hS4 => ?_)
      obtain ⟨hk4, hs4⟩ := hS4
      have hsr := hs4.1
      have hsl := hs4.2.1
      have hk4' : ∀ k, k < 7 → S4 k = S0 k := fun k q => by
        rw [hk4 k (by omega) (by omega) (by omega)]
        exact hk1 k (by omega)
      have hmin := x_minK (K := 0) hX.1 p1 p2 (fun z _ _ => by rw [x_cap0 hX.1 hw1]; omega) hs4
      refine g_istore 30 dX0_pay_28 rfl (by decide) ?_
      refine g_iload 32 dX0_pay_30 rfl rfl ?_
      refine g_iload_n 33 dX0_pay_32 rfl rfl ?_
      refine g_icmp_ge 39 36 dX0_pay_33 (by decide) rfl (by omega) (by omega) (fun h2 => ?_) (fun h2 => ?_)
      · have hse : sent = a := by omega
        rw [hse] at hs4 hmin
        refine g_aload_n 40 dX0_pay_39 rfl rfl ?_
        refine g_callv (na := 0) (x_keepWork) xW_ob (lw_V q112 q114 qs5 q25 q115) (by decide +kernel) rfl ⟨rfl, rfl⟩ hE (by rw [hR]; decide) 43 dX0_pay_40 rfl [] rfl (by simp) trivial (fun S5 hS5 => ?_)
        obtain ⟨hf1, hf2, hk5⟩ := hS5
        have hI5 := x_pay hX.1 p1 p2 p3 hw1 hs4 hf1 (fun j q1 q2 q3 => by rw [hf2 j q1 q2 q3, hk4' 2 (by decide)])
        have g0 : S5 0 = S0 0 := by rw [hk5 0 (by decide), hk4' 0 (by decide)]
        have g1 : S5 1 = S0 1 := by rw [hk5 1 (by decide), hk4' 1 (by decide)]
        have g3 : S5 3 = S0 3 := by rw [hk5 3 (by decide), hk4' 3 (by decide)]
        have g4 : S5 4 = S0 4 := by rw [hk5 4 (by decide), hk4' 4 (by decide)]
        have g5 : S5 5 = S0 5 := by rw [hk5 5 (by decide), hk4' 5 (by decide)]
        have g6 : S5 6 = S0 6 := by rw [hk5 6 (by decide), hk4' 6 (by decide)]
        refine g_aload_n 44 dX0_pay_43 rfl rfl ?_
        refine xg_positions hE 47 dX0_pay_44 rfl ?_
        refine g_iload_n 48 dX0_pay_47 rfl rfl ?_
        refine g_dup2 49 dX0_pay_48 rfl ?_
        refine xl_positions hE 50 dX0_pay_49 rfl (by omega) ?_
        refine g_iload_n 51 dX0_pay_50 rfl rfl ?_
        refine g_isub 52 dX0_pay_51 rfl ?_
        refine xs_positions hE 53 dX0_pay_52 rfl (by omega) ?_
        refine g_aload_n 54 dX0_pay_53 rfl rfl ?_
        refine xg_positions hE 57 dX0_pay_54 rfl ?_
        refine g_iload_n 58 dX0_pay_57 rfl rfl ?_
        refine g_dup2 59 dX0_pay_58 rfl ?_
        refine xl_positions hE 60 dX0_pay_59 rfl (by omega) ?_
        refine g_iload_n 61 dX0_pay_60 rfl rfl ?_
        refine g_iadd 62 dX0_pay_61 rfl ?_
        refine xs_positions hE 63 dX0_pay_62 rfl (by omega) ?_
        refine g_aload_n 64 dX0_pay_63 rfl rfl ?_
        refine xg_positions hE 67 dX0_pay_64 rfl ?_
        refine g_iload_n 68 dX0_pay_67 rfl rfl ?_
        refine xl_positions hE 69 dX0_pay_68 rfl (by omega) ?_
        have e1 : us (us S5 1 (ua (S5 1) u (S5 1 u - a))) 1 (ua (us S5 1 (ua (S5 1) u (S5 1 u - a)) 1) v (us S5 1 (ua (S5 1) u (S5 1 u - a)) 1 v + a)) 1 = ua (ua (S0 1) u (S0 1 u - a)) v (ua (S0 1) u (S0 1 u - a) v + a) := by
          rw [us_s, us_s, g1]
        refine hret _ _ _ _ dX0_pay_69 rfl ⟨⟨?_, ?_⟩, fun m hm => Or.inr (Or.inr (Or.inr ⟨hp, by omega, ?_, ?_, e1⟩)), g0, g3, g4, g5, g6⟩
        · rw [e1]
          show InvF (S5 0) _ (S5 2)
          rw [g0]
          exact hI5
        · show (0 ≤ S5 3 0 ∧ S5 3 0 ≤ 6) ∧ ∀ i : Int, 0 ≤ i → i < S5 3 0 → (0 ≤ S5 4 i ∧ S5 4 i < 7) ∧ (0 ≤ S5 5 i ∧ S5 5 i < 7) ∧ (0 ≤ S5 6 i ∧ S5 6 i ≤ 10000)
          rw [g3, g4, g5, g6]
          exact hX.2
        · have := hmin.2 m (hm hp)
          omega
        · rw [e1, ua_n p3, ua_s]
      · refine g_bipush 38 dX0_pay_36 rfl (by decide) ?_
        refine hret _ _ _ _ dX0_pay_38 rfl ⟨XI_keep hX hk4', fun m hm => Or.inr (Or.inr (Or.inl ⟨hp, by omega, ?_, rfl, hk4' 1 (by decide)⟩)), hk4' 0 (by decide), hk4' 3 (by decide), hk4' 4 (by decide), hk4' 5 (by decide), hk4' 6 (by decide)⟩
        have := isMin_uniq (hmin.1 (by omega)) (hm hp)
        omega
    · refine g_bipush 16 dX0_pay_14 rfl (by decide) ?_
      exact hret _ _ _ _ dX0_pay_16 rfl ⟨hX, fun m _ => Or.inr (Or.inl ⟨hp, h1, rfl, rfl⟩), rfl, rfl, rfl, rfl, rfl⟩
  · have hp : ¬ isPr u v := by
      rcases hz with ⟨q, -⟩ | ⟨-, q⟩
      · omega
      · exact q
    refine g_iconst 9 dX0_pay_8 rfl ?_
    exact hret _ _ _ _ dX0_pay_9 rfl ⟨hX, fun m _ => Or.inl ⟨hp, rfl, rfl⟩, rfl, rfl, rfl, rfl, rfl⟩
theorem cx_gather (u v a : Int) (hu : -2147483648 ≤ u ∧ u ≤ 2147483647) (hv : -2147483648 ≤ v ∧ v ≤ 2147483647) (ha : -2147483648 ≤ a ∧ a ≤ 2147483647) : c_meti xW yX0_gather cX0_gather 4 .int (rk 2) true [u, v, a] XI (fun S z S' => XI S' ∧ rGat (S 3 0) (S 4) (S 5) (S 6) u v a z (S' 3 0) (S' 4) (S' 5) (S' 6) ∧ S' 0 = S 0 ∧ S' 1 = S 1) := by
  refine c_meti_of (own := RX0) (by decide) rfl xW_fst (fun _ => by simp [c_args]) ?_
  intro E h S0 hE hR hX hret
  show G E cX0_gather 4 S0 0 [some (.inr (h 0)), some (.inl u), some (.inl v), some (.inl a)] []
  refine g_iload_n 1 dX0_gather_0 rfl rfl ?_
  refine g_iload_n 2 dX0_gather_1 rfl rfl ?_
  refine g_calls (na := 2) (x_arePair u v hu hv) (lw_S q80 q81 q25 q82) (by decide +kernel) rfl ⟨rfl, rfl⟩ hE (by rw [hR]; decide) 5 dX0_gather_2 rfl [] rfl (by simp) trivial (fun z S0 hz => ?_)
  obtain ⟨rfl, hz⟩ := hz
  have hz01 : z = 1 ∨ z = 0 := by rcases hz with ⟨q, -⟩ | ⟨q, -⟩ <;> omega
  refine g_if_ne 10 8 dX0_gather_5 (by decide) rfl (by omega) (fun hc => ?_) (fun hc => ?_)
  · have hp : isPr u v := by
      rcases hz with ⟨-, q⟩ | ⟨q, -⟩
      · exact q
      · omega
    have hp' := hp
    obtain ⟨p1, p2, p3⟩ := hp'
    have hg := hX.2.1
    refine g_iload_n 11 dX0_gather_10 rfl rfl ?_
    refine g_if_lt 21 14 dX0_gather_11 (by decide) rfl (by omega) (fun h1 => ?_) (fun h1 => ?_)
    · refine g_bipush 23 dX0_gather_21 rfl (by decide) ?_
      exact hret _ _ _ _ dX0_gather_23 rfl ⟨hX, Or.inr (Or.inl ⟨hp, Or.inl h1, rfl, rfl, rfl, rfl, rfl⟩), rfl, rfl⟩
    · refine g_iload_n 15 dX0_gather_14 rfl rfl ?_
      refine g_sipush 18 dX0_gather_15 rfl (by decide) ?_
      refine g_icmp_le 24 21 dX0_gather_18 (by decide) rfl (by omega) (by omega) (fun h2 => ?_) (fun h2 => ?_)
      · refine g_aload_n 25 dX0_gather_24 rfl rfl ?_
        refine xg_gathered hE 28 dX0_gather_25 rfl ?_
        refine g_bipush 30 dX0_gather_28 rfl (by decide) ?_
        refine g_icmp_lt 36 33 dX0_gather_30 (by decide) rfl (by omega) (by omega) (fun h3 => ?_) (fun h3 => ?_)
        · refine g_aload_n 37 dX0_gather_36 rfl rfl ?_
          refine xg_payers hE 40 dX0_gather_37 rfl ?_
          refine g_aload_n 41 dX0_gather_40 rfl rfl ?_
          refine xg_gathered hE 44 dX0_gather_41 rfl ?_
          refine g_iload_n 45 dX0_gather_44 rfl rfl ?_
          refine xs_payers hE 46 dX0_gather_45 rfl (by show 0 ≤ S0 3 0 ∧ S0 3 0 < 6; omega) ?_
          refine g_aload_n 47 dX0_gather_46 rfl rfl ?_
          refine xg_payees hE 50 dX0_gather_47 rfl ?_
          refine g_aload_n 51 dX0_gather_50 rfl rfl ?_
          refine xg_gathered hE 54 dX0_gather_51 rfl ?_
          refine g_iload_n 55 dX0_gather_54 rfl rfl ?_
          refine xs_payees hE 56 dX0_gather_55 rfl (by show 0 ≤ S0 3 0 ∧ S0 3 0 < 6; omega) ?_
          refine g_aload_n 57 dX0_gather_56 rfl rfl ?_
          refine xg_amounts hE 60 dX0_gather_57 rfl ?_
          refine g_aload_n 61 dX0_gather_60 rfl rfl ?_
          refine xg_gathered hE 64 dX0_gather_61 rfl ?_
          refine g_iload_n 65 dX0_gather_64 rfl rfl ?_
          refine xs_amounts hE 66 dX0_gather_65 rfl (by show 0 ≤ S0 3 0 ∧ S0 3 0 < 6; omega) ?_
          refine g_aload_n 67 dX0_gather_66 rfl rfl ?_
          refine g_dup 68 dX0_gather_67 rfl ?_
          refine xg_gathered hE 71 dX0_gather_68 rfl ?_
          refine g_iconst 72 dX0_gather_71 rfl ?_
          refine g_iadd 73 dX0_gather_72 rfl ?_
          refine xp_gathered hE 76 dX0_gather_73 rfl ?_
          refine g_aload_n 77 dX0_gather_76 rfl rfl ?_
          refine xg_gathered hE 80 dX0_gather_77 rfl ?_
          refine hret _ _ _ _ dX0_gather_80 rfl ⟨⟨hX.1, ?_, fun i q1 q2 => ?_⟩, Or.inr (Or.inr (Or.inr ⟨hp, by omega, h3, rfl, rfl, rfl, rfl, rfl⟩)), rfl, rfl⟩
          · show 0 ≤ S0 3 0 + 1 ∧ S0 3 0 + 1 ≤ 6
            omega
          · show (0 ≤ ua (S0 4) (S0 3 0) u i ∧ ua (S0 4) (S0 3 0) u i < 7) ∧ (0 ≤ ua (S0 5) (S0 3 0) v i ∧ ua (S0 5) (S0 3 0) v i < 7) ∧ (0 ≤ ua (S0 6) (S0 3 0) a i ∧ ua (S0 6) (S0 3 0) a i ≤ 10000)
            have q2 : i < S0 3 0 + 1 := q2
            by_cases e : i = S0 3 0
            · rw [e, ua_s, ua_s, ua_s]
              omega
            · rw [ua_n e, ua_n e, ua_n e]
              exact hX.2.2 i q1 (by omega)
        · refine g_bipush 35 dX0_gather_33 rfl (by decide) ?_
          exact hret _ _ _ _ dX0_gather_35 rfl ⟨hX, Or.inr (Or.inr (Or.inl ⟨hp, by omega, by omega, rfl, rfl, rfl, rfl, rfl⟩)), rfl, rfl⟩
      · refine g_bipush 23 dX0_gather_21 rfl (by decide) ?_
        exact hret _ _ _ _ dX0_gather_23 rfl ⟨hX, Or.inr (Or.inl ⟨hp, Or.inr h2, rfl, rfl, rfl, rfl, rfl⟩), rfl, rfl⟩
  · have hp : ¬ isPr u v := by
      rcases hz with ⟨q, -⟩ | ⟨-, q⟩
      · omega
      · exact q
    refine g_iconst 9 dX0_gather_8 rfl ?_
    exact hret _ _ _ _ dX0_gather_9 rfl ⟨hX, Or.inl ⟨hp, rfl, rfl, rfl, rfl, rfl⟩, rfl, rfl⟩
theorem cx_forget : c_meti xW yX0_forget cX0_forget 2 .int (rk 2) true [] XI (fun S z S' => XI S' ∧ z = S 3 0 ∧ S' 3 0 = 0 ∧ S' 0 = S 0 ∧ S' 1 = S 1 ∧ S' 4 = S 4 ∧ S' 5 = S 5 ∧ S' 6 = S 6) := by
  refine c_meti_of (own := RX0) (by decide) rfl xW_fst (fun _ => by simp [c_args]) ?_
  intro E h S0 hE hR hX hret
  show G E cX0_forget 2 S0 0 [some (.inr (h 0)), none] []
  refine g_aload_n 1 dX0_forget_0 rfl rfl ?_
  refine xg_gathered hE 4 dX0_forget_1 rfl ?_
  refine g_istore_n 5 dX0_forget_4 rfl (by decide) ?_
  refine g_aload_n 6 dX0_forget_5 rfl rfl ?_
  refine g_iconst 7 dX0_forget_6 rfl ?_
  refine xp_gathered hE 10 dX0_forget_7 rfl ?_
  refine g_iload_n 11 dX0_forget_10 rfl rfl ?_
  refine hret _ _ _ _ dX0_forget_11 rfl ⟨⟨hX.1, ?_, fun i q1 q2 => ?_⟩, rfl, rfl, rfl, rfl, rfl, rfl, rfl⟩
  · show (0 : Int) ≤ 0 ∧ (0 : Int) ≤ 6
    decide
  · have q2 : i < 0 := q2
    omega
theorem cx_trusted (u v : Int) (hu : -2147483648 ≤ u ∧ u ≤ 2147483647) (hv : -2147483648 ≤ v ∧ v ≤ 2147483647) : c_meti xW yX0_trusted cX0_trusted 3 .int (rk 2) true [u, v] XI (fun S z S' => S' = S ∧ ((isPr u v ∧ z = S 0 (7 * u + v)) ∨ (¬ isPr u v ∧ z = -1))) := by
  refine c_meti_of (own := RX0) (by decide) rfl xW_fst (fun _ => by simp [c_args]) ?_
  intro E h S0 hE hR hX hret
  show G E cX0_trusted 3 S0 0 [some (.inr (h 0)), some (.inl u), some (.inl v)] []
  refine g_iload_n 1 dX0_trusted_0 rfl rfl ?_
  refine g_iload_n 2 dX0_trusted_1 rfl rfl ?_
  refine g_calls (na := 2) (x_arePair u v hu hv) (lw_S q80 q81 q25 q82) (by decide +kernel) rfl ⟨rfl, rfl⟩ hE (by rw [hR]; decide) 5 dX0_trusted_2 rfl [] rfl (by simp) trivial (fun z S0 hz => ?_)
  obtain ⟨rfl, hz⟩ := hz
  have hz01 : z = 1 ∨ z = 0 := by rcases hz with ⟨q, -⟩ | ⟨q, -⟩ <;> omega
  refine g_if_eq 22 8 dX0_trusted_5 (by decide) rfl (by omega) (fun hc => ?_) (fun hc => ?_)
  · have hp : ¬ isPr u v := by
      rcases hz with ⟨q, -⟩ | ⟨-, q⟩
      · omega
      · exact q
    refine g_iconst 23 dX0_trusted_22 rfl ?_
    exact hret _ _ _ _ dX0_trusted_23 rfl ⟨rfl, Or.inr ⟨hp, rfl⟩⟩
  · have hp : isPr u v := by
      rcases hz with ⟨-, q⟩ | ⟨q, -⟩
      · exact q
      · omega
    have hp' := hp
    obtain ⟨p1, p2, p3⟩ := hp'
    refine g_aload_n 9 dX0_trusted_8 rfl rfl ?_
    refine xg_trusts hE 12 dX0_trusted_9 rfl ?_
    refine g_bipush 14 dX0_trusted_12 rfl (by decide) ?_
    refine g_iload_n 15 dX0_trusted_14 rfl rfl ?_
    refine g_imul 16 dX0_trusted_15 rfl ?_
    refine g_iload_n 17 dX0_trusted_16 rfl rfl ?_
    refine g_iadd 18 dX0_trusted_17 rfl ?_
    refine xl_trusts hE 19 dX0_trusted_18 rfl (by omega) ?_
    refine g_goto 23 dX0_trusted_19 (by decide) ?_
    exact hret _ _ _ _ dX0_trusted_23 rfl ⟨rfl, Or.inl ⟨hp, rfl⟩⟩
theorem cx_position (u : Int) (hu : -2147483648 ≤ u ∧ u ≤ 2147483647) : c_meti xW yX0_position cX0_position 2 .int (rk 2) true [u] XI (fun S z S' => S' = S ∧ z = if 0 ≤ u ∧ u < 7 then S 1 u else 0) := by
  refine c_meti_of (own := RX0) (by decide) rfl xW_fst (fun _ => by simp [c_args]) ?_
  intro E h S0 hE hR hX hret
  show G E cX0_position 2 S0 0 [some (.inr (h 0)), some (.inl u)] []
  refine g_iload_n 1 dX0_position_0 rfl rfl ?_
  refine g_calls (na := 1) (x_isMember u hu) (lw_S q83 q84 q25 q85) (by decide +kernel) rfl ⟨rfl, rfl⟩ hE (by rw [hR]; decide) 4 dX0_position_1 rfl [] rfl (by simp) trivial (fun z S0 hz => ?_)
  obtain ⟨rfl, hz⟩ := hz
  by_cases hm : 0 ≤ u ∧ u < 7
  · rw [if_pos hm] at hz
    refine g_if_eq 16 7 dX0_position_4 (by decide) rfl (by omega) (fun hc => ?_) (fun hc => ?_)
    · omega
    · refine g_aload_n 8 dX0_position_7 rfl rfl ?_
      refine xg_positions hE 11 dX0_position_8 rfl ?_
      refine g_iload_n 12 dX0_position_11 rfl rfl ?_
      refine xl_positions hE 13 dX0_position_12 rfl (by omega) ?_
      refine g_goto 17 dX0_position_13 (by decide) ?_
      exact hret _ _ _ _ dX0_position_17 rfl ⟨rfl, by rw [if_pos hm]⟩
  · rw [if_neg hm] at hz
    refine g_if_eq 16 7 dX0_position_4 (by decide) rfl (by omega) (fun hc => ?_) (fun hc => ?_)
    · refine g_iconst 17 dX0_position_16 rfl ?_
      exact hret _ _ _ _ dX0_position_17 rfl ⟨rfl, by rw [if_neg hm]⟩
    · omega
theorem cx_most (u v : Int) (hu : -2147483648 ≤ u ∧ u ≤ 2147483647) (hv : -2147483648 ≤ v ∧ v ≤ 2147483647) : c_meti xW yX0_most cX0_most 3 .int (rk 2) true [u, v] XI (fun S z S' => (∀ k, k < 7 → S' k = S k) ∧ rMost (S 0) (S 1) u v z) := by
  refine c_meti_of (own := RX0) (by decide) rfl xW_fst (fun _ => by simp [c_args]) ?_
  intro E h S0 hE hR hX hret
  show G E cX0_most 3 S0 0 [some (.inr (h 0)), some (.inl u), some (.inl v)] []
  refine g_iload_n 1 dX0_most_0 rfl rfl ?_
  refine g_iload_n 2 dX0_most_1 rfl rfl ?_
  refine g_calls (na := 2) (x_arePair u v hu hv) (lw_S q80 q81 q25 q82) (by decide +kernel) rfl ⟨rfl, rfl⟩ hE (by rw [hR]; decide) 5 dX0_most_2 rfl [] rfl (by simp) trivial (fun z S0 hz => ?_)
  obtain ⟨rfl, hz⟩ := hz
  have hz01 : z = 1 ∨ z = 0 := by rcases hz with ⟨q, -⟩ | ⟨q, -⟩ <;> omega
  refine g_if_ne 10 8 dX0_most_5 (by decide) rfl (by omega) (fun hc => ?_) (fun hc => ?_)
  · have hp : isPr u v := by
      rcases hz with ⟨-, q⟩ | ⟨q, -⟩
      · exact q
      · omega
    have hp' := hp
    obtain ⟨p1, p2, p3⟩ := hp'
    refine g_aload_n 11 dX0_most_10 rfl rfl ?_
    refine g_callv (na := 0) (x_copyFree) xW_ob (lw_V q90 q92 qs0 q25 q93) (by decide +kernel) rfl ⟨rfl, rfl⟩ hE (by rw [hR]; decide) 14 dX0_most_11 rfl [] rfl (by simp) trivial (fun S1 hS1 => ?_)
    obtain ⟨hw1, hk1⟩ := hS1
    refine g_aload_n 15 dX0_most_14 rfl rfl ?_
    refine g_iload_n 16 dX0_most_15 rfl rfl ?_
    refine g_iload_n 17 dX0_most_16 rfl rfl ?_
    refine g_ldc hE (1000000) 19 q107 (by decide) dX0_most_17 rfl ?_
    refine g_calli (na := 3) (x_send u v 1000000 (by omega) (by omega) p3 (by omega)) xW_ob (lw_V q94 q96 qs1 q25 q97) (by decide +kernel) rfl ⟨rfl, rfl⟩ hE (by rw [hR]; decide) 22 dX0_most_19 rfl [] rfl (by simp) ⟨fun j q1 q2 => by rw [hw1 j q1 q2]; have := hX.1.1 j q1 q2; omega, inv_row hX.1 p1 (fun j q1 q2 => Int.le_of_eq (hw1 j q1 q2))⟩ (fun sent S4 hS4 => ?_)
    obtain ⟨hk4, hs4⟩ := hS4
    refine hret _ _ _ _ dX0_most_22 rfl ⟨fun k q => ?_, Or.inr ⟨hp, x_most hX.1 p1 p2 p3 hw1 hs4⟩⟩
    rw [hk4 k (by omega) (by omega) (by omega)]
    exact hk1 k (by omega)
  · have hp : ¬ isPr u v := by
      rcases hz with ⟨q, -⟩ | ⟨-, q⟩
      · omega
      · exact q
    refine g_iconst 9 dX0_most_8 rfl ?_
    exact hret _ _ _ _ dX0_most_9 rfl ⟨fun _ _ => rfl, Or.inl ⟨hp, rfl⟩⟩
end
section
/-! ===== CreditNetwork: spread, debt, roundAbout, leastDebt, greatestDebt, open ===== -/
set_option maxRecDepth 10000
theorem cx_spread (u set : Int) (hu : -2147483648 ≤ u ∧ u ≤ 2147483647) (hs : -2147483648 ≤ set ∧ set ≤ 2147483647) : c_meti xW yX0_spread cX0_spread 4 .int (rk 2) true [u, set] XI (fun S z S' => (∀ k, k < 7 → S' k = S k) ∧ rSpr (S 0) (S 1) u set z) := by
  refine c_meti_of (own := RX0) (by decide) rfl xW_fst (fun _ => by simp [c_args]) ?_
  intro E h S0 hE hR hX hret
  show G E cX0_spread 4 S0 0 [some (.inr (h 0)), some (.inl u), some (.inl set), none] []
  have bad : ∀ (x3 : Option pv), ¬ okS u set → G E cX0_spread 4 S0 27 [some (.inr (h 0)), some (.inl u), some (.inl set), x3] [] := by
    intro x3 hn
    refine g_iconst 28 dX0_spread_27 rfl ?_
    exact hret _ _ _ _ dX0_spread_28 rfl ⟨fun _ _ => rfl, Or.inl ⟨hn, rfl⟩⟩
  refine g_iload_n 1 dX0_spread_0 rfl rfl ?_
  refine g_calls (na := 1) (x_isMember u hu) (lw_S q83 q84 q25 q85) (by decide +kernel) rfl ⟨rfl, rfl⟩ hE (by rw [hR]; decide) 4 dX0_spread_1 rfl [] rfl (by simp) trivial (fun z S1 hz => ?_)
  obtain ⟨hS1, hz⟩ := hz
  subst hS1
  by_cases hm : 0 ≤ u ∧ u < 7
  · rw [if_pos hm] at hz
    refine g_if_eq 27 7 dX0_spread_4 (by decide) rfl (by omega) (fun hc => ?_) (fun hc => ?_)
    · omega
    · refine g_iload_n 8 dX0_spread_7 rfl rfl ?_
      refine g_iconst 9 dX0_spread_8 rfl ?_
      refine g_icmp_lt 27 12 dX0_spread_9 (by decide) rfl (by omega) (by omega) (fun h1 => ?_) (fun h1 => ?_)
      · exact bad _ (fun q => by have := q.2.1; omega)
      · refine g_iload_n 13 dX0_spread_12 rfl rfl ?_
        refine g_bipush 15 dX0_spread_13 rfl (by decide) ?_
        refine g_icmp_gt 27 18 dX0_spread_15 (by decide) rfl (by omega) (by omega) (fun h2 => ?_) (fun h2 => ?_)
        · exact bad _ (fun q => by have := q.2.2.1; omega)
        · have hdv : 0 ≤ set / 2 ^ u.toNat := Int.ediv_nonneg (by omega) (Int.pow_nonneg (by decide))
          have hdv2 : set / 2 ^ u.toNat ≤ set := Int.ediv_le_self _ (by omega)
          refine g_iload_n 19 dX0_spread_18 rfl rfl ?_
          refine g_iload_n 20 dX0_spread_19 rfl rfl ?_
          refine g_ishr 21 dX0_spread_20 rfl (by omega) (by omega) ?_
          refine g_iconst 22 dX0_spread_21 rfl ?_
          refine g_iand1 23 dX0_spread_22 rfl (by omega) ?_
          refine g_iconst 24 dX0_spread_23 rfl ?_
          refine g_icmp_ne 29 27 dX0_spread_24 (by decide) rfl (by omega) (by omega) (fun h3 => ?_) (fun h3 => ?_)
          · have hok : okS u set := ⟨hm, h1, h2, h3⟩
            refine g_aload_n 30 dX0_spread_29 rfl rfl ?_
            refine g_callv (na := 0) (x_copyFree) xW_ob (lw_V q90 q92 qs0 q25 q93) (by decide +kernel) rfl ⟨rfl, rfl⟩ hE (by rw [hR]; decide) 33 dX0_spread_30 rfl [] rfl (by simp) trivial (fun S2 hS2 => ?_)
            obtain ⟨hw2, hk2⟩ := hS2
            refine g_iconst 34 dX0_spread_33 rfl ?_
            refine g_istore_n 35 dX0_spread_34 rfl (by decide) ?_
            suffices loop : ∀ (n : Nat) (i : Int) (S : st_T), 0 ≤ i → i ≤ 7 → 7 - i < n → (∀ k, k ≠ 7 → S k = S1 k) → (∀ j : Int, 0 ≤ j → j < 81 → (¬ j % 9 = 8 ∨ 63 ≤ j) → S 7 j = S1 2 j) → (∀ x : Int, 0 ≤ x → x < i → S 7 (9 * x + 8) = if set / 2 ^ x.toNat % 2 = 1 then 1000000 else 0) → (∀ j : Int, 0 ≤ j → j < 81 → 0 ≤ S 7 j ∧ S 7 j ≤ 1000000) → G E cX0_spread 4 S 35 [some (.inr (h 0)), some (.inl u), some (.inl set), some (.inl i)] [] from loop 8 0 S2 (by decide) (by decide) (by decide) hk2 (fun j q1 q2 _ => hw2 j q1 q2) (fun x q1 q2 => by omega) (fun j q1 q2 => by rw [hw2 j q1 q2]; have := hX.1.1 j q1 q2; omega)
            intro n
            induction n with
            | zero => intro i S g0 g1 gn; omega
            | succ n ih =>
              intro i S g0 g1 gn hk hm7 h8 hB
              refine g_iload_n 36 dX0_spread_35 rfl rfl ?_
              refine g_bipush 38 dX0_spread_36 rfl (by decide) ?_
              refine g_icmp_ge 74 41 dX0_spread_38 (by decide) rfl (by omega) (by omega) (fun hc2 => ?_) (fun hc2 => ?_)
              · refine g_aload_n 75 dX0_spread_74 rfl rfl ?_
                refine g_iload_n 76 dX0_spread_75 rfl rfl ?_
                refine g_bipush 78 dX0_spread_76 rfl (by decide) ?_
                refine g_ldc hE (1000000) 80 q107 (by decide) dX0_spread_78 rfl ?_
                have hrow : sg (mF (S 7) u) 9 ≤ 99999 := by
                  have e : sg (mF (S 7) u) 9 = sg (mF (S 7) u) 8 + S 7 (9 * u + 8) := rfl
                  have e2 : sg (mF (S 7) u) 8 ≤ sg (fun _ => 2000) 8 := sg_le (fun v q1 q2 => by
                    show S 7 (9 * u + v) ≤ 2000
                    rw [hm7 _ (by omega) (by omega) (by omega)]
                    exact (hX.1.1 _ (by omega) (by omega)).2)
                  rw [sg_const] at e2
                  have e3 := h8 u hm.1 (by omega)
                  rw [if_neg h3] at e3
                  omega
                refine g_calli (na := 3) (x_send u 8 1000000 (by omega) (by omega) (by omega) (by omega)) xW_ob (lw_V q94 q96 qs1 q25 q97) (by decide +kernel) rfl ⟨rfl, rfl⟩ hE (by rw [hR]; decide) 83 dX0_spread_80 rfl [] rfl (by simp) ⟨fun j q1 q2 => by have := hB j q1 q2; omega, hrow⟩ (fun sent S4 hS4 => ?_)
                obtain ⟨hk4, hs4⟩ := hS4
                refine hret _ _ _ _ dX0_spread_83 rfl ⟨fun k q => ?_, Or.inr ⟨hok, x_spread hX.1 hm (by omega) h3 hm7 (fun x q1 q2 => h8 x q1 (by omega)) hs4⟩⟩
                rw [hk4 k (by omega) (by omega) (by omega)]
                exact hk k (by omega)
              · have hdi : 0 ≤ set / 2 ^ i.toNat := Int.ediv_nonneg (by omega) (Int.pow_nonneg (by decide))
                have hdi2 : set / 2 ^ i.toNat ≤ set := Int.ediv_le_self _ (by omega)
                refine g_aload_n 42 dX0_spread_41 rfl rfl ?_
                refine xg_work hE 45 dX0_spread_42 rfl ?_
                refine g_bipush 47 dX0_spread_45 rfl (by decide) ?_
                refine g_iload_n 48 dX0_spread_47 rfl rfl ?_
                refine g_imul 49 dX0_spread_48 rfl ?_
                refine g_bipush 51 dX0_spread_49 rfl (by decide) ?_
                refine g_iadd 52 dX0_spread_51 rfl ?_
                refine g_iload_n 53 dX0_spread_52 rfl rfl ?_
                refine g_iload_n 54 dX0_spread_53 rfl rfl ?_
                refine g_ishr 55 dX0_spread_54 rfl (by omega) (by omega) ?_
                refine g_iconst 56 dX0_spread_55 rfl ?_
                refine g_iand1 57 dX0_spread_56 rfl (by omega) ?_
                refine g_iconst 58 dX0_spread_57 rfl ?_
                have go : ∀ w : Int, w = (if set / 2 ^ i.toNat % 2 = 1 then 1000000 else 0) → G E cX0_spread 4 S 67 [some (.inr (h 0)), some (.inl u), some (.inl set), some (.inl i)] [.inl w, .inl (9 * i + 8), .inr (h 7)] := by
                  intro w hw
                  have hw2 : 0 ≤ w ∧ w ≤ 1000000 := by rw [hw]; split <;> omega
                  refine xs_work hE 68 dX0_spread_67 rfl (by omega) ?_
                  refine g_iinc 71 dX0_spread_68 rfl (by decide) rfl ?_
                  refine g_goto 35 dX0_spread_71 (by decide) ?_
                  refine ih (i + 1) _ (by omega) (by omega) (by omega) (fun k q => ?_) (fun j q1 q2 q3 => ?_) (fun x q1 q2 => ?_) (fun j q1 q2 => ?_)
                  · rw [us_n q]
                    exact hk k q
                  · rw [us_s, ua_n (by omega)]
                    exact hm7 j q1 q2 q3
                  · rw [us_s]
                    by_cases e : x = i
                    · subst e
                      rw [ua_s]
                      exact hw
                    · rw [ua_n (by omega)]
                      exact h8 x q1 (by omega)
                  · rw [us_s]
                    unfold ua
                    split
                    · exact hw2
                    · exact hB j q1 q2
                refine g_icmp_ne 66 61 dX0_spread_58 (by decide) rfl (by omega) (by omega) (fun h4 => ?_) (fun h4 => ?_)
                · refine g_iconst 67 dX0_spread_66 rfl ?_
                  exact go 0 (by rw [if_neg h4])
                · refine g_ldc hE (1000000) 63 q107 (by decide) dX0_spread_61 rfl ?_
                  refine g_goto 67 dX0_spread_63 (by decide) ?_
                  exact go 1000000 (by rw [if_pos h4])
          · exact bad _ (fun q => q.2.2.2 h3)
  · rw [if_neg hm] at hz
    refine g_if_eq 27 7 dX0_spread_4 (by decide) rfl (by omega) (fun hc => ?_) (fun hc => ?_)
    · exact bad _ (fun q => hm q.1)
    · omega
theorem x_debt (u v : Int) (hu : 0 ≤ u ∧ u < 7) (hv : 0 ≤ v ∧ v < 7) : c_meti xW yX0_debt cX0_debt 3 .int (rk 0) true [u, v] (fun _ => True) (fun S z S' => S' = S ∧ z = S 0 (7 * v + u) - S 2 (9 * u + v)) := by
  refine c_meti_of (own := RX0) (by decide) rfl xW_fst (fun _ => by simp [c_args]) ?_
  intro E h S0 hE hR hX hret
  show G E cX0_debt 3 S0 0 [some (.inr (h 0)), some (.inl u), some (.inl v)] []
  refine g_aload_n 1 dX0_debt_0 rfl rfl ?_
  refine xg_trusts hE 4 dX0_debt_1 rfl ?_
  refine g_bipush 6 dX0_debt_4 rfl (by decide) ?_
  refine g_iload_n 7 dX0_debt_6 rfl rfl ?_
  refine g_imul 8 dX0_debt_7 rfl ?_
  refine g_iload_n 9 dX0_debt_8 rfl rfl ?_
  refine g_iadd 10 dX0_debt_9 rfl ?_
  refine xl_trusts hE 11 dX0_debt_10 rfl (by omega) ?_
  refine g_aload_n 12 dX0_debt_11 rfl rfl ?_
  refine xg_free hE 15 dX0_debt_12 rfl ?_
  refine g_bipush 17 dX0_debt_15 rfl (by decide) ?_
  refine g_iload_n 18 dX0_debt_17 rfl rfl ?_
  refine g_imul 19 dX0_debt_18 rfl ?_
  refine g_iload_n 20 dX0_debt_19 rfl rfl ?_
  refine g_iadd 21 dX0_debt_20 rfl ?_
  refine xl_free hE 22 dX0_debt_21 rfl (by omega) ?_
  refine g_isub 23 dX0_debt_22 rfl ?_
  exact hret _ _ _ _ dX0_debt_23 rfl ⟨rfl, rfl⟩
theorem x_roundAbout (u v : Int) (hu : 0 ≤ u ∧ u < 7) (hv : 0 ≤ v ∧ v < 7) (huv : u ≠ v) : c_meti xW yX0_roundAbout cX0_roundAbout 4 .int (rk 2) true [u, v] XI (fun S z S' => (∀ k, k < 7 → S' k = S k) ∧ ∀ m : Int, IsMin (S 0) (S 1) (2 ^ v.toNat) u m → z = if m - S 2 (9 * u + v) < S 2 (9 * v + u) then m - S 2 (9 * u + v) else S 2 (9 * v + u)) := by
  refine c_meti_of (own := RX0) (by decide) rfl xW_fst (fun _ => by simp [c_args]) ?_
  intro E h S0 hE hR hX hret
  show G E cX0_roundAbout 4 S0 0 [some (.inr (h 0)), some (.inl u), some (.inl v), none] []
  refine g_aload_n 1 dX0_roundAbout_0 rfl rfl ?_
  refine g_callv (na := 0) (x_copyFree) xW_ob (lw_V q90 q92 qs0 q25 q93) (by decide +kernel) rfl ⟨rfl, rfl⟩ hE (by rw [hR]; decide) 4 dX0_roundAbout_1 rfl [] rfl (by simp) trivial (fun S1 hS1 => ?_)
  obtain ⟨hw1, hk1⟩ := hS1
  have e2v : S1 2 (9 * v + u) = S0 2 (9 * v + u) := by rw [hk1 2 (by decide)]
  have hF := hX.1.1 (9 * v + u) (by omega) (by omega)
  refine g_aload_n 5 dX0_roundAbout_4 rfl rfl ?_
  refine xg_free hE 8 dX0_roundAbout_5 rfl ?_
  refine g_bipush 10 dX0_roundAbout_8 rfl (by decide) ?_
  refine g_iload_n 11 dX0_roundAbout_10 rfl rfl ?_
  refine g_imul 12 dX0_roundAbout_11 rfl ?_
  refine g_iload_n 13 dX0_roundAbout_12 rfl rfl ?_
  refine g_iadd 14 dX0_roundAbout_13 rfl ?_
  refine xl_free hE 15 dX0_roundAbout_14 rfl (by omega) ?_
  refine g_istore_n 16 dX0_roundAbout_15 rfl (by decide) ?_
  refine g_aload_n 17 dX0_roundAbout_16 rfl rfl ?_
  refine xg_work hE 20 dX0_roundAbout_17 rfl ?_
  refine g_bipush 22 dX0_roundAbout_20 rfl (by decide) ?_
  refine g_iload_n 23 dX0_roundAbout_22 rfl rfl ?_
  refine g_imul 24 dX0_roundAbout_23 rfl ?_
  refine g_iload_n 25 dX0_roundAbout_24 rfl rfl ?_
  refine g_iadd 26 dX0_roundAbout_25 rfl ?_
  refine g_iconst 27 dX0_roundAbout_26 rfl ?_
  refine xs_work hE 28 dX0_roundAbout_27 rfl (by omega) ?_
  refine g_aload_n 29 dX0_roundAbout_28 rfl rfl ?_
  refine xg_work hE 32 dX0_roundAbout_29 rfl ?_
  refine g_bipush 34 dX0_roundAbout_32 rfl (by decide) ?_
  refine g_iload_n 35 dX0_roundAbout_34 rfl rfl ?_
  refine g_imul 36 dX0_roundAbout_35 rfl ?_
  refine g_iload_n 37 dX0_roundAbout_36 rfl rfl ?_
  refine g_iadd 38 dX0_roundAbout_37 rfl ?_
  refine g_iconst 39 dX0_roundAbout_38 rfl ?_
  refine xs_work hE 40 dX0_roundAbout_39 rfl (by omega) ?_
  refine g_aload_n 41 dX0_roundAbout_40 rfl rfl ?_
  refine g_iload_n 42 dX0_roundAbout_41 rfl rfl ?_
  refine g_iload_n 43 dX0_roundAbout_42 rfl rfl ?_
  refine g_iload_n 44 dX0_roundAbout_43 rfl rfl ?_
  rw [e2v]
  have hW3 : ∀ j : Int, 0 ≤ j → j < 81 → ua (ua (S1 7) (9 * u + v) 0) (9 * v + u) 0 j = ua (ua (S0 2) (9 * u + v) 0) (9 * v + u) 0 j := by
    intro j q1 q2
    unfold ua
    split
    · rfl
    · split
      · rfl
      · exact hw1 j q1 q2
  have hpos3 : ∀ j : Int, 0 ≤ j → j < 81 → 0 ≤ ua (ua (S1 7) (9 * u + v) 0) (9 * v + u) 0 j ∧ ua (ua (S1 7) (9 * u + v) 0) (9 * v + u) 0 j ≤ S0 2 j := by
    intro j q1 q2
    have := hX.1.1 j q1 q2
    have := hw1 j q1 q2
    unfold ua
    split
    · omega
    · split <;> omega
  refine g_calli (na := 3) (x_send u v (S0 2 (9 * v + u)) (by omega) (by omega) huv (by omega)) xW_ob (lw_V q94 q96 qs1 q25 q97) (by decide +kernel) rfl ⟨rfl, rfl⟩ hE (by rw [hR]; decide) 47 dX0_roundAbout_44 rfl [] rfl (by simp) ⟨fun j q1 q2 => by show 0 ≤ ua (ua (S1 7) (9 * u + v) 0) (9 * v + u) 0 j ∧ ua (ua (S1 7) (9 * u + v) 0) (9 * v + u) 0 j ≤ 10000000; have := hpos3 j q1 q2; have := hX.1.1 j q1 q2; omega, inv_row (W := ua (ua (S1 7) (9 * u + v) 0) (9 * v + u) 0) hX.1 hu (fun j q1 q2 => (hpos3 j q1 q2).2)⟩ (fun sent S4 hS4 => ?_)
  obtain ⟨hk4, hs4⟩ := hS4
  refine hret _ _ _ _ dX0_roundAbout_47 rfl ⟨fun k q => ?_, fun m hm => x_round (W := ua (ua (S1 7) (9 * u + v) 0) (9 * v + u) 0) hX.1 hu hv huv hW3 hs4 hm⟩
  rw [hk4 k (by omega) (by omega) (by omega), us_n (by omega), us_n (by omega)]
  exact hk1 k (by omega)
theorem cx_leastDebt (u v : Int) (hu : -2147483648 ≤ u ∧ u ≤ 2147483647) (hv : -2147483648 ≤ v ∧ v ≤ 2147483647) : c_meti xW yX0_leastDebt cX0_leastDebt 4 .int (rk 3) true [u, v] XI (fun S z S' => (∀ k, k < 7 → S' k = S k) ∧ ∀ m : Int, (isPr u v → IsMin (S 0) (S 1) (2 ^ v.toNat) u m) → rLst (S 0) u v m z) := by
  refine c_meti_of (own := RX0) (by decide) rfl xW_fst (fun _ => by simp [c_args]) ?_
  intro E h S0 hE hR hX hret
  show G E cX0_leastDebt 4 S0 0 [some (.inr (h 0)), some (.inl u), some (.inl v), none] []
  refine g_iload_n 1 dX0_leastDebt_0 rfl rfl ?_
  refine g_iload_n 2 dX0_leastDebt_1 rfl rfl ?_
  refine g_calls (na := 2) (x_arePair u v hu hv) (lw_S q80 q81 q25 q82) (by decide +kernel) rfl ⟨rfl, rfl⟩ hE (by rw [hR]; decide) 5 dX0_leastDebt_2 rfl [] rfl (by simp) trivial (fun z S0 hz => ?_)
  obtain ⟨rfl, hz⟩ := hz
  have hz01 : z = 1 ∨ z = 0 := by rcases hz with ⟨q, -⟩ | ⟨q, -⟩ <;> omega
  refine g_if_eq 13 8 dX0_leastDebt_5 (by decide) rfl (by omega) (fun hc => ?_) (fun hc => ?_)
  · have hp : ¬ isPr u v := by
      rcases hz with ⟨q, -⟩ | ⟨-, q⟩
      · omega
      · exact q
    refine g_ldc hE (-100000) 15 q152 (by decide) dX0_leastDebt_13 rfl ?_
    exact hret _ _ _ _ dX0_leastDebt_15 rfl ⟨fun _ _ => rfl, fun m _ => Or.inl ⟨fun q => hp q.1, rfl⟩⟩
  · have hp : isPr u v := by
      rcases hz with ⟨-, q⟩ | ⟨q, -⟩
      · exact q
      · omega
    have hp' := hp
    obtain ⟨p1, p2, p3⟩ := hp'
    refine g_iload_n 9 dX0_leastDebt_8 rfl rfl ?_
    refine g_iload_n 10 dX0_leastDebt_9 rfl rfl ?_
    refine g_icmp_le 16 13 dX0_leastDebt_10 (by decide) rfl (by omega) (by omega) (fun h1 => ?_) (fun h1 => ?_)
    · refine g_aload_n 17 dX0_leastDebt_16 rfl rfl ?_
      refine g_iload_n 18 dX0_leastDebt_17 rfl rfl ?_
      refine g_iload_n 19 dX0_leastDebt_18 rfl rfl ?_
      refine g_calli (na := 2) (x_roundAbout u v p1 p2 p3) xW_ob (lw_V q153 q155 qs6 q25 q156) (by decide +kernel) rfl ⟨rfl, rfl⟩ hE (by rw [hR]; decide) 22 dX0_leastDebt_19 rfl [] rfl (by simp) hX (fun t S1 hS1 => ?_)
      obtain ⟨hk1, ht⟩ := hS1
      refine g_istore_n 23 dX0_leastDebt_22 rfl (by decide) ?_
      refine g_aload_n 24 dX0_leastDebt_23 rfl rfl ?_
      refine g_iload_n 25 dX0_leastDebt_24 rfl rfl ?_
      refine g_iload_n 26 dX0_leastDebt_25 rfl rfl ?_
      refine g_calli (na := 2) (x_debt u v p1 p2) xW_ob (lw_V q157 q159 qs7 q25 q160) (by decide +kernel) rfl ⟨rfl, rfl⟩ hE (by rw [hR]; decide) 29 dX0_leastDebt_26 rfl [] rfl (by simp) trivial (fun y S2 hS2 => ?_)
      obtain ⟨rfl, hy⟩ := hS2
      refine g_iload_n 30 dX0_leastDebt_29 rfl rfl ?_
      refine g_isub 31 dX0_leastDebt_30 rfl ?_
      refine hret _ _ _ _ dX0_leastDebt_31 rfl ⟨hk1, fun m hm => Or.inr ⟨⟨hp, h1⟩, ?_⟩⟩
      have e1 := ht m (hm hp)
      have e2 := hX.1.2.2.1 u v p1.1 p1.2 p2.1 p2.2
      rw [hy, hk1 0 (by decide), hk1 2 (by decide), e1]
      split <;> split <;> omega
    · refine g_ldc hE (-100000) 15 q152 (by decide) dX0_leastDebt_13 rfl ?_
      exact hret _ _ _ _ dX0_leastDebt_15 rfl ⟨fun _ _ => rfl, fun m _ => Or.inl ⟨fun q => by have := q.2; omega, rfl⟩⟩
theorem cx_greatestDebt (u v : Int) (hu : -2147483648 ≤ u ∧ u ≤ 2147483647) (hv : -2147483648 ≤ v ∧ v ≤ 2147483647) : c_meti xW yX0_greatestDebt cX0_greatestDebt 4 .int (rk 3) true [u, v] XI (fun S z S' => (∀ k, k < 7 → S' k = S k) ∧ ∀ m : Int, (isPr u v → IsMin (S 0) (S 1) (2 ^ u.toNat) v m) → rGrt (S 0) u v m z) := by
  refine c_meti_of (own := RX0) (by decide) rfl xW_fst (fun _ => by simp [c_args]) ?_
  intro E h S0 hE hR hX hret
  show G E cX0_greatestDebt 4 S0 0 [some (.inr (h 0)), some (.inl u), some (.inl v), none] []
  refine g_iload_n 1 dX0_greatestDebt_0 rfl rfl ?_
  refine g_iload_n 2 dX0_greatestDebt_1 rfl rfl ?_
  refine g_calls (na := 2) (x_arePair u v hu hv) (lw_S q80 q81 q25 q82) (by decide +kernel) rfl ⟨rfl, rfl⟩ hE (by rw [hR]; decide) 5 dX0_greatestDebt_2 rfl [] rfl (by simp) trivial (fun z S0 hz => ?_)
  obtain ⟨rfl, hz⟩ := hz
  have hz01 : z = 1 ∨ z = 0 := by rcases hz with ⟨q, -⟩ | ⟨q, -⟩ <;> omega
  refine g_if_eq 13 8 dX0_greatestDebt_5 (by decide) rfl (by omega) (fun hc => ?_) (fun hc => ?_)
  · have hp : ¬ isPr u v := by
      rcases hz with ⟨q, -⟩ | ⟨-, q⟩
      · omega
      · exact q
    refine g_ldc hE (-100000) 15 q152 (by decide) dX0_greatestDebt_13 rfl ?_
    exact hret _ _ _ _ dX0_greatestDebt_15 rfl ⟨fun _ _ => rfl, fun m _ => Or.inl ⟨fun q => hp q.1, rfl⟩⟩
  · have hp : isPr u v := by
      rcases hz with ⟨-, q⟩ | ⟨q, -⟩
      · exact q
      · omega
    have hp' := hp
    obtain ⟨p1, p2, p3⟩ := hp'
    refine g_iload_n 9 dX0_greatestDebt_8 rfl rfl ?_
    refine g_iload_n 10 dX0_greatestDebt_9 rfl rfl ?_
    refine g_icmp_le 16 13 dX0_greatestDebt_10 (by decide) rfl (by omega) (by omega) (fun h1 => ?_) (fun h1 => ?_)
    · refine g_aload_n 17 dX0_greatestDebt_16 rfl rfl ?_
      refine g_iload_n 18 dX0_greatestDebt_17 rfl rfl ?_
      refine g_iload_n 19 dX0_greatestDebt_18 rfl rfl ?_
      refine g_calli (na := 2) (x_roundAbout v u p2 p1 (fun e => p3 e.symm)) xW_ob (lw_V q153 q155 qs6 q25 q156) (by decide +kernel) rfl ⟨rfl, rfl⟩ hE (by rw [hR]; decide) 22 dX0_greatestDebt_19 rfl [] rfl (by simp) hX (fun t S1 hS1 => ?_)
      obtain ⟨hk1, ht⟩ := hS1
      refine g_istore_n 23 dX0_greatestDebt_22 rfl (by decide) ?_
      refine g_aload_n 24 dX0_greatestDebt_23 rfl rfl ?_
      refine g_iload_n 25 dX0_greatestDebt_24 rfl rfl ?_
      refine g_iload_n 26 dX0_greatestDebt_25 rfl rfl ?_
      refine g_calli (na := 2) (x_debt u v p1 p2) xW_ob (lw_V q157 q159 qs7 q25 q160) (by decide +kernel) rfl ⟨rfl, rfl⟩ hE (by rw [hR]; decide) 29 dX0_greatestDebt_26 rfl [] rfl (by simp) trivial (fun y S2 hS2 => ?_)
      obtain ⟨rfl, hy⟩ := hS2
      refine g_iload_n 30 dX0_greatestDebt_29 rfl rfl ?_
      refine g_iadd 31 dX0_greatestDebt_30 rfl ?_
      refine hret _ _ _ _ dX0_greatestDebt_31 rfl ⟨hk1, fun m hm => Or.inr ⟨⟨hp, h1⟩, ?_⟩⟩
      have e1 := ht m (hm hp)
      have e2 := hX.1.2.2.1 u v p1.1 p1.2 p2.1 p2.2
      rw [hy, hk1 0 (by decide), hk1 2 (by decide), e1]
      split <;> split <;> omega
    · refine g_ldc hE (-100000) 15 q152 (by decide) dX0_greatestDebt_13 rfl ?_
      exact hret _ _ _ _ dX0_greatestDebt_15 rfl ⟨fun _ _ => rfl, fun m _ => Or.inl ⟨fun q => by have := q.2; omega, rfl⟩⟩
theorem isMin_rng {T P F : Int → Int} {u v z : Int} (hI : InvF T P F) (h : IsMin T P (2 ^ v.toNat) u z) : 0 ≤ z ∧ z ≤ 2147483647 := by
  obtain ⟨⟨set, s0, s1, s2, s3, s4⟩, -⟩ := h
  have h1 := inv_pos hI set
  have h2 : slk T P set ≤ 7 * (7 * 2000) := by
    rw [inv_slk hI (z := zS set) (fun x _ _ => zS_ok set x)]
    exact cap_le (by decide) (fun a b q1 q2 q3 q4 => (hI.1 (9 * a + b) (by omega) (by omega)).2)
  omega
theorem cx_open (a : Int) (ha : -2147483648 ≤ a ∧ a ≤ 2147483647) : c_meti xW yX0_open cX0_open 7 .int (rk 3) true [a] XI (fun S z S' => (∀ k, k < 7 → S' k = S k) ∧ rOpn (S 0) (S 1) a z) := by
  refine c_meti_of (own := RX0) (by decide) rfl xW_fst (fun _ => by simp [c_args]) ?_
  intro E h S0 hE hR hX hret
  show G E cX0_open 7 S0 0 [some (.inr (h 0)), some (.inl a), none, none, none, none, none] []
  refine g_iconst 1 dX0_open_0 rfl ?_
  refine g_istore_n 2 dX0_open_1 rfl (by decide) ?_
  refine g_iconst 3 dX0_open_2 rfl ?_
  refine g_istore_n 4 dX0_open_3 rfl (by decide) ?_
  suffices loop : ∀ (n i : Nat) (c r : Int) (S : st_T) (mm : Int → Int) (x4 x5 x6 : Option pv), c = i → c ≤ 49 → 49 - c < n → (∀ k, k < 7 → S k = S0 k) → (∀ q : Int, 0 ≤ q → q < c → q / 7 ≠ q % 7 → IsMin (S0 0) (S0 1) (2 ^ (q % 7).toNat) (q / 7) (mm q)) → r = sg (fun q => if q / 7 ≠ q % 7 ∧ a ≤ mm q then 1 else 0) i → G E cX0_open 7 S 4 [some (.inr (h 0)), some (.inl a), some (.inl r), some (.inl c), x4, x5, x6] [] from loop 50 0 0 0 S0 (fun _ => 0) _ _ _ rfl (by decide) (by decide) (fun _ _ => rfl) (fun q q1 q2 => by omega) rfl
  intro n
  induction n with
  | zero => intro i c r S mm x4 x5 x6 hi h1 hn; omega
  | succ n ih =>
    intro i c r S mm x4 x5 x6 hi h1 hn hk hmm hr
    refine g_iload_n 5 dX0_open_4 rfl rfl ?_
    refine g_bipush 7 dX0_open_5 rfl (by decide) ?_
    refine g_icmp_ge 59 10 dX0_open_7 (by decide) rfl (by omega) (by omega) (fun hc => ?_) (fun hc => ?_)
    · refine g_iload_n 60 dX0_open_59 rfl rfl ?_
      have hi49 : i = 49 := by omega
      subst hi49
      exact hret _ _ _ _ dX0_open_60 rfl ⟨hk, mm, fun q q1 q2 => hmm q q1 (by omega), hr⟩
    · refine g_iload_n 11 dX0_open_10 rfl rfl ?_
      refine g_bipush 13 dX0_open_11 rfl (by decide) ?_
      refine g_idiv 14 dX0_open_13 rfl (by omega) (by omega) ?_
      refine g_istore 16 dX0_open_14 rfl (by decide) ?_
      refine g_iload_n 17 dX0_open_16 rfl rfl ?_
      refine g_bipush 19 dX0_open_17 rfl (by decide) ?_
      refine g_irem 20 dX0_open_19 rfl (by omega) (by omega) ?_
      refine g_istore 22 dX0_open_20 rfl (by decide) ?_
      refine g_iload 24 dX0_open_22 rfl rfl ?_
      refine g_iload 26 dX0_open_24 rfl rfl ?_
      refine g_icmp_eq 53 29 dX0_open_26 (by decide) rfl (by omega) (by omega) (fun he => ?_) (fun he => ?_)
      · refine g_iinc 56 dX0_open_53 rfl (by decide) rfl ?_
        refine g_goto 4 dX0_open_56 (by decide) ?_
        refine ih (i + 1) (c + 1) r S mm _ _ _ (by omega) (by omega) (by omega) hk (fun q q1 q2 q3 => hmm q q1 (by
          have : q ≠ c := fun e => by rw [e] at q3; exact q3 he
          omega) q3) ?_
        show r = sg _ i + (if (i : Int) / 7 ≠ (i : Int) % 7 ∧ a ≤ mm i then 1 else 0)
        rw [← hi, if_neg (fun q => q.1 he), ← hr]
        omega
      · refine g_aload_n 30 dX0_open_29 rfl rfl ?_
        refine g_iload 32 dX0_open_30 rfl rfl ?_
        refine g_iload 34 dX0_open_32 rfl rfl ?_
        refine g_calli (na := 2) (cx_most (c / 7) (c % 7) (by omega) (by omega)) xW_ob (lw_V q193 q141 q142 q25 q143) (by decide +kernel) rfl ⟨rfl, rfl⟩ hE (by rw [hR]; decide) 37 dX0_open_34 rfl [] rfl (by simp) (XI_keep hX hk) (fun found S1 hS1 => ?_)
        obtain ⟨hk1, hm⟩ := hS1
        rw [hk 0 (by decide), hk 1 (by decide)] at hm
        have hmin : IsMin (S0 0) (S0 1) (2 ^ (c % 7).toNat) (c / 7) found := by
          rcases hm with ⟨q, -⟩ | ⟨-, q⟩
          · exact absurd ⟨by omega, by omega, he⟩ q
          · exact q
        have hrng := isMin_rng hX.1 hmin
        have hk2 : ∀ k, k < 7 → S1 k = S0 k := fun k q => by rw [hk1 k q]; exact hk k q
        refine g_istore 39 dX0_open_37 rfl (by decide) ?_
        refine g_iload_n 40 dX0_open_39 rfl rfl ?_
        refine g_iload 42 dX0_open_40 rfl rfl ?_
        refine g_iload_n 43 dX0_open_42 rfl rfl ?_
        have go : ∀ w : Int, w = (if a ≤ found then 1 else 0) → G E cX0_open 7 S1 51 [some (.inr (h 0)), some (.inl a), some (.inl r), some (.inl c), some (.inl (c / 7)), some (.inl (c % 7)), some (.inl found)] [.inl w, .inl r] := by
          intro w hw
          refine g_iadd 52 dX0_open_51 rfl ?_
          refine g_istore_n 53 dX0_open_52 rfl (by decide) ?_
          refine g_iinc 56 dX0_open_53 rfl (by decide) rfl ?_
          refine g_goto 4 dX0_open_56 (by decide) ?_
          refine ih (i + 1) (c + 1) (r + w) S1 (ua mm c found) _ _ _ (by omega) (by omega) (by omega) hk2 (fun q q1 q2 q3 => ?_) ?_
          · by_cases e : q = c
            · rw [e, ua_s]
              exact hmin
            · rw [ua_n e]
              exact hmm q q1 (by omega) q3
          · show r + w = sg _ i + (if (i : Int) / 7 ≠ (i : Int) % 7 ∧ a ≤ ua mm c found i then 1 else 0)
            rw [sg_congr (g := fun q => if q / 7 ≠ q % 7 ∧ a ≤ mm q then 1 else 0) (fun q q1 q2 => by rw [ua_n (by omega)]), ← hr, hw, ← hi, ua_s]
            by_cases e : a ≤ found
            · rw [if_pos e, if_pos ⟨he, e⟩]
            · rw [if_neg e, if_neg (fun q => e q.2)]
        refine g_icmp_lt 50 46 dX0_open_43 (by decide) rfl (by omega) (by omega) (fun h4 => ?_) (fun h4 => ?_)
        · refine g_iconst 51 dX0_open_50 rfl ?_
          exact go 0 (by rw [if_neg (by omega)])
        · refine g_iconst 47 dX0_open_46 rfl ?_
          refine g_goto 51 dX0_open_47 (by decide) ?_
          exact go 1 (by rw [if_pos h4])
end
section
/-! ===== CreditNetwork: clear ===== -/
set_option maxRecDepth 10000
def chg1 (c : Int → Int) (p q a : Int) : Int → Int := ua (ua c p (c p - a)) q (ua c p (c p - a) q + a)
/-- what the first n payments come to for each member -/
def chg (pr pe am : Int → Int) : Nat → Int → Int
  | 0 => fun _ => 0
  | n + 1 => chg1 (chg pr pe am n) (pr n) (pe n) (am n)
theorem chg1_at (c : Int → Int) (p q a j : Int) : chg1 c p q a j = c j + (if j = q then a else 0) - (if j = p then a else 0) := by
  unfold chg1 ua
  by_cases h1 : j = q
  · by_cases h2 : j = p
    · subst h1; subst h2; simp
    · subst h1; simp [h2]
  · by_cases h2 : j = p
    · subst h2; simp [h1]
    · simp [h1, h2]
theorem chg1_sum {c : Int → Int} {p q a : Int} (hp : 0 ≤ p ∧ p < 7) (hq : 0 ≤ q ∧ q < 7) : sg (chg1 c p q a) 7 = sg c 7 := by
  rw [sg_congr (f := chg1 c p q a) (g := fun j => (c j + (if j = q then a else 0)) - (if j = p then a else 0)) (fun j _ _ => chg1_at c p q a j), sg_sub, sg_add, sg_at hq.1 hq.2, sg_at hp.1 hp.2]
  omega
theorem chg_sum {pr pe am : Int → Int} {n : Nat} (h : ∀ i : Int, 0 ≤ i → i < n → (0 ≤ pr i ∧ pr i < 7) ∧ (0 ≤ pe i ∧ pe i < 7)) : sg (chg pr pe am n) 7 = 0 := by
  induction n with
  | zero => exact sg_zero (fun _ _ _ => rfl)
  | succ n ih =>
    have := h n (by omega) (by omega)
    show sg (chg1 (chg pr pe am n) (pr n) (pe n) (am n)) 7 = 0
    rw [chg1_sum this.1 this.2]
    exact ih (fun i a b => h i a (by omega))
theorem chg_out {pr pe am : Int → Int} {n : Nat} (h : ∀ i : Int, 0 ≤ i → i < n → (0 ≤ pr i ∧ pr i < 7) ∧ (0 ≤ pe i ∧ pe i < 7)) {j : Int} (hj : ¬ (0 ≤ j ∧ j < 7)) : chg pr pe am n j = 0 := by
  induction n with
  | zero => rfl
  | succ n ih =>
    have := h n (by omega) (by omega)
    show chg1 (chg pr pe am n) (pr n) (pe n) (am n) j = 0
    rw [chg1_at, ih (fun i a b => h i a (by omega)), if_neg (by omega), if_neg (by omega)]
    rfl
theorem chg_rng {pr pe am : Int → Int} {n : Nat} (h : ∀ i : Int, 0 ≤ i → i < n → 0 ≤ am i ∧ am i ≤ 10000) (j : Int) : -(10000 * n) ≤ chg pr pe am n j ∧ chg pr pe am n j ≤ 10000 * n := by
  induction n with
  | zero =>
    show -(10000 * (0 : Int)) ≤ 0 ∧ (0 : Int) ≤ 10000 * 0
    decide
  | succ n ih =>
    have h1 := h n (by omega) (by omega)
    have h2 := ih (fun i a b => h i a (by omega))
    show -(10000 * ((n + 1 : Nat) : Int)) ≤ chg1 (chg pr pe am n) (pr n) (pe n) (am n) j ∧ chg1 (chg pr pe am n) (pr n) (pe n) (am n) j ≤ 10000 * ((n + 1 : Nat) : Int)
    rw [chg1_at]
    split <;> split <;> omega
theorem pos_add {x a : Int} (ha : 0 ≤ a) : pos (x + a) ≤ pos x + a := by unfold pos; split <;> split <;> omega
theorem pos_mono {x y : Int} (h : x ≤ y) : pos x ≤ pos y := by unfold pos; split <;> split <;> omega
theorem chg_due {pr pe am : Int → Int} {n : Nat} (hr : ∀ i : Int, 0 ≤ i → i < n → (0 ≤ pr i ∧ pr i < 7) ∧ (0 ≤ pe i ∧ pe i < 7)) (h : ∀ i : Int, 0 ≤ i → i < n → 0 ≤ am i ∧ am i ≤ 10000) : sg (fun x => pos (chg pr pe am n x)) 7 ≤ 10000 * n := by
  induction n with
  | zero =>
    rw [sg_zero (fun x _ _ => by show pos 0 = 0; rfl)]
    decide
  | succ n ih =>
    have h1 := h n (by omega) (by omega)
    have h3 := hr n (by omega) (by omega)
    have h2 := ih (fun i a b => hr i a (by omega)) (fun i a b => h i a (by omega))
    have h4 : sg (fun x => pos (chg pr pe am (n + 1) x)) 7 ≤ sg (fun x => pos (chg pr pe am n x) + (if x = pe n then am n else 0)) 7 := sg_le (fun x _ _ => by
      show pos (chg1 (chg pr pe am n) (pr n) (pe n) (am n) x) ≤ _
      rw [chg1_at]
      by_cases e : x = pe n
      · rw [if_pos e]
        have q1 := pos_add (x := chg pr pe am n x) h1.1
        have q2 : pos (chg pr pe am n x + am n - (if x = pr n then am n else 0)) ≤ pos (chg pr pe am n x + am n) := pos_mono (by split <;> omega)
        omega
      · rw [if_neg e]
        have q2 : pos (chg pr pe am n x + 0 - (if x = pr n then am n else 0)) ≤ pos (chg pr pe am n x) := pos_mono (by split <;> omega)
        omega)
    rw [sg_add, sg_at h3.2.1 h3.2.2] at h4
    omega
def rClr (T P : Int → Int) (g : Int) (pr pe am : Int → Int) (z : Int) (P' : Int → Int) (g' : Int) : Prop := (IsPos T (fun j => P j + chg pr pe am g.toNat j) ∧ z = g ∧ P' = (fun j => P j + chg pr pe am g.toNat j) ∧ g' = 0) ∨ (¬ IsPos T (fun j => P j + chg pr pe am g.toNat j) ∧ z = -3 ∧ P' = P ∧ g' = g)
theorem rClr_u {T P P1 P2 pr pe am : Int → Int} {g g1 g2 y z : Int} (h : rClr T P g pr pe am y P1 g1) (h' : rClr T P g pr pe am z P2 g2) : y = z ∧ P1 = P2 ∧ g1 = g2 := by
  rcases h with ⟨a1, a2, a3, a4⟩ | ⟨a1, a2, a3, a4⟩ <;> rcases h' with ⟨b1, b2, b3, b4⟩ | ⟨b1, b2, b3, b4⟩ <;> first | exact absurd a1 b1 | exact absurd b1 a1 | (subst_vars; exact ⟨rfl, rfl, rfl⟩)
theorem cx_clear : c_meti xW yX0_clear cX0_clear 4 .int (rk 2) true [] XI (fun S z S' => XI S' ∧ rClr (S 0) (S 1) (S 3 0) (S 4) (S 5) (S 6) z (S' 1) (S' 3 0) ∧ S' 0 = S 0 ∧ S' 4 = S 4 ∧ S' 5 = S 5 ∧ S' 6 = S 6) := by
  refine c_meti_of (own := RX0) (by decide) rfl xW_fst (fun _ => by simp [c_args]) ?_
  intro E h S0 hE hR hX hret
  show G E cX0_clear 4 S0 0 [some (.inr (h 0)), none, none, none] []
  obtain ⟨g, hg⟩ : ∃ g : Nat, S0 3 0 = g := ⟨(S0 3 0).toNat, by have := hX.2.1; omega⟩
  have hg6 : g ≤ 6 := by have := hX.2.1; omega
  have hgt : (S0 3 0).toNat = g := by omega
  have hre : ∀ i : Int, 0 ≤ i → i < g → (0 ≤ S0 4 i ∧ S0 4 i < 7) ∧ (0 ≤ S0 5 i ∧ S0 5 i < 7) := fun i q1 q2 => by
    have := hX.2.2 i q1 (by omega)
    exact ⟨this.1, this.2.1⟩
  have ham : ∀ i : Int, 0 ≤ i → i < g → 0 ≤ S0 6 i ∧ S0 6 i ≤ 10000 := fun i q1 q2 => (hX.2.2 i q1 (by omega)).2.2
  generalize hC : chg (S0 4) (S0 5) (S0 6) g = C
  have hC0 : sg C 7 = 0 := by rw [← hC]; exact chg_sum hre
  have hCr : ∀ j, -60000 ≤ C j ∧ C j ≤ 60000 := fun j => by
    have := chg_rng (pr := S0 4) (pe := S0 5) ham j
    rw [hC] at this
    omega
  have hCd : sg (fun x => pos (C x)) 7 ≤ 60000 := by
    have := chg_due hre ham
    rw [hC] at this
    omega
  have hCd2 : ∀ i : Nat, i ≤ 7 → 0 ≤ sg (fun x => pos (C x)) i ∧ sg (fun x => pos (C x)) i ≤ 1000000 := fun i hi => by
    have h1 : 0 ≤ sg (fun x => pos (C x)) i := sg_nn (fun x _ _ => pos_nn _)
    have h2 : sg (fun x => pos (C x)) i ≤ sg (fun _ => 60000) i := sg_le (fun x _ _ => by
      have := hCr x
      show pos (C x) ≤ 60000
      unfold pos
      split <;> omega)
    rw [sg_const] at h2
    omega
  -- behind the sending: positions, the list
  have fin : ∀ (S : st_T) (x1 x2 x3 : Option pv), (∀ k, k < 7 → k ≠ 2 → S k = S0 k) → (∀ j : Int, 0 ≤ j → j < 7 → S 12 j = C j) → InvF (S0 0) (fun u => S0 1 u + C u) (S 2) → G E cX0_clear 4 S 201 [some (.inr (h 0)), x1, x2, x3] [] := by
    intro S x1 x2 x3 hk h12 hI
    refine g_iconst 202 dX0_clear_201 rfl ?_
    refine g_istore_n 203 dX0_clear_202 rfl (by decide) ?_
    suffices loop4 : ∀ (n : Nat) (i : Int) (S' : st_T), 0 ≤ i → i ≤ 7 → 7 - i < n → (∀ k, k ≠ 1 → S' k = S k) → (∀ j : Int, 0 ≤ j → j < i → S' 1 j = S0 1 j + C j) → (∀ j : Int, ¬ (0 ≤ j ∧ j < i) → S' 1 j = S0 1 j) → G E cX0_clear 4 S' 203 [some (.inr (h 0)), x1, x2, some (.inl i)] [] from loop4 8 0 S (by decide) (by decide) (by decide) (fun _ _ => rfl) (fun j q1 q2 => by omega) (fun j _ => by rw [hk 1 (by decide) (by decide)])
    intro n
    induction n with
    | zero => intro i S' g0 g1 gn; omega
    | succ n ih =>
      intro i S' g0 g1 gn hk' hin hout
      refine g_iload_n 204 dX0_clear_203 rfl rfl ?_
      refine g_bipush 206 dX0_clear_204 rfl (by decide) ?_
      refine g_icmp_ge 230 209 dX0_clear_206 (by decide) rfl (by omega) (by omega) (fun hc => ?_) (fun hc => ?_)
      · have e3 : S' 3 = S0 3 := by rw [hk' 3 (by decide), hk 3 (by decide) (by decide)]
        have e1 : S' 1 = fun j => S0 1 j + C j := by
          funext j
          by_cases c : 0 ≤ j ∧ j < 7
          · exact hin j c.1 (by omega)
          · rw [hout j (by omega), ← hC, chg_out hre c, Int.add_zero]
        have e0 : S' 0 = S0 0 := by rw [hk' 0 (by decide), hk 0 (by decide) (by decide)]
        have e4 : S' 4 = S0 4 := by rw [hk' 4 (by decide), hk 4 (by decide) (by decide)]
        have e5 : S' 5 = S0 5 := by rw [hk' 5 (by decide), hk 5 (by decide) (by decide)]
        have e6 : S' 6 = S0 6 := by rw [hk' 6 (by decide), hk 6 (by decide) (by decide)]
        have e2 : S' 2 = S 2 := hk' 2 (by decide)
        refine g_aload_n 231 dX0_clear_230 rfl rfl ?_
        refine xg_gathered hE 234 dX0_clear_231 rfl ?_
        refine g_istore_n 235 dX0_clear_234 rfl (by decide) ?_
        refine g_aload_n 236 dX0_clear_235 rfl rfl ?_
        refine g_iconst 237 dX0_clear_236 rfl ?_
        refine xp_gathered hE 240 dX0_clear_237 rfl ?_
        refine g_iload_n 241 dX0_clear_240 rfl rfl ?_
        refine hret _ _ _ _ dX0_clear_241 rfl ⟨⟨?_, ?_, fun i q1 q2 => ?_⟩, Or.inl ⟨?_, by rw [e3], ?_, rfl⟩, e0, e4, e5, e6⟩
        · show InvF (S' 0) (S' 1) (S' 2)
          rw [e0, e1, e2]
          exact hI
        · show (0 : Int) ≤ 0 ∧ (0 : Int) ≤ 6
          decide
        · have q2 : i < 0 := q2
          omega
        · rw [hgt, hC]
          exact fun set _ _ => inv_pos hI set
        · rw [hgt, hC]
          exact e1
      · refine g_aload_n 210 dX0_clear_209 rfl rfl ?_
        refine xg_positions hE 213 dX0_clear_210 rfl ?_
        refine g_iload_n 214 dX0_clear_213 rfl rfl ?_
        refine g_dup2 215 dX0_clear_214 rfl ?_
        refine xl_positions hE 216 dX0_clear_215 rfl (by omega) ?_
        refine g_aload_n 217 dX0_clear_216 rfl rfl ?_
        refine xg_change hE 220 dX0_clear_217 rfl ?_
        refine g_iload_n 221 dX0_clear_220 rfl rfl ?_
        refine xl_change hE 222 dX0_clear_221 rfl (by omega) ?_
        refine g_iadd 223 dX0_clear_222 rfl ?_
        refine xs_positions hE 224 dX0_clear_223 rfl (by omega) ?_
        refine g_iinc 227 dX0_clear_224 rfl (by decide) rfl ?_
        refine g_goto 203 dX0_clear_227 (by decide) ?_
        refine ih (i + 1) _ (by omega) (by omega) (by omega) (fun k q => ?_) (fun j q1 q2 => ?_) (fun j q => ?_)
        · rw [us_n q]
          exact hk' k q
        · rw [us_s]
          by_cases e : j = i
          · subst e
            rw [ua_s, hout j (by omega), hk' 12 (by decide), h12 j g0 (by omega)]
          · rw [ua_n e]
            exact hin j q1 (by omega)
        · rw [us_s, ua_n (by omega)]
          exact hout j (by omega)
  -- the source's and the sink's edges, and the sending
  have mid : ∀ (S : st_T) (x1 x2 x3 : Option pv), (∀ k, k < 7 → S k = S0 k) → (∀ j : Int, 0 ≤ j → j < 7 → S 12 j = C j) → G E cX0_clear 4 S 77 [some (.inr (h 0)), x1, x2, x3] [] := by
    intro S x1 x2 x3 hk h12
    refine g_aload_n 78 dX0_clear_77 rfl rfl ?_
    refine g_callv (na := 0) (x_copyFree) xW_ob (lw_V q90 q92 qs0 q25 q93) (by decide +kernel) rfl ⟨rfl, rfl⟩ hE (by rw [hR]; decide) 81 dX0_clear_78 rfl [] rfl (by simp) trivial (fun S1 hS1 => ?_)
    obtain ⟨hw1, hk1⟩ := hS1
    rw [hk 2 (by decide)] at hw1
    have hk1' : ∀ k, k < 7 → S1 k = S0 k := fun k q => by rw [hk1 k (by omega)]; exact hk k q
    have h12' : ∀ j : Int, 0 ≤ j → j < 7 → S1 12 j = C j := fun j q1 q2 => by rw [hk1 12 (by decide)]; exact h12 j q1 q2
    refine g_iconst 82 dX0_clear_81 rfl ?_
    refine g_istore_n 83 dX0_clear_82 rfl (by decide) ?_
    refine g_iconst 84 dX0_clear_83 rfl ?_
    refine g_istore_n 85 dX0_clear_84 rfl (by decide) ?_
    suffices loop3 : ∀ (n i : Nat) (ci due : Int) (S : st_T), ci = i → i ≤ 7 → 7 - ci < n → due = sg (fun x => pos (C x)) i → (∀ k, k ≠ 7 → S k = S1 k) → (∀ x : Int, 0 ≤ x → x < ci → S 7 (63 + x) = neg (C x) ∧ S 7 (9 * x + 8) = pos (C x)) → (∀ j : Int, 0 ≤ j → j < 81 → (∀ x : Int, 0 ≤ x → x < ci → j ≠ 63 + x ∧ j ≠ 9 * x + 8) → S 7 j = S0 2 j) → (∀ j : Int, 0 ≤ j → j < 81 → 0 ≤ S 7 j ∧ S 7 j ≤ 100000) → G E cX0_clear 4 S 85 [some (.inr (h 0)), some (.inl due), some (.inl ci), x3] [] from loop3 8 0 0 0 S1 rfl (by decide) (by decide) rfl (fun _ _ => rfl) (fun x q1 q2 => by omega) (fun j q1 q2 _ => hw1 j q1 q2) (fun j q1 q2 => by rw [hw1 j q1 q2]; have := hX.1.1 j q1 q2; omega)
    intro n
    induction n with
    | zero => intro i ci due S hci hi hn; omega
    | succ n ih =>
      intro i ci due S hci hi hn hdue hk2 hset hrest hB
      have hdr := hCd2 i hi
      rw [← hdue] at hdr
      refine g_iload_n 86 dX0_clear_85 rfl rfl ?_
      refine g_bipush 88 dX0_clear_86 rfl (by decide) ?_
      refine g_icmp_ge 179 91 dX0_clear_88 (by decide) rfl (by omega) (by omega) (fun hc => ?_) (fun hc => ?_)
      · have hi7 : i = 7 := by omega
        subst hi7
        have hclr : ClrW (S0 2) (S 7) C := by
          refine ⟨fun x y q1 q2 q3 q4 => hrest _ (by omega) (by omega) (fun x' r1 r2 => by omega), fun x q1 q2 => ?_, fun x q1 q2 => ?_, ?_, ?_, fun x q1 q2 => (hset x q1 (by omega)).2, fun x q1 q2 => (hset x q1 (by omega)).1⟩
          · rw [hrest _ (by omega) (by omega) (fun x' r1 r2 => by omega)]
            exact hX.1.2.1 _ (by omega) (by omega) (by omega)
          · rw [hrest _ (by omega) (by omega) (fun x' r1 r2 => by omega)]
            exact hX.1.2.1 _ (by omega) (by omega) (by omega)
          · rw [hrest _ (by omega) (by omega) (fun x' r1 r2 => by omega)]
            exact hX.1.2.1 _ (by omega) (by omega) (by omega)
          · rw [hrest _ (by omega) (by omega) (fun x' r1 r2 => by omega)]
            exact hX.1.2.1 _ (by omega) (by omega) (by omega)
        have hrow : sg (mF (S 7) 7) 9 ≤ 99999 := by
          have e : sg (mF (S 7) 7) 9 = sg (mF (S 7) 7) 7 + S 7 70 + S 7 71 := rfl
          have e2 : sg (mF (S 7) 7) 7 = sg (fun x => neg (C x)) 7 := sg_congr (fun x q1 q2 => hclr.2.2.2.2.2.2 x q1 q2)
          have e3 : sg (fun x => pos (C x)) 7 - sg (fun x => neg (C x)) 7 = sg C 7 := by
            rw [← sg_sub]
            exact sg_congr (fun x _ _ => pos_neg (C x))
          have e4 := hclr.2.2.2.1
          have e5 := hclr.2.2.2.2.1
          omega
        refine g_aload_n 180 dX0_clear_179 rfl rfl ?_
        refine g_bipush 182 dX0_clear_180 rfl (by decide) ?_
        refine g_bipush 184 dX0_clear_182 rfl (by decide) ?_
        refine g_iload_n 185 dX0_clear_184 rfl rfl ?_
        refine g_calli (na := 3) (x_send 7 8 due (by omega) (by omega) (by omega) (by omega)) xW_ob (lw_V q94 q96 qs1 q25 q97) (by decide +kernel) rfl ⟨rfl, rfl⟩ hE (by rw [hR]; decide) 188 dX0_clear_185 rfl [] rfl (by simp) ⟨fun j q1 q2 => by have := hB j q1 q2; omega, hrow⟩ (fun sent S4 hS4 => ?_)
        obtain ⟨hk4, hs4⟩ := hS4
        have hsr := hs4.1
        have hsl := hs4.2.1
        have hk4' : ∀ k, k < 7 → S4 k = S0 k := fun k q => by
          rw [hk4 k (by omega) (by omega) (by omega), hk2 k (by omega)]
          exact hk1' k q
        refine g_istore_n 189 dX0_clear_188 rfl (by decide) ?_
        refine g_iload_n 190 dX0_clear_189 rfl rfl ?_
        refine g_iload_n 191 dX0_clear_190 rfl rfl ?_
        refine g_icmp_ge 197 194 dX0_clear_191 (by decide) rfl (by omega) (by omega) (fun h2 => ?_) (fun h2 => ?_)
        · have hse : sent = due := by omega
          rw [hse, hdue] at hs4
          refine g_aload_n 198 dX0_clear_197 rfl rfl ?_
          refine g_callv (na := 0) (x_keepWork) xW_ob (lw_V q112 q114 qs5 q25 q115) (by decide +kernel) rfl ⟨rfl, rfl⟩ hE (by rw [hR]; decide) 201 dX0_clear_198 rfl [] rfl (by simp) trivial (fun S5 hS5 => ?_)
          obtain ⟨hf1, hf2, hk5⟩ := hS5
          have hI5 := x_clr_ok hX.1 hclr hC0 hs4 hf1 (fun j q1 q2 q3 => by rw [hf2 j q1 q2 q3, hk4' 2 (by decide)])
          refine fin S5 _ _ _ (fun k q1 q2 => by rw [hk5 k q2]; exact hk4' k q1) (fun j q1 q2 => ?_) hI5
          rw [hk5 12 (by decide), hk4 12 (by decide) (by decide) (by decide), hk2 12 (by decide)]
          exact h12' j q1 q2
        · refine g_bipush 196 dX0_clear_194 rfl (by decide) ?_
          rw [hdue] at hs4 h2
          have hno := x_clr_no hX.1 hclr hC0 hs4 h2
          refine hret _ _ _ _ dX0_clear_196 rfl ⟨XI_keep hX hk4', Or.inr ⟨?_, rfl, hk4' 1 (by decide), by rw [hk4' 3 (by decide)]⟩, hk4' 0 (by decide), hk4' 4 (by decide), hk4' 5 (by decide), hk4' 6 (by decide)⟩
          rw [hgt, hC]
          exact hno
      · have hci6 : 0 ≤ ci ∧ ci < 7 := by omega
        have e12 : S 12 ci = C ci := by rw [hk2 12 (by decide)]; exact h12' ci hci6.1 hci6.2
        have hcr := hCr ci
        -- third: due
        have s3 : ∀ (S2 : st_T), S2 12 ci = C ci → (∀ k, k ≠ 7 → S2 k = S1 k) → (∀ x : Int, 0 ≤ x → x < ci + 1 → S2 7 (63 + x) = neg (C x) ∧ S2 7 (9 * x + 8) = pos (C x)) → (∀ j : Int, 0 ≤ j → j < 81 → (∀ x : Int, 0 ≤ x → x < ci + 1 → j ≠ 63 + x ∧ j ≠ 9 * x + 8) → S2 7 j = S0 2 j) → (∀ j : Int, 0 ≤ j → j < 81 → 0 ≤ S2 7 j ∧ S2 7 j ≤ 100000) → G E cX0_clear 4 S2 151 [some (.inr (h 0)), some (.inl due), some (.inl ci), x3] [] := by
          intro S2 f12 fk fset frest fB
          refine g_iload_n 152 dX0_clear_151 rfl rfl ?_
          refine g_aload_n 153 dX0_clear_152 rfl rfl ?_
          refine xg_change hE 156 dX0_clear_153 rfl ?_
          refine g_iload_n 157 dX0_clear_156 rfl rfl ?_
          refine xl_change hE 158 dX0_clear_157 rfl (by exact hci6) ?_
          have go : ∀ w : Int, w = pos (C ci) → G E cX0_clear 4 S2 171 [some (.inr (h 0)), some (.inl due), some (.inl ci), x3] [.inl w, .inl due] := by
            intro w hw
            refine g_iadd 172 dX0_clear_171 rfl ?_
            refine g_istore_n 173 dX0_clear_172 rfl (by decide) ?_
            refine g_iinc 176 dX0_clear_173 rfl (by decide) rfl ?_
            refine g_goto 85 dX0_clear_176 (by decide) ?_
            refine ih (i + 1) (ci + 1) (due + w) S2 (by omega) (by omega) (by omega) ?_ fk fset frest fB
            show due + w = sg (fun x => pos (C x)) i + pos (C i)
            rw [hdue, hw, hci]
          refine g_if_le 170 161 dX0_clear_158 (by decide) rfl (by rw [f12]; omega) (fun h4 => ?_) (fun h4 => ?_)
          · rw [f12] at h4
            refine g_iconst 171 dX0_clear_170 rfl ?_
            exact go 0 (by unfold pos; rw [if_neg (by omega)])
          · refine g_aload_n 162 dX0_clear_161 rfl rfl ?_
            refine xg_change hE 165 dX0_clear_162 rfl ?_
            refine g_iload_n 166 dX0_clear_165 rfl rfl ?_
            refine xl_change hE 167 dX0_clear_166 rfl (by exact hci6) ?_
            refine g_goto 171 dX0_clear_167 (by decide) ?_
            rw [f12] at h4 ⊢
            exact go _ (by unfold pos; rw [if_pos h4])
        have s2 : ∀ (S2 : st_T), S2 12 ci = C ci → (∀ k, k ≠ 7 → S2 k = S1 k) → S2 7 (63 + ci) = neg (C ci) → (∀ x : Int, 0 ≤ x → x < ci → S2 7 (63 + x) = neg (C x) ∧ S2 7 (9 * x + 8) = pos (C x)) → (∀ j : Int, 0 ≤ j → j < 81 → (∀ x : Int, 0 ≤ x → x < ci → j ≠ 63 + x ∧ j ≠ 9 * x + 8) → j ≠ 63 + ci → S2 7 j = S0 2 j) → (∀ j : Int, 0 ≤ j → j < 81 → 0 ≤ S2 7 j ∧ S2 7 j ≤ 100000) → G E cX0_clear 4 S2 120 [some (.inr (h 0)), some (.inl due), some (.inl ci), x3] [] := by
          intro S2 f12 fk f63 fset frest fB
          refine g_aload_n 121 dX0_clear_120 rfl rfl ?_
          refine xg_work hE 124 dX0_clear_121 rfl ?_
          refine g_bipush 126 dX0_clear_124 rfl (by decide) ?_
          refine g_iload_n 127 dX0_clear_126 rfl rfl ?_
          refine g_imul 128 dX0_clear_127 rfl ?_
          refine g_bipush 130 dX0_clear_128 rfl (by decide) ?_
          refine g_iadd 131 dX0_clear_130 rfl ?_
          refine g_aload_n 132 dX0_clear_131 rfl rfl ?_
          refine xg_change hE 135 dX0_clear_132 rfl ?_
          refine g_iload_n 136 dX0_clear_135 rfl rfl ?_
          refine xl_change hE 137 dX0_clear_136 rfl (by exact hci6) ?_
          have go : ∀ w : Int, w = pos (C ci) → G E cX0_clear 4 S2 150 [some (.inr (h 0)), some (.inl due), some (.inl ci), x3] [.inl w, .inl (9 * ci + 8), .inr (h 7)] := by
            intro w hw
            have hw2 : 0 ≤ w ∧ w ≤ 100000 := by rw [hw]; unfold pos; split <;> omega
            refine xs_work hE 151 dX0_clear_150 rfl (by omega) ?_
            refine s3 _ f12 (fun k q => by rw [us_n q]; exact fk k q) (fun x q1 q2 => ?_) (fun j q1 q2 q3 => ?_) (fun j q1 q2 => ?_)
            · rw [us_s, ua_n (by omega)]
              by_cases e : x = ci
              · subst e
                rw [ua_s]
                exact ⟨f63, hw⟩
              · rw [ua_n (by omega)]
                exact fset x q1 (by omega)
            · have q4 := q3 ci (by omega) (by omega)
              rw [us_s, ua_n q4.2]
              exact frest j q1 q2 (fun x r1 r2 => q3 x r1 (by omega)) q4.1
            · rw [us_s]
              unfold ua
              split
              · exact hw2
              · exact fB j q1 q2
          refine g_if_le 149 140 dX0_clear_137 (by decide) rfl (by rw [f12]; omega) (fun h4 => ?_) (fun h4 => ?_)
          · rw [f12] at h4
            refine g_iconst 150 dX0_clear_149 rfl ?_
            exact go 0 (by unfold pos; rw [if_neg (by omega)])
          · refine g_aload_n 141 dX0_clear_140 rfl rfl ?_
            refine xg_change hE 144 dX0_clear_141 rfl ?_
            refine g_iload_n 145 dX0_clear_144 rfl rfl ?_
            refine xl_change hE 146 dX0_clear_145 rfl (by exact hci6) ?_
            refine g_goto 150 dX0_clear_146 (by decide) ?_
            rw [f12] at h4 ⊢
            exact go _ (by unfold pos; rw [if_pos h4])
        refine g_aload_n 92 dX0_clear_91 rfl rfl ?_
        refine xg_work hE 95 dX0_clear_92 rfl ?_
        refine g_bipush 97 dX0_clear_95 rfl (by decide) ?_
        refine g_iload_n 98 dX0_clear_97 rfl rfl ?_
        refine g_iadd 99 dX0_clear_98 rfl ?_
        refine g_aload_n 100 dX0_clear_99 rfl rfl ?_
        refine xg_change hE 103 dX0_clear_100 rfl ?_
        refine g_iload_n 104 dX0_clear_103 rfl rfl ?_
        refine xl_change hE 105 dX0_clear_104 rfl (by exact hci6) ?_
        have go : ∀ w : Int, w = neg (C ci) → G E cX0_clear 4 S 119 [some (.inr (h 0)), some (.inl due), some (.inl ci), x3] [.inl w, .inl (63 + ci), .inr (h 7)] := by
          intro w hw
          have hw2 : 0 ≤ w ∧ w ≤ 100000 := by rw [hw]; unfold neg; split <;> omega
          refine xs_work hE 120 dX0_clear_119 rfl (by omega) ?_
          refine s2 _ e12 (fun k q => by rw [us_n q]; exact hk2 k q) (by rw [us_s, ua_s]; exact hw) (fun x q1 q2 => ?_) (fun j q1 q2 q3 q4 => ?_) (fun j q1 q2 => ?_)
          · rw [us_s, ua_n (by omega), ua_n (by omega)]
            exact hset x q1 q2
          · rw [us_s, ua_n q4]
            exact hrest j q1 q2 q3
          · rw [us_s]
            unfold ua
            split
            · exact hw2
            · exact hB j q1 q2
        refine g_if_ge 118 108 dX0_clear_105 (by decide) rfl (by rw [e12]; omega) (fun h4 => ?_) (fun h4 => ?_)
        · rw [e12] at h4
          refine g_iconst 119 dX0_clear_118 rfl ?_
          exact go 0 (by unfold neg; rw [if_neg (by omega)])
        · refine g_aload_n 109 dX0_clear_108 rfl rfl ?_
          refine xg_change hE 112 dX0_clear_109 rfl ?_
          refine g_iload_n 113 dX0_clear_112 rfl rfl ?_
          refine xl_change hE 114 dX0_clear_113 rfl (by exact hci6) ?_
          refine g_ineg 115 dX0_clear_114 rfl ?_
          refine g_goto 119 dX0_clear_115 (by decide) ?_
          rw [e12] at h4 ⊢
          exact go _ (by unfold neg; rw [if_pos h4])
  -- what the payments come to
  have loop2 : ∀ (n i : Nat) (ci : Int) (S : st_T), ci = i → i ≤ g → g - ci < n → (∀ k, k < 7 → S k = S0 k) → (∀ j : Int, 0 ≤ j → j < 7 → S 12 j = chg (S0 4) (S0 5) (S0 6) i j) → G E cX0_clear 4 S 23 [some (.inr (h 0)), some (.inl ci), none, none] [] := by
    intro n
    induction n with
    | zero => intro i ci S hci hi hn; omega
    | succ n ih =>
      intro i ci S hci hi hn hk h12
      have e3 : S 3 0 = g := by rw [hk 3 (by decide)]; exact hg
      refine g_iload_n 24 dX0_clear_23 rfl rfl ?_
      refine g_aload_n 25 dX0_clear_24 rfl rfl ?_
      refine xg_gathered hE 28 dX0_clear_25 rfl ?_
      rw [e3]
      refine g_icmp_ge 77 31 dX0_clear_28 (by decide) rfl (by omega) (by omega) (fun hc => ?_) (fun hc => ?_)
      · have hig : i = g := by omega
        subst hig
        rw [hC] at h12
        exact mid S _ _ _ hk h12
      · have hr1 := hre ci (by omega) hc
        have e4 : S 4 = S0 4 := hk 4 (by decide)
        have e5 : S 5 = S0 5 := hk 5 (by decide)
        have e6 : S 6 = S0 6 := hk 6 (by decide)
        refine g_aload_n 32 dX0_clear_31 rfl rfl ?_
        refine xg_change hE 35 dX0_clear_32 rfl ?_
        refine g_aload_n 36 dX0_clear_35 rfl rfl ?_
        refine xg_payers hE 39 dX0_clear_36 rfl ?_
        refine g_iload_n 40 dX0_clear_39 rfl rfl ?_
        refine xl_payers hE 41 dX0_clear_40 rfl (by omega) ?_
        refine g_dup2 42 dX0_clear_41 rfl ?_
        refine xl_change hE 43 dX0_clear_42 rfl (by rw [e4]; exact hr1.1) ?_
        refine g_aload_n 44 dX0_clear_43 rfl rfl ?_
        refine xg_amounts hE 47 dX0_clear_44 rfl ?_
        refine g_iload_n 48 dX0_clear_47 rfl rfl ?_
        refine xl_amounts hE 49 dX0_clear_48 rfl (by omega) ?_
        refine g_isub 50 dX0_clear_49 rfl ?_
        refine xs_change hE 51 dX0_clear_50 rfl (by rw [e4]; exact hr1.1) ?_
        refine g_aload_n 52 dX0_clear_51 rfl rfl ?_
        refine xg_change hE 55 dX0_clear_52 rfl ?_
        refine g_aload_n 56 dX0_clear_55 rfl rfl ?_
        refine xg_payees hE 59 dX0_clear_56 rfl ?_
        refine g_iload_n 60 dX0_clear_59 rfl rfl ?_
        refine xl_payees hE 61 dX0_clear_60 rfl (by omega) ?_
        refine g_dup2 62 dX0_clear_61 rfl ?_
        refine xl_change hE 63 dX0_clear_62 rfl (by show 0 ≤ S 5 ci ∧ S 5 ci < 7; rw [e5]; exact hr1.2) ?_
        refine g_aload_n 64 dX0_clear_63 rfl rfl ?_
        refine xg_amounts hE 67 dX0_clear_64 rfl ?_
        refine g_iload_n 68 dX0_clear_67 rfl rfl ?_
        refine xl_amounts hE 69 dX0_clear_68 rfl (by omega) ?_
        refine g_iadd 70 dX0_clear_69 rfl ?_
        refine xs_change hE 71 dX0_clear_70 rfl (by show 0 ≤ S 5 ci ∧ S 5 ci < 7; rw [e5]; exact hr1.2) ?_
        refine g_iinc 74 dX0_clear_71 rfl (by decide) rfl ?_
        refine g_goto 23 dX0_clear_74 (by decide) ?_
        refine ih (i + 1) (ci + 1) _ (by omega) (by omega) (by omega) (fun k q => ?_) (fun j q1 q2 => ?_)
        · rw [us_n (by omega), us_n (by omega)]
          exact hk k q
        · show ua (ua (S 12) (S 4 ci) (S 12 (S 4 ci) - S 6 ci)) (S 5 ci) (ua (S 12) (S 4 ci) (S 12 (S 4 ci) - S 6 ci) (S 5 ci) + S 6 ci) j = chg1 (chg (S0 4) (S0 5) (S0 6) i) (S0 4 i) (S0 5 i) (S0 6 i) j
          have e : ua (ua (S 12) (S 4 ci) (S 12 (S 4 ci) - S 6 ci)) (S 5 ci) (ua (S 12) (S 4 ci) (S 12 (S 4 ci) - S 6 ci) (S 5 ci) + S 6 ci) = chg1 (S 12) (S 4 ci) (S 5 ci) (S 6 ci) := rfl
          rw [e, chg1_at, chg1_at, h12 j q1 q2, e4, e5, e6, hci]
  refine g_iconst 1 dX0_clear_0 rfl ?_
  refine g_istore_n 2 dX0_clear_1 rfl (by decide) ?_
  suffices loop : ∀ (n : Nat) (i : Int) (S : st_T), 0 ≤ i → i ≤ 7 → 7 - i < n → (∀ k, k < 7 → S k = S0 k) → (∀ j : Int, 0 ≤ j → j < i → S 12 j = 0) → G E cX0_clear 4 S 2 [some (.inr (h 0)), some (.inl i), none, none] [] from loop 8 0 S0 (by decide) (by decide) (by decide) (fun _ _ => rfl) (fun j q1 q2 => by omega)
  intro n
  induction n with
  | zero => intro i S g0 g1 gn; omega
  | succ n ih =>
    intro i S g0 g1 gn hk h12
    refine g_iload_n 3 dX0_clear_2 rfl rfl ?_
    refine g_bipush 5 dX0_clear_3 rfl (by decide) ?_
    refine g_icmp_ge 21 8 dX0_clear_5 (by decide) rfl (by omega) (by omega) (fun hc => ?_) (fun hc => ?_)
    · refine g_iconst 22 dX0_clear_21 rfl ?_
      refine g_istore_n 23 dX0_clear_22 rfl (by decide) ?_
      exact loop2 7 0 0 S rfl (by omega) (by omega) hk (fun j q1 q2 => h12 j q1 (by omega))
    · refine g_aload_n 9 dX0_clear_8 rfl rfl ?_
      refine xg_change hE 12 dX0_clear_9 rfl ?_
      refine g_iload_n 13 dX0_clear_12 rfl rfl ?_
      refine g_iconst 14 dX0_clear_13 rfl ?_
      refine xs_change hE 15 dX0_clear_14 rfl (by omega) ?_
      refine g_iinc 18 dX0_clear_15 rfl (by decide) rfl ?_
      refine g_goto 2 dX0_clear_18 (by decide) ?_
      refine ih (i + 1) _ (by omega) (by omega) (by omega) (fun k q => ?_) (fun j q1 q2 => ?_)
      · rw [us_n (by omega)]
        exact hk k q
      · rw [us_s]
        by_cases e : j = i
        · subst e
          rw [ua_s]
        · rw [ua_n e]
          exact h12 j q1 (by omega)
end
section
/-! ===== CreditNetwork: what debts stands on ===== -/
/-- work W and owed O hold what is owed d, under the capacities c0 -/
def WO (c0 d : Int → Int → Int) (W O : Int → Int) : Prop := ∀ u v : Int, 0 ≤ u → u < 9 → 0 ≤ v → v < 9 → W (9 * u + v) = c0 u v - d u v ∧ O (9 * u + v) = pos (d u v)
theorem wo_rng {c0 d : Int → Int → Int} {pt W O : Int → Int} (hF : Flo 9 c0 d pt) (h : WO c0 d W O) (hB : ∀ u v : Int, 0 ≤ u → u < 9 → 0 ≤ v → v < 9 → 0 ≤ c0 u v ∧ c0 u v ≤ 100000) {j : Int} (h0 : 0 ≤ j) (h1 : j < 81) : (0 ≤ W j ∧ W j ≤ 200000) ∧ (0 ≤ O j ∧ O j ≤ 100000) := by
  have e : 9 * (j / 9) + j % 9 = j := by omega
  have q := h (j / 9) (j % 9) (by omega) (by omega) (by omega) (by omega)
  rw [e] at q
  have a1 := hF.1 (j / 9) (j % 9) (by omega) (by omega) (by omega) (by omega)
  have a2 := hF.2.1 (j / 9) (j % 9) (by omega) (by omega) (by omega) (by omega)
  have a3 := hF.2.1 (j % 9) (j / 9) (by omega) (by omega) (by omega) (by omega)
  have b1 := hB (j / 9) (j % 9) (by omega) (by omega) (by omega) (by omega)
  have b2 := hB (j % 9) (j / 9) (by omega) (by omega) (by omega) (by omega)
  refine ⟨by omega, ?_⟩
  rw [q.2]
  unfold pos
  split <;> omega
/-- the cheapest ways are found -/
def Chp (c0 d : Int → Int → Int) (dist cf : Int → Int) : Prop := ∃ dep pt : Int → Int, Tre 9 c0 d dist cf dep 1000000 ∧ Flo 9 c0 d pt ∧ (∀ v : Int, dist v < 1000000 → pt v = dist v) ∧ dist 7 = 0 ∧ (∀ v : Int, 0 ≤ v → v < 9 → dist v < 1000000 → v ≠ 7 → 0 ≤ cf v) ∧ (∀ u v : Int, 0 ≤ u → u < 9 → 0 ≤ v → v < 9 → d u v < c0 u v → dist u < 1000000 → dist v < 1000000) ∧ (∀ v : Int, 0 ≤ v → v < 9 → -1000 ≤ dist v ∧ dist v ≤ 1000000)
theorem chp_of {c0 d : Int → Int → Int} {pt dist cf tau rd : Int → Int} (hF : Flo 9 c0 d pt) (hp7 : pt 7 = 0) (h : Bf 9 (fun u v => d u v < c0 u v) (cst d) pt (fun v => v = 7) (fun u v => 9 * u + v) 1000000 dist cf tau rd 9 81 729) : Chp c0 d dist cf := by
  have hi : ∀ u v : Int, 0 ≤ u → u < (9 : Nat) → 0 ≤ v → v < (9 : Nat) → 0 ≤ 9 * u + v ∧ 9 * u + v < 81 := fun u v q1 q2 q3 q4 => by omega
  obtain ⟨dep, h1, h2⟩ := bf_end (n := 9) (ix := fun u v => 9 * u + v) h hi (fun p q q1 q2 q3 q4 q5 => hF.2.2 p q q1 q2 q3 q4 q5) (by decide)
  have hd : ∀ v : Int, 0 ≤ v → v < 9 → dist v < 1000000 → -729 ≤ dist v ∧ dist v ≤ 729 := fun v q1 q2 q3 => by
    obtain ⟨-, -, -, -, -, -, b6, b7⟩ := h.1 v q1 q2 q3
    exact ⟨b6, b7⟩
  obtain ⟨pt', p1, p2⟩ := bf_pot (n := 9) (INF := 1000000) h2 (fun v q1 q2 q3 => by have := hd v q1 q2 q3; omega) (by decide) (fun p q q1 q2 q3 q4 q5 => hF.2.2 p q q1 q2 q3 q4 q5) (fun p q => cst_rng d p q)
  have h7 := h.2.1 7 (by decide) (by decide) rfl
  have h77 : dist 7 = 0 := by
    obtain ⟨-, -, -, -, -, b5, -, -⟩ := h.1 7 (by decide) (by decide) h7.1
    omega
  refine ⟨dep, pt', fun v q1 q2 q3 => ?_, ⟨hF.1, hF.2.1, p1⟩, p2, h77, fun v q1 q2 q3 q4 => ?_, fun u v q1 q2 q3 q4 q5 q6 => ?_, fun v q1 q2 => ?_⟩
  · obtain ⟨a1, a2, a3⟩ := h1 v q1 q2 q3
    refine ⟨a1, a2, fun q => ?_⟩
    rcases a3 with ⟨c, -⟩ | ⟨b1, b2, b3, b4, b5, b6, b7⟩
    · omega
    · exact ⟨b2, b3, b4, b5, b6⟩
  · obtain ⟨-, -, a3⟩ := h1 v q1 q2 q3
    rcases a3 with ⟨-, c, -⟩ | ⟨b1, -⟩
    · exact absurd c q4
    · exact b1
  · have e1 := h2 u v q1 q2 q3 q4 q5 q6
    have e2 := hd u q1 q2 q6
    have e3 := cst_rng d u v
    omega
  · by_cases c : dist v < 1000000
    · have := hd v q1 q2 c
      omega
    · have := (h.2.2.1 v q1 q2 c).1
      omega
theorem sg_pair {d : Int → Int → Int} {n : Nat} {z : Int → Bool} (h : ∀ u v : Int, 0 ≤ u → u < n → 0 ≤ v → v < n → d u v = -(d v u)) : inz d n z = 0 := by
  have h1 : inz d n z = inz (fun _ _ => 0) n z := inz_pair (fun u v q1 q2 q3 q4 => by
    have := h u v q1 q2 q3 q4
    show d u v + d v u = 0 + 0
    omega)
  rw [h1]
  refine sg_zero (fun u _ _ => sg_zero (fun v _ _ => ?_))
  simp
/-- no way is left: all is sent -/
theorem debts_all {T P F W1 : Int → Int} {d : Int → Int → Int} {pt : Int → Int} {sent : Int} {z : Int → Bool} (hI : InvF T P F) (hW : ClrW (fun j => T (7 * (j % 9) + j / 9)) W1 P) (hF : Flo 9 (mF W1) d pt) (hr : ∀ x : Int, 0 ≤ x → x < 9 → sg (d x) 9 = (if x = 7 then sent else 0) - (if x = 8 then sent else 0)) (z7 : z 7 = true) (z8 : z 8 = false) (hz : ∀ u v : Int, 0 ≤ u → u < 9 → 0 ≤ v → v < 9 → d u v < mF W1 u v → z u = true → z v = true) : sg (fun x => pos (P x)) 7 ≤ sent := by
  have e1 : cap d 9 z = cap (mF W1) 9 z := cap_congr (fun u v q1 q2 q3 q4 q5 q6 => by
    have h1 := hF.2.1 u v q1 q2 q3 q4
    by_cases c : d u v < mF W1 u v
    · have := hz u v q1 q2 q3 q4 c q5
      rw [q6] at this
      cases this
    · omega)
  have e2 := cap_row (w := d) (n := 9) (z := z)
  rw [sg_pair hF.1] at e2
  have e3 : sg (fun u => if z u = true then sg (d u) 9 else 0) 9 = sent := by
    rw [sg_congr (g := fun u => if u = 7 then sent else 0) (fun u q1 q2 => by
      rw [hr u q1 q2]
      by_cases c : u = 7
      · subst c
        simp [z7]
      · by_cases c2 : u = 8
        · subst c2
          simp [z8]
        · simp [c, c2])]
    exact sg_at (by decide) (by decide)
  have hP0 := inv_P0 hI
  have e4 := clr_cap (T := T) (P := P) hW hP0 z7 z8
  have e5 : cap (mF (fun j => T (7 * (j % 9) + j / 9))) 7 z = cap (mT T) 7 z := cap_congr (fun u v q1 q2 q3 q4 _ _ => by
    show T (7 * ((9 * u + v) % 9) + (9 * u + v) / 9) = T (7 * v + u)
    rw [show (9 * u + v) % 9 = v by omega, show (9 * u + v) / 9 = u by omega])
  have e6 := inv_pos hI (mkS z)
  rw [slk_cap (z := z) (fun x q1 q2 => by rw [mkS_in z q1 q2]; cases z x <;> simp) hP0] at e6
  have e7 : sg (fun x => if z x = true then 0 else P x) 7 + sg (fun u => if z u = true then P u else 0) 7 = sg P 7 := by
    rw [← sg_add]
    refine sg_congr (fun x _ _ => ?_)
    cases z x <;> simp
  omega
/-- a sum of what is not below 0 that is 0 -/
theorem sg_0all {f : Int → Int} {n : Nat} (h : ∀ i : Int, 0 ≤ i → i < n → 0 ≤ f i) (hs : sg f n ≤ 0) : ∀ i : Int, 0 ≤ i → i < n → f i = 0 := fun i q1 q2 => by
  have h1 := sg_el q1 q2 h
  have h2 := h i q1 q2
  omega
theorem debts_opt {T P F W1 : Int → Int} {d : Int → Int → Int} {pt : Int → Int} {sent : Int} (hI : InvF T P F) (hW : ClrW (fun j => T (7 * (j % 9) + j / 9)) W1 P) (hF : Flo 9 (mF W1) d pt) (hr : ∀ x : Int, 0 ≤ x → x < 9 → sg (d x) 9 = (if x = 7 then sent else 0) - (if x = 8 then sent else 0)) (hs : sent = sg (fun x => pos (P x)) 7) : Opt T P (cost d) := by
  obtain ⟨w1, w2, w3, w4, w5, w6, w7⟩ := hW
  have hP0 := inv_P0 hI
  have hpn : sg (fun x => pos (P x)) 7 - sg (fun x => neg (P x)) 7 = 0 := by
    rw [← sg_sub, ← hP0]
    exact sg_congr (fun x _ _ => pos_neg (P x))
  have r7 := hr 7 (by decide) (by decide)
  rw [if_pos rfl, if_neg (by decide)] at r7
  have r8 := hr 8 (by decide) (by decide)
  rw [if_neg (by decide), if_pos rfl] at r8
  have e7 : sg (d 7) 9 = sg (d 7) 7 + d 7 7 + d 7 8 := rfl
  have e8 : sg (d 8) 9 = sg (d 8) 7 + d 8 7 + d 8 8 := rfl
  have a77 := hF.1 7 7 (by decide) (by decide) (by decide) (by decide)
  have a88 := hF.1 8 8 (by decide) (by decide) (by decide) (by decide)
  have a78 := hF.1 7 8 (by decide) (by decide) (by decide) (by decide)
  have b78 : d 7 8 ≤ W1 71 := hF.2.1 7 8 (by decide) (by decide) (by decide) (by decide)
  have l7 : ∀ x : Int, 0 ≤ x → x < 7 → d 7 x ≤ neg (P x) := fun x q1 q2 => by
    have := hF.2.1 7 x (by decide) (by decide) q1 (by omega)
    rw [show mF W1 7 x = W1 (63 + x) from rfl, w7 x q1 q2] at this
    exact this
  have l8 : ∀ x : Int, 0 ≤ x → x < 7 → d x 8 ≤ pos (P x) := fun x q1 q2 => by
    have := hF.2.1 x 8 q1 (by omega) (by decide) (by decide)
    rw [show mF W1 x 8 = W1 (9 * x + 8) from rfl, w6 x q1 q2] at this
    exact this
  have s7 : sg (fun x => neg (P x) - d 7 x) 7 = sg (fun x => neg (P x)) 7 - sg (d 7) 7 := sg_sub
  have n7 := sg_nn (f := fun x => neg (P x) - d 7 x) (n := 7) (fun x q1 q2 => by have := l7 x q1 q2; omega)
  have z7 := sg_0all (f := fun x => neg (P x) - d 7 x) (n := 7) (fun x q1 q2 => by have := l7 x q1 q2; omega) (by omega)
  have s8 : sg (fun x => pos (P x) - d x 8) 7 = sg (fun x => pos (P x)) 7 - sg (fun x => d x 8) 7 := sg_sub
  have t8 : sg (fun x => d x 8) 7 = -(sg (d 8) 7) := by
    have : sg (fun x => d x 8) 7 = sg (fun x => (-1) * d 8 x) 7 := sg_congr (fun x q1 q2 => by
      have := hF.1 x 8 q1 (by omega) (by decide) (by decide)
      omega)
    rw [this, sg_mul]
    have e : sg (fun x => d 8 x) 7 = sg (d 8) 7 := rfl
    omega
  have z8 := sg_0all (f := fun x => pos (P x) - d x 8) (n := 7) (fun x q1 q2 => by have := l8 x q1 q2; omega) (by omega)
  have wT : ∀ u v : Int, 0 ≤ u → u < 7 → 0 ≤ v → v < 7 → W1 (9 * u + v) = T (7 * v + u) := fun u v q1 q2 q3 q4 => by
    rw [w1 u v q1 q2 q3 q4]
    show T (7 * ((9 * u + v) % 9) + (9 * u + v) / 9) = _
    rw [show (9 * u + v) % 9 = v by omega, show (9 * u + v) / 9 = u by omega]
  refine ⟨d, pt, ⟨fun u v q1 q2 q3 q4 => hF.1 u v q1 (by omega) q3 (by omega), fun u v q1 q2 q3 q4 => ?_, fun u v q1 q2 q3 q4 q5 => ?_⟩, fun u q1 q2 => ?_, rfl⟩
  · have h1 := hF.2.1 u v q1 (by omega) q3 (by omega)
    rw [show mF W1 u v = W1 (9 * u + v) from rfl, wT u v q1 (by omega) q3 (by omega)] at h1
    exact h1
  · have h2 := wT u v q1 (by omega) q3 (by omega)
    refine hF.2.2 u v q1 (by omega) q3 (by omega) ?_
    show d u v < W1 (9 * u + v)
    rw [h2]
    exact q5
  · have r := hr u q1 (by omega)
    rw [if_neg (by omega), if_neg (by omega)] at r
    have e : sg (d u) 9 = sg (d u) 7 + d u 7 + d u 8 := rfl
    have a := hF.1 u 7 q1 (by omega) (by decide) (by decide)
    have y7 := z7 u q1 q2
    have y8 := z8 u q1 q2
    have y9 := pos_neg (P u)
    omega
/-- one step of sending, in work and owed -/
theorem wo_step {c0 d : Int → Int → Int} {W O : Int → Int} {u v a : Int} (h : WO c0 d W O) (hu : 0 ≤ u ∧ u < 9) (hv : 0 ≤ v ∧ v < 9) (huv : u ≠ v) (has : d u v = -(d v u)) (ha : 0 < a) (hle : d u v < 0 → a ≤ -(d u v)) :
    (0 < O (9 * v + u) → WO c0 (up2 d u v a) (ua (ua W (9 * u + v) (W (9 * u + v) - a)) (9 * v + u) (ua W (9 * u + v) (W (9 * u + v) - a) (9 * v + u) + a)) (ua O (9 * v + u) (O (9 * v + u) - a))) ∧
    (¬ 0 < O (9 * v + u) → WO c0 (up2 d u v a) (ua (ua W (9 * u + v) (W (9 * u + v) - a)) (9 * v + u) (ua W (9 * u + v) (W (9 * u + v) - a) (9 * v + u) + a)) (ua O (9 * u + v) (O (9 * u + v) + a))) := by
  have e1 : ua W (9 * u + v) (W (9 * u + v) - a) (9 * v + u) = W (9 * v + u) := ua_n (by omega)
  have q1 := h u v hu.1 hu.2 hv.1 hv.2
  have q2 := h v u hv.1 hv.2 hu.1 hu.2
  have hw : ∀ x y : Int, 0 ≤ x → x < 9 → 0 ≤ y → y < 9 → ua (ua W (9 * u + v) (W (9 * u + v) - a)) (9 * v + u) (W (9 * v + u) + a) (9 * x + y) = c0 x y - up2 d u v a x y := by
    intro x y r1 r2 r3 r4
    by_cases c1 : x = u ∧ y = v
    · obtain ⟨rfl, rfl⟩ := c1
      rw [ua_n (by omega), ua_s, up2_1]
      omega
    · by_cases c2 : x = v ∧ y = u
      · obtain ⟨rfl, rfl⟩ := c2
        rw [ua_s, up2_2 huv]
        omega
      · rw [ua_n (by omega), ua_n (by omega), up2_n c1 c2]
        exact (h x y r1 r2 r3 r4).1
  rw [e1]
  refine ⟨fun c x y r1 r2 r3 r4 => ⟨hw x y r1 r2 r3 r4, ?_⟩, fun c x y r1 r2 r3 r4 => ⟨hw x y r1 r2 r3 r4, ?_⟩⟩
  · rw [q2.2] at c
    have c' : 0 < d v u := by
      unfold pos at c
      split at c
      · assumption
      · omega
    by_cases c1 : x = u ∧ y = v
    · obtain ⟨rfl, rfl⟩ := c1
      rw [ua_n (by omega), up2_1, q1.2]
      unfold pos
      rw [if_neg (by omega), if_neg (by omega)]
    · by_cases c2 : x = v ∧ y = u
      · obtain ⟨rfl, rfl⟩ := c2
        rw [ua_s, up2_2 huv, q2.2]
        unfold pos
        rw [if_pos c']
        split <;> omega
      · rw [ua_n (by omega), up2_n c1 c2]
        exact (h x y r1 r2 r3 r4).2
  · rw [q2.2] at c
    have c' : ¬ 0 < d v u := fun q => by
      unfold pos at c
      rw [if_pos q] at c
      exact c q
    by_cases c1 : x = u ∧ y = v
    · obtain ⟨rfl, rfl⟩ := c1
      rw [ua_s, up2_1, q1.2]
      unfold pos
      rw [if_pos (show 0 < d x y + a by omega)]
      split <;> omega
    · by_cases c2 : x = v ∧ y = u
      · obtain ⟨rfl, rfl⟩ := c2
        rw [ua_n (by omega), up2_2 huv, q2.2]
        unfold pos
        rw [if_neg c', if_neg (by omega)]
      · rw [ua_n (by omega), up2_n c1 c2]
        exact (h x y r1 r2 r3 r4).2
end
section
/-! ===== CreditNetwork: costOf, relax, findCheapest, sendOne, narrowestOwed ===== -/
set_option maxRecDepth 10000
theorem x_costOf (u v : Int) (hu : 0 ≤ u ∧ u < 9) (hv : 0 ≤ v ∧ v < 9) : c_meti xW yX0_costOf cX0_costOf 3 .int (rk 0) true [u, v] (fun S => ∀ j : Int, 0 ≤ j → j < 81 → 0 ≤ S 8 j ∧ S 8 j ≤ 100000) (fun S z S' => S' = S ∧ z = if 7 ≤ u ∨ 7 ≤ v then 0 else if 0 < S 8 (9 * v + u) then -1 else 1) := by
  refine c_meti_of (own := RX0) (by decide) rfl xW_fst (fun _ => by simp [c_args]) ?_
  intro E h S hE hR hB hret
  show G E cX0_costOf 3 S 0 [some (.inr (h 0)), some (.inl u), some (.inl v)] []
  refine g_iload_n 1 dX0_costOf_0 rfl rfl ?_
  refine g_bipush 3 dX0_costOf_1 rfl (by decide) ?_
  refine g_icmp_ge 12 6 dX0_costOf_3 (by decide) rfl (by omega) (by omega) (fun h1 => ?_) (fun h1 => ?_)
  · refine g_iconst 13 dX0_costOf_12 rfl ?_
    exact hret _ _ _ _ dX0_costOf_13 rfl ⟨rfl, by rw [if_pos (Or.inl h1)]⟩
  · refine g_iload_n 7 dX0_costOf_6 rfl rfl ?_
    refine g_bipush 9 dX0_costOf_7 rfl (by decide) ?_
    refine g_icmp_lt 14 12 dX0_costOf_9 (by decide) rfl (by omega) (by omega) (fun h2 => ?_) (fun h2 => ?_)
    · have hO := hB (9 * v + u) (by omega) (by omega)
      refine g_aload_n 15 dX0_costOf_14 rfl rfl ?_
      refine xg_owed hE 18 dX0_costOf_15 rfl ?_
      refine g_bipush 20 dX0_costOf_18 rfl (by decide) ?_
      refine g_iload_n 21 dX0_costOf_20 rfl rfl ?_
      refine g_imul 22 dX0_costOf_21 rfl ?_
      refine g_iload_n 23 dX0_costOf_22 rfl rfl ?_
      refine g_iadd 24 dX0_costOf_23 rfl ?_
      refine xl_owed hE 25 dX0_costOf_24 rfl (by omega) ?_
      refine g_if_le 32 28 dX0_costOf_25 (by decide) rfl (by omega) (fun h3 => ?_) (fun h3 => ?_)
      · refine g_iconst 33 dX0_costOf_32 rfl ?_
        exact hret _ _ _ _ dX0_costOf_33 rfl ⟨rfl, by rw [if_neg (by omega), if_neg (by omega)]⟩
      · refine g_iconst 29 dX0_costOf_28 rfl ?_
        refine g_goto 33 dX0_costOf_29 (by decide) ?_
        exact hret _ _ _ _ dX0_costOf_33 rfl ⟨rfl, by rw [if_neg (by omega), if_pos h3]⟩
    · refine g_iconst 13 dX0_costOf_12 rfl ?_
      exact hret _ _ _ _ dX0_costOf_13 rfl ⟨rfl, by rw [if_pos (Or.inr h2)]⟩
theorem cst_of {c0 d : Int → Int → Int} {W O : Int → Int} {u v : Int} (h : WO c0 d W O) (hu : 0 ≤ u ∧ u < 9) (hv : 0 ≤ v ∧ v < 9) (has : d u v = -(d v u)) : (if 7 ≤ u ∨ 7 ≤ v then (0 : Int) else if 0 < O (9 * v + u) then -1 else 1) = cst d u v := by
  unfold cst
  by_cases c : 7 ≤ u ∨ 7 ≤ v
  · rw [if_pos c, if_pos c]
  · rw [if_neg c, if_neg c, (h v u hv.1 hv.2 hu.1 hu.2).2]
    unfold pos
    by_cases c2 : 0 < d v u
    · rw [if_pos c2, if_pos c2, if_pos (by omega)]
    · rw [if_neg c2, if_neg (by decide), if_neg (by omega)]
theorem x_relax (c0 d : Int → Int → Int) (u v : Int) (hu : 0 ≤ u ∧ u < 9) (hv : 0 ≤ v ∧ v < 9) (has : d u v = -(d v u)) : c_metv xW yX0_relax cX0_relax 4 (rk 1) true [u, v] (fun S => WO c0 d (S 7) (S 8) ∧ (∀ j : Int, 0 ≤ j → j < 81 → (0 ≤ S 7 j ∧ S 7 j ≤ 200000) ∧ (0 ≤ S 8 j ∧ S 8 j ≤ 100000)) ∧ ∀ x : Int, 0 ≤ x → x < 9 → -1000 ≤ S 11 x ∧ S 11 x ≤ 1000000) (fun S S' => (∀ k, k ≠ 9 → k ≠ 11 → S' k = S k) ∧ ((d u v < c0 u v ∧ S 11 u < 1000000 ∧ S 11 u + cst d u v < S 11 v ∧ S' 11 = ua (S 11) v (S 11 u + cst d u v) ∧ S' 9 = ua (S 9) v u) ∨ (¬ (d u v < c0 u v ∧ S 11 u < 1000000 ∧ S 11 u + cst d u v < S 11 v) ∧ S' 11 = S 11 ∧ S' 9 = S 9))) := by
  refine c_metv_of (own := RX0) (by decide) rfl xW_fst (fun _ => by simp [c_args]) ?_
  intro E h S hE hR hpre hret
  obtain ⟨hWO, hB, hd⟩ := hpre
  show G E cX0_relax 4 S 0 [some (.inr (h 0)), some (.inl u), some (.inl v), none] []
  have hW := (hWO u v hu.1 hu.2 hv.1 hv.2).1
  have hWr := (hB (9 * u + v) (by omega) (by omega)).1
  have du := hd u hu.1 hu.2
  have dv := hd v hv.1 hv.2
  have hcr := cst_rng d u v
  have no : ∀ (x3 : Option pv), ¬ (d u v < c0 u v ∧ S 11 u < 1000000 ∧ S 11 u + cst d u v < S 11 v) → G E cX0_relax 4 S 63 [some (.inr (h 0)), some (.inl u), some (.inl v), x3] [] := by
    intro x3 hn
    exact hret _ _ _ dX0_relax_63 ⟨fun _ _ _ => rfl, Or.inr ⟨hn, rfl, rfl⟩⟩
  refine g_aload_n 1 dX0_relax_0 rfl rfl ?_
  refine xg_work hE 4 dX0_relax_1 rfl ?_
  refine g_bipush 6 dX0_relax_4 rfl (by decide) ?_
  refine g_iload_n 7 dX0_relax_6 rfl rfl ?_
  refine g_imul 8 dX0_relax_7 rfl ?_
  refine g_iload_n 9 dX0_relax_8 rfl rfl ?_
  refine g_iadd 10 dX0_relax_9 rfl ?_
  refine xl_work hE 11 dX0_relax_10 rfl (by omega) ?_
  refine g_if_le 63 14 dX0_relax_11 (by decide) rfl (by omega) (fun h1 => ?_) (fun h1 => ?_)
  · exact no _ (fun q => by have := q.1; omega)
  · refine g_aload_n 15 dX0_relax_14 rfl rfl ?_
    refine xg_distance hE 18 dX0_relax_15 rfl ?_
    refine g_iload_n 19 dX0_relax_18 rfl rfl ?_
    refine xl_distance hE 20 dX0_relax_19 rfl (by omega) ?_
    refine g_ldc hE (1000000) 22 q107 (by decide) dX0_relax_20 rfl ?_
    refine g_icmp_ge 63 25 dX0_relax_22 (by decide) rfl (by omega) (by omega) (fun h2 => ?_) (fun h2 => ?_)
    · exact no _ (fun q => by have := q.2.1; omega)
    · refine g_aload_n 26 dX0_relax_25 rfl rfl ?_
      refine xg_distance hE 29 dX0_relax_26 rfl ?_
      refine g_iload_n 30 dX0_relax_29 rfl rfl ?_
      refine xl_distance hE 31 dX0_relax_30 rfl (by omega) ?_
      refine g_aload_n 32 dX0_relax_31 rfl rfl ?_
      refine g_iload_n 33 dX0_relax_32 rfl rfl ?_
      refine g_iload_n 34 dX0_relax_33 rfl rfl ?_
      refine g_calli (na := 2) (x_costOf u v hu hv) xW_ob (lw_V q177 q179 qs10 q25 q180) (by decide +kernel) rfl ⟨rfl, rfl⟩ hE (by rw [hR]; decide) 37 dX0_relax_34 rfl [.inl (S 11 u)] rfl (by simp) (fun j q1 q2 => (hB j q1 q2).2) (fun z S1 hz => ?_)
      obtain ⟨hS1, hz⟩ := hz
      subst hS1
      rw [cst_of hWO hu hv has] at hz
      subst hz
      refine g_iadd 38 dX0_relax_37 rfl ?_
      refine g_istore_n 39 dX0_relax_38 rfl (by decide) ?_
      refine g_iload_n 40 dX0_relax_39 rfl rfl ?_
      refine g_aload_n 41 dX0_relax_40 rfl rfl ?_
      refine xg_distance hE 44 dX0_relax_41 rfl ?_
      refine g_iload_n 45 dX0_relax_44 rfl rfl ?_
      refine xl_distance hE 46 dX0_relax_45 rfl (by omega) ?_
      refine g_icmp_ge 63 49 dX0_relax_46 (by decide) rfl (by omega) (by omega) (fun h3 => ?_) (fun h3 => ?_)
      · exact no _ (fun q => by have := q.2.2; omega)
      · refine g_aload_n 50 dX0_relax_49 rfl rfl ?_
        refine xg_distance hE 53 dX0_relax_50 rfl ?_
        refine g_iload_n 54 dX0_relax_53 rfl rfl ?_
        refine g_iload_n 55 dX0_relax_54 rfl rfl ?_
        refine xs_distance hE 56 dX0_relax_55 rfl (by omega) ?_
        refine g_aload_n 57 dX0_relax_56 rfl rfl ?_
        refine xg_cameFrom hE 60 dX0_relax_57 rfl ?_
        refine g_iload_n 61 dX0_relax_60 rfl rfl ?_
        refine g_iload_n 62 dX0_relax_61 rfl rfl ?_
        refine xs_cameFrom hE 63 dX0_relax_62 rfl (by omega) ?_
        refine hret _ _ _ dX0_relax_63 ⟨fun k q1 q2 => ?_, Or.inl ⟨by omega, h2, h3, rfl, rfl⟩⟩
        rw [us_n q1, us_n q2]
theorem x_findCheapest (c0 d : Int → Int → Int) (pt : Int → Int) (hF : Flo 9 c0 d pt) (hp7 : pt 7 = 0) (hB : ∀ u v : Int, 0 ≤ u → u < 9 → 0 ≤ v → v < 9 → 0 ≤ c0 u v ∧ c0 u v ≤ 100000) : c_meti xW yX0_findCheapest cX0_findCheapest 3 .boolean (rk 2) true [] (fun S => WO c0 d (S 7) (S 8)) (fun S z S' => (∀ k, k ≠ 9 → k ≠ 11 → S' k = S k) ∧ Chp c0 d (S' 11) (S' 9) ∧ ((z = 1 ∧ S' 11 8 < 1000000) ∨ (z = 0 ∧ ¬ S' 11 8 < 1000000))) := by
  refine c_meti_of (own := RX0) (by decide) rfl xW_fst (fun _ => by simp [c_args]) ?_
  intro E h S0 hE hR hWO hret
  show G E cX0_findCheapest 3 S0 0 [some (.inr (h 0)), none, none] []
  have hrng : ∀ (dist cf tau rd : Int → Int) (k i t : Int), t ≤ 729 → Bf 9 (fun u v => d u v < c0 u v) (cst d) pt (fun v => v = 7) (fun u v => 9 * u + v) 1000000 dist cf tau rd k i t → ∀ x : Int, 0 ≤ x → x < 9 → -1000 ≤ dist x ∧ dist x ≤ 1000000 := by
    intro dist cf tau rd k i t ht hb x q1 q2
    by_cases c : dist x < 1000000
    · obtain ⟨-, -, -, -, -, -, b6, b7⟩ := hb.1 x q1 q2 c
      omega
    · have := (hb.2.2.1 x q1 q2 c).1
      omega
  have outer : ∀ (n : Nat) (r : Int) (S : st_T) (x2 : Option pv), 0 ≤ r → r ≤ 9 → 9 - r < n → (∀ k, k ≠ 9 → k ≠ 11 → S k = S0 k) → (∃ tau rd : Int → Int, (r = 0 ∧ Bf 9 (fun u v => d u v < c0 u v) (cst d) pt (fun v => v = 7) (fun u v => 9 * u + v) 1000000 (S 11) (S 9) tau rd 1 0 0) ∨ (1 ≤ r ∧ Bf 9 (fun u v => d u v < c0 u v) (cst d) pt (fun v => v = 7) (fun u v => 9 * u + v) 1000000 (S 11) (S 9) tau rd r 81 (81 * r))) → G E cX0_findCheapest 3 S 41 [some (.inr (h 0)), some (.inl r), x2] [] := by
    intro n
    induction n with
    | zero => intro r S x2 g0 g1 gn; omega
    | succ n ih =>
      intro r S x2 g0 g1 gn hk hb
      refine g_iload_n 42 dX0_findCheapest_41 rfl rfl ?_
      refine g_bipush 44 dX0_findCheapest_42 rfl (by decide) ?_
      refine g_icmp_ge 79 47 dX0_findCheapest_44 (by decide) rfl (by omega) (by omega) (fun hc => ?_) (fun hc => ?_)
      · obtain ⟨tau, rd, hb⟩ := hb
        have hr9 : r = 9 := by omega
        subst hr9
        rcases hb with ⟨q, -⟩ | ⟨-, hb⟩
        · omega
        · have hch := chp_of hF hp7 hb
          have h8 := hrng _ _ _ _ _ _ _ (by decide) hb 8 (by decide) (by decide)
          refine g_aload_n 80 dX0_findCheapest_79 rfl rfl ?_
          refine xg_distance hE 83 dX0_findCheapest_80 rfl ?_
          refine g_bipush 85 dX0_findCheapest_83 rfl (by decide) ?_
          refine xl_distance hE 86 dX0_findCheapest_85 rfl (by omega) ?_
          refine g_ldc hE (1000000) 88 q107 (by decide) dX0_findCheapest_86 rfl ?_
          refine g_icmp_ge 95 91 dX0_findCheapest_88 (by decide) rfl (by omega) (by omega) (fun h2 => ?_) (fun h2 => ?_)
          · refine g_iconst 96 dX0_findCheapest_95 rfl ?_
            exact hret _ _ _ _ dX0_findCheapest_96 rfl ⟨hk, hch, Or.inr ⟨rfl, by omega⟩⟩
          · refine g_iconst 92 dX0_findCheapest_91 rfl ?_
            refine g_goto 96 dX0_findCheapest_92 (by decide) ?_
            exact hret _ _ _ _ dX0_findCheapest_96 rfl ⟨hk, hch, Or.inl ⟨rfl, h2⟩⟩
      · refine g_iconst 48 dX0_findCheapest_47 rfl ?_
        refine g_istore_n 49 dX0_findCheapest_48 rfl (by decide) ?_
        have hb0 : ∃ tau rd : Int → Int, Bf 9 (fun u v => d u v < c0 u v) (cst d) pt (fun v => v = 7) (fun u v => 9 * u + v) 1000000 (S 11) (S 9) tau rd (r + 1) 0 (81 * r + 0) := by
          obtain ⟨tau, rd, hb⟩ := hb
          refine ⟨tau, rd, ?_⟩
          rcases hb with ⟨q, hb⟩ | ⟨-, hb⟩
          · subst q
            exact hb
          · rw [Int.add_zero]
            exact bf_next hb (fun u v q1 q2 q3 q4 => by show 0 ≤ 9 * u + v ∧ 9 * u + v < 81; omega)
        suffices inner : ∀ (n : Nat) (c : Int) (S : st_T), 0 ≤ c → c ≤ 81 → 81 - c < n → (∀ k, k ≠ 9 → k ≠ 11 → S k = S0 k) → (∃ tau rd : Int → Int, Bf 9 (fun u v => d u v < c0 u v) (cst d) pt (fun v => v = 7) (fun u v => 9 * u + v) 1000000 (S 11) (S 9) tau rd (r + 1) c (81 * r + c)) → G E cX0_findCheapest 3 S 49 [some (.inr (h 0)), some (.inl r), some (.inl c)] [] from inner 82 0 S (by decide) (by decide) (by decide) hk hb0
        intro n2
        induction n2 with
        | zero => intro c S e0 e1 en; omega
        | succ n2 ih2 =>
          intro c S e0 e1 en hk hb
          obtain ⟨tau, rd, hb⟩ := hb
          refine g_iload_n 50 dX0_findCheapest_49 rfl rfl ?_
          refine g_bipush 52 dX0_findCheapest_50 rfl (by decide) ?_
          refine g_icmp_ge 73 55 dX0_findCheapest_52 (by decide) rfl (by omega) (by omega) (fun hc2 => ?_) (fun hc2 => ?_)
          · refine g_iinc 76 dX0_findCheapest_73 rfl (by decide) rfl ?_
            refine g_goto 41 dX0_findCheapest_76 (by decide) ?_
            have hc81 : c = 81 := by omega
            subst hc81
            refine ih (r + 1) S _ (by omega) (by omega) (by omega) hk ⟨tau, rd, Or.inr ⟨by omega, ?_⟩⟩
            rw [show 81 * (r + 1) = 81 * r + 81 by omega]
            exact hb
          · refine g_aload_n 56 dX0_findCheapest_55 rfl rfl ?_
            refine g_iload_n 57 dX0_findCheapest_56 rfl rfl ?_
            refine g_bipush 59 dX0_findCheapest_57 rfl (by decide) ?_
            refine g_idiv 60 dX0_findCheapest_59 rfl (by omega) (by omega) ?_
            refine g_iload_n 61 dX0_findCheapest_60 rfl rfl ?_
            refine g_bipush 63 dX0_findCheapest_61 rfl (by decide) ?_
            refine g_irem 64 dX0_findCheapest_63 rfl (by omega) (by omega) ?_
            have hWO' : WO c0 d (S 7) (S 8) := by rw [hk 7 (by decide) (by decide), hk 8 (by decide) (by decide)]; exact hWO
            have has := hF.1 (c / 9) (c % 9) (by omega) (by omega) (by omega) (by omega)
            refine g_callv (na := 2) (x_relax c0 d (c / 9) (c % 9) (by omega) (by omega) has) xW_ob (lw_V q173 q175 qs9 q25 q176) (by decide +kernel) rfl ⟨rfl, rfl⟩ hE (by rw [hR]; decide) 67 dX0_findCheapest_64 rfl [] rfl (by simp) ⟨hWO', fun j q1 q2 => wo_rng hF hWO' hB q1 q2, hrng _ _ _ _ _ _ _ (by omega) hb⟩ (fun S1 hS1 => ?_)
            obtain ⟨hk1, hS1⟩ := hS1
            have hk2 : ∀ k, k ≠ 9 → k ≠ 11 → S1 k = S0 k := fun k q1 q2 => by rw [hk1 k q1 q2]; exact hk k q1 q2
            have hix : ∀ p q : Int, 0 ≤ p → p < (9 : Nat) → 0 ≤ q → q < (9 : Nat) → 9 * p + q = c → p = c / 9 ∧ q = c % 9 := fun p q q1 q2 q3 q4 q5 => by omega
            refine g_iinc 70 dX0_findCheapest_67 rfl (by decide) rfl ?_
            refine g_goto 49 dX0_findCheapest_70 (by decide) ?_
            refine ih2 (c + 1) S1 (by omega) (by omega) (by omega) hk2 ?_
            rcases hS1 with ⟨f1, f2, f3, f4, f5⟩ | ⟨f1, f2, f3⟩
            · have huv : c / 9 ≠ c % 9 := fun e => by
                rw [← e] at has f3
                have : cst d (c / 9) (c / 9) = 0 ∨ cst d (c / 9) (c / 9) = 1 := by
                  unfold cst
                  split
                  · exact Or.inl rfl
                  · rw [if_neg (by omega)]
                    exact Or.inr rfl
                omega
              refine ⟨ua tau (c % 9) (81 * r + c + 1), ua rd (c % 9) (r + 1), ?_⟩
              rw [f4, f5, ← Int.add_assoc]
              exact bf_yes hb (by omega) (by omega) huv (show 9 * (c / 9) + c % 9 = c by omega) hix (fun p q => cst_rng d p q) (fun p q q1 q2 q3 q4 q5 => hF.2.2 p q q1 q2 q3 q4 q5) (by omega) (by omega) f1 f2 f3
            · refine ⟨tau, rd, ?_⟩
              rw [f2, f3, ← Int.add_assoc]
              exact bf_no hb hix f1
  refine g_iconst 1 dX0_findCheapest_0 rfl ?_
  refine g_istore_n 2 dX0_findCheapest_1 rfl (by decide) ?_
  suffices init : ∀ (n : Nat) (i : Int) (S : st_T), 0 ≤ i → i ≤ 9 → 9 - i < n → (∀ k, k ≠ 9 → k ≠ 11 → S k = S0 k) → (∀ x : Int, 0 ≤ x → x < i → S 9 x = -1 ∧ S 11 x = if x = 7 then 0 else 1000000) → G E cX0_findCheapest 3 S 2 [some (.inr (h 0)), some (.inl i), none] [] from init 10 0 S0 (by decide) (by decide) (by decide) (fun _ _ _ => rfl) (fun x q1 q2 => by omega)
  intro n
  induction n with
  | zero => intro i S g0 g1 gn; omega
  | succ n ih =>
    intro i S g0 g1 gn hk hin
    refine g_iload_n 3 dX0_findCheapest_2 rfl rfl ?_
    refine g_bipush 5 dX0_findCheapest_3 rfl (by decide) ?_
    refine g_icmp_ge 39 8 dX0_findCheapest_5 (by decide) rfl (by omega) (by omega) (fun hc => ?_) (fun hc => ?_)
    · refine g_iconst 40 dX0_findCheapest_39 rfl ?_
      refine g_istore_n 41 dX0_findCheapest_40 rfl (by decide) ?_
      refine outer 10 0 S _ (by decide) (by decide) (by decide) hk ⟨fun _ => 0, fun _ => 0, Or.inl ⟨rfl, ?_⟩⟩
      refine bf_0 (fun v q1 q2 q3 => by rw [q3, hp7]; decide) (by decide) (fun u v q1 q2 q3 q4 => by show 0 ≤ 9 * u + v; omega) (fun v q1 q2 => ?_)
      have := hin v q1 (by omega)
      refine ⟨this.1, ?_⟩
      by_cases e : v = 7
      · exact Or.inl ⟨e, by rw [this.2, if_pos e]⟩
      · exact Or.inr ⟨e, by rw [this.2, if_neg e]⟩
    · refine g_aload_n 9 dX0_findCheapest_8 rfl rfl ?_
      refine xg_distance hE 12 dX0_findCheapest_9 rfl ?_
      refine g_iload_n 13 dX0_findCheapest_12 rfl rfl ?_
      refine g_iload_n 14 dX0_findCheapest_13 rfl rfl ?_
      refine g_bipush 16 dX0_findCheapest_14 rfl (by decide) ?_
      have go : ∀ w : Int, w = (if i = 7 then 0 else 1000000) → G E cX0_findCheapest 3 S 25 [some (.inr (h 0)), some (.inl i), none] [.inl w, .inl i, .inr (h 11)] := by
        intro w hw
        refine xs_distance hE 26 dX0_findCheapest_25 rfl (by omega) ?_
        refine g_aload_n 27 dX0_findCheapest_26 rfl rfl ?_
        refine xg_cameFrom hE 30 dX0_findCheapest_27 rfl ?_
        refine g_iload_n 31 dX0_findCheapest_30 rfl rfl ?_
        refine g_iconst 32 dX0_findCheapest_31 rfl ?_
        refine xs_cameFrom hE 33 dX0_findCheapest_32 rfl (by omega) ?_
        refine g_iinc 36 dX0_findCheapest_33 rfl (by decide) rfl ?_
        refine g_goto 2 dX0_findCheapest_36 (by decide) ?_
        refine ih (i + 1) _ (by omega) (by omega) (by omega) (fun k q1 q2 => ?_) (fun x q1 q2 => ?_)
        · rw [us_n q1, us_n q2]
          exact hk k q1 q2
        · show ua (S 9) i (-1) x = -1 ∧ ua (S 11) i w x = if x = 7 then 0 else 1000000
          by_cases e : x = i
          · subst e
            rw [ua_s, ua_s]
            exact ⟨rfl, hw⟩
          · rw [ua_n e, ua_n e]
            exact hin x q1 (by omega)
      refine g_icmp_ne 23 19 dX0_findCheapest_16 (by decide) rfl (by omega) (by omega) (fun h7 => ?_) (fun h7 => ?_)
      · refine g_ldc hE (1000000) 25 q107 (by decide) dX0_findCheapest_23 rfl ?_
        exact go 1000000 (by rw [if_neg h7])
      · refine g_iconst 20 dX0_findCheapest_19 rfl ?_
        refine g_goto 25 dX0_findCheapest_20 (by decide) ?_
        exact go 0 (by rw [if_pos h7])
theorem x_sendOne (c0 d : Int → Int → Int) (u v a : Int) (hu : 0 ≤ u ∧ u < 9) (hv : 0 ≤ v ∧ v < 9) (huv : u ≠ v) (has : d u v = -(d v u)) (ha : 0 < a) (hle : d u v < 0 → a ≤ -(d u v)) : c_metv xW yX0_sendOne cX0_sendOne 4 (rk 0) true [u, v, a] (fun S => WO c0 d (S 7) (S 8) ∧ ∀ j : Int, 0 ≤ j → j < 81 → 0 ≤ S 8 j ∧ S 8 j ≤ 100000) (fun S S' => (∀ k, k ≠ 7 → k ≠ 8 → S' k = S k) ∧ WO c0 (up2 d u v a) (S' 7) (S' 8)) := by
  refine c_metv_of (own := RX0) (by decide) rfl xW_fst (fun _ => by simp [c_args]) ?_
  intro E h S hE hR hpre hret
  obtain ⟨hWO, hB⟩ := hpre
  show G E cX0_sendOne 4 S 0 [some (.inr (h 0)), some (.inl u), some (.inl v), some (.inl a)] []
  have hst := wo_step hWO hu hv huv has ha hle
  have hO := hB (9 * v + u) (by omega) (by omega)
  refine g_aload_n 1 dX0_sendOne_0 rfl rfl ?_
  refine xg_work hE 4 dX0_sendOne_1 rfl ?_
  refine g_bipush 6 dX0_sendOne_4 rfl (by decide) ?_
  refine g_iload_n 7 dX0_sendOne_6 rfl rfl ?_
  refine g_imul 8 dX0_sendOne_7 rfl ?_
  refine g_iload_n 9 dX0_sendOne_8 rfl rfl ?_
  refine g_iadd 10 dX0_sendOne_9 rfl ?_
  refine g_dup2 11 dX0_sendOne_10 rfl ?_
  refine xl_work hE 12 dX0_sendOne_11 rfl (by omega) ?_
  refine g_iload_n 13 dX0_sendOne_12 rfl rfl ?_
  refine g_isub 14 dX0_sendOne_13 rfl ?_
  refine xs_work hE 15 dX0_sendOne_14 rfl (by omega) ?_
  refine g_aload_n 16 dX0_sendOne_15 rfl rfl ?_
  refine xg_work hE 19 dX0_sendOne_16 rfl ?_
  refine g_bipush 21 dX0_sendOne_19 rfl (by decide) ?_
  refine g_iload_n 22 dX0_sendOne_21 rfl rfl ?_
  refine g_imul 23 dX0_sendOne_22 rfl ?_
  refine g_iload_n 24 dX0_sendOne_23 rfl rfl ?_
  refine g_iadd 25 dX0_sendOne_24 rfl ?_
  refine g_dup2 26 dX0_sendOne_25 rfl ?_
  refine xl_work hE 27 dX0_sendOne_26 rfl (by omega) ?_
  refine g_iload_n 28 dX0_sendOne_27 rfl rfl ?_
  refine g_iadd 29 dX0_sendOne_28 rfl ?_
  refine xs_work hE 30 dX0_sendOne_29 rfl (by omega) ?_
  refine g_aload_n 31 dX0_sendOne_30 rfl rfl ?_
  refine xg_owed hE 34 dX0_sendOne_31 rfl ?_
  refine g_bipush 36 dX0_sendOne_34 rfl (by decide) ?_
  refine g_iload_n 37 dX0_sendOne_36 rfl rfl ?_
  refine g_imul 38 dX0_sendOne_37 rfl ?_
  refine g_iload_n 39 dX0_sendOne_38 rfl rfl ?_
  refine g_iadd 40 dX0_sendOne_39 rfl ?_
  refine xl_owed hE 41 dX0_sendOne_40 rfl (by omega) ?_
  refine g_if_le 62 44 dX0_sendOne_41 (by decide) rfl (by show -2147483648 ≤ S 8 (9 * v + u) ∧ S 8 (9 * v + u) ≤ 2147483647; omega) (fun h1 => ?_) (fun h1 => ?_)
  · have h1 : S 8 (9 * v + u) ≤ 0 := h1
    refine g_aload_n 63 dX0_sendOne_62 rfl rfl ?_
    refine xg_owed hE 66 dX0_sendOne_63 rfl ?_
    refine g_bipush 68 dX0_sendOne_66 rfl (by decide) ?_
    refine g_iload_n 69 dX0_sendOne_68 rfl rfl ?_
    refine g_imul 70 dX0_sendOne_69 rfl ?_
    refine g_iload_n 71 dX0_sendOne_70 rfl rfl ?_
    refine g_iadd 72 dX0_sendOne_71 rfl ?_
    refine g_dup2 73 dX0_sendOne_72 rfl ?_
    refine xl_owed hE 74 dX0_sendOne_73 rfl (by omega) ?_
    refine g_iload_n 75 dX0_sendOne_74 rfl rfl ?_
    refine g_iadd 76 dX0_sendOne_75 rfl ?_
    refine xs_owed hE 77 dX0_sendOne_76 rfl (by omega) ?_
    refine hret _ _ _ dX0_sendOne_77 ⟨fun k q1 q2 => ?_, hst.2 (by omega)⟩
    rw [us_n q2, us_n q1, us_n q1]
  · have h1 : 0 < S 8 (9 * v + u) := h1
    refine g_aload_n 45 dX0_sendOne_44 rfl rfl ?_
    refine xg_owed hE 48 dX0_sendOne_45 rfl ?_
    refine g_bipush 50 dX0_sendOne_48 rfl (by decide) ?_
    refine g_iload_n 51 dX0_sendOne_50 rfl rfl ?_
    refine g_imul 52 dX0_sendOne_51 rfl ?_
    refine g_iload_n 53 dX0_sendOne_52 rfl rfl ?_
    refine g_iadd 54 dX0_sendOne_53 rfl ?_
    refine g_dup2 55 dX0_sendOne_54 rfl ?_
    refine xl_owed hE 56 dX0_sendOne_55 rfl (by omega) ?_
    refine g_iload_n 57 dX0_sendOne_56 rfl rfl ?_
    refine g_isub 58 dX0_sendOne_57 rfl ?_
    refine xs_owed hE 59 dX0_sendOne_58 rfl (by omega) ?_
    refine g_goto 77 dX0_sendOne_59 (by decide) ?_
    refine hret _ _ _ dX0_sendOne_77 ⟨fun k q1 q2 => ?_, hst.1 h1⟩
    rw [us_n q2, us_n q1, us_n q1]
theorem x_narrowestOwed (c0 d : Int → Int → Int) (lim : Int) (hc0 : Cap0 9 c0) (hB : ∀ u v : Int, 0 ≤ u → u < 9 → 0 ≤ v → v < 9 → 0 ≤ c0 u v ∧ c0 u v ≤ 100000) (hlim : 1 ≤ lim ∧ lim ≤ 1000000) : c_meti xW yX0_narrowestOwed cX0_narrowestOwed 8 .int (rk 1) true [lim] (fun S => WO c0 d (S 7) (S 8) ∧ Chp c0 d (S 11) (S 9) ∧ S 11 8 < 1000000) (fun S z S' => (1 ≤ z ∧ z ≤ lim) ∧ (∀ k, k ≠ 7 → k ≠ 8 → S' k = S k) ∧ ∃ (d' : Int → Int → Int) (pt' : Int → Int), WO c0 d' (S' 7) (S' 8) ∧ Flo 9 c0 d' pt' ∧ pt' 7 = 0 ∧ (∀ x : Int, 0 ≤ x → x < 9 → sg (d' x) 9 = sg (d x) 9 + (if x = 7 then z else 0) - (if x = 8 then z else 0)) ∧ cost d' = cost d + z * S 11 8) := by
  refine c_meti_of (own := RX0) (by decide) rfl xW_fst (fun _ => by simp [c_args]) ?_
  intro E h S0 hE hR hpre hret
  obtain ⟨hWO, ⟨dep, pt, hT, hF, hpt, h70, hcf, -, hdr⟩, hr8⟩ := hpre
  show G E cX0_narrowestOwed 8 S0 0 [some (.inr (h 0)), some (.inl lim), none, none, none, none, none, none] []
  have hrg := fun (j : Int) (q1 : 0 ≤ j) (q2 : j < 81) => wo_rng hF hWO hB q1 q2
  -- the second loop
  have second : ∀ (i : Nat) (a : Int) (x3 x4 x5 x6 x7 : Option pv), (1 ≤ a ∧ a ≤ lim) → itn (S0 9) 8 i = 7 → (∀ k : Nat, k < i → a ≤ rm_ c0 d (S0 9 (itn (S0 9) 8 k)) (itn (S0 9) 8 k)) → G E cX0_narrowestOwed 8 S0 136 [some (.inr (h 0)), some (.inl lim), some (.inl a), x3, x4, x5, x6, x7] [] := by
    intro i a x3 x4 x5 x6 x7 ha hi7 hmin
    have fin : ∀ (j : Nat) (S : st_T) (d' : Int → Int → Int) (y3 y4 y5 : Option pv), (∀ k, k ≠ 7 → k ≠ 8 → S k = S0 k) → WO c0 d' (S 7) (S 8) → Aug 9 c0 d d' pt (S0 11) (S0 9) dep 1000000 a 8 j → itn (S0 9) 8 j = 7 → G E cX0_narrowestOwed 8 S 180 [some (.inr (h 0)), some (.inl lim), some (.inl a), y3, y4, y5, x6, x7] [] := by
      intro j S d' y3 y4 y5 hk hw hA hj
      refine g_iload_n 181 dX0_narrowestOwed_180 rfl rfl ?_
      obtain ⟨p1, p2, p3, p4⟩ := hA
      rw [hj] at p2 p4
      refine hret _ _ _ _ dX0_narrowestOwed_181 rfl ⟨ha, hk, d', pt, hw, p1, by rw [hpt 7 (by omega)]; exact h70, p2, ?_⟩
      rw [p4, h70, Int.sub_zero]
    refine g_bipush 138 dX0_narrowestOwed_136 rfl (by decide) ?_
    refine g_istore_n 139 dX0_narrowestOwed_138 rfl (by decide) ?_
    refine g_iconst 140 dX0_narrowestOwed_139 rfl ?_
    refine g_istore 142 dX0_narrowestOwed_140 rfl (by decide) ?_
    suffices loop2 : ∀ (n j : Nat) (c at_ : Int) (S : st_T) (d' : Int → Int → Int) (y5 : Option pv), c = j → j ≤ i → at_ = itn (S0 9) 8 j → 9 - c < n → j ≤ 9 → (∀ k, k ≠ 7 → k ≠ 8 → S k = S0 k) → WO c0 d' (S 7) (S 8) → Aug 9 c0 d d' pt (S0 11) (S0 9) dep 1000000 a 8 j → (0 ≤ at_ ∧ at_ < 9) → S0 11 at_ < 1000000 → dep at_ ≤ 8 - c → G E cX0_narrowestOwed 8 S 142 [some (.inr (h 0)), some (.inl lim), some (.inl a), some (.inl at_), some (.inl c), y5, x6, x7] [] from loop2 10 0 0 8 S0 d _ rfl (by omega) rfl (by decide) (by decide) (fun _ _ _ => rfl) hWO (aug_0 hF) (by decide) hr8 (by have := (hT 8 (by decide) (by decide) hr8).2.1; omega)
    intro n
    induction n with
    | zero => intro j c at_ S d' y5 hcj hji hat hn hj; omega
    | succ n ih =>
      intro j c at_ S d' y5 hcj hji hat hn hj hk hw hA hr hre hdep
      have hnn := (hT at_ hr.1 hr.2 hre).1
      refine g_iload 144 dX0_narrowestOwed_142 rfl rfl ?_
      refine g_bipush 146 dX0_narrowestOwed_144 rfl (by decide) ?_
      refine g_icmp_ge 180 149 dX0_narrowestOwed_146 (by decide) rfl (by omega) (by omega) (fun hc1 => ?_) (fun hc1 => ?_)
      · omega
      · refine g_iload_n 150 dX0_narrowestOwed_149 rfl rfl ?_
        refine g_bipush 152 dX0_narrowestOwed_150 rfl (by decide) ?_
        refine g_icmp_eq 180 155 dX0_narrowestOwed_152 (by decide) rfl (by omega) (by omega) (fun hc2 => ?_) (fun hc2 => ?_)
        · exact fin j S d' _ _ _ hk hw hA (by rw [← hat]; exact hc2)
        · have hcf1 := hcf at_ hr.1 hr.2 hre hc2
          obtain ⟨t4, t5, t6, t7, t8⟩ := (hT at_ hr.1 hr.2 hre).2.2 hcf1
          have hjlt : j < i := by
            rcases Nat.lt_or_ge j i with q | q
            · exact q
            · have : j = i := by omega
              rw [this, hi7] at hat
              exact absurd hat hc2
          have e9 : S 9 = S0 9 := hk 9 (by decide) (by decide)
          have hstep := aug_s hc0 hT hpt hA (by rw [← hat]; exact hr.1) (by rw [← hat]; exact hr.2) (by rw [← hat]; exact hre) (by rw [← hat]; exact hcf1) (by omega) (hmin j hjlt)
          have hm := hmin j hjlt
          rw [← hat] at hstep hm
          obtain ⟨hsame, hA2⟩ := hstep
          have hux : S0 9 at_ ≠ at_ := fun e => by rw [e] at t8; omega
          have hrm : rm_ c0 d' (S0 9 at_) at_ = rm_ c0 d (S0 9 at_) at_ := by unfold rm_; rw [hsame]
          have hle := (rm_le hc0 hA.1 ⟨hcf1, t4⟩ hr (show a ≤ rm_ c0 d' (S0 9 at_) at_ by rw [hrm]; exact hm)).2
          refine g_aload_n 156 dX0_narrowestOwed_155 rfl rfl ?_
          refine xg_cameFrom hE 159 dX0_narrowestOwed_156 rfl ?_
          refine g_iload_n 160 dX0_narrowestOwed_159 rfl rfl ?_
          refine xl_cameFrom hE 161 dX0_narrowestOwed_160 rfl (by omega) ?_
          refine g_istore 163 dX0_narrowestOwed_161 rfl (by decide) ?_
          refine g_aload_n 164 dX0_narrowestOwed_163 rfl rfl ?_
          refine g_iload 166 dX0_narrowestOwed_164 rfl rfl ?_
          refine g_iload_n 167 dX0_narrowestOwed_166 rfl rfl ?_
          refine g_iload_n 168 dX0_narrowestOwed_167 rfl rfl ?_
          rw [e9]
          refine g_callv (na := 3) (x_sendOne c0 d' (S0 9 at_) at_ a ⟨hcf1, t4⟩ hr hux (hA.1.1 _ _ hcf1 t4 hr.1 hr.2) (by omega) hle) xW_ob (lw_V q185 q187 qs12 q25 q188) (by decide +kernel) rfl ⟨rfl, rfl⟩ hE (by rw [hR]; decide) 171 dX0_narrowestOwed_168 rfl [] rfl (by simp) ⟨hw, fun j q1 q2 => (wo_rng hA.1 hw hB q1 q2).2⟩ (fun S1 hS1 => ?_)
          obtain ⟨hk1, hw1⟩ := hS1
          refine g_iload 173 dX0_narrowestOwed_171 rfl rfl ?_
          refine g_istore_n 174 dX0_narrowestOwed_173 rfl (by decide) ?_
          refine g_iinc 177 dX0_narrowestOwed_174 rfl (by decide) rfl ?_
          refine g_goto 142 dX0_narrowestOwed_177 (by decide) ?_
          exact ih (j + 1) (c + 1) (S0 9 at_) S1 _ _ (by omega) (by omega) (by rw [hat]; rfl) (by omega) (by omega) (fun k q1 q2 => by rw [hk1 k q1 q2]; exact hk k q1 q2) hw1 hA2 ⟨hcf1, t4⟩ t6 (by omega)
  -- the first loop
  refine g_iload_n 1 dX0_narrowestOwed_0 rfl rfl ?_
  refine g_istore_n 2 dX0_narrowestOwed_1 rfl (by decide) ?_
  refine g_bipush 4 dX0_narrowestOwed_2 rfl (by decide) ?_
  refine g_istore_n 5 dX0_narrowestOwed_4 rfl (by decide) ?_
  refine g_iconst 6 dX0_narrowestOwed_5 rfl ?_
  refine g_istore 8 dX0_narrowestOwed_6 rfl (by decide) ?_
  suffices loop : ∀ (n i : Nat) (c at_ least : Int) (x5 x6 x7 : Option pv), c = i → at_ = itn (S0 9) 8 i → 9 - c < n → i ≤ 9 → (1 ≤ least ∧ least ≤ lim) → (∀ k : Nat, k < i → least ≤ rm_ c0 d (S0 9 (itn (S0 9) 8 k)) (itn (S0 9) 8 k)) → (0 ≤ at_ ∧ at_ < 9) → S0 11 at_ < 1000000 → dep at_ ≤ 8 - c → G E cX0_narrowestOwed 8 S0 8 [some (.inr (h 0)), some (.inl lim), some (.inl least), some (.inl at_), some (.inl c), x5, x6, x7] [] from loop 10 0 0 8 lim _ _ _ rfl rfl (by decide) (by decide) ⟨hlim.1, Int.le_refl _⟩ (fun k hk => by omega) (by decide) hr8 (by have := (hT 8 (by decide) (by decide) hr8).2.1; omega)
  intro n
  induction n with
  | zero => intro i c at_ least x5 x6 x7 hci hat hn hi; omega
  | succ n ih =>
    intro i c at_ least x5 x6 x7 hci hat hn hi hl hmin hr hre hdep
    have hnn := (hT at_ hr.1 hr.2 hre).1
    refine g_iload 10 dX0_narrowestOwed_8 rfl rfl ?_
    refine g_bipush 12 dX0_narrowestOwed_10 rfl (by decide) ?_
    refine g_icmp_ge 136 15 dX0_narrowestOwed_12 (by decide) rfl (by omega) (by omega) (fun hc1 => ?_) (fun hc1 => ?_)
    · omega
    · refine g_iload_n 16 dX0_narrowestOwed_15 rfl rfl ?_
      refine g_bipush 18 dX0_narrowestOwed_16 rfl (by decide) ?_
      refine g_icmp_eq 136 21 dX0_narrowestOwed_18 (by decide) rfl (by omega) (by omega) (fun hc2 => ?_) (fun hc2 => ?_)
      · exact second i least _ _ _ _ _ hl (by rw [← hat]; exact hc2) hmin
      · have hcf1 := hcf at_ hr.1 hr.2 hre hc2
        obtain ⟨t4, t5, t6, t7, t8⟩ := (hT at_ hr.1 hr.2 hre).2.2 hcf1
        have hW := hWO (S0 9 at_) at_ hcf1 t4 hr.1 hr.2
        have hO := hWO at_ (S0 9 at_) hr.1 hr.2 hcf1 t4
        have r1 := hrg (9 * S0 9 at_ + at_) (by omega) (by omega)
        have r2 := hrg (9 * at_ + S0 9 at_) (by omega) (by omega)
        have has := hF.1 (S0 9 at_) at_ hcf1 t4 hr.1 hr.2
        have hcb := hB (S0 9 at_) at_ hcf1 t4 hr.1 hr.2
        refine g_aload_n 22 dX0_narrowestOwed_21 rfl rfl ?_
        refine xg_cameFrom hE 25 dX0_narrowestOwed_22 rfl ?_
        refine g_iload_n 26 dX0_narrowestOwed_25 rfl rfl ?_
        refine xl_cameFrom hE 27 dX0_narrowestOwed_26 rfl (by omega) ?_
        refine g_istore 29 dX0_narrowestOwed_27 rfl (by decide) ?_
        refine g_aload_n 30 dX0_narrowestOwed_29 rfl rfl ?_
        refine xg_work hE 33 dX0_narrowestOwed_30 rfl ?_
        refine g_bipush 35 dX0_narrowestOwed_33 rfl (by decide) ?_
        refine g_iload 37 dX0_narrowestOwed_35 rfl rfl ?_
        refine g_imul 38 dX0_narrowestOwed_37 rfl ?_
        refine g_iload_n 39 dX0_narrowestOwed_38 rfl rfl ?_
        refine g_iadd 40 dX0_narrowestOwed_39 rfl ?_
        refine xl_work hE 41 dX0_narrowestOwed_40 rfl (by omega) ?_
        refine g_istore 43 dX0_narrowestOwed_41 rfl (by decide) ?_
        refine g_iload 45 dX0_narrowestOwed_43 rfl rfl ?_
        refine g_bipush 47 dX0_narrowestOwed_45 rfl (by decide) ?_
        -- here is rm_
        have last : ∀ (here : Int) (y7 : Option pv), here = rm_ c0 d (S0 9 at_) at_ → (1 ≤ here ∧ here ≤ 200000) → G E cX0_narrowestOwed 8 S0 114 [some (.inr (h 0)), some (.inl lim), some (.inl least), some (.inl at_), some (.inl c), some (.inl (S0 9 at_)), some (.inl here), y7] [] := by
          intro here y7 hh hh2
          have go : ∀ l' : Int, (1 ≤ l' ∧ l' ≤ lim) → l' ≤ least → l' ≤ here → G E cX0_narrowestOwed 8 S0 126 [some (.inr (h 0)), some (.inl lim), some (.inl least), some (.inl at_), some (.inl c), some (.inl (S0 9 at_)), some (.inl here), y7] [.inl l'] := by
            intro l' l1 l2 l3
            refine g_istore_n 127 dX0_narrowestOwed_126 rfl (by decide) ?_
            refine g_iload 129 dX0_narrowestOwed_127 rfl rfl ?_
            refine g_istore_n 130 dX0_narrowestOwed_129 rfl (by decide) ?_
            refine g_iinc 133 dX0_narrowestOwed_130 rfl (by decide) rfl ?_
            refine g_goto 8 dX0_narrowestOwed_133 (by decide) ?_
            refine ih (i + 1) (c + 1) (S0 9 at_) l' _ _ _ (by omega) (by rw [hat]; rfl) (by omega) (by omega) l1 (fun k hk => ?_) ⟨hcf1, t4⟩ t6 (by omega)
            by_cases e : k = i
            · subst e
              rw [← hat, ← hh]
              exact l3
            · have := hmin k (by omega)
              omega
          refine g_iload 116 dX0_narrowestOwed_114 rfl rfl ?_
          refine g_iload_n 117 dX0_narrowestOwed_116 rfl rfl ?_
          refine g_icmp_ge 125 120 dX0_narrowestOwed_117 (by decide) rfl (by omega) (by omega) (fun h5 => ?_) (fun h5 => ?_)
          · refine g_iload_n 126 dX0_narrowestOwed_125 rfl rfl ?_
            exact go least hl (Int.le_refl _) h5
          · refine g_iload 122 dX0_narrowestOwed_120 rfl rfl ?_
            refine g_goto 126 dX0_narrowestOwed_122 (by decide) ?_
            exact go here (by omega) (by omega) (Int.le_refl _)
        have un : ∀ (w : Int), (w = 1 ∧ (S0 9 at_ < 7 ∧ at_ < 7 ∧ 0 < S0 8 (9 * at_ + S0 9 at_))) ∨ (w = 0 ∧ ¬ (S0 9 at_ < 7 ∧ at_ < 7 ∧ 0 < S0 8 (9 * at_ + S0 9 at_))) → G E cX0_narrowestOwed 8 S0 76 [some (.inr (h 0)), some (.inl lim), some (.inl least), some (.inl at_), some (.inl c), some (.inl (S0 9 at_)), some (.inl (S0 7 (9 * S0 9 at_ + at_))), x7] [.inl w] := by
          intro w hw
          have hw01 : w = 1 ∨ w = 0 := by rcases hw with ⟨q, -⟩ | ⟨q, -⟩ <;> omega
          refine g_istore 78 dX0_narrowestOwed_76 rfl (by decide) ?_
          refine g_iload 80 dX0_narrowestOwed_78 rfl rfl ?_
          refine g_if_eq 114 83 dX0_narrowestOwed_80 (by decide) rfl (by omega) (fun h3 => ?_) (fun h3 => ?_)
          · refine last _ _ ?_ (by omega)
            rcases hw with ⟨q, -⟩ | ⟨-, q⟩
            · omega
            · rw [hW.1]
              unfold rm_
              rw [if_neg (fun r => q ⟨by omega, by omega, by rw [hO.2]; unfold pos; rw [if_pos (by omega)]; omega⟩)]
          · rcases hw with ⟨-, q1, q2, q3⟩ | ⟨q, -⟩
            · have hO2 : 0 < d at_ (S0 9 at_) ∧ S0 8 (9 * at_ + S0 9 at_) = d at_ (S0 9 at_) := by
                rw [hO.2] at q3 ⊢
                unfold pos at q3 ⊢
                by_cases c3 : 0 < d at_ (S0 9 at_)
                · rw [if_pos c3]
                  exact ⟨c3, rfl⟩
                · rw [if_neg c3] at q3
                  omega
              have hrm : rm_ c0 d (S0 9 at_) at_ = -(d (S0 9 at_) at_) := by
                unfold rm_
                rw [if_pos ⟨by omega, by omega⟩]
              refine g_aload_n 84 dX0_narrowestOwed_83 rfl rfl ?_
              refine xg_owed hE 87 dX0_narrowestOwed_84 rfl ?_
              refine g_bipush 89 dX0_narrowestOwed_87 rfl (by decide) ?_
              refine g_iload_n 90 dX0_narrowestOwed_89 rfl rfl ?_
              refine g_imul 91 dX0_narrowestOwed_90 rfl ?_
              refine g_iload 93 dX0_narrowestOwed_91 rfl rfl ?_
              refine g_iadd 94 dX0_narrowestOwed_93 rfl ?_
              refine xl_owed hE 95 dX0_narrowestOwed_94 rfl (by omega) ?_
              refine g_iload 97 dX0_narrowestOwed_95 rfl rfl ?_
              refine g_icmp_ge 114 100 dX0_narrowestOwed_97 (by decide) rfl (by omega) (by omega) (fun h4 => ?_) (fun h4 => ?_)
              · refine last _ _ ?_ (by omega)
                rw [hrm]
                omega
              · refine g_aload_n 101 dX0_narrowestOwed_100 rfl rfl ?_
                refine xg_owed hE 104 dX0_narrowestOwed_101 rfl ?_
                refine g_bipush 106 dX0_narrowestOwed_104 rfl (by decide) ?_
                refine g_iload_n 107 dX0_narrowestOwed_106 rfl rfl ?_
                refine g_imul 108 dX0_narrowestOwed_107 rfl ?_
                refine g_iload 110 dX0_narrowestOwed_108 rfl rfl ?_
                refine g_iadd 111 dX0_narrowestOwed_110 rfl ?_
                refine xl_owed hE 112 dX0_narrowestOwed_111 rfl (by omega) ?_
                refine g_istore 114 dX0_narrowestOwed_112 rfl (by decide) ?_
                refine last _ _ ?_ (by omega)
                rw [hrm]
                omega
            · omega
        refine g_icmp_ge 75 50 dX0_narrowestOwed_47 (by decide) rfl (by omega) (by omega) (fun h3 => ?_) (fun h3 => ?_)
        · refine g_iconst 76 dX0_narrowestOwed_75 rfl ?_
          exact un 0 (Or.inr ⟨rfl, fun q => by omega⟩)
        · refine g_iload_n 51 dX0_narrowestOwed_50 rfl rfl ?_
          refine g_bipush 53 dX0_narrowestOwed_51 rfl (by decide) ?_
          refine g_icmp_ge 75 56 dX0_narrowestOwed_53 (by decide) rfl (by omega) (by omega) (fun h4 => ?_) (fun h4 => ?_)
          · refine g_iconst 76 dX0_narrowestOwed_75 rfl ?_
            exact un 0 (Or.inr ⟨rfl, fun q => by omega⟩)
          · refine g_aload_n 57 dX0_narrowestOwed_56 rfl rfl ?_
            refine xg_owed hE 60 dX0_narrowestOwed_57 rfl ?_
            refine g_bipush 62 dX0_narrowestOwed_60 rfl (by decide) ?_
            refine g_iload_n 63 dX0_narrowestOwed_62 rfl rfl ?_
            refine g_imul 64 dX0_narrowestOwed_63 rfl ?_
            refine g_iload 66 dX0_narrowestOwed_64 rfl rfl ?_
            refine g_iadd 67 dX0_narrowestOwed_66 rfl ?_
            refine xl_owed hE 68 dX0_narrowestOwed_67 rfl (by omega) ?_
            refine g_if_le 75 71 dX0_narrowestOwed_68 (by decide) rfl (by omega) (fun h5 => ?_) (fun h5 => ?_)
            · refine g_iconst 76 dX0_narrowestOwed_75 rfl ?_
              exact un 0 (Or.inr ⟨rfl, fun q => by omega⟩)
            · refine g_iconst 72 dX0_narrowestOwed_71 rfl ?_
              refine g_goto 76 dX0_narrowestOwed_72 (by decide) ?_
              exact un 1 (Or.inl ⟨rfl, h3, h4, h5⟩)
end
section
/-! ===== CreditNetwork: debts ===== -/
set_option maxRecDepth 10000
theorem clr_val {T P W : Int → Int} (h : ClrW (fun j => T (7 * (j % 9) + j / 9)) W P) {u v : Int} (hu : 0 ≤ u ∧ u < 9) (hv : 0 ≤ v ∧ v < 9) : (u < 7 ∧ v < 7 ∧ W (9 * u + v) = T (7 * v + u)) ∨ (u < 7 ∧ v = 7 ∧ W (9 * u + v) = 0) ∨ (u < 7 ∧ v = 8 ∧ W (9 * u + v) = pos (P u)) ∨ (u = 7 ∧ v < 7 ∧ W (9 * u + v) = neg (P v)) ∨ (u = 7 ∧ 7 ≤ v ∧ W (9 * u + v) = 0) ∨ (u = 8 ∧ W (9 * u + v) = 0) := by
  obtain ⟨h1, h2, h3, h4, h5, h6, h7⟩ := h
  by_cases c1 : u < 7
  · by_cases c2 : v < 7
    · refine Or.inl ⟨c1, c2, ?_⟩
      rw [h1 u v hu.1 c1 hv.1 c2]
      show T (7 * ((9 * u + v) % 9) + (9 * u + v) / 9) = _
      rw [show (9 * u + v) % 9 = v by omega, show (9 * u + v) / 9 = u by omega]
    · by_cases c3 : v = 7
      · subst c3
        exact Or.inr (Or.inl ⟨c1, rfl, h2 u hu.1 c1⟩)
      · have c4 : v = 8 := by omega
        subst c4
        exact Or.inr (Or.inr (Or.inl ⟨c1, rfl, h6 u hu.1 c1⟩))
  · by_cases c2 : u = 7
    · subst c2
      by_cases c3 : v < 7
      · exact Or.inr (Or.inr (Or.inr (Or.inl ⟨rfl, c3, h7 v hv.1 c3⟩)))
      · refine Or.inr (Or.inr (Or.inr (Or.inr (Or.inl ⟨rfl, by omega, ?_⟩))))
        by_cases c4 : v = 7
        · subst c4
          exact h4
        · have c5 : v = 8 := by omega
          subst c5
          exact h5
    · have c3 : u = 8 := by omega
      subst c3
      exact Or.inr (Or.inr (Or.inr (Or.inr (Or.inr ⟨rfl, h3 v hv.1 hv.2⟩))))
theorem pos_rng {x : Int} (h : -14000 ≤ x ∧ x ≤ 14000) : 0 ≤ pos x ∧ pos x ≤ 14000 := by unfold pos; split <;> omega
theorem neg_rng {x : Int} (h : -14000 ≤ x ∧ x ≤ 14000) : 0 ≤ neg x ∧ neg x ≤ 14000 := by unfold neg; split <;> omega
theorem clr_rng {T P W : Int → Int} (h : ClrW (fun j => T (7 * (j % 9) + j / 9)) W P) (hT : ∀ j : Int, 0 ≤ j → j < 49 → 0 ≤ T j ∧ T j ≤ 1000) (hP : ∀ u : Int, 0 ≤ u → u < 7 → -14000 ≤ P u ∧ P u ≤ 14000) (u v : Int) (u0 : 0 ≤ u) (u1 : u < 9) (v0 : 0 ≤ v) (v1 : v < 9) : 0 ≤ mF W u v ∧ mF W u v ≤ 100000 := by
  show 0 ≤ W (9 * u + v) ∧ W (9 * u + v) ≤ 100000
  rcases clr_val h ⟨u0, u1⟩ ⟨v0, v1⟩ with ⟨a, b, e⟩ | ⟨a, b, e⟩ | ⟨a, b, e⟩ | ⟨a, b, e⟩ | ⟨a, b, e⟩ | ⟨a, e⟩
  · have := hT (7 * v + u) (by omega) (by omega)
    omega
  · omega
  · have := pos_rng (hP u u0 a)
    omega
  · have := neg_rng (hP v v0 b)
    omega
  · omega
  · omega
theorem clr_cap0 {T P W : Int → Int} (h : ClrW (fun j => T (7 * (j % 9) + j / 9)) W P) (hT : ∀ j : Int, 0 ≤ j → j < 49 → 0 ≤ T j ∧ T j ≤ 1000) (hP : ∀ u : Int, 0 ≤ u → u < 7 → -14000 ≤ P u ∧ P u ≤ 14000) : Cap0 9 (mF W) := by
  refine ⟨fun u v q1 q2 q3 q4 => (clr_rng h hT hP u v q1 q2 q3 q4).1, fun u v q1 q2 q3 q4 q5 q6 => ?_⟩
  have q6 : 0 < W (9 * v + u) := q6
  show W (9 * u + v) = 0
  have h1 := clr_val h ⟨q1, q2⟩ ⟨q3, q4⟩
  have h2 := clr_val h ⟨q3, q4⟩ ⟨q1, q2⟩
  rcases h1 with ⟨a, b, e⟩ | ⟨a, b, e⟩ | ⟨a, b, e⟩ | ⟨a, b, e⟩ | ⟨a, b, e⟩ | ⟨a, e⟩
  · omega
  · exact e
  · rcases h2 with ⟨a', b', e'⟩ | ⟨a', b', e'⟩ | ⟨a', b', e'⟩ | ⟨a', b', e'⟩ | ⟨a', b', e'⟩ | ⟨a', e'⟩ <;> omega
  · rcases h2 with ⟨a', b', e'⟩ | ⟨a', b', e'⟩ | ⟨a', b', e'⟩ | ⟨a', b', e'⟩ | ⟨a', b', e'⟩ | ⟨a', e'⟩ <;> omega
  · exact e
  · exact e
theorem row_add {x r s : Int} : (if x = 7 then r else 0) - (if x = 8 then r else 0) + (if x = 7 then s else 0) - (if x = 8 then s else 0) = (if x = 7 then r + s else 0) - (if x = 8 then r + s else 0) := by
  by_cases c1 : x = 7
  · have c2 : ¬ x = 8 := by omega
    rw [if_pos c1, if_pos c1, if_pos c1, if_neg c2, if_neg c2, if_neg c2]
    omega
  · by_cases c2 : x = 8
    · rw [if_neg c1, if_neg c1, if_neg c1, if_pos c2, if_pos c2, if_pos c2]
      omega
    · rw [if_neg c1, if_neg c1, if_neg c1, if_neg c2, if_neg c2, if_neg c2]
      omega
theorem cx_debts : c_meti xW yX0_debts cX0_debts 7 .int (rk 3) true [] XI (fun S z S' => (∀ k, k < 7 → S' k = S k) ∧ Opt (S 0) (S 1) z) := by
  refine c_meti_of (own := RX0) (by decide) rfl xW_fst (fun _ => by simp [c_args]) ?_
  intro E h S0 hE hR hX hret
  show G E cX0_debts 7 S0 0 [some (.inr (h 0)), none, none, none, none, none, none] []
  have hPr : ∀ u : Int, 0 ≤ u → u < 7 → -14000 ≤ S0 1 u ∧ S0 1 u ≤ 14000 := fun u q1 q2 => inv_P hX.1 ⟨q1, q2⟩
  have hTr : ∀ j : Int, 0 ≤ j → j < 49 → 0 ≤ S0 0 j ∧ S0 0 j ≤ 1000 := hX.1.2.2.2.2.1
  have hd98 : sg (fun x => pos (S0 1 x)) 7 ≤ 98000 := by
    have h2 : sg (fun x => pos (S0 1 x)) 7 ≤ sg (fun _ => 14000) 7 := sg_le (fun x q1 q2 => (pos_rng (hPr x q1 q2)).2)
    rw [sg_const] at h2
    omega
  -- the sending
  have main : ∀ (W1 : Int → Int) (due : Int), due = sg (fun x => pos (S0 1 x)) 7 → ClrW (fun j => S0 0 (7 * (j % 9) + j / 9)) W1 (S0 1) → ∀ (n : Nat) (c paid sent way : Int) (S : st_T) (x6 : Option pv), 0 ≤ c → c ≤ sent → (sent ≤ due ∨ sent = 0) → 100000 - c < n → (∀ k, k < 7 → S k = S0 k) → (∃ (d : Int → Int → Int) (pt : Int → Int), WO (mF W1) d (S 7) (S 8) ∧ Flo 9 (mF W1) d pt ∧ pt 7 = 0 ∧ (∀ x : Int, 0 ≤ x → x < 9 → sg (d x) 9 = (if x = 7 then sent else 0) - (if x = 8 then sent else 0)) ∧ cost d = paid ∧ ((way = 1 ∧ sent < due ∧ Chp (mF W1) d (S 11) (S 9) ∧ S 11 8 < 1000000) ∨ (way = 0 ∧ (sent < due → Chp (mF W1) d (S 11) (S 9) ∧ ¬ S 11 8 < 1000000)))) → G E cX0_debts 7 S 197 [some (.inr (h 0)), some (.inl due), some (.inl paid), some (.inl sent), some (.inl way), some (.inl c), x6] [] := by
    intro W1 due hdu hclr
    have hB := clr_rng hclr hTr hPr
    have hc0 := clr_cap0 hclr hTr hPr
    have hdn : 0 ≤ due := by rw [hdu]; exact sg_nn (fun x _ _ => pos_nn _)
    intro n
    induction n with
    | zero =>
      intro c paid sent way S x6 g0 g1 g2 gn
      omega
    | succ n ih =>
      intro c paid sent way S x6 g0 g1 g2 gn hk hd
      obtain ⟨d, pt, hw, hF, hp7, hrow, hcost, hway⟩ := hd
      have hway01 : way = 1 ∨ way = 0 := by rcases hway with ⟨q, -⟩ | ⟨q, -⟩ <;> omega
      refine g_iload 199 dX0_debts_197 rfl rfl ?_
      refine g_ldc hE (100000) 201 q102 (by decide) dX0_debts_199 rfl ?_
      refine g_icmp_ge 261 204 dX0_debts_201 (by decide) rfl (by omega) (by omega) (fun hc1 => ?_) (fun hc1 => ?_)
      · omega
      · refine g_iload 206 dX0_debts_204 rfl rfl ?_
        refine g_if_eq 261 209 dX0_debts_206 (by decide) rfl (by omega) (fun hc2 => ?_) (fun hc2 => ?_)
        · rcases hway with ⟨q, -⟩ | ⟨-, q⟩
          · omega
          · refine g_iload_n 262 dX0_debts_261 rfl rfl ?_
            have hall : due ≤ sent := by
              rcases Int.lt_or_le sent due with c | c
              · obtain ⟨⟨dep, pt2, hT, hF2, hpt2, h70, hcf, hcl, hdr⟩, h8⟩ := q c
                have := debts_all (z := fun v => decide (S 11 v < 1000000)) hX.1 hclr hF hrow (decide_eq_true (by rw [h70]; decide)) (decide_eq_false h8) (fun u v q1 q2 q3 q4 q5 q6 => decide_eq_true (hcl u v q1 q2 q3 q4 q5 (of_decide_eq_true q6)))
                omega
              · exact c
            have ho := debts_opt hX.1 hclr hF hrow (by omega)
            rw [hcost] at ho
            exact hret _ _ _ _ dX0_debts_262 rfl ⟨hk, ho⟩
        · rcases hway with ⟨q1, q2, q3, q4⟩ | ⟨q, -⟩
          · refine g_aload_n 210 dX0_debts_209 rfl rfl ?_
            refine g_iload_n 211 dX0_debts_210 rfl rfl ?_
            refine g_iload_n 212 dX0_debts_211 rfl rfl ?_
            refine g_isub 213 dX0_debts_212 rfl ?_
            refine g_calli (na := 1) (x_narrowestOwed (mF W1) d (due - sent) hc0 hB (by omega)) xW_ob (lw_V q181 q183 qs11 q25 q184) (by decide +kernel) rfl ⟨rfl, rfl⟩ hE (by rw [hR]; decide) 216 dX0_debts_213 rfl [] rfl (by simp) ⟨hw, q3, q4⟩ (fun am S1 hS1 => ?_)
            obtain ⟨ha, hk1, d', pt', w', F', p7', r', c'⟩ := hS1
            have e11 : S1 11 = S 11 := hk1 11 (by decide) (by decide)
            have hkk1 : ∀ k, k < 7 → S1 k = S0 k := fun k q => by rw [hk1 k (by omega) (by omega)]; exact hk k q
            have hrow' : ∀ x : Int, 0 ≤ x → x < 9 → sg (d' x) 9 = (if x = 7 then sent + am else 0) - (if x = 8 then sent + am else 0) := fun x r1 r2 => by
              rw [r' x r1 r2, hrow x r1 r2]
              exact row_add
            have hcost' : cost d' = paid + S1 11 8 * am := by rw [c', hcost, e11, Int.mul_comm]
            refine g_istore 218 dX0_debts_216 rfl (by decide) ?_
            refine g_iload_n 219 dX0_debts_218 rfl rfl ?_
            refine g_aload_n 220 dX0_debts_219 rfl rfl ?_
            refine xg_distance hE 223 dX0_debts_220 rfl ?_
            refine g_bipush 225 dX0_debts_223 rfl (by decide) ?_
            refine xl_distance hE 226 dX0_debts_225 rfl (by omega) ?_
            refine g_iload 228 dX0_debts_226 rfl rfl ?_
            refine g_imul 229 dX0_debts_228 rfl ?_
            refine g_iadd 230 dX0_debts_229 rfl ?_
            refine g_istore_n 231 dX0_debts_230 rfl (by decide) ?_
            refine g_iload_n 232 dX0_debts_231 rfl rfl ?_
            refine g_iload 234 dX0_debts_232 rfl rfl ?_
            refine g_iadd 235 dX0_debts_234 rfl ?_
            refine g_istore_n 236 dX0_debts_235 rfl (by decide) ?_
            refine g_iload_n 237 dX0_debts_236 rfl rfl ?_
            refine g_iload_n 238 dX0_debts_237 rfl rfl ?_
            refine g_icmp_ge 252 241 dX0_debts_238 (by decide) rfl (by omega) (by omega) (fun hc3 => ?_) (fun hc3 => ?_)
            · refine g_iconst 253 dX0_debts_252 rfl ?_
              refine g_istore 255 dX0_debts_253 rfl (by decide) ?_
              refine g_iinc 258 dX0_debts_255 rfl (by decide) rfl ?_
              refine g_goto 197 dX0_debts_258 (by decide) ?_
              exact ih (c + 1) _ (sent + am) 0 S1 _ (by omega) (by omega) (by omega) (by omega) hkk1 ⟨d', pt', w', F', p7', hrow', hcost', Or.inr ⟨rfl, fun q => by omega⟩⟩
            · refine g_aload_n 242 dX0_debts_241 rfl rfl ?_
              refine g_calli (na := 0) (x_findCheapest (mF W1) d' pt' F' p7' hB) xW_ob (lw_V q169 q171 qs8 q25 q172) (by decide +kernel) rfl ⟨rfl, rfl⟩ hE (by rw [hR]; decide) 245 dX0_debts_242 rfl [] rfl (by simp) w' (fun z S2 hS2 => ?_)
              obtain ⟨hk2, hch, hz⟩ := hS2
              have hz01 : z = 1 ∨ z = 0 := by rcases hz with ⟨q, -⟩ | ⟨q, -⟩ <;> omega
              have hkk2 : ∀ k, k < 7 → S2 k = S0 k := fun k q => by rw [hk2 k (by omega) (by omega)]; exact hkk1 k q
              have w2 : WO (mF W1) d' (S2 7) (S2 8) := by rw [hk2 7 (by decide) (by decide), hk2 8 (by decide) (by decide)]; exact w'
              refine g_if_eq 252 248 dX0_debts_245 (by decide) rfl (by omega) (fun hc4 => ?_) (fun hc4 => ?_)
              · refine g_iconst 253 dX0_debts_252 rfl ?_
                refine g_istore 255 dX0_debts_253 rfl (by decide) ?_
                refine g_iinc 258 dX0_debts_255 rfl (by decide) rfl ?_
                refine g_goto 197 dX0_debts_258 (by decide) ?_
                refine ih (c + 1) _ (sent + am) 0 S2 _ (by omega) (by omega) (by omega) (by omega) hkk2 ⟨d', pt', w2, F', p7', hrow', hcost', Or.inr ⟨rfl, fun q => ⟨hch, ?_⟩⟩⟩
                rcases hz with ⟨q, -⟩ | ⟨-, q⟩
                · omega
                · exact q
              · refine g_iconst 249 dX0_debts_248 rfl ?_
                refine g_goto 253 dX0_debts_249 (by decide) ?_
                refine g_istore 255 dX0_debts_253 rfl (by decide) ?_
                refine g_iinc 258 dX0_debts_255 rfl (by decide) rfl ?_
                refine g_goto 197 dX0_debts_258 (by decide) ?_
                refine ih (c + 1) _ (sent + am) 1 S2 _ (by omega) (by omega) (by omega) (by omega) hkk2 ⟨d', pt', w2, F', p7', hrow', hcost', Or.inl ⟨rfl, hc3, hch, ?_⟩⟩
                rcases hz with ⟨-, q⟩ | ⟨q, -⟩
                · exact q
                · omega
          · omega
  have start : ∀ (S : st_T) (due : Int) (x2 x3 : Option pv), due = sg (fun x => pos (S0 1 x)) 7 → (∀ k, k < 7 → S k = S0 k) → ClrW (fun j => S0 0 (7 * (j % 9) + j / 9)) (S 7) (S0 1) → (∀ j : Int, 0 ≤ j → j < 81 → S 8 j = 0) → G E cX0_debts 7 S 171 [some (.inr (h 0)), some (.inl due), x2, x3, none, none, none] [] := by
    intro S due x2 x3 hdu hk hclr h8
    have hB := clr_rng hclr hTr hPr
    have hdn : 0 ≤ due := by rw [hdu]; exact sg_nn (fun x _ _ => pos_nn _)
    have hw : WO (mF (S 7)) (fun _ _ => 0) (S 7) (S 8) := fun u v q1 q2 q3 q4 => ⟨by show S 7 (9 * u + v) = S 7 (9 * u + v) - 0; omega, by rw [h8 _ (by omega) (by omega)]; rfl⟩
    have hF : Flo 9 (mF (S 7)) (fun _ _ => 0) (fun _ => 0) := by
      refine ⟨fun u v _ _ _ _ => rfl, fun u v q1 q2 q3 q4 => (hB u v q1 q2 q3 q4).1, fun u v q1 q2 q3 q4 q5 => ?_⟩
      show (0 : Int) ≤ 0 + cst (fun _ _ => 0) u v
      unfold cst
      split
      · decide
      · exact (by decide : (0 : Int) ≤ 0 + (if (0 : Int) < 0 then -1 else 1))
    have hrow : ∀ x : Int, 0 ≤ x → x < 9 → sg ((fun _ _ => 0 : Int → Int → Int) x) 9 = (if x = 7 then 0 else 0) - (if x = 8 then 0 else 0) := fun x _ _ => by
      rw [sg_zero (fun _ _ _ => rfl)]
      simp
    have hcost : cost (fun _ _ => 0) = 0 := sg_zero (fun u _ _ => sg_zero (fun v _ _ => rfl))
    refine g_iconst 172 dX0_debts_171 rfl ?_
    refine g_istore_n 173 dX0_debts_172 rfl (by decide) ?_
    refine g_iconst 174 dX0_debts_173 rfl ?_
    refine g_istore_n 175 dX0_debts_174 rfl (by decide) ?_
    refine g_iload_n 176 dX0_debts_175 rfl rfl ?_
    refine g_iload_n 177 dX0_debts_176 rfl rfl ?_
    refine g_icmp_ge 191 180 dX0_debts_177 (by decide) rfl (by omega) (by omega) (fun hc => ?_) (fun hc => ?_)
    · refine g_iconst 192 dX0_debts_191 rfl ?_
      refine g_istore 194 dX0_debts_192 rfl (by decide) ?_
      refine g_iconst 195 dX0_debts_194 rfl ?_
      refine g_istore 197 dX0_debts_195 rfl (by decide) ?_
      exact main (S 7) due hdu hclr 100001 0 0 0 0 S _ (by decide) (by decide) (Or.inr rfl) (by decide) hk ⟨_, _, hw, hF, rfl, hrow, hcost, Or.inr ⟨rfl, fun q => by omega⟩⟩
    · refine g_aload_n 181 dX0_debts_180 rfl rfl ?_
      refine g_calli (na := 0) (x_findCheapest (mF (S 7)) (fun _ _ => 0) (fun _ => 0) hF rfl hB) xW_ob (lw_V q169 q171 qs8 q25 q172) (by decide +kernel) rfl ⟨rfl, rfl⟩ hE (by rw [hR]; decide) 184 dX0_debts_181 rfl [] rfl (by simp) hw (fun z S2 hS2 => ?_)
      obtain ⟨hk2, hch, hz⟩ := hS2
      have hz01 : z = 1 ∨ z = 0 := by rcases hz with ⟨q, -⟩ | ⟨q, -⟩ <;> omega
      have hkk2 : ∀ k, k < 7 → S2 k = S0 k := fun k q => by rw [hk2 k (by omega) (by omega)]; exact hk k q
      have w2 : WO (mF (S 7)) (fun _ _ => 0) (S2 7) (S2 8) := by rw [hk2 7 (by decide) (by decide), hk2 8 (by decide) (by decide)]; exact hw
      refine g_if_eq 191 187 dX0_debts_184 (by decide) rfl (by omega) (fun hc4 => ?_) (fun hc4 => ?_)
      · refine g_iconst 192 dX0_debts_191 rfl ?_
        refine g_istore 194 dX0_debts_192 rfl (by decide) ?_
        refine g_iconst 195 dX0_debts_194 rfl ?_
        refine g_istore 197 dX0_debts_195 rfl (by decide) ?_
        refine main (S 7) due hdu hclr 100001 0 0 0 0 S2 _ (by decide) (by decide) (Or.inr rfl) (by decide) hkk2 ⟨_, _, w2, hF, rfl, hrow, hcost, Or.inr ⟨rfl, fun q => ⟨hch, ?_⟩⟩⟩
        rcases hz with ⟨q, -⟩ | ⟨-, q⟩
        · omega
        · exact q
      · refine g_iconst 188 dX0_debts_187 rfl ?_
        refine g_goto 192 dX0_debts_188 (by decide) ?_
        refine g_istore 194 dX0_debts_192 rfl (by decide) ?_
        refine g_iconst 195 dX0_debts_194 rfl ?_
        refine g_istore 197 dX0_debts_195 rfl (by decide) ?_
        refine main (S 7) due hdu hclr 100001 0 0 0 1 S2 _ (by decide) (by decide) (Or.inr rfl) (by decide) hkk2 ⟨_, _, w2, hF, rfl, hrow, hcost, Or.inl ⟨rfl, hc, hch, ?_⟩⟩
        rcases hz with ⟨-, q⟩ | ⟨q, -⟩
        · exact q
        · omega
  -- what can be owed, and the source's and the sink's edges
  have loop2 : ∀ (n i : Nat) (u due : Int) (S : st_T) (x3 : Option pv), u = i → i ≤ 7 → 7 - u < n → due = sg (fun x => pos (S0 1 x)) i → (∀ k, k < 7 → S k = S0 k) → (∀ j : Int, 0 ≤ j → j < 81 → S 8 j = 0) → (∀ x : Int, 0 ≤ x → x < u → S 7 (63 + x) = neg (S0 1 x) ∧ S 7 (9 * x + 8) = pos (S0 1 x) ∧ ∀ y : Int, 0 ≤ y → y < 7 → S 7 (9 * x + y) = S0 0 (7 * y + x)) → (∀ j : Int, 0 ≤ j → j < 81 → ((j % 9 = 7 ∧ j < 63) ∨ 70 ≤ j) → S 7 j = 0) → G E cX0_debts 7 S 32 [some (.inr (h 0)), some (.inl due), some (.inl u), x3, none, none, none] [] := by
    intro n
    induction n with
    | zero => intro i u due S x3 hui hi hn; omega
    | succ n ih =>
      intro i u due S x3 hui hi hn hdu hk h8 hset hz
      refine g_iload_n 33 dX0_debts_32 rfl rfl ?_
      refine g_bipush 35 dX0_debts_33 rfl (by decide) ?_
      refine g_icmp_ge 171 38 dX0_debts_35 (by decide) rfl (by omega) (by omega) (fun hc => ?_) (fun hc => ?_)
      · have hi7 : i = 7 := by omega
        subst hi7
        refine start S due _ _ hdu hk ⟨fun x y q1 q2 q3 q4 => ?_, fun x q1 q2 => hz _ (by omega) (by omega) (by omega), fun x q1 q2 => hz _ (by omega) (by omega) (by omega), hz _ (by omega) (by omega) (by omega), hz _ (by omega) (by omega) (by omega), fun x q1 q2 => (hset x q1 (by omega)).2.1, fun x q1 q2 => (hset x q1 (by omega)).1⟩ h8
        show S 7 (9 * x + y) = S0 0 (7 * ((9 * x + y) % 9) + (9 * x + y) / 9)
        rw [show (9 * x + y) % 9 = y by omega, show (9 * x + y) / 9 = x by omega]
        exact (hset x q1 (by omega)).2.2 y q3 q4
      · have hu6 : 0 ≤ u ∧ u < 7 := by omega
        have hPu := hPr u hu6.1 hu6.2
        -- the row of trusts
        have sD : ∀ (due' : Int), due' = due + pos (S0 1 u) → ∀ (n2 : Nat) (v : Int) (S2 : st_T), 0 ≤ v → v ≤ 7 → 7 - v < n2 → (∀ k, k < 7 → S2 k = S0 k) → (∀ j : Int, 0 ≤ j → j < 81 → S2 8 j = 0) → S2 7 (63 + u) = neg (S0 1 u) → S2 7 (9 * u + 8) = pos (S0 1 u) → (∀ y : Int, 0 ≤ y → y < v → S2 7 (9 * u + y) = S0 0 (7 * y + u)) → (∀ x : Int, 0 ≤ x → x < u → S2 7 (63 + x) = neg (S0 1 x) ∧ S2 7 (9 * x + 8) = pos (S0 1 x) ∧ ∀ y : Int, 0 ≤ y → y < 7 → S2 7 (9 * x + y) = S0 0 (7 * y + x)) → (∀ j : Int, 0 ≤ j → j < 81 → ((j % 9 = 7 ∧ j < 63) ∨ 70 ≤ j) → S2 7 j = 0) → G E cX0_debts 7 S2 122 [some (.inr (h 0)), some (.inl due'), some (.inl u), some (.inl v), none, none, none] [] := by
          intro due' hdu' n2
          induction n2 with
          | zero => intro v S2 g0 g1 gn; omega
          | succ n2 ih2 =>
            intro v S2 g0 g1 gn fk f8 f63 f98 frow fset fz
            refine g_iload_n 123 dX0_debts_122 rfl rfl ?_
            refine g_bipush 125 dX0_debts_123 rfl (by decide) ?_
            refine g_icmp_ge 165 128 dX0_debts_125 (by decide) rfl (by omega) (by omega) (fun hc2 => ?_) (fun hc2 => ?_)
            · refine g_iinc 168 dX0_debts_165 rfl (by decide) rfl ?_
              refine g_goto 32 dX0_debts_168 (by decide) ?_
              refine ih (i + 1) (u + 1) due' S2 _ (by omega) (by omega) (by omega) ?_ fk f8 (fun x q1 q2 => ?_) fz
              · show due' = sg (fun x => pos (S0 1 x)) i + pos (S0 1 i)
                rw [hdu', hdu, hui]
              · by_cases e : x = u
                · subst e
                  exact ⟨f63, f98, fun y r1 r2 => frow y r1 (by omega)⟩
                · exact fset x q1 (by omega)
            · have hv6 : 0 ≤ v ∧ v < 7 := by omega
              refine g_aload_n 129 dX0_debts_128 rfl rfl ?_
              refine xg_work hE 132 dX0_debts_129 rfl ?_
              refine g_bipush 134 dX0_debts_132 rfl (by decide) ?_
              refine g_iload_n 135 dX0_debts_134 rfl rfl ?_
              refine g_imul 136 dX0_debts_135 rfl ?_
              refine g_iload_n 137 dX0_debts_136 rfl rfl ?_
              refine g_iadd 138 dX0_debts_137 rfl ?_
              refine g_iload_n 139 dX0_debts_138 rfl rfl ?_
              refine g_iload_n 140 dX0_debts_139 rfl rfl ?_
              have go : ∀ w : Int, w = S0 0 (7 * v + u) → G E cX0_debts 7 S2 158 [some (.inr (h 0)), some (.inl due'), some (.inl u), some (.inl v), none, none, none] [.inl w, .inl (9 * u + v), .inr (h 7)] := by
                intro w hw
                refine xs_work hE 159 dX0_debts_158 rfl (by omega) ?_
                refine g_iinc 162 dX0_debts_159 rfl (by decide) rfl ?_
                refine g_goto 122 dX0_debts_162 (by decide) ?_
                refine ih2 (v + 1) _ (by omega) (by omega) (by omega) (fun k q => ?_) f8 ?_ ?_ (fun y q1 q2 => ?_) (fun x q1 q2 => ?_) (fun j q1 q2 q3 => ?_)
                · rw [us_n (by omega)]
                  exact fk k q
                · rw [us_s, ua_n (by omega)]
                  exact f63
                · rw [us_s, ua_n (by omega)]
                  exact f98
                · rw [us_s]
                  by_cases e : y = v
                  · subst e
                    rw [ua_s]
                    exact hw
                  · rw [ua_n (by omega)]
                    exact frow y q1 (by omega)
                · rw [us_s]
                  have f := fset x q1 q2
                  refine ⟨by rw [ua_n (by omega)]; exact f.1, by rw [ua_n (by omega)]; exact f.2.1, fun y r1 r2 => ?_⟩
                  rw [ua_n (by omega)]
                  exact f.2.2 y r1 r2
                · rw [us_s, ua_n (by omega)]
                  exact fz j q1 q2 q3
              refine g_icmp_ne 147 143 dX0_debts_140 (by decide) rfl (by omega) (by omega) (fun he => ?_) (fun he => ?_)
              · refine g_aload_n 148 dX0_debts_147 rfl rfl ?_
                refine xg_trusts hE 151 dX0_debts_148 rfl ?_
                refine g_bipush 153 dX0_debts_151 rfl (by decide) ?_
                refine g_iload_n 154 dX0_debts_153 rfl rfl ?_
                refine g_imul 155 dX0_debts_154 rfl ?_
                refine g_iload_n 156 dX0_debts_155 rfl rfl ?_
                refine g_iadd 157 dX0_debts_156 rfl ?_
                refine xl_trusts hE 158 dX0_debts_157 rfl (by omega) ?_
                exact go _ (by rw [fk 0 (by decide)])
              · refine g_iconst 144 dX0_debts_143 rfl ?_
                refine g_goto 158 dX0_debts_144 (by decide) ?_
                refine go 0 ?_
                subst he
                exact (hX.1.2.2.2.2.2 u hu6.1 hu6.2).symm
        -- what is due
        have sC : ∀ (S2 : st_T), (∀ k, k < 7 → S2 k = S0 k) → (∀ j : Int, 0 ≤ j → j < 81 → S2 8 j = 0) → S2 7 (63 + u) = neg (S0 1 u) → S2 7 (9 * u + 8) = pos (S0 1 u) → (∀ x : Int, 0 ≤ x → x < u → S2 7 (63 + x) = neg (S0 1 x) ∧ S2 7 (9 * x + 8) = pos (S0 1 x) ∧ ∀ y : Int, 0 ≤ y → y < 7 → S2 7 (9 * x + y) = S0 0 (7 * y + x)) → (∀ j : Int, 0 ≤ j → j < 81 → ((j % 9 = 7 ∧ j < 63) ∨ 70 ≤ j) → S2 7 j = 0) → G E cX0_debts 7 S2 98 [some (.inr (h 0)), some (.inl due), some (.inl u), x3, none, none, none] [] := by
          intro S2 fk f8 f63 f98 fset fz
          have e1 : S2 1 u = S0 1 u := by rw [fk 1 (by decide)]
          refine g_iload_n 99 dX0_debts_98 rfl rfl ?_
          refine g_aload_n 100 dX0_debts_99 rfl rfl ?_
          refine xg_positions hE 103 dX0_debts_100 rfl ?_
          refine g_iload_n 104 dX0_debts_103 rfl rfl ?_
          refine xl_positions hE 105 dX0_debts_104 rfl (by omega) ?_
          have go : ∀ w : Int, w = pos (S0 1 u) → G E cX0_debts 7 S2 118 [some (.inr (h 0)), some (.inl due), some (.inl u), x3, none, none, none] [.inl w, .inl due] := by
            intro w hw
            refine g_iadd 119 dX0_debts_118 rfl ?_
            refine g_istore_n 120 dX0_debts_119 rfl (by decide) ?_
            refine g_iconst 121 dX0_debts_120 rfl ?_
            refine g_istore_n 122 dX0_debts_121 rfl (by decide) ?_
            exact sD (due + w) (by rw [hw]) 8 0 S2 (by decide) (by decide) (by decide) fk f8 f63 f98 (fun y q1 q2 => by omega) fset fz
          refine g_if_le 117 108 dX0_debts_105 (by decide) rfl (by omega) (fun h4 => ?_) (fun h4 => ?_)
          · refine g_iconst 118 dX0_debts_117 rfl ?_
            exact go 0 (by unfold pos; rw [if_neg (by omega)])
          · refine g_aload_n 109 dX0_debts_108 rfl rfl ?_
            refine xg_positions hE 112 dX0_debts_109 rfl ?_
            refine g_iload_n 113 dX0_debts_112 rfl rfl ?_
            refine xl_positions hE 114 dX0_debts_113 rfl (by omega) ?_
            refine g_goto 118 dX0_debts_114 (by decide) ?_
            exact go _ (by unfold pos; rw [if_pos (by omega)]; exact e1)
        have sB : ∀ (S2 : st_T), (∀ k, k < 7 → S2 k = S0 k) → (∀ j : Int, 0 ≤ j → j < 81 → S2 8 j = 0) → S2 7 (63 + u) = neg (S0 1 u) → (∀ x : Int, 0 ≤ x → x < u → S2 7 (63 + x) = neg (S0 1 x) ∧ S2 7 (9 * x + 8) = pos (S0 1 x) ∧ ∀ y : Int, 0 ≤ y → y < 7 → S2 7 (9 * x + y) = S0 0 (7 * y + x)) → (∀ j : Int, 0 ≤ j → j < 81 → ((j % 9 = 7 ∧ j < 63) ∨ 70 ≤ j) → S2 7 j = 0) → G E cX0_debts 7 S2 67 [some (.inr (h 0)), some (.inl due), some (.inl u), x3, none, none, none] [] := by
          intro S2 fk f8 f63 fset fz
          have e1 : S2 1 u = S0 1 u := by rw [fk 1 (by decide)]
          refine g_aload_n 68 dX0_debts_67 rfl rfl ?_
          refine xg_work hE 71 dX0_debts_68 rfl ?_
          refine g_bipush 73 dX0_debts_71 rfl (by decide) ?_
          refine g_iload_n 74 dX0_debts_73 rfl rfl ?_
          refine g_imul 75 dX0_debts_74 rfl ?_
          refine g_bipush 77 dX0_debts_75 rfl (by decide) ?_
          refine g_iadd 78 dX0_debts_77 rfl ?_
          refine g_aload_n 79 dX0_debts_78 rfl rfl ?_
          refine xg_positions hE 82 dX0_debts_79 rfl ?_
          refine g_iload_n 83 dX0_debts_82 rfl rfl ?_
          refine xl_positions hE 84 dX0_debts_83 rfl (by omega) ?_
          have go : ∀ w : Int, w = pos (S0 1 u) → G E cX0_debts 7 S2 97 [some (.inr (h 0)), some (.inl due), some (.inl u), x3, none, none, none] [.inl w, .inl (9 * u + 8), .inr (h 7)] := by
            intro w hw
            refine xs_work hE 98 dX0_debts_97 rfl (by omega) ?_
            refine sC _ (fun k q => ?_) f8 ?_ ?_ (fun x q1 q2 => ?_) (fun j q1 q2 q3 => ?_)
            · rw [us_n (by omega)]
              exact fk k q
            · rw [us_s, ua_n (by omega)]
              exact f63
            · rw [us_s, ua_s]
              exact hw
            · rw [us_s]
              have f := fset x q1 q2
              refine ⟨by rw [ua_n (by omega)]; exact f.1, by rw [ua_n (by omega)]; exact f.2.1, fun y r1 r2 => ?_⟩
              rw [ua_n (by omega)]
              exact f.2.2 y r1 r2
            · rw [us_s, ua_n (by omega)]
              exact fz j q1 q2 q3
          refine g_if_le 96 87 dX0_debts_84 (by decide) rfl (by omega) (fun h4 => ?_) (fun h4 => ?_)
          · refine g_iconst 97 dX0_debts_96 rfl ?_
            exact go 0 (by unfold pos; rw [if_neg (by omega)])
          · refine g_aload_n 88 dX0_debts_87 rfl rfl ?_
            refine xg_positions hE 91 dX0_debts_88 rfl ?_
            refine g_iload_n 92 dX0_debts_91 rfl rfl ?_
            refine xl_positions hE 93 dX0_debts_92 rfl (by omega) ?_
            refine g_goto 97 dX0_debts_93 (by decide) ?_
            exact go _ (by unfold pos; rw [if_pos (by omega)]; exact e1)
        have e1 : S 1 u = S0 1 u := by rw [hk 1 (by decide)]
        refine g_aload_n 39 dX0_debts_38 rfl rfl ?_
        refine xg_work hE 42 dX0_debts_39 rfl ?_
        refine g_bipush 44 dX0_debts_42 rfl (by decide) ?_
        refine g_iload_n 45 dX0_debts_44 rfl rfl ?_
        refine g_iadd 46 dX0_debts_45 rfl ?_
        refine g_aload_n 47 dX0_debts_46 rfl rfl ?_
        refine xg_positions hE 50 dX0_debts_47 rfl ?_
        refine g_iload_n 51 dX0_debts_50 rfl rfl ?_
        refine xl_positions hE 52 dX0_debts_51 rfl (by omega) ?_
        have go : ∀ w : Int, w = neg (S0 1 u) → G E cX0_debts 7 S 66 [some (.inr (h 0)), some (.inl due), some (.inl u), x3, none, none, none] [.inl w, .inl (63 + u), .inr (h 7)] := by
          intro w hw
          refine xs_work hE 67 dX0_debts_66 rfl (by omega) ?_
          refine sB _ (fun k q => ?_) h8 ?_ (fun x q1 q2 => ?_) (fun j q1 q2 q3 => ?_)
          · rw [us_n (by omega)]
            exact hk k q
          · rw [us_s, ua_s]
            exact hw
          · rw [us_s]
            have f := hset x q1 q2
            refine ⟨by rw [ua_n (by omega)]; exact f.1, by rw [ua_n (by omega)]; exact f.2.1, fun y r1 r2 => ?_⟩
            rw [ua_n (by omega)]
            exact f.2.2 y r1 r2
          · rw [us_s, ua_n (by omega)]
            exact hz j q1 q2 q3
        refine g_if_ge 65 55 dX0_debts_52 (by decide) rfl (by omega) (fun h4 => ?_) (fun h4 => ?_)
        · refine g_iconst 66 dX0_debts_65 rfl ?_
          exact go 0 (by unfold neg; rw [if_neg (by omega)])
        · refine g_aload_n 56 dX0_debts_55 rfl rfl ?_
          refine xg_positions hE 59 dX0_debts_56 rfl ?_
          refine g_iload_n 60 dX0_debts_59 rfl rfl ?_
          refine xl_positions hE 61 dX0_debts_60 rfl (by omega) ?_
          refine g_ineg 62 dX0_debts_61 rfl ?_
          refine g_goto 66 dX0_debts_62 (by decide) ?_
          exact go _ (by unfold neg; rw [if_pos (by omega), e1])
  -- all to nought
  refine g_iconst 1 dX0_debts_0 rfl ?_
  refine g_istore_n 2 dX0_debts_1 rfl (by decide) ?_
  refine g_iconst 3 dX0_debts_2 rfl ?_
  refine g_istore_n 4 dX0_debts_3 rfl (by decide) ?_
  suffices loop : ∀ (n : Nat) (i : Int) (S : st_T), 0 ≤ i → i ≤ 81 → 81 - i < n → (∀ k, k < 7 → S k = S0 k) → (∀ j : Int, 0 ≤ j → j < i → S 7 j = 0 ∧ S 8 j = 0) → G E cX0_debts 7 S 4 [some (.inr (h 0)), some (.inl 0), some (.inl i), none, none, none, none] [] from loop 82 0 S0 (by decide) (by decide) (by decide) (fun _ _ => rfl) (fun j q1 q2 => by omega)
  intro n
  induction n with
  | zero => intro i S g0 g1 gn; omega
  | succ n ih =>
    intro i S g0 g1 gn hk hj
    refine g_iload_n 5 dX0_debts_4 rfl rfl ?_
    refine g_bipush 7 dX0_debts_5 rfl (by decide) ?_
    refine g_icmp_ge 30 10 dX0_debts_7 (by decide) rfl (by omega) (by omega) (fun hc => ?_) (fun hc => ?_)
    · refine g_iconst 31 dX0_debts_30 rfl ?_
      refine g_istore_n 32 dX0_debts_31 rfl (by decide) ?_
      exact loop2 8 0 0 0 S _ rfl (by decide) (by decide) rfl hk (fun j q1 q2 => (hj j q1 (by omega)).2) (fun x q1 q2 => by omega) (fun j q1 q2 _ => (hj j q1 (by omega)).1)
    · refine g_aload_n 11 dX0_debts_10 rfl rfl ?_
      refine xg_work hE 14 dX0_debts_11 rfl ?_
      refine g_iload_n 15 dX0_debts_14 rfl rfl ?_
      refine g_iconst 16 dX0_debts_15 rfl ?_
      refine xs_work hE 17 dX0_debts_16 rfl (by omega) ?_
      refine g_aload_n 18 dX0_debts_17 rfl rfl ?_
      refine xg_owed hE 21 dX0_debts_18 rfl ?_
      refine g_iload_n 22 dX0_debts_21 rfl rfl ?_
      refine g_iconst 23 dX0_debts_22 rfl ?_
      refine xs_owed hE 24 dX0_debts_23 rfl (by omega) ?_
      refine g_iinc 27 dX0_debts_24 rfl (by decide) rfl ?_
      refine g_goto 4 dX0_debts_27 (by decide) ?_
      refine ih (i + 1) _ (by omega) (by omega) (by omega) (fun k q => ?_) (fun j q1 q2 => ?_)
      · rw [us_n (by omega), us_n (by omega)]
        exact hk k q
      · show ua (S 7) i 0 j = 0 ∧ ua (S 8) i 0 j = 0
        by_cases e : j = i
        · subst e
          rw [ua_s, ua_s]
          exact ⟨rfl, rfl⟩
        · rw [ua_n e, ua_n e]
          exact hj j q1 (by omega)
end
section
/-! ===== CreditNetworkModel: isPair, in, slack, isPossible, leastSlack ===== -/
set_option maxRecDepth 10000
theorem m_isPair (u v : Int) (hu : -2147483648 ≤ u ∧ u ≤ 2147483647) (hv : -2147483648 ≤ v ∧ v ≤ 2147483647) : c_meti mW yX1_isPair cX1_isPair 3 .boolean (rk 0) true [u, v] (fun _ => True) (fun S z S' => S' = S ∧ ((z = 1 ∧ isPr u v) ∨ (z = 0 ∧ ¬ isPr u v))) := by
  refine c_meti_of (own := RX1) (by decide) rfl mW_fst (fun _ => by simp [c_args]) ?_
  intro E h S0 hE hR _ hret
  show G E cX1_isPair 3 S0 0 [some (.inr (h 0)), some (.inl u), some (.inl v)] []
  unfold isPr at hret
  have no : ¬ ((0 ≤ u ∧ u < 7) ∧ (0 ≤ v ∧ v < 7) ∧ u ≠ v) → G E cX1_isPair 3 S0 29 [some (.inr (h 0)), some (.inl u), some (.inl v)] [] := by
    intro hn
    refine g_iconst 30 dX1_isPair_29 rfl ?_
    exact hret _ _ _ _ dX1_isPair_30 rfl ⟨rfl, Or.inr ⟨rfl, hn⟩⟩
  refine g_iload_n 1 dX1_isPair_0 rfl rfl ?_
  refine g_if_lt 29 4 dX1_isPair_1 (by decide) rfl (by omega) (fun h1 => ?_) (fun h1 => ?_)
  · exact no (by omega)
  · refine g_iload_n 5 dX1_isPair_4 rfl rfl ?_
    refine g_bipush 7 dX1_isPair_5 rfl (by decide) ?_
    refine g_icmp_gt 29 10 dX1_isPair_7 (by decide) rfl (by omega) (by omega) (fun h2 => ?_) (fun h2 => ?_)
    · exact no (by omega)
    · refine g_iload_n 11 dX1_isPair_10 rfl rfl ?_
      refine g_if_lt 29 14 dX1_isPair_11 (by decide) rfl (by omega) (fun h3 => ?_) (fun h3 => ?_)
      · exact no (by omega)
      · refine g_iload_n 15 dX1_isPair_14 rfl rfl ?_
        refine g_bipush 17 dX1_isPair_15 rfl (by decide) ?_
        refine g_icmp_gt 29 20 dX1_isPair_17 (by decide) rfl (by omega) (by omega) (fun h4 => ?_) (fun h4 => ?_)
        · exact no (by omega)
        · refine g_iload_n 21 dX1_isPair_20 rfl rfl ?_
          refine g_iload_n 22 dX1_isPair_21 rfl rfl ?_
          refine g_icmp_eq 29 25 dX1_isPair_22 (by decide) rfl (by omega) (by omega) (fun h5 => ?_) (fun h5 => ?_)
          · exact no (by omega)
          · refine g_iconst 26 dX1_isPair_25 rfl ?_
            refine g_goto 30 dX1_isPair_26 (by decide) ?_
            exact hret _ _ _ _ dX1_isPair_30 rfl ⟨rfl, Or.inl ⟨rfl, by omega, by omega, h5⟩⟩
theorem m_in (set u : Int) (hs : 0 ≤ set ∧ set ≤ 2147483647) (hu : 0 ≤ u ∧ u < 31) : c_meti mW yX1_in cX1_in 3 .boolean (rk 0) true [set, u] (fun _ => True) (fun S z S' => S' = S ∧ z = if set / 2 ^ u.toNat % 2 = 1 then 1 else 0) := by
  refine c_meti_of (own := RX1) (by decide) rfl mW_fst (fun _ => by simp [c_args]) ?_
  intro E h S0 hE hR _ hret
  show G E cX1_in 3 S0 0 [some (.inr (h 0)), some (.inl set), some (.inl u)] []
  have hdv : 0 ≤ set / 2 ^ u.toNat := Int.ediv_nonneg (by omega) (Int.pow_nonneg (by decide))
  have hdv2 : set / 2 ^ u.toNat ≤ set := Int.ediv_le_self _ (by omega)
  refine g_iload_n 1 dX1_in_0 rfl rfl ?_
  refine g_iload_n 2 dX1_in_1 rfl rfl ?_
  refine g_ishr 3 dX1_in_2 rfl (by omega) (by omega) ?_
  refine g_iconst 4 dX1_in_3 rfl ?_
  refine g_iand1 5 dX1_in_4 rfl (by omega) ?_
  refine g_iconst 6 dX1_in_5 rfl ?_
  refine g_icmp_ne 13 9 dX1_in_6 (by decide) rfl (by omega) (by omega) (fun h1 => ?_) (fun h1 => ?_)
  · refine g_iconst 14 dX1_in_13 rfl ?_
    exact hret _ _ _ _ dX1_in_14 rfl ⟨rfl, by rw [if_neg h1]⟩
  · refine g_iconst 10 dX1_in_9 rfl ?_
    refine g_goto 14 dX1_in_10 (by decide) ?_
    exact hret _ _ _ _ dX1_in_14 rfl ⟨rfl, by rw [if_pos h1]⟩
theorem m_slack (set : Int) (hs : 0 ≤ set ∧ set < 128) : c_meti mW yX1_slack cX1_slack 4 .int (rk 1) true [set] (fun _ => True) (fun S z S' => S' = S ∧ z = slk (S 0) (S 1) set) := by
  refine c_meti_of (own := RX1) (by decide) rfl mW_fst (fun _ => by simp [c_args]) ?_
  intro E h S hE hR _ hret
  show G E cX1_slack 4 S 0 [some (.inr (h 0)), some (.inl set), none, none] []
  have loop2 : ∀ (n i : Nat) (c sum : Int), c = i → i ≤ 7 → 7 - c < n → sum = sg (fun p => if set / 2 ^ (p / 7).toNat % 2 = 1 ∧ ¬ set / 2 ^ (p % 7).toNat % 2 = 1 then S 0 p else 0) 49 - sg (fun u => if set / 2 ^ u.toNat % 2 = 1 then S 1 u else 0) i → G E cX1_slack 4 S 55 [some (.inr (h 0)), some (.inl set), some (.inl sum), some (.inl c)] [] := by
    intro n
    induction n with
    | zero => intro i c sum hci hi hn; omega
    | succ n ih =>
      intro i c sum hci hi hn hsum
      refine g_iload_n 56 dX1_slack_55 rfl rfl ?_
      refine g_bipush 58 dX1_slack_56 rfl (by decide) ?_
      refine g_icmp_ge 89 61 dX1_slack_58 (by decide) rfl (by omega) (by omega) (fun hc => ?_) (fun hc => ?_)
      · refine g_iload_n 90 dX1_slack_89 rfl rfl ?_
        have hi7 : i = 7 := by omega
        subst hi7
        exact hret _ _ _ _ dX1_slack_90 rfl ⟨rfl, hsum⟩
      · have go : ∀ w : Int, w = sum - (if set / 2 ^ c.toNat % 2 = 1 then S 1 c else 0) → G E cX1_slack 4 S 82 [some (.inr (h 0)), some (.inl set), some (.inl sum), some (.inl c)] [.inl w] := by
          intro w hw
          refine g_istore_n 83 dX1_slack_82 rfl (by decide) ?_
          refine g_iinc 86 dX1_slack_83 rfl (by decide) rfl ?_
          refine g_goto 55 dX1_slack_86 (by decide) ?_
          refine ih (i + 1) (c + 1) w (by omega) (by omega) (by omega) ?_
          show w = _ - (sg (fun u => if set / 2 ^ u.toNat % 2 = 1 then S 1 u else 0) i + (if set / 2 ^ ((i : Nat) : Int).toNat % 2 = 1 then S 1 i else 0))
          rw [hw, hsum, hci]
          omega
        refine g_aload_n 62 dX1_slack_61 rfl rfl ?_
        refine g_iload_n 63 dX1_slack_62 rfl rfl ?_
        refine g_iload_n 64 dX1_slack_63 rfl rfl ?_
        refine g_calli (na := 2) (m_in set c (by omega) (by omega)) mW_ob (lw_V q251 q253 qs16 q26 q254) (by decide +kernel) rfl ⟨rfl, rfl⟩ hE (by rw [hR]; decide) 67 dX1_slack_64 rfl [] rfl (by simp) trivial (fun z S1 hz => ?_)
        obtain ⟨hS1, hz⟩ := hz
        subst hS1
        by_cases hm : set / 2 ^ c.toNat % 2 = 1
        · rw [if_pos hm] at hz
          refine g_if_eq 81 70 dX1_slack_67 (by decide) rfl (by omega) (fun h1 => ?_) (fun h1 => ?_)
          · omega
          · refine g_iload_n 71 dX1_slack_70 rfl rfl ?_
            refine g_aload_n 72 dX1_slack_71 rfl rfl ?_
            refine mg_positions hE 75 dX1_slack_72 rfl ?_
            refine g_iload_n 76 dX1_slack_75 rfl rfl ?_
            refine ml_positions hE 77 dX1_slack_76 rfl (by omega) ?_
            refine g_isub 78 dX1_slack_77 rfl ?_
            refine g_goto 82 dX1_slack_78 (by decide) ?_
            exact go _ (by rw [if_pos hm])
        · rw [if_neg hm] at hz
          refine g_if_eq 81 70 dX1_slack_67 (by decide) rfl (by omega) (fun h1 => ?_) (fun h1 => ?_)
          · refine g_iload_n 82 dX1_slack_81 rfl rfl ?_
            exact go _ (by rw [if_neg hm]; omega)
          · omega
  refine g_iconst 1 dX1_slack_0 rfl ?_
  refine g_istore_n 2 dX1_slack_1 rfl (by decide) ?_
  refine g_iconst 3 dX1_slack_2 rfl ?_
  refine g_istore_n 4 dX1_slack_3 rfl (by decide) ?_
  suffices loop : ∀ (n i : Nat) (c sum : Int), c = i → i ≤ 49 → 49 - c < n → sum = sg (fun p => if set / 2 ^ (p / 7).toNat % 2 = 1 ∧ ¬ set / 2 ^ (p % 7).toNat % 2 = 1 then S 0 p else 0) i → G E cX1_slack 4 S 4 [some (.inr (h 0)), some (.inl set), some (.inl sum), some (.inl c)] [] from loop 50 0 0 0 rfl (by decide) (by decide) rfl
  intro n
  induction n with
  | zero => intro i c sum hci hi hn; omega
  | succ n ih =>
    intro i c sum hci hi hn hsum
    refine g_iload_n 5 dX1_slack_4 rfl rfl ?_
    refine g_bipush 7 dX1_slack_5 rfl (by decide) ?_
    refine g_icmp_ge 53 10 dX1_slack_7 (by decide) rfl (by omega) (by omega) (fun hc => ?_) (fun hc => ?_)
    · refine g_iconst 54 dX1_slack_53 rfl ?_
      refine g_istore_n 55 dX1_slack_54 rfl (by decide) ?_
      have hi49 : i = 49 := by omega
      subst hi49
      exact loop2 8 0 0 sum rfl (by decide) (by decide) (by rw [hsum]; show _ = _ - 0; omega)
    · have go : ∀ w : Int, w = sum + (if set / 2 ^ (c / 7).toNat % 2 = 1 ∧ ¬ set / 2 ^ (c % 7).toNat % 2 = 1 then S 0 c else 0) → G E cX1_slack 4 S 46 [some (.inr (h 0)), some (.inl set), some (.inl sum), some (.inl c)] [.inl w] := by
        intro w hw
        refine g_istore_n 47 dX1_slack_46 rfl (by decide) ?_
        refine g_iinc 50 dX1_slack_47 rfl (by decide) rfl ?_
        refine g_goto 4 dX1_slack_50 (by decide) ?_
        refine ih (i + 1) (c + 1) w (by omega) (by omega) (by omega) ?_
        show w = sg (fun p => if set / 2 ^ (p / 7).toNat % 2 = 1 ∧ ¬ set / 2 ^ (p % 7).toNat % 2 = 1 then S 0 p else 0) i + (if set / 2 ^ (((i : Nat) : Int) / 7).toNat % 2 = 1 ∧ ¬ set / 2 ^ (((i : Nat) : Int) % 7).toNat % 2 = 1 then S 0 i else 0)
        rw [hw, hsum, hci]
      refine g_aload_n 11 dX1_slack_10 rfl rfl ?_
      refine g_iload_n 12 dX1_slack_11 rfl rfl ?_
      refine g_iload_n 13 dX1_slack_12 rfl rfl ?_
      refine g_bipush 15 dX1_slack_13 rfl (by decide) ?_
      refine g_idiv 16 dX1_slack_15 rfl (by omega) (by omega) ?_
      refine g_calli (na := 2) (m_in set (c / 7) (by omega) (by omega)) mW_ob (lw_V q251 q253 qs16 q26 q254) (by decide +kernel) rfl ⟨rfl, rfl⟩ hE (by rw [hR]; decide) 19 dX1_slack_16 rfl [] rfl (by simp) trivial (fun z S1 hz => ?_)
      obtain ⟨hS1, hz⟩ := hz
      subst hS1
      by_cases hm : set / 2 ^ (c / 7).toNat % 2 = 1
      · rw [if_pos hm] at hz
        refine g_if_eq 45 22 dX1_slack_19 (by decide) rfl (by omega) (fun h1 => ?_) (fun h1 => ?_)
        · omega
        · refine g_aload_n 23 dX1_slack_22 rfl rfl ?_
          refine g_iload_n 24 dX1_slack_23 rfl rfl ?_
          refine g_iload_n 25 dX1_slack_24 rfl rfl ?_
          refine g_bipush 27 dX1_slack_25 rfl (by decide) ?_
          refine g_irem 28 dX1_slack_27 rfl (by omega) (by omega) ?_
          refine g_calli (na := 2) (m_in set (c % 7) (by omega) (by omega)) mW_ob (lw_V q251 q253 qs16 q26 q254) (by decide +kernel) rfl ⟨rfl, rfl⟩ hE (by rw [hR]; decide) 31 dX1_slack_28 rfl [] rfl (by simp) trivial (fun z2 S2 hz2 => ?_)
          obtain ⟨hS2, hz2⟩ := hz2
          subst hS2
          by_cases hm2 : set / 2 ^ (c % 7).toNat % 2 = 1
          · rw [if_pos hm2] at hz2
            refine g_if_ne 45 34 dX1_slack_31 (by decide) rfl (by omega) (fun h2 => ?_) (fun h2 => ?_)
            · refine g_iload_n 46 dX1_slack_45 rfl rfl ?_
              exact go _ (by rw [if_neg (fun q => q.2 hm2)]; omega)
            · omega
          · rw [if_neg hm2] at hz2
            refine g_if_ne 45 34 dX1_slack_31 (by decide) rfl (by omega) (fun h2 => ?_) (fun h2 => ?_)
            · omega
            · refine g_iload_n 35 dX1_slack_34 rfl rfl ?_
              refine g_aload_n 36 dX1_slack_35 rfl rfl ?_
              refine mg_trusts hE 39 dX1_slack_36 rfl ?_
              refine g_iload_n 40 dX1_slack_39 rfl rfl ?_
              refine ml_trusts hE 41 dX1_slack_40 rfl (by omega) ?_
              refine g_iadd 42 dX1_slack_41 rfl ?_
              refine g_goto 46 dX1_slack_42 (by decide) ?_
              exact go _ (by rw [if_pos ⟨hm, hm2⟩])
      · rw [if_neg hm] at hz
        refine g_if_eq 45 22 dX1_slack_19 (by decide) rfl (by omega) (fun h1 => ?_) (fun h1 => ?_)
        · refine g_iload_n 46 dX1_slack_45 rfl rfl ?_
          exact go _ (by rw [if_neg (fun q => hm q.1)]; omega)
        · omega
theorem slk_rng {T P : Int → Int} (hT : ∀ j : Int, 0 ≤ j → j < 49 → 0 ≤ T j ∧ T j ≤ 1000) (hP : ∀ u : Int, 0 ≤ u → u < 7 → -100000 ≤ P u ∧ P u ≤ 100000) (set : Int) : -2147483648 ≤ slk T P set ∧ slk T P set ≤ 2147483647 := by
  unfold slk
  have a1 : 0 ≤ sg (fun p => if set / 2 ^ (p / 7).toNat % 2 = 1 ∧ ¬ set / 2 ^ (p % 7).toNat % 2 = 1 then T p else 0) 49 := sg_nn (fun p q1 q2 => by
    have := hT p q1 q2
    split <;> omega)
  have a2 : sg (fun p => if set / 2 ^ (p / 7).toNat % 2 = 1 ∧ ¬ set / 2 ^ (p % 7).toNat % 2 = 1 then T p else 0) 49 ≤ sg (fun _ => 1000) 49 := sg_le (fun p q1 q2 => by
    have := hT p q1 q2
    show (if set / 2 ^ (p / 7).toNat % 2 = 1 ∧ ¬ set / 2 ^ (p % 7).toNat % 2 = 1 then T p else 0) ≤ 1000
    split <;> omega)
  have b1 : sg (fun _ => -100000) 7 ≤ sg (fun u => if set / 2 ^ u.toNat % 2 = 1 then P u else 0) 7 := sg_le (fun p q1 q2 => by
    have := hP p q1 q2
    show -100000 ≤ (if set / 2 ^ p.toNat % 2 = 1 then P p else 0)
    split <;> omega)
  have b2 : sg (fun u => if set / 2 ^ u.toNat % 2 = 1 then P u else 0) 7 ≤ sg (fun _ => 100000) 7 := sg_le (fun p q1 q2 => by
    have := hP p q1 q2
    show (if set / 2 ^ p.toNat % 2 = 1 then P p else 0) ≤ 100000
    split <;> omega)
  rw [sg_const] at a2 b1 b2
  omega
theorem m_isPossible : c_meti mW yX1_isPossible cX1_isPossible 3 .boolean (rk 2) true [] (fun S => (∀ j : Int, 0 ≤ j → j < 49 → 0 ≤ S 0 j ∧ S 0 j ≤ 1000) ∧ (∀ u : Int, 0 ≤ u → u < 7 → -100000 ≤ S 1 u ∧ S 1 u ≤ 100000)) (fun S z S' => S' = S ∧ ((z = 1 ∧ IsPos (S 0) (S 1)) ∨ (z = 0 ∧ ¬ IsPos (S 0) (S 1)))) := by
  refine c_meti_of (own := RX1) (by decide) rfl mW_fst (fun _ => by simp [c_args]) ?_
  intro E h S hE hR hpre hret
  obtain ⟨hT, hP⟩ := hpre
  show G E cX1_isPossible 3 S 0 [some (.inr (h 0)), none, none] []
  refine g_iconst 1 dX1_isPossible_0 rfl ?_
  refine g_istore_n 2 dX1_isPossible_1 rfl (by decide) ?_
  refine g_iconst 3 dX1_isPossible_2 rfl ?_
  refine g_istore_n 4 dX1_isPossible_3 rfl (by decide) ?_
  suffices loop : ∀ (n : Nat) (c good : Int), 0 ≤ c → c ≤ 128 → 128 - c < n → ((good = 1 ∧ ∀ set : Int, 0 ≤ set → set < c → 0 ≤ slk (S 0) (S 1) set) ∨ (good = 0 ∧ ¬ IsPos (S 0) (S 1))) → G E cX1_isPossible 3 S 4 [some (.inr (h 0)), some (.inl good), some (.inl c)] [] from loop 129 0 1 (by decide) (by decide) (by decide) (Or.inl ⟨rfl, fun set q1 q2 => by omega⟩)
  intro n
  induction n with
  | zero => intro c good g0 g1 gn; omega
  | succ n ih =>
    intro c good g0 g1 gn hg
    have hg01 : good = 1 ∨ good = 0 := by rcases hg with ⟨q, -⟩ | ⟨q, -⟩ <;> omega
    refine g_iload_n 5 dX1_isPossible_4 rfl rfl ?_
    refine g_sipush 8 dX1_isPossible_5 rfl (by decide) ?_
    refine g_icmp_ge 35 11 dX1_isPossible_8 (by decide) rfl (by omega) (by omega) (fun hc => ?_) (fun hc => ?_)
    · refine g_iload_n 36 dX1_isPossible_35 rfl rfl ?_
      rcases hg with ⟨q1, q2⟩ | ⟨q1, q2⟩
      · refine hret _ _ _ _ dX1_isPossible_36 (by rw [q1]; rfl) ⟨rfl, Or.inl ⟨q1, fun set r1 r2 => q2 set r1 (by omega)⟩⟩
      · exact hret _ _ _ _ dX1_isPossible_36 (by rw [q1]; rfl) ⟨rfl, Or.inr ⟨q1, q2⟩⟩
    · refine g_iload_n 12 dX1_isPossible_11 rfl rfl ?_
      refine g_if_eq 27 15 dX1_isPossible_12 (by decide) rfl (by omega) (fun h1 => ?_) (fun h1 => ?_)
      · refine g_iconst 28 dX1_isPossible_27 rfl ?_
        refine g_istore_n 29 dX1_isPossible_28 rfl (by decide) ?_
        refine g_iinc 32 dX1_isPossible_29 rfl (by decide) rfl ?_
        refine g_goto 4 dX1_isPossible_32 (by decide) ?_
        refine ih (c + 1) 0 (by omega) (by omega) (by omega) (Or.inr ⟨rfl, ?_⟩)
        rcases hg with ⟨q1, q2⟩ | ⟨q1, q2⟩
        · omega
        · exact q2
      · refine g_aload_n 16 dX1_isPossible_15 rfl rfl ?_
        refine g_iload_n 17 dX1_isPossible_16 rfl rfl ?_
        refine g_calli (na := 1) (m_slack c (by omega)) mW_ob (lw_V q247 q249 qs15 q26 q250) (by decide +kernel) rfl ⟨rfl, rfl⟩ hE (by rw [hR]; decide) 20 dX1_isPossible_17 rfl [] rfl (by simp) trivial (fun z S1 hz => ?_)
        obtain ⟨hS1, hz⟩ := hz
        subst hS1
        have hr := slk_rng hT hP c
        rw [← hz] at hr
        refine g_if_lt 27 23 dX1_isPossible_20 (by decide) rfl (by omega) (fun h2 => ?_) (fun h2 => ?_)
        · refine g_iconst 28 dX1_isPossible_27 rfl ?_
          refine g_istore_n 29 dX1_isPossible_28 rfl (by decide) ?_
          refine g_iinc 32 dX1_isPossible_29 rfl (by decide) rfl ?_
          refine g_goto 4 dX1_isPossible_32 (by decide) ?_
          refine ih (c + 1) 0 (by omega) (by omega) (by omega) (Or.inr ⟨rfl, fun q => ?_⟩)
          have := q c g0 (by omega)
          omega
        · refine g_iconst 24 dX1_isPossible_23 rfl ?_
          refine g_goto 28 dX1_isPossible_24 (by decide) ?_
          refine g_istore_n 29 dX1_isPossible_28 rfl (by decide) ?_
          refine g_iinc 32 dX1_isPossible_29 rfl (by decide) rfl ?_
          refine g_goto 4 dX1_isPossible_32 (by decide) ?_
          refine ih (c + 1) 1 (by omega) (by omega) (by omega) (Or.inl ⟨rfl, fun set r1 r2 => ?_⟩)
          rcases hg with ⟨q1, q2⟩ | ⟨q1, q2⟩
          · by_cases e : set = c
            · rw [e, ← hz]
              exact h2
            · exact q2 set r1 (by omega)
          · omega
theorem m_leastSlack (held u : Int) (hh : 0 ≤ held ∧ held < 128) (hu : 0 ≤ u ∧ u < 7) (hhu : ¬ inS held u) : c_meti mW yX1_leastSlack cX1_leastSlack 6 .int (rk 2) true [held, u] (fun S => ∃ F : Int → Int, InvF (S 0) (S 1) F) (fun S z S' => S' = S ∧ IsMin (S 0) (S 1) held u z) := by
  refine c_meti_of (own := RX1) (by decide) rfl mW_fst (fun _ => by simp [c_args]) ?_
  intro E h S hE hR hpre hret
  obtain ⟨F, hI⟩ := hpre
  show G E cX1_leastSlack 6 S 0 [some (.inr (h 0)), some (.inl held), some (.inl u), none, none, none] []
  refine g_iconst 1 dX1_leastSlack_0 rfl ?_
  refine g_istore_n 2 dX1_leastSlack_1 rfl (by decide) ?_
  refine g_iconst 3 dX1_leastSlack_2 rfl ?_
  refine g_istore 5 dX1_leastSlack_3 rfl (by decide) ?_
  suffices loop : ∀ (n : Nat) (c least : Int) (x5 : Option pv), 0 ≤ c → c ≤ 128 → 128 - c < n → ((least = -1 ∧ ∀ set : Int, 0 ≤ set → set < c → hold held set → inS set u) ∨ ((0 ≤ least ∧ least ≤ 2147483647) ∧ (∃ set : Int, 0 ≤ set ∧ set < 128 ∧ hold held set ∧ ¬ inS set u ∧ slk (S 0) (S 1) set = least) ∧ ∀ set : Int, 0 ≤ set → set < c → hold held set → ¬ inS set u → least ≤ slk (S 0) (S 1) set)) → G E cX1_leastSlack 6 S 5 [some (.inr (h 0)), some (.inl held), some (.inl u), some (.inl least), some (.inl c), x5] [] from loop 129 0 (-1) _ (by decide) (by decide) (by decide) (Or.inl ⟨rfl, fun set q1 q2 => by omega⟩)
  intro n
  induction n with
  | zero => intro c least x5 g0 g1 gn; omega
  | succ n ih =>
    intro c least x5 g0 g1 gn hg
    have hlr : -1 ≤ least ∧ least ≤ 2147483647 := by rcases hg with ⟨q, -⟩ | ⟨q, -⟩ <;> omega
    refine g_iload 7 dX1_leastSlack_5 rfl rfl ?_
    refine g_sipush 10 dX1_leastSlack_7 rfl (by decide) ?_
    refine g_icmp_ge 62 13 dX1_leastSlack_10 (by decide) rfl (by omega) (by omega) (fun hc => ?_) (fun hc => ?_)
    · refine g_iload_n 63 dX1_leastSlack_62 rfl rfl ?_
      rcases hg with ⟨q1, q2⟩ | ⟨q1, q2, q3⟩
      · refine absurd (q2 held hh.1 (by omega) ?_) hhu
        unfold hold
        rw [Nat.and_self]
        omega
      · exact hret _ _ _ _ dX1_leastSlack_63 rfl ⟨rfl, q2, fun set r1 r2 r3 r4 => q3 set r1 (by omega) r3 r4⟩
    · have hand : ((c.toNat &&& held.toNat : Nat) : Int) ≤ c := by
        have := Nat.and_le_left (n := c.toNat) (m := held.toNat)
        omega
      have skip : ∀ (y5 : Option pv), ¬ (hold held c ∧ ¬ inS c u) → G E cX1_leastSlack 6 S 56 [some (.inr (h 0)), some (.inl held), some (.inl u), some (.inl least), some (.inl c), y5] [] := by
        intro y5 hn
        refine g_iinc 59 dX1_leastSlack_56 rfl (by decide) rfl ?_
        refine g_goto 5 dX1_leastSlack_59 (by decide) ?_
        refine ih (c + 1) least _ (by omega) (by omega) (by omega) ?_
        rcases hg with ⟨q1, q2⟩ | ⟨q1, q2, q3⟩
        · refine Or.inl ⟨q1, fun set r1 r2 r3 => ?_⟩
          by_cases e : set = c
          · rw [e] at r3 ⊢
            exact Classical.byContradiction (fun q => hn ⟨r3, q⟩)
          · exact q2 set r1 (by omega) r3
        · refine Or.inr ⟨q1, q2, fun set r1 r2 r3 r4 => ?_⟩
          by_cases e : set = c
          · rw [e] at r3 r4
            exact absurd ⟨r3, r4⟩ hn
          · exact q3 set r1 (by omega) r3 r4
      refine g_iload 15 dX1_leastSlack_13 rfl rfl ?_
      refine g_iload_n 16 dX1_leastSlack_15 rfl rfl ?_
      refine g_iand 17 dX1_leastSlack_16 rfl (by omega) (by omega) ?_
      refine g_iload_n 18 dX1_leastSlack_17 rfl rfl ?_
      refine g_icmp_ne 56 21 dX1_leastSlack_18 (by decide) rfl (by omega) (by omega) (fun h1 => ?_) (fun h1 => ?_)
      · exact skip _ (fun q => h1 q.1)
      · refine g_aload_n 22 dX1_leastSlack_21 rfl rfl ?_
        refine g_iload 24 dX1_leastSlack_22 rfl rfl ?_
        refine g_iload_n 25 dX1_leastSlack_24 rfl rfl ?_
        refine g_calli (na := 2) (m_in c u (by omega) (by omega)) mW_ob (lw_V q251 q253 qs16 q26 q254) (by decide +kernel) rfl ⟨rfl, rfl⟩ hE (by rw [hR]; decide) 28 dX1_leastSlack_25 rfl [] rfl (by simp) trivial (fun z S1 hz => ?_)
        obtain ⟨hS1, hz⟩ := hz
        subst hS1
        by_cases hm : c / 2 ^ u.toNat % 2 = 1
        · rw [if_pos hm] at hz
          refine g_if_ne 56 31 dX1_leastSlack_28 (by decide) rfl (by omega) (fun h2 => ?_) (fun h2 => ?_)
          · exact skip _ (fun q => q.2 hm)
          · omega
        · rw [if_neg hm] at hz
          refine g_if_ne 56 31 dX1_leastSlack_28 (by decide) rfl (by omega) (fun h2 => ?_) (fun h2 => ?_)
          · omega
          · refine g_aload_n 32 dX1_leastSlack_31 rfl rfl ?_
            refine g_iload 34 dX1_leastSlack_32 rfl rfl ?_
            refine g_calli (na := 1) (m_slack c (by omega)) mW_ob (lw_V q247 q249 qs15 q26 q250) (by decide +kernel) rfl ⟨rfl, rfl⟩ hE (by rw [hR]; decide) 37 dX1_leastSlack_34 rfl [] rfl (by simp) trivial (fun sl S2 hz2 => ?_)
            obtain ⟨hS2, hz2⟩ := hz2
            subst hS2
            have hsr := slk_rng (P := S2 1) hI.2.2.2.2.1 (fun x q1 q2 => by have := inv_P hI ⟨q1, q2⟩; omega) c
            have hs0 := inv_pos hI c
            rw [← hz2] at hsr hs0
            have go : ∀ w : Int, ((w = sl ∧ (least < 0 ∨ sl < least)) ∨ (w = least ∧ 0 ≤ least ∧ least ≤ sl)) → G E cX1_leastSlack 6 S2 55 [some (.inr (h 0)), some (.inl held), some (.inl u), some (.inl least), some (.inl c), some (.inl sl)] [.inl w] := by
              intro w hw
              refine g_istore_n 56 dX1_leastSlack_55 rfl (by decide) ?_
              refine g_iinc 59 dX1_leastSlack_56 rfl (by decide) rfl ?_
              refine g_goto 5 dX1_leastSlack_59 (by decide) ?_
              refine ih (c + 1) w _ (by omega) (by omega) (by omega) (Or.inr ⟨by omega, ?_, fun set r1 r2 r3 r4 => ?_⟩)
              · rcases hw with ⟨e, -⟩ | ⟨e, e2, -⟩
                · exact ⟨c, g0, by omega, h1, hm, by rw [e, hz2]⟩
                · rcases hg with ⟨q1, q2⟩ | ⟨q1, q2, q3⟩
                  · omega
                  · rw [e]
                    exact q2
              · by_cases e : set = c
                · rw [e, ← hz2]
                  omega
                · rcases hg with ⟨q1, q2⟩ | ⟨q1, q2, q3⟩
                  · exact absurd (q2 set r1 (by omega) r3) r4
                  · have := q3 set r1 (by omega) r3 r4
                    omega
            refine g_istore 39 dX1_leastSlack_37 rfl (by decide) ?_
            refine g_iload_n 40 dX1_leastSlack_39 rfl rfl ?_
            refine g_if_lt 49 43 dX1_leastSlack_40 (by decide) rfl (by omega) (fun h3 => ?_) (fun h3 => ?_)
            · refine g_iload 51 dX1_leastSlack_49 rfl rfl ?_
              refine g_goto 55 dX1_leastSlack_51 (by decide) ?_
              exact go sl (Or.inl ⟨rfl, Or.inl h3⟩)
            · refine g_iload 45 dX1_leastSlack_43 rfl rfl ?_
              refine g_iload_n 46 dX1_leastSlack_45 rfl rfl ?_
              refine g_icmp_ge 54 49 dX1_leastSlack_46 (by decide) rfl (by omega) (by omega) (fun h4 => ?_) (fun h4 => ?_)
              · refine g_iload_n 55 dX1_leastSlack_54 rfl rfl ?_
                exact go least (Or.inr ⟨rfl, h3, h4⟩)
              · refine g_iload 51 dX1_leastSlack_49 rfl rfl ?_
                refine g_goto 55 dX1_leastSlack_51 (by decide) ?_
                exact go sl (Or.inl ⟨rfl, Or.inr h4⟩)
end
section
/-! ===== CreditNetworkModel: its public methods but debts ===== -/
set_option maxRecDepth 10000
theorem pr_held {u v : Int} (h : isPr u v) : (0 ≤ (2 : Int) ^ v.toNat ∧ (2 : Int) ^ v.toNat < 128) ∧ ¬ inS (2 ^ v.toNat) u := by
  obtain ⟨p1, p2, p3⟩ := h
  refine ⟨pow_rng p2.1 p2.2, fun q => p3 ?_⟩
  exact (inS_pow p2.1 p2.2 p1.1 p1.2).mp q
theorem pr_sym {u v : Int} (h : isPr u v) : isPr v u := ⟨h.2.1, h.1, fun e => h.2.2 e.symm⟩
theorem min_ex (C : Int → Prop) (f : Int → Int) (n : Nat) : (∀ x : Int, 0 ≤ x → x < n → ¬ C x) ∨ ∃ x : Int, 0 ≤ x ∧ x < n ∧ C x ∧ ∀ y : Int, 0 ≤ y → y < n → C y → f x ≤ f y := by
  induction n with
  | zero => exact Or.inl (fun x h0 h1 => by omega)
  | succ n ih =>
    by_cases hc : C n
    · rcases ih with h | ⟨x, x0, x1, x2, x3⟩
      · refine Or.inr ⟨n, by omega, by omega, hc, fun y y0 y1 y2 => ?_⟩
        by_cases e : y = n
        · rw [e]
          exact Int.le_refl _
        · exact absurd y2 (h y y0 (by omega))
      · by_cases hf : f x ≤ f n
        · refine Or.inr ⟨x, x0, by omega, x2, fun y y0 y1 y2 => ?_⟩
          by_cases e : y = n
          · rw [e]
            exact hf
          · exact x3 y y0 (by omega) y2
        · refine Or.inr ⟨n, by omega, by omega, hc, fun y y0 y1 y2 => ?_⟩
          by_cases e : y = n
          · rw [e]
            exact Int.le_refl _
          · have := x3 y y0 (by omega) y2
            omega
    · rcases ih with h | ⟨x, x0, x1, x2, x3⟩
      · refine Or.inl (fun y y0 y1 y2 => ?_)
        by_cases e : y = n
        · rw [e] at y2
          exact hc y2
        · exact h y y0 (by omega) y2
      · refine Or.inr ⟨x, x0, by omega, x2, fun y y0 y1 y2 => ?_⟩
        by_cases e : y = n
        · rw [e] at y2
          exact absurd y2 hc
        · exact x3 y y0 (by omega) y2
theorem isMin_ex {T P : Int → Int} {u v : Int} (h : isPr u v) : ∃ m : Int, IsMin T P (2 ^ v.toNat) u m := by
  have hh := pr_held h
  rcases min_ex (fun set => hold (2 ^ v.toNat) set ∧ ¬ inS set u) (slk T P) 128 with h1 | ⟨x, x0, x1, ⟨x2, x3⟩, x4⟩
  · refine absurd ⟨?_, hh.2⟩ (h1 (2 ^ v.toNat) hh.1.1 hh.1.2)
    unfold hold
    rw [Nat.and_self]
    omega
  · exact ⟨slk T P x, ⟨x, x0, x1, x2, x3, rfl⟩, fun set s0 s1 s2 s3 => x4 set s0 s1 ⟨s2, s3⟩⟩
/-- CreditNetworkModel's state between calls -/
def MI (S : st_T) : Prop := (∃ F : Int → Int, InvF (S 0) (S 1) F) ∧ (0 ≤ S 2 0 ∧ S 2 0 ≤ 6) ∧ ∀ i : Int, 0 ≤ i → i < S 2 0 → (0 ≤ S 3 i ∧ S 3 i < 7) ∧ (0 ≤ S 4 i ∧ S 4 i < 7) ∧ (0 ≤ S 5 i ∧ S 5 i ≤ 10000)
theorem MI_T {S : st_T} (h : MI S) : ∀ j : Int, 0 ≤ j → j < 49 → 0 ≤ S 0 j ∧ S 0 j ≤ 1000 := by
  obtain ⟨⟨F, hI⟩, -⟩ := h
  exact hI.2.2.2.2.1
theorem MI_P {S : st_T} (h : MI S) : ∀ u : Int, 0 ≤ u → u < 7 → -14000 ≤ S 1 u ∧ S 1 u ≤ 14000 := by
  obtain ⟨⟨F, hI⟩, -⟩ := h
  exact fun u q1 q2 => inv_P hI ⟨q1, q2⟩
theorem cm_trust (u v a : Int) (hu : -2147483648 ≤ u ∧ u ≤ 2147483647) (hv : -2147483648 ≤ v ∧ v ≤ 2147483647) (ha : -2147483648 ≤ a ∧ a ≤ 2147483647) : c_meti mW yX1_trust cX1_trust 4 .int (rk 3) true [u, v, a] MI (fun S z S' => rTrust (S 0) u v a z (S' 0) ∧ ∀ k, k ≠ 0 → S' k = S k) := by
  refine c_meti_of (own := RX1) (by decide) rfl mW_fst (fun _ => by simp [c_args]) ?_
  intro E h S0 hE hR hX hret
  show G E cX1_trust 4 S0 0 [some (.inr (h 0)), some (.inl u), some (.inl v), some (.inl a)] []
  refine g_aload_n 1 dX1_trust_0 rfl rfl ?_
  refine g_iload_n 2 dX1_trust_1 rfl rfl ?_
  refine g_iload_n 3 dX1_trust_2 rfl rfl ?_
  refine g_calli (na := 2) (m_isPair u v hu hv) mW_ob (lw_V q235 q237 qs13 q26 q238) (by decide +kernel) rfl ⟨rfl, rfl⟩ hE (by rw [hR]; decide) 6 dX1_trust_3 rfl [] rfl (by simp) trivial (fun z S1 hz => ?_)
  obtain ⟨hS1, hz⟩ := hz
  subst hS1
  have hz01 : z = 1 ∨ z = 0 := by rcases hz with ⟨q, -⟩ | ⟨q, -⟩ <;> omega
  refine g_if_ne 11 9 dX1_trust_6 (by decide) rfl (by omega) (fun hc => ?_) (fun hc => ?_)
  · have hp : isPr u v := by
      rcases hz with ⟨-, q⟩ | ⟨q, -⟩
      · exact q
      · omega
    have hp' := hp
    obtain ⟨p1, p2, p3⟩ := hp'
    have hT := MI_T hX (7 * u + v) (by omega) (by omega)
    refine g_iload_n 12 dX1_trust_11 rfl rfl ?_
    refine g_if_lt 34 15 dX1_trust_12 (by decide) rfl (by omega) (fun h1 => ?_) (fun h1 => ?_)
    · refine g_bipush 36 dX1_trust_34 rfl (by decide) ?_
      exact hret _ _ _ _ dX1_trust_36 rfl ⟨Or.inr (Or.inl ⟨hp, Or.inl h1, rfl, rfl⟩), fun _ _ => rfl⟩
    · refine g_iload_n 16 dX1_trust_15 rfl rfl ?_
      refine g_sipush 19 dX1_trust_16 rfl (by decide) ?_
      refine g_aload_n 20 dX1_trust_19 rfl rfl ?_
      refine mg_trusts hE 23 dX1_trust_20 rfl ?_
      refine g_bipush 25 dX1_trust_23 rfl (by decide) ?_
      refine g_iload_n 26 dX1_trust_25 rfl rfl ?_
      refine g_imul 27 dX1_trust_26 rfl ?_
      refine g_iload_n 28 dX1_trust_27 rfl rfl ?_
      refine g_iadd 29 dX1_trust_28 rfl ?_
      refine ml_trusts hE 30 dX1_trust_29 rfl (by omega) ?_
      refine g_isub 31 dX1_trust_30 rfl ?_
      refine g_icmp_le 37 34 dX1_trust_31 (by decide) rfl (by omega) (by omega) (fun h2 => ?_) (fun h2 => ?_)
      · refine g_aload_n 38 dX1_trust_37 rfl rfl ?_
        refine mg_trusts hE 41 dX1_trust_38 rfl ?_
        refine g_bipush 43 dX1_trust_41 rfl (by decide) ?_
        refine g_iload_n 44 dX1_trust_43 rfl rfl ?_
        refine g_imul 45 dX1_trust_44 rfl ?_
        refine g_iload_n 46 dX1_trust_45 rfl rfl ?_
        refine g_iadd 47 dX1_trust_46 rfl ?_
        refine g_aload_n 48 dX1_trust_47 rfl rfl ?_
        refine mg_trusts hE 51 dX1_trust_48 rfl ?_
        refine g_bipush 53 dX1_trust_51 rfl (by decide) ?_
        refine g_iload_n 54 dX1_trust_53 rfl rfl ?_
        refine g_imul 55 dX1_trust_54 rfl ?_
        refine g_iload_n 56 dX1_trust_55 rfl rfl ?_
        refine g_iadd 57 dX1_trust_56 rfl ?_
        refine ml_trusts hE 58 dX1_trust_57 rfl (by omega) ?_
        refine g_iload_n 59 dX1_trust_58 rfl rfl ?_
        refine g_iadd 60 dX1_trust_59 rfl ?_
        refine ms_trusts hE 61 dX1_trust_60 rfl (by omega) ?_
        refine g_aload_n 62 dX1_trust_61 rfl rfl ?_
        refine mg_trusts hE 65 dX1_trust_62 rfl ?_
        refine g_bipush 67 dX1_trust_65 rfl (by decide) ?_
        refine g_iload_n 68 dX1_trust_67 rfl rfl ?_
        refine g_imul 69 dX1_trust_68 rfl ?_
        refine g_iload_n 70 dX1_trust_69 rfl rfl ?_
        refine g_iadd 71 dX1_trust_70 rfl ?_
        refine ml_trusts hE 72 dX1_trust_71 rfl (by omega) ?_
        refine hret _ _ _ _ dX1_trust_72 rfl ⟨Or.inr (Or.inr ⟨hp, by omega, ?_, rfl⟩), fun k q => us_n q⟩
        rw [us_s, ua_s]
      · refine g_bipush 36 dX1_trust_34 rfl (by decide) ?_
        exact hret _ _ _ _ dX1_trust_36 rfl ⟨Or.inr (Or.inl ⟨hp, Or.inr h2, rfl, rfl⟩), fun _ _ => rfl⟩
  · have hp : ¬ isPr u v := by
      rcases hz with ⟨q, -⟩ | ⟨-, q⟩
      · omega
      · exact q
    refine g_iconst 10 dX1_trust_9 rfl ?_
    exact hret _ _ _ _ dX1_trust_10 rfl ⟨Or.inl ⟨hp, rfl, rfl⟩, fun _ _ => rfl⟩
theorem cm_withdraw (u v a : Int) (hu : -2147483648 ≤ u ∧ u ≤ 2147483647) (hv : -2147483648 ≤ v ∧ v ≤ 2147483647) (ha : -2147483648 ≤ a ∧ a ≤ 2147483647) : c_meti mW yX1_withdraw cX1_withdraw 4 .int (rk 3) true [u, v, a] MI (fun S z S' => rWd (S 0) (S 1) u v a z (S' 0) ∧ ∀ k, k ≠ 0 → S' k = S k) := by
  refine c_meti_of (own := RX1) (by decide) rfl mW_fst (fun _ => by simp [c_args]) ?_
  intro E h S0 hE hR hX hret
  show G E cX1_withdraw 4 S0 0 [some (.inr (h 0)), some (.inl u), some (.inl v), some (.inl a)] []
  refine g_aload_n 1 dX1_withdraw_0 rfl rfl ?_
  refine g_iload_n 2 dX1_withdraw_1 rfl rfl ?_
  refine g_iload_n 3 dX1_withdraw_2 rfl rfl ?_
  refine g_calli (na := 2) (m_isPair u v hu hv) mW_ob (lw_V q235 q237 qs13 q26 q238) (by decide +kernel) rfl ⟨rfl, rfl⟩ hE (by rw [hR]; decide) 6 dX1_withdraw_3 rfl [] rfl (by simp) trivial (fun z S1 hz => ?_)
  obtain ⟨hS1, hz⟩ := hz
  subst hS1
  have hz01 : z = 1 ∨ z = 0 := by rcases hz with ⟨q, -⟩ | ⟨q, -⟩ <;> omega
  refine g_if_ne 11 9 dX1_withdraw_6 (by decide) rfl (by omega) (fun hc => ?_) (fun hc => ?_)
  · have hp : isPr u v := by
      rcases hz with ⟨-, q⟩ | ⟨q, -⟩
      · exact q
      · omega
    have hp' := hp
    obtain ⟨p1, p2, p3⟩ := hp'
    have hT := MI_T hX (7 * u + v) (by omega) (by omega)
    refine g_iload_n 12 dX1_withdraw_11 rfl rfl ?_
    refine g_if_lt 30 15 dX1_withdraw_12 (by decide) rfl (by omega) (fun h1 => ?_) (fun h1 => ?_)
    · refine g_bipush 32 dX1_withdraw_30 rfl (by decide) ?_
      exact hret _ _ _ _ dX1_withdraw_32 rfl ⟨Or.inr (Or.inl ⟨hp, Or.inl h1, rfl, rfl⟩), fun _ _ => rfl⟩
    · refine g_iload_n 16 dX1_withdraw_15 rfl rfl ?_
      refine g_aload_n 17 dX1_withdraw_16 rfl rfl ?_
      refine mg_trusts hE 20 dX1_withdraw_17 rfl ?_
      refine g_bipush 22 dX1_withdraw_20 rfl (by decide) ?_
      refine g_iload_n 23 dX1_withdraw_22 rfl rfl ?_
      refine g_imul 24 dX1_withdraw_23 rfl ?_
      refine g_iload_n 25 dX1_withdraw_24 rfl rfl ?_
      refine g_iadd 26 dX1_withdraw_25 rfl ?_
      refine ml_trusts hE 27 dX1_withdraw_26 rfl (by omega) ?_
      refine g_icmp_le 33 30 dX1_withdraw_27 (by decide) rfl (by omega) (by omega) (fun h2 => ?_) (fun h2 => ?_)
      · refine g_aload_n 34 dX1_withdraw_33 rfl rfl ?_
        refine mg_trusts hE 37 dX1_withdraw_34 rfl ?_
        refine g_bipush 39 dX1_withdraw_37 rfl (by decide) ?_
        refine g_iload_n 40 dX1_withdraw_39 rfl rfl ?_
        refine g_imul 41 dX1_withdraw_40 rfl ?_
        refine g_iload_n 42 dX1_withdraw_41 rfl rfl ?_
        refine g_iadd 43 dX1_withdraw_42 rfl ?_
        refine g_aload_n 44 dX1_withdraw_43 rfl rfl ?_
        refine mg_trusts hE 47 dX1_withdraw_44 rfl ?_
        refine g_bipush 49 dX1_withdraw_47 rfl (by decide) ?_
        refine g_iload_n 50 dX1_withdraw_49 rfl rfl ?_
        refine g_imul 51 dX1_withdraw_50 rfl ?_
        refine g_iload_n 52 dX1_withdraw_51 rfl rfl ?_
        refine g_iadd 53 dX1_withdraw_52 rfl ?_
        refine ml_trusts hE 54 dX1_withdraw_53 rfl (by omega) ?_
        refine g_iload_n 55 dX1_withdraw_54 rfl rfl ?_
        refine g_isub 56 dX1_withdraw_55 rfl ?_
        refine ms_trusts hE 57 dX1_withdraw_56 rfl (by omega) ?_
        refine g_aload_n 58 dX1_withdraw_57 rfl rfl ?_
        refine g_calli (na := 0) (m_isPossible) mW_ob (lw_V q243 q245 qs14 q26 q246) (by decide +kernel) rfl ⟨rfl, rfl⟩ hE (by rw [hR]; decide) 61 dX1_withdraw_58 rfl [] rfl (by simp) ⟨fun j q1 q2 => by show 0 ≤ ua (S1 0) (7 * u + v) (S1 0 (7 * u + v) - a) j ∧ ua (S1 0) (7 * u + v) (S1 0 (7 * u + v) - a) j ≤ 1000; have := MI_T hX j q1 q2; unfold ua; split <;> omega, fun x q1 q2 => by show -100000 ≤ S1 1 x ∧ S1 1 x ≤ 100000; have := MI_P hX x q1 q2; omega⟩ (fun z2 S2 hz2 => ?_)
        obtain ⟨hS2, hz2⟩ := hz2
        subst hS2
        have hz2 : (z2 = 1 ∧ IsPos (ua (S1 0) (7 * u + v) (S1 0 (7 * u + v) - a)) (S1 1)) ∨ (z2 = 0 ∧ ¬ IsPos (ua (S1 0) (7 * u + v) (S1 0 (7 * u + v) - a)) (S1 1)) := hz2
        have hz201 : z2 = 1 ∨ z2 = 0 := by rcases hz2 with ⟨q, -⟩ | ⟨q, -⟩ <;> omega
        refine g_if_ne 91 64 dX1_withdraw_61 (by decide) rfl (by omega) (fun h3 => ?_) (fun h3 => ?_)
        · refine g_aload_n 92 dX1_withdraw_91 rfl rfl ?_
          refine mg_trusts hE 95 dX1_withdraw_92 rfl ?_
          refine g_bipush 97 dX1_withdraw_95 rfl (by decide) ?_
          refine g_iload_n 98 dX1_withdraw_97 rfl rfl ?_
          refine g_imul 99 dX1_withdraw_98 rfl ?_
          refine g_iload_n 100 dX1_withdraw_99 rfl rfl ?_
          refine g_iadd 101 dX1_withdraw_100 rfl ?_
          refine ml_trusts hE 102 dX1_withdraw_101 rfl (by omega) ?_
          have hq : IsPos (ua (S1 0) (7 * u + v) (S1 0 (7 * u + v) - a)) (S1 1) := by
            rcases hz2 with ⟨-, q⟩ | ⟨q, -⟩
            · exact q
            · omega
          refine hret _ _ _ _ dX1_withdraw_102 rfl ⟨Or.inr (Or.inr (Or.inl ⟨hp, by omega, hq, ?_, rfl⟩)), fun k q => us_n q⟩
          rw [us_s, ua_s]
        · refine g_aload_n 65 dX1_withdraw_64 rfl rfl ?_
          refine mg_trusts hE 68 dX1_withdraw_65 rfl ?_
          refine g_bipush 70 dX1_withdraw_68 rfl (by decide) ?_
          refine g_iload_n 71 dX1_withdraw_70 rfl rfl ?_
          refine g_imul 72 dX1_withdraw_71 rfl ?_
          refine g_iload_n 73 dX1_withdraw_72 rfl rfl ?_
          refine g_iadd 74 dX1_withdraw_73 rfl ?_
          refine g_aload_n 75 dX1_withdraw_74 rfl rfl ?_
          refine mg_trusts hE 78 dX1_withdraw_75 rfl ?_
          refine g_bipush 80 dX1_withdraw_78 rfl (by decide) ?_
          refine g_iload_n 81 dX1_withdraw_80 rfl rfl ?_
          refine g_imul 82 dX1_withdraw_81 rfl ?_
          refine g_iload_n 83 dX1_withdraw_82 rfl rfl ?_
          refine g_iadd 84 dX1_withdraw_83 rfl ?_
          refine ml_trusts hE 85 dX1_withdraw_84 rfl (by omega) ?_
          refine g_iload_n 86 dX1_withdraw_85 rfl rfl ?_
          refine g_iadd 87 dX1_withdraw_86 rfl ?_
          refine ms_trusts hE 88 dX1_withdraw_87 rfl (by omega) ?_
          refine g_bipush 90 dX1_withdraw_88 rfl (by decide) ?_
          have hq : ¬ IsPos (ua (S1 0) (7 * u + v) (S1 0 (7 * u + v) - a)) (S1 1) := by
            rcases hz2 with ⟨q, -⟩ | ⟨-, q⟩
            · omega
            · exact q
          refine hret _ _ _ _ dX1_withdraw_90 rfl ⟨Or.inr (Or.inr (Or.inr ⟨hp, by omega, hq, rfl, ?_⟩)), fun k q => by rw [us_n q, us_n q]⟩
          funext j
          rw [us_s, us_s]
          by_cases e : j = 7 * u + v
          · rw [e, ua_s, ua_s]
            omega
          · rw [ua_n e, ua_n e]
      · refine g_bipush 32 dX1_withdraw_30 rfl (by decide) ?_
        exact hret _ _ _ _ dX1_withdraw_32 rfl ⟨Or.inr (Or.inl ⟨hp, Or.inr h2, rfl, rfl⟩), fun _ _ => rfl⟩
  · have hp : ¬ isPr u v := by
      rcases hz with ⟨q, -⟩ | ⟨-, q⟩
      · omega
      · exact q
    refine g_iconst 10 dX1_withdraw_9 rfl ?_
    exact hret _ _ _ _ dX1_withdraw_10 rfl ⟨Or.inl ⟨hp, rfl, rfl⟩, fun _ _ => rfl⟩
theorem cm_pay (u v a : Int) (hu : -2147483648 ≤ u ∧ u ≤ 2147483647) (hv : -2147483648 ≤ v ∧ v ≤ 2147483647) (ha : -2147483648 ≤ a ∧ a ≤ 2147483647) : c_meti mW yX1_pay cX1_pay 4 .int (rk 3) true [u, v, a] MI (fun S z S' => (∃ m : Int, (isPr u v → IsMin (S 0) (S 1) (2 ^ v.toNat) u m) ∧ rPay (S 1) u v a m z (S' 1)) ∧ ∀ k, k ≠ 1 → S' k = S k) := by
  refine c_meti_of (own := RX1) (by decide) rfl mW_fst (fun _ => by simp [c_args]) ?_
  intro E h S0 hE hR hX hret
  show G E cX1_pay 4 S0 0 [some (.inr (h 0)), some (.inl u), some (.inl v), some (.inl a)] []
  refine g_aload_n 1 dX1_pay_0 rfl rfl ?_
  refine g_iload_n 2 dX1_pay_1 rfl rfl ?_
  refine g_iload_n 3 dX1_pay_2 rfl rfl ?_
  refine g_calli (na := 2) (m_isPair u v hu hv) mW_ob (lw_V q235 q237 qs13 q26 q238) (by decide +kernel) rfl ⟨rfl, rfl⟩ hE (by rw [hR]; decide) 6 dX1_pay_3 rfl [] rfl (by simp) trivial (fun z S1 hz => ?_)
  obtain ⟨hS1, hz⟩ := hz
  subst hS1
  have hz01 : z = 1 ∨ z = 0 := by rcases hz with ⟨q, -⟩ | ⟨q, -⟩ <;> omega
  refine g_if_ne 11 9 dX1_pay_6 (by decide) rfl (by omega) (fun hc => ?_) (fun hc => ?_)
  · have hp : isPr u v := by
      rcases hz with ⟨-, q⟩ | ⟨q, -⟩
      · exact q
      · omega
    have hp' := hp
    obtain ⟨p1, p2, p3⟩ := hp'
    refine g_iload_n 12 dX1_pay_11 rfl rfl ?_
    refine g_if_ge 18 15 dX1_pay_12 (by decide) rfl (by omega) (fun h1 => ?_) (fun h1 => ?_)
    · have hh := pr_held hp
      refine g_iload_n 19 dX1_pay_18 rfl rfl ?_
      refine g_aload_n 20 dX1_pay_19 rfl rfl ?_
      refine g_iconst 21 dX1_pay_20 rfl ?_
      refine g_iload_n 22 dX1_pay_21 rfl rfl ?_
      refine g_ishl 23 dX1_pay_22 rfl (by omega) ?_
      refine g_iload_n 24 dX1_pay_23 rfl rfl ?_
      refine g_calli (na := 2) (m_leastSlack (2 ^ v.toNat) u hh.1 p1 hh.2) mW_ob (lw_V q259 q261 qs17 q26 q262) (by decide +kernel) rfl ⟨rfl, rfl⟩ hE (by rw [hR]; decide) 27 dX1_pay_24 rfl [.inl a] rfl (by simp) hX.1 (fun m S2 hm => ?_)
      obtain ⟨hS2, hm⟩ := hm
      subst hS2
      obtain ⟨F, hI⟩ := hX.1
      have hmr := isMin_rng hI hm
      refine g_icmp_le 33 30 dX1_pay_27 (by decide) rfl (by omega) (by omega) (fun h2 => ?_) (fun h2 => ?_)
      · refine g_aload_n 34 dX1_pay_33 rfl rfl ?_
        refine mg_positions hE 37 dX1_pay_34 rfl ?_
        refine g_iload_n 38 dX1_pay_37 rfl rfl ?_
        refine g_aload_n 39 dX1_pay_38 rfl rfl ?_
        refine mg_positions hE 42 dX1_pay_39 rfl ?_
        refine g_iload_n 43 dX1_pay_42 rfl rfl ?_
        refine ml_positions hE 44 dX1_pay_43 rfl (by omega) ?_
        refine g_iload_n 45 dX1_pay_44 rfl rfl ?_
        refine g_isub 46 dX1_pay_45 rfl ?_
        refine ms_positions hE 47 dX1_pay_46 rfl (by omega) ?_
        refine g_aload_n 48 dX1_pay_47 rfl rfl ?_
        refine mg_positions hE 51 dX1_pay_48 rfl ?_
        refine g_iload_n 52 dX1_pay_51 rfl rfl ?_
        refine g_aload_n 53 dX1_pay_52 rfl rfl ?_
        refine mg_positions hE 56 dX1_pay_53 rfl ?_
        refine g_iload_n 57 dX1_pay_56 rfl rfl ?_
        refine ml_positions hE 58 dX1_pay_57 rfl (by omega) ?_
        refine g_iload_n 59 dX1_pay_58 rfl rfl ?_
        refine g_iadd 60 dX1_pay_59 rfl ?_
        refine ms_positions hE 61 dX1_pay_60 rfl (by omega) ?_
        refine g_aload_n 62 dX1_pay_61 rfl rfl ?_
        refine mg_positions hE 65 dX1_pay_62 rfl ?_
        refine g_iload_n 66 dX1_pay_65 rfl rfl ?_
        refine ml_positions hE 67 dX1_pay_66 rfl (by omega) ?_
        refine hret _ _ _ _ dX1_pay_67 rfl ⟨⟨m, fun _ => hm, Or.inr (Or.inr (Or.inr ⟨hp, by omega, by omega, ?_, ?_⟩))⟩, fun k q => by rw [us_n q, us_n q]⟩
        · rw [us_s, ua_n p3, us_s, ua_s]
        · rw [us_s, us_s]
      · refine g_bipush 32 dX1_pay_30 rfl (by decide) ?_
        exact hret _ _ _ _ dX1_pay_32 rfl ⟨⟨m, fun _ => hm, Or.inr (Or.inr (Or.inl ⟨hp, by omega, h2, rfl, rfl⟩))⟩, fun _ _ => rfl⟩
    · refine g_bipush 17 dX1_pay_15 rfl (by decide) ?_
      obtain ⟨m, hm⟩ := isMin_ex (T := S1 0) (P := S1 1) hp
      exact hret _ _ _ _ dX1_pay_17 rfl ⟨⟨m, fun _ => hm, Or.inr (Or.inl ⟨hp, h1, rfl, rfl⟩)⟩, fun _ _ => rfl⟩
  · have hp : ¬ isPr u v := by
      rcases hz with ⟨q, -⟩ | ⟨-, q⟩
      · omega
      · exact q
    refine g_iconst 10 dX1_pay_9 rfl ?_
    exact hret _ _ _ _ dX1_pay_10 rfl ⟨⟨0, fun q => absurd q hp, Or.inl ⟨hp, rfl, rfl⟩⟩, fun _ _ => rfl⟩
theorem cm_gather (u v a : Int) (hu : -2147483648 ≤ u ∧ u ≤ 2147483647) (hv : -2147483648 ≤ v ∧ v ≤ 2147483647) (ha : -2147483648 ≤ a ∧ a ≤ 2147483647) : c_meti mW yX1_gather cX1_gather 4 .int (rk 3) true [u, v, a] MI (fun S z S' => rGat (S 2 0) (S 3) (S 4) (S 5) u v a z (S' 2 0) (S' 3) (S' 4) (S' 5) ∧ S' 0 = S 0 ∧ S' 1 = S 1) := by
  refine c_meti_of (own := RX1) (by decide) rfl mW_fst (fun _ => by simp [c_args]) ?_
  intro E h S0 hE hR hX hret
  show G E cX1_gather 4 S0 0 [some (.inr (h 0)), some (.inl u), some (.inl v), some (.inl a)] []
  refine g_aload_n 1 dX1_gather_0 rfl rfl ?_
  refine g_iload_n 2 dX1_gather_1 rfl rfl ?_
  refine g_iload_n 3 dX1_gather_2 rfl rfl ?_
  refine g_calli (na := 2) (m_isPair u v hu hv) mW_ob (lw_V q235 q237 qs13 q26 q238) (by decide +kernel) rfl ⟨rfl, rfl⟩ hE (by rw [hR]; decide) 6 dX1_gather_3 rfl [] rfl (by simp) trivial (fun z S1 hz => ?_)
  obtain ⟨hS1, hz⟩ := hz
  subst hS1
  have hz01 : z = 1 ∨ z = 0 := by rcases hz with ⟨q, -⟩ | ⟨q, -⟩ <;> omega
  refine g_if_ne 11 9 dX1_gather_6 (by decide) rfl (by omega) (fun hc => ?_) (fun hc => ?_)
  · have hp : isPr u v := by
      rcases hz with ⟨-, q⟩ | ⟨q, -⟩
      · exact q
      · omega
    have hg := hX.2.1
    refine g_iload_n 12 dX1_gather_11 rfl rfl ?_
    refine g_if_lt 22 15 dX1_gather_12 (by decide) rfl (by omega) (fun h1 => ?_) (fun h1 => ?_)
    · refine g_bipush 24 dX1_gather_22 rfl (by decide) ?_
      exact hret _ _ _ _ dX1_gather_24 rfl ⟨Or.inr (Or.inl ⟨hp, Or.inl h1, rfl, rfl, rfl, rfl, rfl⟩), rfl, rfl⟩
    · refine g_iload_n 16 dX1_gather_15 rfl rfl ?_
      refine g_sipush 19 dX1_gather_16 rfl (by decide) ?_
      refine g_icmp_le 25 22 dX1_gather_19 (by decide) rfl (by omega) (by omega) (fun h2 => ?_) (fun h2 => ?_)
      · refine g_aload_n 26 dX1_gather_25 rfl rfl ?_
        refine mg_listed hE 29 dX1_gather_26 rfl ?_
        refine g_bipush 31 dX1_gather_29 rfl (by decide) ?_
        refine g_icmp_ne 37 34 dX1_gather_31 (by decide) rfl (by omega) (by omega) (fun h3 => ?_) (fun h3 => ?_)
        · refine g_aload_n 38 dX1_gather_37 rfl rfl ?_
          refine mg_payers hE 41 dX1_gather_38 rfl ?_
          refine g_aload_n 42 dX1_gather_41 rfl rfl ?_
          refine mg_listed hE 45 dX1_gather_42 rfl ?_
          refine g_iload_n 46 dX1_gather_45 rfl rfl ?_
          refine ms_payers hE 47 dX1_gather_46 rfl (by show 0 ≤ S1 2 0 ∧ S1 2 0 < 6; omega) ?_
          refine g_aload_n 48 dX1_gather_47 rfl rfl ?_
          refine mg_payees hE 51 dX1_gather_48 rfl ?_
          refine g_aload_n 52 dX1_gather_51 rfl rfl ?_
          refine mg_listed hE 55 dX1_gather_52 rfl ?_
          refine g_iload_n 56 dX1_gather_55 rfl rfl ?_
          refine ms_payees hE 57 dX1_gather_56 rfl (by show 0 ≤ S1 2 0 ∧ S1 2 0 < 6; omega) ?_
          refine g_aload_n 58 dX1_gather_57 rfl rfl ?_
          refine mg_amounts hE 61 dX1_gather_58 rfl ?_
          refine g_aload_n 62 dX1_gather_61 rfl rfl ?_
          refine mg_listed hE 65 dX1_gather_62 rfl ?_
          refine g_iload_n 66 dX1_gather_65 rfl rfl ?_
          refine ms_amounts hE 67 dX1_gather_66 rfl (by show 0 ≤ S1 2 0 ∧ S1 2 0 < 6; omega) ?_
          refine g_aload_n 68 dX1_gather_67 rfl rfl ?_
          refine g_dup 69 dX1_gather_68 rfl ?_
          refine mg_listed hE 72 dX1_gather_69 rfl ?_
          refine g_iconst 73 dX1_gather_72 rfl ?_
          refine g_iadd 74 dX1_gather_73 rfl ?_
          refine mp_listed hE 77 dX1_gather_74 rfl ?_
          refine g_aload_n 78 dX1_gather_77 rfl rfl ?_
          refine mg_listed hE 81 dX1_gather_78 rfl ?_
          exact hret _ _ _ _ dX1_gather_81 rfl ⟨Or.inr (Or.inr (Or.inr ⟨hp, by omega, by omega, rfl, rfl, rfl, rfl, rfl⟩)), rfl, rfl⟩
        · refine g_bipush 36 dX1_gather_34 rfl (by decide) ?_
          exact hret _ _ _ _ dX1_gather_36 rfl ⟨Or.inr (Or.inr (Or.inl ⟨hp, by omega, by omega, rfl, rfl, rfl, rfl, rfl⟩)), rfl, rfl⟩
      · refine g_bipush 24 dX1_gather_22 rfl (by decide) ?_
        exact hret _ _ _ _ dX1_gather_24 rfl ⟨Or.inr (Or.inl ⟨hp, Or.inr h2, rfl, rfl, rfl, rfl, rfl⟩), rfl, rfl⟩
  · have hp : ¬ isPr u v := by
      rcases hz with ⟨q, -⟩ | ⟨-, q⟩
      · omega
      · exact q
    refine g_iconst 10 dX1_gather_9 rfl ?_
    exact hret _ _ _ _ dX1_gather_10 rfl ⟨Or.inl ⟨hp, rfl, rfl, rfl, rfl, rfl⟩, rfl, rfl⟩
theorem m_payAll (s : Int) (hs : s = 1 ∨ s = -1) : c_metv mW yX1_payAll cX1_payAll 3 (rk 0) true [s] (fun S => (0 ≤ S 2 0 ∧ S 2 0 ≤ 6) ∧ ∀ i : Int, 0 ≤ i → i < S 2 0 → (0 ≤ S 3 i ∧ S 3 i < 7) ∧ (0 ≤ S 4 i ∧ S 4 i < 7) ∧ (0 ≤ S 5 i ∧ S 5 i ≤ 10000)) (fun S S' => (∀ k, k ≠ 1 → S' k = S k) ∧ S' 1 = fun j => S 1 j + s * chg (S 3) (S 4) (S 5) (S 2 0).toNat j) := by
  refine c_metv_of (own := RX1) (by decide) rfl mW_fst (fun _ => by simp [c_args]) ?_
  intro E h S0 hE hR hpre hret
  obtain ⟨hg, hl⟩ := hpre
  show G E cX1_payAll 3 S0 0 [some (.inr (h 0)), some (.inl s), none] []
  refine g_iconst 1 dX1_payAll_0 rfl ?_
  refine g_istore_n 2 dX1_payAll_1 rfl (by decide) ?_
  suffices loop : ∀ (n i : Nat) (c : Int) (S : st_T), c = i → c ≤ S0 2 0 → S0 2 0 - c < n → (∀ k, k ≠ 1 → S k = S0 k) → (S 1 = fun j => S0 1 j + s * chg (S0 3) (S0 4) (S0 5) i j) → G E cX1_payAll 3 S 2 [some (.inr (h 0)), some (.inl s), some (.inl c)] [] from loop 7 0 0 S0 rfl hg.1 (by omega) (fun _ _ => rfl) (by
    funext j
    show S0 1 j = S0 1 j + s * 0
    omega)
  intro n
  induction n with
  | zero => intro i c S hci h1 hn; omega
  | succ n ih =>
    intro i c S hci h1 hn hk hP
    have e2 : S 2 0 = S0 2 0 := by rw [hk 2 (by decide)]
    have e3 : S 3 = S0 3 := hk 3 (by decide)
    have e4 : S 4 = S0 4 := hk 4 (by decide)
    have e5 : S 5 = S0 5 := hk 5 (by decide)
    refine g_iload_n 3 dX1_payAll_2 rfl rfl ?_
    refine g_aload_n 4 dX1_payAll_3 rfl rfl ?_
    refine mg_listed hE 7 dX1_payAll_4 rfl ?_
    refine g_icmp_ge 78 10 dX1_payAll_7 (by decide) rfl (by omega) (by omega) (fun hc => ?_) (fun hc => ?_)
    · have hi : (S0 2 0).toNat = i := by omega
      refine hret _ _ _ dX1_payAll_78 ⟨hk, ?_⟩
      rw [hi]
      exact hP
    · have hr := hl c (by omega) (by omega)
      have r3 : 0 ≤ S 3 c ∧ S 3 c < 7 := by rw [e3]; exact hr.1
      have r4 : 0 ≤ S 4 c ∧ S 4 c < 7 := by rw [e4]; exact hr.2.1
      refine g_aload_n 11 dX1_payAll_10 rfl rfl ?_
      refine mg_positions hE 14 dX1_payAll_11 rfl ?_
      refine g_aload_n 15 dX1_payAll_14 rfl rfl ?_
      refine mg_payers hE 18 dX1_payAll_15 rfl ?_
      refine g_iload_n 19 dX1_payAll_18 rfl rfl ?_
      refine ml_payers hE 20 dX1_payAll_19 rfl (by omega) ?_
      refine g_aload_n 21 dX1_payAll_20 rfl rfl ?_
      refine mg_positions hE 24 dX1_payAll_21 rfl ?_
      refine g_aload_n 25 dX1_payAll_24 rfl rfl ?_
      refine mg_payers hE 28 dX1_payAll_25 rfl ?_
      refine g_iload_n 29 dX1_payAll_28 rfl rfl ?_
      refine ml_payers hE 30 dX1_payAll_29 rfl (by omega) ?_
      refine ml_positions hE 31 dX1_payAll_30 rfl (by exact r3) ?_
      refine g_iload_n 32 dX1_payAll_31 rfl rfl ?_
      refine g_aload_n 33 dX1_payAll_32 rfl rfl ?_
      refine mg_amounts hE 36 dX1_payAll_33 rfl ?_
      refine g_iload_n 37 dX1_payAll_36 rfl rfl ?_
      refine ml_amounts hE 38 dX1_payAll_37 rfl (by omega) ?_
      refine g_imul 39 dX1_payAll_38 rfl ?_
      refine g_isub 40 dX1_payAll_39 rfl ?_
      refine ms_positions hE 41 dX1_payAll_40 rfl (by exact r3) ?_
      refine g_aload_n 42 dX1_payAll_41 rfl rfl ?_
      refine mg_positions hE 45 dX1_payAll_42 rfl ?_
      refine g_aload_n 46 dX1_payAll_45 rfl rfl ?_
      refine mg_payees hE 49 dX1_payAll_46 rfl ?_
      refine g_iload_n 50 dX1_payAll_49 rfl rfl ?_
      refine ml_payees hE 51 dX1_payAll_50 rfl (by omega) ?_
      refine g_aload_n 52 dX1_payAll_51 rfl rfl ?_
      refine mg_positions hE 55 dX1_payAll_52 rfl ?_
      refine g_aload_n 56 dX1_payAll_55 rfl rfl ?_
      refine mg_payees hE 59 dX1_payAll_56 rfl ?_
      refine g_iload_n 60 dX1_payAll_59 rfl rfl ?_
      refine ml_payees hE 61 dX1_payAll_60 rfl (by omega) ?_
      refine ml_positions hE 62 dX1_payAll_61 rfl (by exact r4) ?_
      refine g_iload_n 63 dX1_payAll_62 rfl rfl ?_
      refine g_aload_n 64 dX1_payAll_63 rfl rfl ?_
      refine mg_amounts hE 67 dX1_payAll_64 rfl ?_
      refine g_iload_n 68 dX1_payAll_67 rfl rfl ?_
      refine ml_amounts hE 69 dX1_payAll_68 rfl (by omega) ?_
      refine g_imul 70 dX1_payAll_69 rfl ?_
      refine g_iadd 71 dX1_payAll_70 rfl ?_
      refine ms_positions hE 72 dX1_payAll_71 rfl (by exact r4) ?_
      refine g_iinc 75 dX1_payAll_72 rfl (by decide) rfl ?_
      refine g_goto 2 dX1_payAll_75 (by decide) ?_
      refine ih (i + 1) (c + 1) _ (by omega) (by omega) (by omega) (fun k q => ?_) ?_
      · rw [us_n q, us_n q]
        exact hk k q
      · show chg1 (S 1) (S 3 c) (S 4 c) (s * S 5 c) = fun j => S0 1 j + s * chg1 (chg (S0 3) (S0 4) (S0 5) i) (S0 3 i) (S0 4 i) (S0 5 i) j
        funext j
        show chg1 (S 1) (S 3 c) (S 4 c) (s * S 5 c) j = S0 1 j + s * chg1 (chg (S0 3) (S0 4) (S0 5) i) (S0 3 i) (S0 4 i) (S0 5 i) j
        rw [chg1_at, chg1_at, hP, e3, e4, e5, ← hci]
        show S0 1 j + s * chg (S0 3) (S0 4) (S0 5) i j + (if j = S0 4 c then s * S0 5 c else 0) - (if j = S0 3 c then s * S0 5 c else 0) = _
        rcases hs with rfl | rfl <;> (repeat' split) <;> omega
theorem cm_clear : c_meti mW yX1_clear cX1_clear 2 .int (rk 3) true [] MI (fun S z S' => rClr (S 0) (S 1) (S 2 0) (S 3) (S 4) (S 5) z (S' 1) (S' 2 0) ∧ ∀ k, k ≠ 1 → k ≠ 2 → S' k = S k) := by
  refine c_meti_of (own := RX1) (by decide) rfl mW_fst (fun _ => by simp [c_args]) ?_
  intro E h S0 hE hR hX hret
  show G E cX1_clear 2 S0 0 [some (.inr (h 0)), none] []
  refine g_aload_n 1 dX1_clear_0 rfl rfl ?_
  refine g_iconst 2 dX1_clear_1 rfl ?_
  refine g_callv (na := 1) (m_payAll 1 (Or.inl rfl)) mW_ob (lw_V q271 q273 qs18 q26 q274) (by decide +kernel) rfl ⟨rfl, rfl⟩ hE (by rw [hR]; decide) 5 dX1_clear_2 rfl [] rfl (by simp) hX.2 (fun S1 hS1 => ?_)
  obtain ⟨hk1, hP1⟩ := hS1
  generalize hC : chg (S0 3) (S0 4) (S0 5) (S0 2 0).toNat = C at hP1
  have hg := hX.2.1
  have hCr : ∀ j, -60000 ≤ C j ∧ C j ≤ 60000 := fun j => by
    have := chg_rng (pr := S0 3) (pe := S0 4) (am := S0 5) (n := (S0 2 0).toNat) (fun i q1 q2 => (hX.2.2 i q1 (by omega)).2.2) j
    rw [hC] at this
    omega
  have e1 : S1 1 = fun j => S0 1 j + C j := by
    rw [hP1]
    funext j
    omega
  have e0 : S1 0 = S0 0 := hk1 0 (by decide)
  have e2 : S1 2 = S0 2 := hk1 2 (by decide)
  refine g_aload_n 6 dX1_clear_5 rfl rfl ?_
  refine g_calli (na := 0) (m_isPossible) mW_ob (lw_V q243 q245 qs14 q26 q246) (by decide +kernel) rfl ⟨rfl, rfl⟩ hE (by rw [hR]; decide) 9 dX1_clear_6 rfl [] rfl (by simp) ⟨by rw [e0]; exact MI_T hX, fun x q1 q2 => by rw [e1]; have := MI_P hX x q1 q2; have := hCr x; show -100000 ≤ S0 1 x + C x ∧ S0 1 x + C x ≤ 100000; omega⟩ (fun z2 S2 hz2 => ?_)
  obtain ⟨hS2, hz2⟩ := hz2
  subst hS2
  rw [e0, e1] at hz2
  have hz201 : z2 = 1 ∨ z2 = 0 := by rcases hz2 with ⟨q, -⟩ | ⟨q, -⟩ <;> omega
  refine g_if_ne 20 12 dX1_clear_9 (by decide) rfl (by omega) (fun hc => ?_) (fun hc => ?_)
  · have hq : IsPos (S0 0) (fun j => S0 1 j + C j) := by
      rcases hz2 with ⟨-, q⟩ | ⟨q, -⟩
      · exact q
      · omega
    refine g_aload_n 21 dX1_clear_20 rfl rfl ?_
    refine mg_listed hE 24 dX1_clear_21 rfl ?_
    refine g_istore_n 25 dX1_clear_24 rfl (by decide) ?_
    refine g_aload_n 26 dX1_clear_25 rfl rfl ?_
    refine g_iconst 27 dX1_clear_26 rfl ?_
    refine mp_listed hE 30 dX1_clear_27 rfl ?_
    refine g_iload_n 31 dX1_clear_30 rfl rfl ?_
    refine hret _ _ _ _ dX1_clear_31 rfl ⟨Or.inl ⟨by rw [hC]; exact hq, by rw [e2], ?_, rfl⟩, fun k q1 q2 => by rw [us_n q2]; exact hk1 k q1⟩
    rw [hC]
    exact e1
  · have hq : ¬ IsPos (S0 0) (fun j => S0 1 j + C j) := by
      rcases hz2 with ⟨q, -⟩ | ⟨-, q⟩
      · omega
      · exact q
    refine g_aload_n 13 dX1_clear_12 rfl rfl ?_
    refine g_iconst 14 dX1_clear_13 rfl ?_
    refine g_callv (na := 1) (m_payAll (-1) (Or.inr rfl)) mW_ob (lw_V q271 q273 qs18 q26 q274) (by decide +kernel) rfl ⟨rfl, rfl⟩ hE (by rw [hR]; decide) 17 dX1_clear_14 rfl [] rfl (by simp) (by rw [hk1 2 (by decide), hk1 3 (by decide), hk1 4 (by decide), hk1 5 (by decide)]; exact hX.2) (fun S3 hS3 => ?_)
    obtain ⟨hk3, hP3⟩ := hS3
    rw [hk1 3 (by decide), hk1 4 (by decide), hk1 5 (by decide), e2, hC, e1] at hP3
    refine g_bipush 19 dX1_clear_17 rfl (by decide) ?_
    refine hret _ _ _ _ dX1_clear_19 rfl ⟨Or.inr ⟨by rw [hC]; exact hq, rfl, ?_, by rw [hk3 2 (by decide), e2]⟩, fun k q1 q2 => by rw [hk3 k q1]; exact hk1 k q1⟩
    rw [hP3]
    funext j
    show S0 1 j + C j + -1 * C j = S0 1 j
    omega
theorem cm_forget : c_meti mW yX1_forget cX1_forget 2 .int (rk 3) true [] MI (fun S z S' => z = S 2 0 ∧ S' 2 0 = 0 ∧ ∀ k, k ≠ 2 → S' k = S k) := by
  refine c_meti_of (own := RX1) (by decide) rfl mW_fst (fun _ => by simp [c_args]) ?_
  intro E h S0 hE hR hX hret
  show G E cX1_forget 2 S0 0 [some (.inr (h 0)), none] []
  refine g_aload_n 1 dX1_forget_0 rfl rfl ?_
  refine mg_listed hE 4 dX1_forget_1 rfl ?_
  refine g_istore_n 5 dX1_forget_4 rfl (by decide) ?_
  refine g_aload_n 6 dX1_forget_5 rfl rfl ?_
  refine g_iconst 7 dX1_forget_6 rfl ?_
  refine mp_listed hE 10 dX1_forget_7 rfl ?_
  refine g_iload_n 11 dX1_forget_10 rfl rfl ?_
  exact hret _ _ _ _ dX1_forget_11 rfl ⟨rfl, rfl, fun k q => us_n q⟩
theorem cm_trusted (u v : Int) (hu : -2147483648 ≤ u ∧ u ≤ 2147483647) (hv : -2147483648 ≤ v ∧ v ≤ 2147483647) : c_meti mW yX1_trusted cX1_trusted 3 .int (rk 3) true [u, v] MI (fun S z S' => S' = S ∧ ((isPr u v ∧ z = S 0 (7 * u + v)) ∨ (¬ isPr u v ∧ z = -1))) := by
  refine c_meti_of (own := RX1) (by decide) rfl mW_fst (fun _ => by simp [c_args]) ?_
  intro E h S0 hE hR hX hret
  show G E cX1_trusted 3 S0 0 [some (.inr (h 0)), some (.inl u), some (.inl v)] []
  refine g_aload_n 1 dX1_trusted_0 rfl rfl ?_
  refine g_iload_n 2 dX1_trusted_1 rfl rfl ?_
  refine g_iload_n 3 dX1_trusted_2 rfl rfl ?_
  refine g_calli (na := 2) (m_isPair u v hu hv) mW_ob (lw_V q235 q237 qs13 q26 q238) (by decide +kernel) rfl ⟨rfl, rfl⟩ hE (by rw [hR]; decide) 6 dX1_trusted_3 rfl [] rfl (by simp) trivial (fun z S1 hz => ?_)
  obtain ⟨hS1, hz⟩ := hz
  subst hS1
  have hz01 : z = 1 ∨ z = 0 := by rcases hz with ⟨q, -⟩ | ⟨q, -⟩ <;> omega
  refine g_if_eq 23 9 dX1_trusted_6 (by decide) rfl (by omega) (fun hc => ?_) (fun hc => ?_)
  · have hp : ¬ isPr u v := by
      rcases hz with ⟨q, -⟩ | ⟨-, q⟩
      · omega
      · exact q
    refine g_iconst 24 dX1_trusted_23 rfl ?_
    exact hret _ _ _ _ dX1_trusted_24 rfl ⟨rfl, Or.inr ⟨hp, rfl⟩⟩
  · have hp : isPr u v := by
      rcases hz with ⟨-, q⟩ | ⟨q, -⟩
      · exact q
      · omega
    have hp' := hp
    obtain ⟨p1, p2, p3⟩ := hp'
    refine g_aload_n 10 dX1_trusted_9 rfl rfl ?_
    refine mg_trusts hE 13 dX1_trusted_10 rfl ?_
    refine g_bipush 15 dX1_trusted_13 rfl (by decide) ?_
    refine g_iload_n 16 dX1_trusted_15 rfl rfl ?_
    refine g_imul 17 dX1_trusted_16 rfl ?_
    refine g_iload_n 18 dX1_trusted_17 rfl rfl ?_
    refine g_iadd 19 dX1_trusted_18 rfl ?_
    refine ml_trusts hE 20 dX1_trusted_19 rfl (by omega) ?_
    refine g_goto 24 dX1_trusted_20 (by decide) ?_
    exact hret _ _ _ _ dX1_trusted_24 rfl ⟨rfl, Or.inl ⟨hp, rfl⟩⟩
theorem cm_position (u : Int) (hu : -2147483648 ≤ u ∧ u ≤ 2147483647) : c_meti mW yX1_position cX1_position 2 .int (rk 3) true [u] MI (fun S z S' => S' = S ∧ z = if 0 ≤ u ∧ u < 7 then S 1 u else 0) := by
  refine c_meti_of (own := RX1) (by decide) rfl mW_fst (fun _ => by simp [c_args]) ?_
  intro E h S0 hE hR hX hret
  show G E cX1_position 2 S0 0 [some (.inr (h 0)), some (.inl u)] []
  refine g_iload_n 1 dX1_position_0 rfl rfl ?_
  refine g_if_lt 19 4 dX1_position_1 (by decide) rfl (by omega) (fun h1 => ?_) (fun h1 => ?_)
  · refine g_iconst 20 dX1_position_19 rfl ?_
    exact hret _ _ _ _ dX1_position_20 rfl ⟨rfl, by rw [if_neg (by omega)]⟩
  · refine g_iload_n 5 dX1_position_4 rfl rfl ?_
    refine g_bipush 7 dX1_position_5 rfl (by decide) ?_
    refine g_icmp_gt 19 10 dX1_position_7 (by decide) rfl (by omega) (by omega) (fun h2 => ?_) (fun h2 => ?_)
    · refine g_iconst 20 dX1_position_19 rfl ?_
      exact hret _ _ _ _ dX1_position_20 rfl ⟨rfl, by rw [if_neg (by omega)]⟩
    · refine g_aload_n 11 dX1_position_10 rfl rfl ?_
      refine mg_positions hE 14 dX1_position_11 rfl ?_
      refine g_iload_n 15 dX1_position_14 rfl rfl ?_
      refine ml_positions hE 16 dX1_position_15 rfl (by omega) ?_
      refine g_goto 20 dX1_position_16 (by decide) ?_
      exact hret _ _ _ _ dX1_position_20 rfl ⟨rfl, by rw [if_pos (by omega)]⟩
theorem cm_most (u v : Int) (hu : -2147483648 ≤ u ∧ u ≤ 2147483647) (hv : -2147483648 ≤ v ∧ v ≤ 2147483647) : c_meti mW yX1_most cX1_most 3 .int (rk 3) true [u, v] MI (fun S z S' => S' = S ∧ rMost (S 0) (S 1) u v z) := by
  refine c_meti_of (own := RX1) (by decide) rfl mW_fst (fun _ => by simp [c_args]) ?_
  intro E h S0 hE hR hX hret
  show G E cX1_most 3 S0 0 [some (.inr (h 0)), some (.inl u), some (.inl v)] []
  refine g_aload_n 1 dX1_most_0 rfl rfl ?_
  refine g_iload_n 2 dX1_most_1 rfl rfl ?_
  refine g_iload_n 3 dX1_most_2 rfl rfl ?_
  refine g_calli (na := 2) (m_isPair u v hu hv) mW_ob (lw_V q235 q237 qs13 q26 q238) (by decide +kernel) rfl ⟨rfl, rfl⟩ hE (by rw [hR]; decide) 6 dX1_most_3 rfl [] rfl (by simp) trivial (fun z S1 hz => ?_)
  obtain ⟨hS1, hz⟩ := hz
  subst hS1
  have hz01 : z = 1 ∨ z = 0 := by rcases hz with ⟨q, -⟩ | ⟨q, -⟩ <;> omega
  refine g_if_eq 20 9 dX1_most_6 (by decide) rfl (by omega) (fun hc => ?_) (fun hc => ?_)
  · have hp : ¬ isPr u v := by
      rcases hz with ⟨q, -⟩ | ⟨-, q⟩
      · omega
      · exact q
    refine g_iconst 21 dX1_most_20 rfl ?_
    exact hret _ _ _ _ dX1_most_21 rfl ⟨rfl, Or.inl ⟨hp, rfl⟩⟩
  · have hp : isPr u v := by
      rcases hz with ⟨-, q⟩ | ⟨q, -⟩
      · exact q
      · omega
    have hp' := hp
    obtain ⟨p1, p2, p3⟩ := hp'
    have hh := pr_held hp
    refine g_aload_n 10 dX1_most_9 rfl rfl ?_
    refine g_iconst 11 dX1_most_10 rfl ?_
    refine g_iload_n 12 dX1_most_11 rfl rfl ?_
    refine g_ishl 13 dX1_most_12 rfl (by omega) ?_
    refine g_iload_n 14 dX1_most_13 rfl rfl ?_
    refine g_calli (na := 2) (m_leastSlack (2 ^ v.toNat) u hh.1 p1 hh.2) mW_ob (lw_V q259 q261 qs17 q26 q262) (by decide +kernel) rfl ⟨rfl, rfl⟩ hE (by rw [hR]; decide) 17 dX1_most_14 rfl [] rfl (by simp) hX.1 (fun m S2 hm => ?_)
    obtain ⟨hS2, hm⟩ := hm
    subst hS2
    refine g_goto 21 dX1_most_17 (by decide) ?_
    exact hret _ _ _ _ dX1_most_21 rfl ⟨rfl, Or.inr ⟨hp, hm⟩⟩
theorem cm_spread (u set : Int) (hu : -2147483648 ≤ u ∧ u ≤ 2147483647) (hs : -2147483648 ≤ set ∧ set ≤ 2147483647) : c_meti mW yX1_spread cX1_spread 3 .int (rk 3) true [u, set] MI (fun S z S' => S' = S ∧ rSpr (S 0) (S 1) u set z) := by
  refine c_meti_of (own := RX1) (by decide) rfl mW_fst (fun _ => by simp [c_args]) ?_
  intro E h S0 hE hR hX hret
  show G E cX1_spread 3 S0 0 [some (.inr (h 0)), some (.inl u), some (.inl set)] []
  have bad : ¬ okS u set → G E cX1_spread 3 S0 30 [some (.inr (h 0)), some (.inl u), some (.inl set)] [] := by
    intro hn
    refine g_iconst 31 dX1_spread_30 rfl ?_
    exact hret _ _ _ _ dX1_spread_31 rfl ⟨rfl, Or.inl ⟨hn, rfl⟩⟩
  refine g_iload_n 1 dX1_spread_0 rfl rfl ?_
  refine g_if_lt 30 4 dX1_spread_1 (by decide) rfl (by omega) (fun h1 => ?_) (fun h1 => ?_)
  · exact bad (fun q => by have := q.1; omega)
  · refine g_iload_n 5 dX1_spread_4 rfl rfl ?_
    refine g_bipush 7 dX1_spread_5 rfl (by decide) ?_
    refine g_icmp_gt 30 10 dX1_spread_7 (by decide) rfl (by omega) (by omega) (fun h2 => ?_) (fun h2 => ?_)
    · exact bad (fun q => by have := q.1; omega)
    · refine g_iload_n 11 dX1_spread_10 rfl rfl ?_
      refine g_iconst 12 dX1_spread_11 rfl ?_
      refine g_icmp_lt 30 15 dX1_spread_12 (by decide) rfl (by omega) (by omega) (fun h3 => ?_) (fun h3 => ?_)
      · exact bad (fun q => by have := q.2.1; omega)
      · refine g_iload_n 16 dX1_spread_15 rfl rfl ?_
        refine g_bipush 18 dX1_spread_16 rfl (by decide) ?_
        refine g_icmp_gt 30 21 dX1_spread_18 (by decide) rfl (by omega) (by omega) (fun h4 => ?_) (fun h4 => ?_)
        · exact bad (fun q => by have := q.2.2.1; omega)
        · refine g_aload_n 22 dX1_spread_21 rfl rfl ?_
          refine g_iload_n 23 dX1_spread_22 rfl rfl ?_
          refine g_iload_n 24 dX1_spread_23 rfl rfl ?_
          refine g_calli (na := 2) (m_in set u (by omega) (by omega)) mW_ob (lw_V q251 q253 qs16 q26 q254) (by decide +kernel) rfl ⟨rfl, rfl⟩ hE (by rw [hR]; decide) 27 dX1_spread_24 rfl [] rfl (by simp) trivial (fun z S1 hz => ?_)
          obtain ⟨hS1, hz⟩ := hz
          subst hS1
          by_cases hm : set / 2 ^ u.toNat % 2 = 1
          · rw [if_pos hm] at hz
            refine g_if_eq 32 30 dX1_spread_27 (by decide) rfl (by omega) (fun h5 => ?_) (fun h5 => ?_)
            · omega
            · exact bad (fun q => q.2.2.2 hm)
          · rw [if_neg hm] at hz
            refine g_if_eq 32 30 dX1_spread_27 (by decide) rfl (by omega) (fun h5 => ?_) (fun h5 => ?_)
            · refine g_aload_n 33 dX1_spread_32 rfl rfl ?_
              refine g_iload_n 34 dX1_spread_33 rfl rfl ?_
              refine g_iload_n 35 dX1_spread_34 rfl rfl ?_
              refine g_calli (na := 2) (m_leastSlack set u (by omega) (by omega) hm) mW_ob (lw_V q259 q261 qs17 q26 q262) (by decide +kernel) rfl ⟨rfl, rfl⟩ hE (by rw [hR]; decide) 38 dX1_spread_35 rfl [] rfl (by simp) hX.1 (fun m S2 hm2 => ?_)
              obtain ⟨hS2, hm2⟩ := hm2
              subst hS2
              exact hret _ _ _ _ dX1_spread_38 rfl ⟨rfl, Or.inr ⟨⟨by omega, by omega, by omega, hm⟩, hm2⟩⟩
            · omega
theorem cm_leastDebt (u v : Int) (hu : -2147483648 ≤ u ∧ u ≤ 2147483647) (hv : -2147483648 ≤ v ∧ v ≤ 2147483647) : c_meti mW yX1_leastDebt cX1_leastDebt 4 .int (rk 3) true [u, v] MI (fun S z S' => S' = S ∧ ∃ m : Int, (isPr u v → IsMin (S 0) (S 1) (2 ^ v.toNat) u m) ∧ rLst (S 0) u v m z) := by
  refine c_meti_of (own := RX1) (by decide) rfl mW_fst (fun _ => by simp [c_args]) ?_
  intro E h S0 hE hR hX hret
  show G E cX1_leastDebt 4 S0 0 [some (.inr (h 0)), some (.inl u), some (.inl v), none] []
  refine g_aload_n 1 dX1_leastDebt_0 rfl rfl ?_
  refine g_iload_n 2 dX1_leastDebt_1 rfl rfl ?_
  refine g_iload_n 3 dX1_leastDebt_2 rfl rfl ?_
  refine g_calli (na := 2) (m_isPair u v hu hv) mW_ob (lw_V q235 q237 qs13 q26 q238) (by decide +kernel) rfl ⟨rfl, rfl⟩ hE (by rw [hR]; decide) 6 dX1_leastDebt_3 rfl [] rfl (by simp) trivial (fun z S1 hz => ?_)
  obtain ⟨hS1, hz⟩ := hz
  subst hS1
  have hz01 : z = 1 ∨ z = 0 := by rcases hz with ⟨q, -⟩ | ⟨q, -⟩ <;> omega
  refine g_if_eq 14 9 dX1_leastDebt_6 (by decide) rfl (by omega) (fun hc => ?_) (fun hc => ?_)
  · have hp : ¬ isPr u v := by
      rcases hz with ⟨q, -⟩ | ⟨-, q⟩
      · omega
      · exact q
    refine g_ldc hE (-100000) 16 q299 (by decide) dX1_leastDebt_14 rfl ?_
    exact hret _ _ _ _ dX1_leastDebt_16 rfl ⟨rfl, 0, fun q => absurd q hp, Or.inl ⟨fun q => hp q.1, rfl⟩⟩
  · have hp : isPr u v := by
      rcases hz with ⟨-, q⟩ | ⟨q, -⟩
      · exact q
      · omega
    have hp' := hp
    obtain ⟨p1, p2, p3⟩ := hp'
    refine g_iload_n 10 dX1_leastDebt_9 rfl rfl ?_
    refine g_iload_n 11 dX1_leastDebt_10 rfl rfl ?_
    refine g_icmp_le 17 14 dX1_leastDebt_11 (by decide) rfl (by omega) (by omega) (fun h1 => ?_) (fun h1 => ?_)
    · have hh := pr_held hp
      have hT1 := MI_T hX (7 * u + v) (by omega) (by omega)
      have hT2 := MI_T hX (7 * v + u) (by omega) (by omega)
      refine g_aload_n 18 dX1_leastDebt_17 rfl rfl ?_
      refine g_iconst 19 dX1_leastDebt_18 rfl ?_
      refine g_iload_n 20 dX1_leastDebt_19 rfl rfl ?_
      refine g_ishl 21 dX1_leastDebt_20 rfl (by omega) ?_
      refine g_iload_n 22 dX1_leastDebt_21 rfl rfl ?_
      refine g_calli (na := 2) (m_leastSlack (2 ^ v.toNat) u hh.1 p1 hh.2) mW_ob (lw_V q259 q261 qs17 q26 q262) (by decide +kernel) rfl ⟨rfl, rfl⟩ hE (by rw [hR]; decide) 25 dX1_leastDebt_22 rfl [] rfl (by simp) hX.1 (fun m S2 hm => ?_)
      obtain ⟨hS2, hm⟩ := hm
      subst hS2
      obtain ⟨F, hI⟩ := hX.1
      have hmr := isMin_rng hI hm
      refine g_aload_n 26 dX1_leastDebt_25 rfl rfl ?_
      refine mg_trusts hE 29 dX1_leastDebt_26 rfl ?_
      refine g_bipush 31 dX1_leastDebt_29 rfl (by decide) ?_
      refine g_iload_n 32 dX1_leastDebt_31 rfl rfl ?_
      refine g_imul 33 dX1_leastDebt_32 rfl ?_
      refine g_iload_n 34 dX1_leastDebt_33 rfl rfl ?_
      refine g_iadd 35 dX1_leastDebt_34 rfl ?_
      refine ml_trusts hE 36 dX1_leastDebt_35 rfl (by omega) ?_
      refine g_isub 37 dX1_leastDebt_36 rfl ?_
      refine g_istore_n 38 dX1_leastDebt_37 rfl (by decide) ?_
      refine g_iload_n 39 dX1_leastDebt_38 rfl rfl ?_
      refine g_ineg 40 dX1_leastDebt_39 rfl ?_
      refine g_aload_n 41 dX1_leastDebt_40 rfl rfl ?_
      refine mg_trusts hE 44 dX1_leastDebt_41 rfl ?_
      refine g_bipush 46 dX1_leastDebt_44 rfl (by decide) ?_
      refine g_iload_n 47 dX1_leastDebt_46 rfl rfl ?_
      refine g_imul 48 dX1_leastDebt_47 rfl ?_
      refine g_iload_n 49 dX1_leastDebt_48 rfl rfl ?_
      refine g_iadd 50 dX1_leastDebt_49 rfl ?_
      refine ml_trusts hE 51 dX1_leastDebt_50 rfl (by omega) ?_
      refine g_ineg 52 dX1_leastDebt_51 rfl ?_
      refine g_icmp_le 60 55 dX1_leastDebt_52 (by decide) rfl (by omega) (by omega) (fun h2 => ?_) (fun h2 => ?_)
      · refine g_aload_n 61 dX1_leastDebt_60 rfl rfl ?_
        refine mg_trusts hE 64 dX1_leastDebt_61 rfl ?_
        refine g_bipush 66 dX1_leastDebt_64 rfl (by decide) ?_
        refine g_iload_n 67 dX1_leastDebt_66 rfl rfl ?_
        refine g_imul 68 dX1_leastDebt_67 rfl ?_
        refine g_iload_n 69 dX1_leastDebt_68 rfl rfl ?_
        refine g_iadd 70 dX1_leastDebt_69 rfl ?_
        refine ml_trusts hE 71 dX1_leastDebt_70 rfl (by omega) ?_
        refine g_ineg 72 dX1_leastDebt_71 rfl ?_
        exact hret _ _ _ _ dX1_leastDebt_72 rfl ⟨rfl, m, fun _ => hm, Or.inr ⟨⟨hp, h1⟩, by rw [if_neg (by omega)]⟩⟩
      · refine g_iload_n 56 dX1_leastDebt_55 rfl rfl ?_
        refine g_ineg 57 dX1_leastDebt_56 rfl ?_
        refine g_goto 72 dX1_leastDebt_57 (by decide) ?_
        exact hret _ _ _ _ dX1_leastDebt_72 rfl ⟨rfl, m, fun _ => hm, Or.inr ⟨⟨hp, h1⟩, by rw [if_pos (by omega)]⟩⟩
    · refine g_ldc hE (-100000) 16 q299 (by decide) dX1_leastDebt_14 rfl ?_
      obtain ⟨m, hm⟩ := isMin_ex (T := S1 0) (P := S1 1) hp
      exact hret _ _ _ _ dX1_leastDebt_16 rfl ⟨rfl, m, fun _ => hm, Or.inl ⟨fun q => by have := q.2; omega, rfl⟩⟩
theorem cm_greatestDebt (u v : Int) (hu : -2147483648 ≤ u ∧ u ≤ 2147483647) (hv : -2147483648 ≤ v ∧ v ≤ 2147483647) : c_meti mW yX1_greatestDebt cX1_greatestDebt 4 .int (rk 3) true [u, v] MI (fun S z S' => S' = S ∧ ∃ m : Int, (isPr u v → IsMin (S 0) (S 1) (2 ^ u.toNat) v m) ∧ rGrt (S 0) u v m z) := by
  refine c_meti_of (own := RX1) (by decide) rfl mW_fst (fun _ => by simp [c_args]) ?_
  intro E h S0 hE hR hX hret
  show G E cX1_greatestDebt 4 S0 0 [some (.inr (h 0)), some (.inl u), some (.inl v), none] []
  refine g_aload_n 1 dX1_greatestDebt_0 rfl rfl ?_
  refine g_iload_n 2 dX1_greatestDebt_1 rfl rfl ?_
  refine g_iload_n 3 dX1_greatestDebt_2 rfl rfl ?_
  refine g_calli (na := 2) (m_isPair u v hu hv) mW_ob (lw_V q235 q237 qs13 q26 q238) (by decide +kernel) rfl ⟨rfl, rfl⟩ hE (by rw [hR]; decide) 6 dX1_greatestDebt_3 rfl [] rfl (by simp) trivial (fun z S1 hz => ?_)
  obtain ⟨hS1, hz⟩ := hz
  subst hS1
  have hz01 : z = 1 ∨ z = 0 := by rcases hz with ⟨q, -⟩ | ⟨q, -⟩ <;> omega
  refine g_if_eq 14 9 dX1_greatestDebt_6 (by decide) rfl (by omega) (fun hc => ?_) (fun hc => ?_)
  · have hp : ¬ isPr u v := by
      rcases hz with ⟨q, -⟩ | ⟨-, q⟩
      · omega
      · exact q
    refine g_ldc hE (-100000) 16 q299 (by decide) dX1_greatestDebt_14 rfl ?_
    exact hret _ _ _ _ dX1_greatestDebt_16 rfl ⟨rfl, 0, fun q => absurd q hp, Or.inl ⟨fun q => hp q.1, rfl⟩⟩
  · have hp : isPr u v := by
      rcases hz with ⟨-, q⟩ | ⟨q, -⟩
      · exact q
      · omega
    have hp' := hp
    obtain ⟨p1, p2, p3⟩ := hp'
    refine g_iload_n 10 dX1_greatestDebt_9 rfl rfl ?_
    refine g_iload_n 11 dX1_greatestDebt_10 rfl rfl ?_
    refine g_icmp_le 17 14 dX1_greatestDebt_11 (by decide) rfl (by omega) (by omega) (fun h1 => ?_) (fun h1 => ?_)
    · have hh := pr_held (pr_sym hp)
      have hT1 := MI_T hX (7 * u + v) (by omega) (by omega)
      have hT2 := MI_T hX (7 * v + u) (by omega) (by omega)
      refine g_aload_n 18 dX1_greatestDebt_17 rfl rfl ?_
      refine g_iconst 19 dX1_greatestDebt_18 rfl ?_
      refine g_iload_n 20 dX1_greatestDebt_19 rfl rfl ?_
      refine g_ishl 21 dX1_greatestDebt_20 rfl (by omega) ?_
      refine g_iload_n 22 dX1_greatestDebt_21 rfl rfl ?_
      refine g_calli (na := 2) (m_leastSlack (2 ^ u.toNat) v hh.1 p2 hh.2) mW_ob (lw_V q259 q261 qs17 q26 q262) (by decide +kernel) rfl ⟨rfl, rfl⟩ hE (by rw [hR]; decide) 25 dX1_greatestDebt_22 rfl [] rfl (by simp) hX.1 (fun m S2 hm => ?_)
      obtain ⟨hS2, hm⟩ := hm
      subst hS2
      obtain ⟨F, hI⟩ := hX.1
      have hmr := isMin_rng hI hm
      refine g_aload_n 26 dX1_greatestDebt_25 rfl rfl ?_
      refine mg_trusts hE 29 dX1_greatestDebt_26 rfl ?_
      refine g_bipush 31 dX1_greatestDebt_29 rfl (by decide) ?_
      refine g_iload_n 32 dX1_greatestDebt_31 rfl rfl ?_
      refine g_imul 33 dX1_greatestDebt_32 rfl ?_
      refine g_iload_n 34 dX1_greatestDebt_33 rfl rfl ?_
      refine g_iadd 35 dX1_greatestDebt_34 rfl ?_
      refine ml_trusts hE 36 dX1_greatestDebt_35 rfl (by omega) ?_
      refine g_isub 37 dX1_greatestDebt_36 rfl ?_
      refine g_istore_n 38 dX1_greatestDebt_37 rfl (by decide) ?_
      refine g_iload_n 39 dX1_greatestDebt_38 rfl rfl ?_
      refine g_aload_n 40 dX1_greatestDebt_39 rfl rfl ?_
      refine mg_trusts hE 43 dX1_greatestDebt_40 rfl ?_
      refine g_bipush 45 dX1_greatestDebt_43 rfl (by decide) ?_
      refine g_iload_n 46 dX1_greatestDebt_45 rfl rfl ?_
      refine g_imul 47 dX1_greatestDebt_46 rfl ?_
      refine g_iload_n 48 dX1_greatestDebt_47 rfl rfl ?_
      refine g_iadd 49 dX1_greatestDebt_48 rfl ?_
      refine ml_trusts hE 50 dX1_greatestDebt_49 rfl (by omega) ?_
      refine g_icmp_ge 57 53 dX1_greatestDebt_50 (by decide) rfl (by omega) (by omega) (fun h2 => ?_) (fun h2 => ?_)
      · refine g_aload_n 58 dX1_greatestDebt_57 rfl rfl ?_
        refine mg_trusts hE 61 dX1_greatestDebt_58 rfl ?_
        refine g_bipush 63 dX1_greatestDebt_61 rfl (by decide) ?_
        refine g_iload_n 64 dX1_greatestDebt_63 rfl rfl ?_
        refine g_imul 65 dX1_greatestDebt_64 rfl ?_
        refine g_iload_n 66 dX1_greatestDebt_65 rfl rfl ?_
        refine g_iadd 67 dX1_greatestDebt_66 rfl ?_
        refine ml_trusts hE 68 dX1_greatestDebt_67 rfl (by omega) ?_
        exact hret _ _ _ _ dX1_greatestDebt_68 rfl ⟨rfl, m, fun _ => hm, Or.inr ⟨⟨hp, h1⟩, by rw [if_neg (by omega)]⟩⟩
      · refine g_iload_n 54 dX1_greatestDebt_53 rfl rfl ?_
        refine g_goto 68 dX1_greatestDebt_54 (by decide) ?_
        exact hret _ _ _ _ dX1_greatestDebt_68 rfl ⟨rfl, m, fun _ => hm, Or.inr ⟨⟨hp, h1⟩, by rw [if_pos (by omega)]⟩⟩
    · refine g_ldc hE (-100000) 16 q299 (by decide) dX1_greatestDebt_14 rfl ?_
      obtain ⟨m, hm⟩ := isMin_ex (T := S1 0) (P := S1 1) (pr_sym hp)
      exact hret _ _ _ _ dX1_greatestDebt_16 rfl ⟨rfl, m, fun _ => hm, Or.inl ⟨fun q => by have := q.2; omega, rfl⟩⟩
theorem cm_open (a : Int) (ha : -2147483648 ≤ a ∧ a ≤ 2147483647) : c_meti mW yX1_open cX1_open 4 .int (rk 4) true [a] MI (fun S z S' => S' = S ∧ rOpn (S 0) (S 1) a z) := by
  refine c_meti_of (own := RX1) (by decide) rfl mW_fst (fun _ => by simp [c_args]) ?_
  intro E h S hE hR hX hret
  show G E cX1_open 4 S 0 [some (.inr (h 0)), some (.inl a), none, none] []
  obtain ⟨F, hI⟩ := hX.1
  refine g_iconst 1 dX1_open_0 rfl ?_
  refine g_istore_n 2 dX1_open_1 rfl (by decide) ?_
  refine g_iconst 3 dX1_open_2 rfl ?_
  refine g_istore_n 4 dX1_open_3 rfl (by decide) ?_
  suffices loop : ∀ (n i : Nat) (c r : Int) (mm : Int → Int), c = i → c ≤ 49 → 49 - c < n → (∀ q : Int, 0 ≤ q → q < c → q / 7 ≠ q % 7 → IsMin (S 0) (S 1) (2 ^ (q % 7).toNat) (q / 7) (mm q)) → r = sg (fun q => if q / 7 ≠ q % 7 ∧ a ≤ mm q then 1 else 0) i → G E cX1_open 4 S 4 [some (.inr (h 0)), some (.inl a), some (.inl r), some (.inl c)] [] from loop 50 0 0 0 (fun _ => 0) rfl (by decide) (by decide) (fun q q1 q2 => by omega) rfl
  intro n
  induction n with
  | zero => intro i c r mm hi h1 hn; omega
  | succ n ih =>
    intro i c r mm hi h1 hn hmm hr
    refine g_iload_n 5 dX1_open_4 rfl rfl ?_
    refine g_bipush 7 dX1_open_5 rfl (by decide) ?_
    refine g_icmp_ge 51 10 dX1_open_7 (by decide) rfl (by omega) (by omega) (fun hc => ?_) (fun hc => ?_)
    · refine g_iload_n 52 dX1_open_51 rfl rfl ?_
      have hi49 : i = 49 := by omega
      subst hi49
      exact hret _ _ _ _ dX1_open_52 rfl ⟨rfl, mm, fun q q1 q2 => hmm q q1 (by omega), hr⟩
    · refine g_iload_n 11 dX1_open_10 rfl rfl ?_
      refine g_bipush 13 dX1_open_11 rfl (by decide) ?_
      refine g_idiv 14 dX1_open_13 rfl (by omega) (by omega) ?_
      refine g_iload_n 15 dX1_open_14 rfl rfl ?_
      refine g_bipush 17 dX1_open_15 rfl (by decide) ?_
      refine g_irem 18 dX1_open_17 rfl (by omega) (by omega) ?_
      refine g_icmp_eq 43 21 dX1_open_18 (by decide) rfl (by omega) (by omega) (fun he => ?_) (fun he => ?_)
      · refine g_iload_n 44 dX1_open_43 rfl rfl ?_
        refine g_istore_n 45 dX1_open_44 rfl (by decide) ?_
        refine g_iinc 48 dX1_open_45 rfl (by decide) rfl ?_
        refine g_goto 4 dX1_open_48 (by decide) ?_
        refine ih (i + 1) (c + 1) r mm (by omega) (by omega) (by omega) (fun q q1 q2 q3 => hmm q q1 (by
          have : q ≠ c := fun e => by rw [e] at q3; exact q3 he
          omega) q3) ?_
        show r = sg _ i + (if (i : Int) / 7 ≠ (i : Int) % 7 ∧ a ≤ mm i then 1 else 0)
        rw [← hi, if_neg (fun q => q.1 he), ← hr]
        omega
      · refine g_aload_n 22 dX1_open_21 rfl rfl ?_
        refine g_iload_n 23 dX1_open_22 rfl rfl ?_
        refine g_bipush 25 dX1_open_23 rfl (by decide) ?_
        refine g_idiv 26 dX1_open_25 rfl (by omega) (by omega) ?_
        refine g_iload_n 27 dX1_open_26 rfl rfl ?_
        refine g_bipush 29 dX1_open_27 rfl (by decide) ?_
        refine g_irem 30 dX1_open_29 rfl (by omega) (by omega) ?_
        refine g_calli (na := 2) (cm_most (c / 7) (c % 7) (by omega) (by omega)) mW_ob (lw_V q332 q288 q289 q26 q290) (by decide +kernel) rfl ⟨rfl, rfl⟩ hE (by rw [hR]; decide) 33 dX1_open_30 rfl [] rfl (by simp) hX (fun found S1 hS1 => ?_)
        obtain ⟨hS1, hm⟩ := hS1
        subst hS1
        have hmin : IsMin (S1 0) (S1 1) (2 ^ (c % 7).toNat) (c / 7) found := by
          rcases hm with ⟨q, -⟩ | ⟨-, q⟩
          · exact absurd ⟨by omega, by omega, he⟩ q
          · exact q
        have hrng := isMin_rng hI hmin
        have go : ∀ w : Int, w = r + (if a ≤ found then 1 else 0) → G E cX1_open 4 S1 44 [some (.inr (h 0)), some (.inl a), some (.inl r), some (.inl c)] [.inl w] := by
          intro w hw
          refine g_istore_n 45 dX1_open_44 rfl (by decide) ?_
          refine g_iinc 48 dX1_open_45 rfl (by decide) rfl ?_
          refine g_goto 4 dX1_open_48 (by decide) ?_
          refine ih (i + 1) (c + 1) w (ua mm c found) (by omega) (by omega) (by omega) (fun q q1 q2 q3 => ?_) ?_
          · by_cases e : q = c
            · rw [e, ua_s]
              exact hmin
            · rw [ua_n e]
              exact hmm q q1 (by omega) q3
          · show w = sg _ i + (if (i : Int) / 7 ≠ (i : Int) % 7 ∧ a ≤ ua mm c found i then 1 else 0)
            rw [sg_congr (g := fun q => if q / 7 ≠ q % 7 ∧ a ≤ mm q then 1 else 0) (fun q q1 q2 => by rw [ua_n (by omega)]), ← hr, hw, ← hi, ua_s]
            by_cases e : a ≤ found
            · rw [if_pos e, if_pos ⟨he, e⟩]
            · rw [if_neg e, if_neg (fun q => e q.2)]
        refine g_iload_n 34 dX1_open_33 rfl rfl ?_
        refine g_icmp_lt 43 37 dX1_open_34 (by decide) rfl (by omega) (by omega) (fun h4 => ?_) (fun h4 => ?_)
        · refine g_iload_n 44 dX1_open_43 rfl rfl ?_
          exact go r (by rw [if_neg (by omega)]; omega)
        · refine g_iload_n 38 dX1_open_37 rfl rfl ?_
          refine g_iconst 39 dX1_open_38 rfl ?_
          refine g_iadd 40 dX1_open_39 rfl ?_
          refine g_goto 44 dX1_open_40 (by decide) ?_
          exact go _ (by rw [if_pos h4])
end
section
/-! ===== CreditNetworkModel: what debts stands on ===== -/
def MO (d : Int → Int → Int) (O : Int → Int) : Prop := ∀ u v : Int, 0 ≤ u → u < 7 → 0 ≤ v → v < 7 → O (7 * u + v) = d u v
theorem mo_step {d : Int → Int → Int} {O : Int → Int} {u v a : Int} (h : MO d O) (hu : 0 ≤ u ∧ u < 7) (hv : 0 ≤ v ∧ v < 7) (huv : u ≠ v) : MO (up2 d u v a) (ua (ua O (7 * u + v) (O (7 * u + v) + a)) (7 * v + u) (ua O (7 * u + v) (O (7 * u + v) + a) (7 * v + u) - a)) := by
  intro x y q1 q2 q3 q4
  by_cases c1 : x = u ∧ y = v
  · obtain ⟨rfl, rfl⟩ := c1
    rw [ua_n (by omega), ua_s, up2_1, h x y q1 q2 q3 q4]
  · by_cases c2 : x = v ∧ y = u
    · obtain ⟨rfl, rfl⟩ := c2
      rw [ua_s, ua_n (by omega), up2_2 huv, h x y q1 q2 q3 q4]
    · rw [ua_n (by omega), ua_n (by omega), up2_n c1 c2, h x y q1 q2 q3 q4]
theorem mo_rng {T pt O : Int → Int} {e : Int → Int → Int} (hT : ∀ j : Int, 0 ≤ j → j < 49 → 0 ≤ T j ∧ T j ≤ 1000) (hF : Flo 7 (mT T) e pt) (h : MO e O) {j : Int} (h0 : 0 ≤ j) (h1 : j < 49) : -1000 ≤ O j ∧ O j ≤ 1000 := by
  have e0 : 7 * (j / 7) + j % 7 = j := by omega
  have q := h (j / 7) (j % 7) (by omega) (by omega) (by omega) (by omega)
  rw [e0] at q
  have a1 := hF.1 (j / 7) (j % 7) (by omega) (by omega) (by omega) (by omega)
  have a2 : e (j / 7) (j % 7) ≤ T (7 * (j % 7) + j / 7) := hF.2.1 (j / 7) (j % 7) (by omega) (by omega) (by omega) (by omega)
  have a3 : e (j % 7) (j / 7) ≤ T (7 * (j / 7) + j % 7) := hF.2.1 (j % 7) (j / 7) (by omega) (by omega) (by omega) (by omega)
  have b1 := hT (7 * (j % 7) + j / 7) (by omega) (by omega)
  have b2 := hT (7 * (j / 7) + j % 7) (by omega) (by omega)
  omega
theorem bf_pot7 {n : Nat} {Ed : Int → Int → Prop} {cs : Int → Int → Int} {pt : Int → Int} {dist : Int → Int} (hed : ∀ u v : Int, 0 ≤ u → u < n → 0 ≤ v → v < n → Ed u v → dist u < 1000 → dist v ≤ dist u + cs u v) (hd : ∀ v : Int, 0 ≤ v → v < n → dist v < 1000 → dist v ≤ 400) (hpt : ∀ p q : Int, 0 ≤ p → p < n → 0 ≤ q → q < n → Ed p q → pt q ≤ pt p + cs p q) (hcs : ∀ p q : Int, -1 ≤ cs p q ∧ cs p q ≤ 1) :
    ∃ pt' : Int → Int, (∀ p q : Int, 0 ≤ p → p < n → 0 ≤ q → q < n → Ed p q → pt' q ≤ pt' p + cs p q) ∧ (∀ v : Int, dist v < 1000 → pt' v = dist v) := by
  refine ⟨fun v => if dist v < 1000 then dist v else pt v + (1001 + sg (fun x => neg (pt x)) n), fun p q q1 q2 q3 q4 q5 => ?_, fun v h => if_pos h⟩
  show (if dist q < 1000 then dist q else pt q + (1001 + sg (fun x => neg (pt x)) n)) ≤ (if dist p < 1000 then dist p else pt p + (1001 + sg (fun x => neg (pt x)) n)) + cs p q
  have hc := hcs p q
  by_cases c1 : dist p < 1000
  · have e := hed p q q1 q2 q3 q4 q5 c1
    have e2 := hd p q1 q2 c1
    rw [if_pos c1, if_pos (by omega)]
    exact e
  · rw [if_neg c1]
    by_cases c2 : dist q < 1000
    · rw [if_pos c2]
      have e2 := hd q q3 q4 c2
      have e3 := sg_el (f := fun x => neg (pt x)) (n := n) q1 q2 (fun x _ _ => neg_nn _)
      have e4 : -pt p ≤ neg (pt p) := by unfold neg; split <;> omega
      have e5 : neg (pt p) ≤ sg (fun x => neg (pt x)) n := e3
      omega
    · rw [if_neg c2]
      have := hpt p q q1 q2 q3 q4 q5
      omega
/-- the cheapest ways to all from those who have to give -/
def Chm (c0 d : Int → Int → Int) (rt : Int → Prop) (dist cf : Int → Int) : Prop := ∃ dep pt : Int → Int, Tre 7 c0 d dist cf dep 1000 ∧ Flo 7 c0 d pt ∧ (∀ v : Int, dist v < 1000 → pt v = dist v) ∧ (∀ v : Int, 0 ≤ v → v < 7 → dist v < 1000 → 0 ≤ cf v ∨ (cf v = -1 ∧ rt v)) ∧ (∀ v : Int, 0 ≤ v → v < 7 → rt v → dist v < 1000) ∧ (∀ u v : Int, 0 ≤ u → u < 7 → 0 ≤ v → v < 7 → d u v < c0 u v → dist u < 1000 → dist v < 1000) ∧ (∀ v : Int, 0 ≤ v → v < 7 → -400 ≤ dist v ∧ dist v ≤ 1000)
theorem chm_of {c0 d : Int → Int → Int} {rt : Int → Prop} {pt dist cf tau rd : Int → Int} (hF : Flo 7 c0 d pt) (h : Bf 7 (fun u v => d u v < c0 u v) (cst d) pt rt (fun u v => 7 * u + v) 1000 dist cf tau rd 7 49 343) : Chm c0 d rt dist cf := by
  have hi : ∀ u v : Int, 0 ≤ u → u < (7 : Nat) → 0 ≤ v → v < (7 : Nat) → 0 ≤ 7 * u + v ∧ 7 * u + v < 49 := fun u v q1 q2 q3 q4 => by omega
  obtain ⟨dep, h1, h2⟩ := bf_end (n := 7) (ix := fun u v => 7 * u + v) h hi (fun p q q1 q2 q3 q4 q5 => hF.2.2 p q q1 q2 q3 q4 q5) (by decide)
  have hd : ∀ v : Int, 0 ≤ v → v < 7 → dist v < 1000 → -343 ≤ dist v ∧ dist v ≤ 343 := fun v q1 q2 q3 => by
    obtain ⟨-, -, -, -, -, -, b6, b7⟩ := h.1 v q1 q2 q3
    exact ⟨b6, b7⟩
  obtain ⟨pt', p1, p2⟩ := bf_pot7 (n := 7) h2 (fun v q1 q2 q3 => by have := hd v q1 q2 q3; omega) (fun p q q1 q2 q3 q4 q5 => hF.2.2 p q q1 q2 q3 q4 q5) (fun p q => cst_rng d p q)
  refine ⟨dep, pt', fun v q1 q2 q3 => ?_, ⟨hF.1, hF.2.1, p1⟩, p2, fun v q1 q2 q3 => ?_, fun v q1 q2 q3 => (h.2.1 v q1 q2 q3).1, fun u v q1 q2 q3 q4 q5 q6 => ?_, fun v q1 q2 => ?_⟩
  · obtain ⟨a1, a2, a3⟩ := h1 v q1 q2 q3
    refine ⟨a1, a2, fun q => ?_⟩
    rcases a3 with ⟨c, -⟩ | ⟨b1, b2, b3, b4, b5, b6, b7⟩
    · omega
    · exact ⟨b2, b3, b4, b5, b6⟩
  · obtain ⟨-, -, a3⟩ := h1 v q1 q2 q3
    rcases a3 with ⟨c1, c2, -⟩ | ⟨b1, -⟩
    · exact Or.inr ⟨c1, c2⟩
    · exact Or.inl b1
  · have e1 := h2 u v q1 q2 q3 q4 q5 q6
    have e2 := hd u q1 q2 q6
    have e3 := cst_rng d u v
    omega
  · by_cases c : dist v < 1000
    · have := hd v q1 q2 c
      omega
    · have := (h.2.2.1 v q1 q2 c).1
      omega
theorem flo_low {c0 d : Int → Int → Int} {pt : Int → Int} (h : Flo 7 c0 d pt) : ∃ pt' : Int → Int, Flo 7 c0 d pt' ∧ ∀ v : Int, 0 ≤ v → v < 7 → pt' v ≤ 0 := by
  refine ⟨fun v => pt v - sg (fun x => pos (pt x)) 7, ⟨h.1, h.2.1, fun u v q1 q2 q3 q4 q5 => ?_⟩, fun v q1 q2 => ?_⟩
  · have := h.2.2 u v q1 q2 q3 q4 q5
    show pt v - sg (fun x => pos (pt x)) 7 ≤ pt u - sg (fun x => pos (pt x)) 7 + cst d u v
    omega
  · show pt v - sg (fun x => pos (pt x)) 7 ≤ 0
    have e3 : pos (pt v) ≤ sg (fun x => pos (pt x)) 7 := sg_el (f := fun x => pos (pt x)) (n := 7) q1 q2 (fun x _ _ => pos_nn _)
    have e4 : pt v ≤ pos (pt v) := by unfold pos; split <;> omega
    omega
/-- nobody who lacks something can be reached: nobody lacks anything -/
theorem m_all {T P F R : Int → Int} {d : Int → Int → Int} {pt dist : Int → Int} (hI : InvF T P F) (hF : Flo 7 (mT T) d pt) (hr : ∀ x : Int, 0 ≤ x → x < 7 → sg (d x) 7 = -(R x)) (hroot : ∀ v : Int, 0 ≤ v → v < 7 → P v < R v → dist v < 1000) (hcl : ∀ u v : Int, 0 ≤ u → u < 7 → 0 ≤ v → v < 7 → d u v < mT T u v → dist u < 1000 → dist v < 1000) (hno : ∀ v : Int, 0 ≤ v → v < 7 → ¬ (R v < P v ∧ dist v < 1000)) : ∀ x : Int, 0 ≤ x → x < 7 → R x = P x := by
  have hz : ∃ z : Int → Bool, ∀ v : Int, z v = true ↔ dist v < 1000 := ⟨fun v => decide (dist v < 1000), fun v => by simp⟩
  obtain ⟨z, hz⟩ := hz
  have e1 : cap d 7 z = cap (mT T) 7 z := cap_congr (fun u v q1 q2 q3 q4 q5 q6 => by
    have h1 := hF.2.1 u v q1 q2 q3 q4
    by_cases c : d u v < mT T u v
    · have := (hz v).mpr (hcl u v q1 q2 q3 q4 c ((hz u).mp q5))
      rw [q6] at this
      cases this
    · omega)
  have e2 := cap_row (w := d) (n := 7) (z := z)
  rw [sg_pair hF.1] at e2
  have e3 : sg (fun u => if z u = true then sg (d u) 7 else 0) 7 = sg (fun u => if z u = true then -(R u) else 0) 7 := sg_congr (fun u q1 q2 => by rw [hr u q1 q2])
  have hP0 := inv_P0 hI
  have e6 := inv_pos hI (mkS z)
  rw [slk_cap (z := z) (fun x q1 q2 => by rw [mkS_in z q1 q2]; cases z x <;> simp) hP0] at e6
  have e7 : sg (fun u => if z u = true then R u - P u else 0) 7 + (sg (fun u => if z u = true then -(R u) else 0) 7 + sg (fun u => if z u = true then P u else 0) 7) = 0 := by
    rw [← sg_add, ← sg_add]
    refine sg_zero (fun u _ _ => ?_)
    by_cases c : z u = true
    · rw [if_pos c, if_pos c, if_pos c]; omega
    · rw [if_neg c, if_neg c, if_neg c]; omega
  have hf0 := sg_0all (f := fun u => if z u = true then R u - P u else 0) (n := 7) (fun u q1 q2 => by
    show 0 ≤ if z u = true then R u - P u else 0
    by_cases c : z u = true
    · rw [if_pos c]
      have := hno u q1 q2
      have := (hz u).mp c
      omega
    · rw [if_neg c]; exact Int.le_refl _) (by omega)
  have hle : ∀ u : Int, 0 ≤ u → u < 7 → R u ≤ P u := by
    intro u q1 q2
    by_cases c : z u = true
    · have h1 : (if z u = true then R u - P u else 0) = 0 := hf0 u q1 q2
      rw [if_pos c] at h1
      omega
    · rcases Int.lt_or_le (P u) (R u) with q | q
      · exact absurd ((hz u).mpr (hroot u q1 q2 q)) c
      · exact q
  have eT := cap_row (w := d) (n := 7) (z := fun _ => true)
  rw [sg_pair hF.1, cap_all] at eT
  have eR : sg (fun u => -(R u)) 7 = 0 := by
    rw [← sg_congr (f := fun u => if (fun _ : Int => true) u = true then sg (d u) 7 else 0) (g := fun u => -(R u)) (fun u q1 q2 => by
      show (if true = true then sg (d u) 7 else 0) = -(R u)
      rw [if_pos rfl, hr u q1 q2])]
    rw [eT]
    rfl
  have hs : sg (fun u => P u - R u) 7 = 0 := by
    have : sg (fun u => P u + -(R u)) 7 = sg P 7 + sg (fun u => -(R u)) 7 := sg_add
    rw [sg_congr (f := fun u => P u - R u) (g := fun u => P u + -(R u)) (fun u _ _ => by omega), this, hP0, eR]
    rfl
  have hz0 := sg_0all (f := fun u => P u - R u) (n := 7) (fun u q1 q2 => by
    show 0 ≤ P u - R u
    have := hle u q1 q2
    omega) (by omega)
  intro x q1 q2
  have h1 : P x - R x = 0 := hz0 x q1 q2
  omega
theorem cap_12 {w : Int → Int → Int} {z : Int → Bool} (h : ∀ u v : Int, 0 ≤ u → u < 7 → 0 ≤ v → v < 7 → w u v ≤ 1000) : cap w 7 z ≤ 12000 := by
  have h1 : cap w 7 z ≤ cap (fun _ _ => 1000) 7 z := sg_le (fun u q1 q2 => sg_le (fun v q3 q4 => by
    show (if z u = true ∧ z v = false then w u v else 0) ≤ (if z u = true ∧ z v = false then 1000 else 0)
    split
    · exact h u v q1 q2 q3 q4
    · exact Int.le_refl _))
  have hk0 : 0 ≤ sg (fun u => if z u = true then (1 : Int) else 0) 7 := sg_nn (fun u _ _ => by split <;> decide)
  have hk7 : sg (fun u => if z u = true then (1 : Int) else 0) 7 ≤ sg (fun _ => 1) 7 := sg_le (fun u _ _ => by
    show (if z u = true then (1 : Int) else 0) ≤ 1
    split <;> decide)
  rw [sg_const] at hk7
  have h2 : cap (fun _ _ => 1000) 7 z = (1000 * (7 - sg (fun u => if z u = true then (1 : Int) else 0) 7)) * sg (fun u => if z u = true then (1 : Int) else 0) 7 := by
    rw [← sg_mul]
    refine sg_congr (fun u _ _ => ?_)
    show sg (fun v => if z u = true ∧ z v = false then (1000 : Int) else 0) 7 = (1000 * (7 - sg (fun u => if z u = true then (1 : Int) else 0) 7)) * (if z u = true then (1 : Int) else 0)
    by_cases c : z u = true
    · rw [if_pos c, Int.mul_one]
      have e : sg (fun v => if z u = true ∧ z v = false then (1000 : Int) else 0) 7 = sg (fun v => 1000 * (1 - (if z v = true then (1 : Int) else 0))) 7 := sg_congr (fun v _ _ => by
        cases hv : z v <;> simp [c])
      rw [e, sg_mul, sg_sub, sg_const]
      rfl
    · rw [if_neg c, Int.mul_zero]
      refine sg_zero (fun v _ _ => ?_)
      rw [if_neg (fun q => c q.1)]
  generalize sg (fun u => if z u = true then (1 : Int) else 0) 7 = k at *
  have hk : k = 0 ∨ k = 1 ∨ k = 2 ∨ k = 3 ∨ k = 4 ∨ k = 5 ∨ k = 6 ∨ k = 7 := by omega
  have h3 : (1000 * (7 - k)) * k ≤ 12000 := by
    rcases hk with rfl | rfl | rfl | rfl | rfl | rfl | rfl | rfl <;> decide
  omega
theorem due_12 {T P F : Int → Int} (hI : InvF T P F) : sg (fun x => pos (P x)) 7 ≤ 12000 := by
  have hz : ∃ z : Int → Bool, ∀ v : Int, z v = true ↔ ¬ 0 < P v := ⟨fun v => decide (¬ 0 < P v), fun v => by simp⟩
  obtain ⟨z, hz⟩ := hz
  have hP0 := inv_P0 hI
  have e6 := inv_pos hI (mkS z)
  rw [slk_cap (z := z) (fun x q1 q2 => by rw [mkS_in z q1 q2]; cases z x <;> simp) hP0] at e6
  have e5 := cap_12 (w := mT T) (z := z) (fun u v q1 q2 q3 q4 => (hI.2.2.2.2.1 (7 * v + u) (by omega) (by omega)).2)
  have e7 : sg (fun x => pos (P x)) 7 + sg (fun u => if z u = true then P u else 0) 7 = sg P 7 := by
    rw [← sg_add]
    refine sg_congr (fun u _ _ => ?_)
    show pos (P u) + (if z u = true then P u else 0) = P u
    have := hz u
    unfold pos
    by_cases c : 0 < P u
    · rw [if_pos c, if_neg (fun q => this.mp q c)]
      omega
    · rw [if_neg c, if_pos (this.mpr c)]
      omega
  omega
theorem m_meas {P R R' : Int → Int} {e r a : Int} (he : 0 ≤ e ∧ e < 7) (ha : 1 ≤ a) (h1 : a ≤ P e - R e) (h2 : a ≤ R r - P r) (hR : ∀ x : Int, R' x = R x + (if x = e then a else 0) - (if x = r then a else 0)) : sg (fun x => pos (P x - R' x)) 7 = sg (fun x => pos (P x - R x)) 7 - a := by
  have her : e ≠ r := fun q => by rw [q] at h1; omega
  rw [sg_one (f := fun x => pos (P x - R' x)) (g := fun x => pos (P x - R x)) he.1 he.2 (fun x q1 q2 q3 => by
    show pos (P x - R' x) = pos (P x - R x)
    have e1 := hR x
    rw [if_neg q3] at e1
    by_cases c : x = r
    · rw [if_pos c] at e1
      rw [c] at e1 ⊢
      unfold pos
      rw [if_neg (by omega), if_neg (by omega)]
    · rw [if_neg c] at e1
      rw [e1]
      congr 1
      omega)]
  have e1 := hR e
  rw [if_pos rfl, if_neg her] at e1
  have e2 : pos (P e - R' e) = P e - R e - a := by
    rw [e1]
    unfold pos
    split <;> omega
  have e3 : pos (P e - R e) = P e - R e := by
    unfold pos
    rw [if_pos (by omega)]
  show sg (fun x => pos (P x - R x)) 7 + (pos (P e - R' e) - pos (P e - R e)) = sg (fun x => pos (P x - R x)) 7 - a
  omega
theorem mo_cost {d : Int → Int → Int} {O : Int → Int} (h : MO d O) : sg (fun p => pos (O p)) 49 = cost d := by
  have e := sg_flat (F := fun u v => pos (O (7 * u + v))) (k := 7) (m := 7) (by decide)
  have e1 : sg (fun p => pos (O p)) 49 = sg (fun p => (fun u v => pos (O (7 * u + v))) (p / 7) (p % 7)) 49 := sg_congr (fun p q1 q2 => by
    show pos (O p) = pos (O (7 * (p / 7) + p % 7))
    rw [show 7 * (p / 7) + p % 7 = p by omega])
  rw [e1]
  refine Eq.trans e ?_
  refine sg_congr (fun u q1 q2 => sg_congr (fun v q3 q4 => ?_))
  show pos (O (7 * u + v)) = pos (d u v)
  rw [h u v q1 q2 q3 q4]
/-- how far a can be sent to e: along the way back to one who has at least a to give -/
def Wdt (c0 d : Int → Int → Int) (P R cf : Int → Int) (e a : Int) : Prop := ∃ i : Nat, cf (itn cf e i) < 0 ∧ a ≤ R (itn cf e i) - P (itn cf e i) ∧ ∀ k : Nat, k < i → 0 ≤ cf (itn cf e k) ∧ a ≤ rm_ c0 d (cf (itn cf e k)) (itn cf e k)
theorem rm_7 {c0 d : Int → Int → Int} {u v : Int} (hu : u < 7) (hv : v < 7) : rm_ c0 d u v = if d u v < 0 then -(d u v) else c0 u v - d u v := by
  unfold rm_
  by_cases c : d u v < 0
  · rw [if_pos ⟨c, by omega⟩, if_pos c]
  · rw [if_neg (fun q => c q.1), if_neg c]
theorem cap0_7 {T : Int → Int} (hT : ∀ j : Int, 0 ≤ j → j < 49 → 0 ≤ T j ∧ T j ≤ 1000) : Cap0 7 (mT T) := by
  refine ⟨fun u v q1 q2 q3 q4 => (hT (7 * v + u) (by omega) (by omega)).1, fun u v q1 q2 q3 q4 q5 => ?_⟩
  omega
end
section
/-! ===== CreditNetworkModel: room, findWays, cheapest, widthTo, sendTo ===== -/
set_option maxRecDepth 10000
theorem m_room (u v : Int) (hu : 0 ≤ u ∧ u < 7) (hv : 0 ≤ v ∧ v < 7) : c_meti mW yX1_room cX1_room 4 .int (rk 0) true [u, v] (fun S => ∀ j : Int, 0 ≤ j → j < 49 → -1000 ≤ S 6 j ∧ S 6 j ≤ 1000) (fun S z S' => S' = S ∧ z = if S 6 (7 * u + v) < 0 then -(S 6 (7 * u + v)) else S 0 (7 * v + u) - S 6 (7 * u + v)) := by
  refine c_meti_of (own := RX1) (by decide) rfl mW_fst (fun _ => by simp [c_args]) ?_
  intro E h S hE hR hB hret
  show G E cX1_room 4 S 0 [some (.inr (h 0)), some (.inl u), some (.inl v), none] []
  have hO := hB (7 * u + v) (by omega) (by omega)
  refine g_aload_n 1 dX1_room_0 rfl rfl ?_
  refine mg_owed hE 4 dX1_room_1 rfl ?_
  refine g_bipush 6 dX1_room_4 rfl (by decide) ?_
  refine g_iload_n 7 dX1_room_6 rfl rfl ?_
  refine g_imul 8 dX1_room_7 rfl ?_
  refine g_iload_n 9 dX1_room_8 rfl rfl ?_
  refine g_iadd 10 dX1_room_9 rfl ?_
  refine ml_owed hE 11 dX1_room_10 rfl (by omega) ?_
  refine g_istore_n 12 dX1_room_11 rfl (by decide) ?_
  refine g_iload_n 13 dX1_room_12 rfl rfl ?_
  refine g_if_ge 21 16 dX1_room_13 (by decide) rfl (by omega) (fun h1 => ?_) (fun h1 => ?_)
  · refine g_aload_n 22 dX1_room_21 rfl rfl ?_
    refine mg_trusts hE 25 dX1_room_22 rfl ?_
    refine g_bipush 27 dX1_room_25 rfl (by decide) ?_
    refine g_iload_n 28 dX1_room_27 rfl rfl ?_
    refine g_imul 29 dX1_room_28 rfl ?_
    refine g_iload_n 30 dX1_room_29 rfl rfl ?_
    refine g_iadd 31 dX1_room_30 rfl ?_
    refine ml_trusts hE 32 dX1_room_31 rfl (by omega) ?_
    refine g_iload_n 33 dX1_room_32 rfl rfl ?_
    refine g_isub 34 dX1_room_33 rfl ?_
    exact hret _ _ _ _ dX1_room_34 rfl ⟨rfl, by rw [if_neg (by omega)]⟩
  · refine g_iload_n 17 dX1_room_16 rfl rfl ?_
    refine g_ineg 18 dX1_room_17 rfl ?_
    refine g_goto 34 dX1_room_18 (by decide) ?_
    exact hret _ _ _ _ dX1_room_34 rfl ⟨rfl, by rw [if_pos h1]⟩
/-- trusts, what is owed, positions reached: within bounds -/
def MB (S : st_T) (d : Int → Int → Int) : Prop := (∀ j : Int, 0 ≤ j → j < 49 → 0 ≤ S 0 j ∧ S 0 j ≤ 1000) ∧ (∀ u : Int, 0 ≤ u → u < 7 → S 0 (7 * u + u) = 0) ∧ (∀ x : Int, 0 ≤ x → x < 7 → (-100000 ≤ S 1 x ∧ S 1 x ≤ 100000) ∧ (-100000 ≤ S 7 x ∧ S 7 x ≤ 100000)) ∧ MO d (S 6)
theorem m_findWays (d : Int → Int → Int) (pt : Int → Int) (hp0 : ∀ v : Int, 0 ≤ v → v < 7 → pt v ≤ 0) : c_metv mW yX1_findWays cX1_findWays 5 (rk 1) true [] (fun S => MB S d ∧ Flo 7 (mT (S 0)) d pt) (fun S S' => (∀ k, k ≠ 8 → k ≠ 9 → S' k = S k) ∧ Chm (mT (S 0)) d (fun v => S 1 v < S 7 v) (S' 8) (S' 9)) := by
  refine c_metv_of (own := RX1) (by decide) rfl mW_fst (fun _ => by simp [c_args]) ?_
  intro E h S0 hE hR hpre hret
  obtain ⟨⟨hT, hTd, hPR, hMO⟩, hF⟩ := hpre
  show G E cX1_findWays 5 S0 0 [some (.inr (h 0)), none, none, none, none] []
  have hrng : ∀ (dist cf tau rd : Int → Int) (k i t : Int), t ≤ 343 → Bf 7 (fun u v => d u v < mT (S0 0) u v) (cst d) pt (fun v => S0 1 v < S0 7 v) (fun u v => 7 * u + v) 1000 dist cf tau rd k i t → ∀ x : Int, 0 ≤ x → x < 7 → -343 ≤ dist x ∧ dist x ≤ 1000 := by
    intro dist cf tau rd k i t ht hb x q1 q2
    by_cases c : dist x < 1000
    · obtain ⟨-, -, -, -, -, -, b6, b7⟩ := hb.1 x q1 q2 c
      omega
    · have := (hb.2.2.1 x q1 q2 c).1
      omega
  have loop2 : ∀ (n : Nat) (c r j : Int) (S : st_T) (x2 x3 x4 : Option pv), c = 49 * r + j → 0 ≤ j → j ≤ 49 → 0 ≤ r → r ≤ 6 → 343 - c < n → (∀ k, k ≠ 8 → k ≠ 9 → S k = S0 k) → (∃ tau rd : Int → Int, Bf 7 (fun u v => d u v < mT (S0 0) u v) (cst d) pt (fun v => S0 1 v < S0 7 v) (fun u v => 7 * u + v) 1000 (S 8) (S 9) tau rd (r + 1) j c) → G E cX1_findWays 5 S 51 [some (.inr (h 0)), some (.inl c), x2, x3, x4] [] := by
    intro n
    induction n with
    | zero =>
      intro c r j S x2 x3 x4 hc j0 j1 r0 r1 hn
      omega
    | succ n ih =>
      intro c r j S x2 x3 x4 hc j0 j1 r0 r1 hn hk hb
      refine g_iload_n 52 dX1_findWays_51 rfl rfl ?_
      refine g_sipush 55 dX1_findWays_52 rfl (by decide) ?_
      refine g_icmp_ge 164 58 dX1_findWays_55 (by decide) rfl (by omega) (by omega) (fun h1 => ?_) (fun h1 => ?_)
      · obtain ⟨tau, rd, hb⟩ := hb
        have hj : j = 49 := by omega
        have hr : r = 6 := by omega
        have hc3 : c = 343 := by omega
        subst hj hr hc3
        exact hret _ _ _ dX1_findWays_164 ⟨hk, chm_of hF hb⟩
      · have hb' : ∃ (r' j' : Int) (tau rd : Int → Int), c = 49 * r' + j' ∧ 0 ≤ j' ∧ j' < 49 ∧ 0 ≤ r' ∧ r' ≤ 6 ∧ Bf 7 (fun u v => d u v < mT (S0 0) u v) (cst d) pt (fun v => S0 1 v < S0 7 v) (fun u v => 7 * u + v) 1000 (S 8) (S 9) tau rd (r' + 1) j' c := by
          obtain ⟨tau, rd, hb⟩ := hb
          by_cases e : j = 49
          · subst e
            exact ⟨r + 1, 0, tau, rd, by omega, by omega, by omega, by omega, by omega, bf_next hb (fun u v q1 q2 q3 q4 => by show 0 ≤ 7 * u + v ∧ 7 * u + v < 49; omega)⟩
          · exact ⟨r, j, tau, rd, hc, j0, by omega, r0, r1, hb⟩
        clear hb hc j0 j1 r0 r1
        obtain ⟨r, j, tau, rd, hc, j0, j1, r0, r1, hb⟩ := hb'
        have e6 : S 6 = S0 6 := hk 6 (by decide) (by decide)
        have e0 : S 0 = S0 0 := hk 0 (by decide) (by decide)
        refine g_iload_n 59 dX1_findWays_58 rfl rfl ?_
        refine g_bipush 61 dX1_findWays_59 rfl (by decide) ?_
        refine g_irem 62 dX1_findWays_61 rfl (by omega) (by omega) ?_
        refine g_bipush 64 dX1_findWays_62 rfl (by decide) ?_
        refine g_idiv 65 dX1_findWays_64 rfl (by omega) (by omega) ?_
        refine g_istore_n 66 dX1_findWays_65 rfl (by decide) ?_
        refine g_iload_n 67 dX1_findWays_66 rfl rfl ?_
        refine g_bipush 69 dX1_findWays_67 rfl (by decide) ?_
        refine g_irem 70 dX1_findWays_69 rfl (by omega) (by omega) ?_
        refine g_istore_n 71 dX1_findWays_70 rfl (by decide) ?_
        generalize hU : c % 49 / 7 = u
        generalize hV : c % 7 = v
        have hu : 0 ≤ u ∧ u < 7 := by omega
        have hv : 0 ≤ v ∧ v < 7 := by omega
        have hj : 7 * u + v = j := by omega
        have hix : ∀ p q : Int, 0 ≤ p → p < (7 : Nat) → 0 ≤ q → q < (7 : Nat) → 7 * p + q = j → p = u ∧ q = v := fun p q q1 q2 q3 q4 q5 => by omega
        have hO : S 6 (7 * u + v) = d u v := by rw [e6]; exact hMO u v hu.1 hu.2 hv.1 hv.2
        have hOr : ∀ q : Int, 0 ≤ q → q < 49 → -1000 ≤ S 6 q ∧ S 6 q ≤ 1000 := fun q q1 q2 => by rw [e6]; exact mo_rng hT hF hMO q1 q2
        have hOr1 := hOr (7 * u + v) (by omega) (by omega)
        have hdr := hrng _ _ _ _ _ _ _ (by omega) hb
        have du := hdr u hu.1 hu.2
        have dv := hdr v hv.1 hv.2
        have hcr := cst_rng d u v
        have skip : ∀ (x4 : Option pv), ¬ (d u v < mT (S0 0) u v ∧ S 8 u < 1000 ∧ S 8 u + cst d u v < S 8 v) → G E cX1_findWays 5 S 158 [some (.inr (h 0)), some (.inl c), some (.inl u), some (.inl v), x4] [] := by
          intro x4 hn
          refine g_iinc 161 dX1_findWays_158 rfl (by decide) rfl ?_
          refine g_goto 51 dX1_findWays_161 (by decide) ?_
          exact ih (c + 1) r (j + 1) S _ _ _ (by omega) (by omega) (by omega) r0 r1 (by omega) hk ⟨tau, rd, bf_no hb hix hn⟩
        refine g_aload_n 72 dX1_findWays_71 rfl rfl ?_
        refine mg_owed hE 75 dX1_findWays_72 rfl ?_
        refine g_bipush 77 dX1_findWays_75 rfl (by decide) ?_
        refine g_iload_n 78 dX1_findWays_77 rfl rfl ?_
        refine g_imul 79 dX1_findWays_78 rfl ?_
        refine g_iload_n 80 dX1_findWays_79 rfl rfl ?_
        refine g_iadd 81 dX1_findWays_80 rfl ?_
        refine ml_owed hE 82 dX1_findWays_81 rfl (by omega) ?_
        have go : ∀ w : Int, w = cst d u v → G E cX1_findWays 5 S 90 [some (.inr (h 0)), some (.inl c), some (.inl u), some (.inl v), x4] [.inl w] := by
          intro w hw
          refine g_istore 92 dX1_findWays_90 rfl (by decide) ?_
          refine g_iload_n 93 dX1_findWays_92 rfl rfl ?_
          refine g_iload_n 94 dX1_findWays_93 rfl rfl ?_
          refine g_icmp_eq 158 97 dX1_findWays_94 (by decide) rfl (by omega) (by omega) (fun h2 => ?_) (fun h2 => ?_)
          · refine skip _ (fun q => ?_)
            have q1 := q.1
            have q2 := hF.1 u u hu.1 hu.2 hu.1 hu.2
            have q3 : mT (S0 0) u u = 0 := hTd u hu.1 hu.2
            rw [← h2] at q1
            omega
          · refine g_aload_n 98 dX1_findWays_97 rfl rfl ?_
            refine mg_price hE 101 dX1_findWays_98 rfl ?_
            refine g_iload_n 102 dX1_findWays_101 rfl rfl ?_
            refine ml_price hE 103 dX1_findWays_102 rfl (by omega) ?_
            refine g_sipush 106 dX1_findWays_103 rfl (by decide) ?_
            refine g_icmp_ge 158 109 dX1_findWays_106 (by decide) rfl (by omega) (by omega) (fun h3 => ?_) (fun h3 => ?_)
            · exact skip _ (fun q => by have := q.2.1; omega)
            · refine g_aload_n 110 dX1_findWays_109 rfl rfl ?_
              refine g_iload_n 111 dX1_findWays_110 rfl rfl ?_
              refine g_iload_n 112 dX1_findWays_111 rfl rfl ?_
              refine g_calli (na := 2) (m_room u v hu hv) mW_ob (lw_V q312 q314 qs20 q26 q315) (by decide +kernel) rfl ⟨rfl, rfl⟩ hE (by rw [hR]; decide) 115 dX1_findWays_112 rfl [] rfl (by simp) hOr (fun rm S1 hrm => ?_)
              obtain ⟨hS1, hrm⟩ := hrm
              subst hS1
              have hTuv : S1 0 (7 * v + u) = mT (S0 0) u v := by rw [e0]
              have hTr := hT (7 * v + u) (by omega) (by omega)
              have hTr2 : mT (S0 0) u v = S0 0 (7 * v + u) := rfl
              rw [hO, hTuv] at hrm
              have hrm2 : (0 < rm ↔ d u v < mT (S0 0) u v) ∧ -10000 ≤ rm ∧ rm ≤ 10000 := by
                rw [hrm]
                split <;> omega
              refine g_if_le 158 118 dX1_findWays_115 (by decide) rfl (by omega) (fun h4 => ?_) (fun h4 => ?_)
              · exact skip _ (fun q => by have := q.1; omega)
              · refine g_aload_n 119 dX1_findWays_118 rfl rfl ?_
                refine mg_price hE 122 dX1_findWays_119 rfl ?_
                refine g_iload_n 123 dX1_findWays_122 rfl rfl ?_
                refine ml_price hE 124 dX1_findWays_123 rfl (by omega) ?_
                refine g_iload 126 dX1_findWays_124 rfl rfl ?_
                refine g_iadd 127 dX1_findWays_126 rfl ?_
                refine g_aload_n 128 dX1_findWays_127 rfl rfl ?_
                refine mg_price hE 131 dX1_findWays_128 rfl ?_
                refine g_iload_n 132 dX1_findWays_131 rfl rfl ?_
                refine ml_price hE 133 dX1_findWays_132 rfl (by omega) ?_
                refine g_icmp_ge 158 136 dX1_findWays_133 (by decide) rfl (by omega) (by omega) (fun h5 => ?_) (fun h5 => ?_)
                · exact skip _ (fun q => by have := q.2.2; omega)
                · refine g_aload_n 137 dX1_findWays_136 rfl rfl ?_
                  refine mg_price hE 140 dX1_findWays_137 rfl ?_
                  refine g_iload_n 141 dX1_findWays_140 rfl rfl ?_
                  refine g_aload_n 142 dX1_findWays_141 rfl rfl ?_
                  refine mg_price hE 145 dX1_findWays_142 rfl ?_
                  refine g_iload_n 146 dX1_findWays_145 rfl rfl ?_
                  refine ml_price hE 147 dX1_findWays_146 rfl (by omega) ?_
                  refine g_iload 149 dX1_findWays_147 rfl rfl ?_
                  refine g_iadd 150 dX1_findWays_149 rfl ?_
                  refine ms_price hE 151 dX1_findWays_150 rfl (by omega) ?_
                  refine g_aload_n 152 dX1_findWays_151 rfl rfl ?_
                  refine mg_before hE 155 dX1_findWays_152 rfl ?_
                  refine g_iload_n 156 dX1_findWays_155 rfl rfl ?_
                  refine g_iload_n 157 dX1_findWays_156 rfl rfl ?_
                  refine ms_before hE 158 dX1_findWays_157 rfl (by omega) ?_
                  refine g_iinc 161 dX1_findWays_158 rfl (by decide) rfl ?_
                  refine g_goto 51 dX1_findWays_161 (by decide) ?_
                  rw [hw]
                  refine ih (c + 1) r (j + 1) _ _ _ _ (by omega) (by omega) (by omega) r0 r1 (by omega) (fun k q1 q2 => ?_) ⟨ua tau v (c + 1), ua rd v (r + 1), ?_⟩
                  · rw [us_n q2, us_n q1]
                    exact hk k q1 q2
                  · exact bf_yes hb hu hv h2 hj hix (fun p q => cst_rng d p q) (fun p q q1 q2 q3 q4 q5 => hF.2.2 p q q1 q2 q3 q4 q5) (by omega) (by omega) (by omega) h3 (by omega)
        refine g_if_ge 89 85 dX1_findWays_82 (by decide) rfl (by omega) (fun h2 => ?_) (fun h2 => ?_)
        · refine g_iconst 90 dX1_findWays_89 rfl ?_
          exact go 1 (by unfold cst; rw [if_neg (by omega), if_neg (by omega)])
        · refine g_iconst 86 dX1_findWays_85 rfl ?_
          refine g_goto 90 dX1_findWays_86 (by decide) ?_
          exact go (-1) (by unfold cst; rw [if_neg (by omega), if_pos (by omega)])
  refine g_iconst 1 dX1_findWays_0 rfl ?_
  refine g_istore_n 2 dX1_findWays_1 rfl (by decide) ?_
  suffices init : ∀ (n : Nat) (i : Int) (S : st_T), 0 ≤ i → i ≤ 7 → 7 - i < n → (∀ k, k ≠ 8 → k ≠ 9 → S k = S0 k) → (∀ x : Int, 0 ≤ x → x < i → S 9 x = -1 ∧ S 8 x = if S0 1 x < S0 7 x then 0 else 1000) → G E cX1_findWays 5 S 2 [some (.inr (h 0)), some (.inl i), none, none, none] [] from init 8 0 S0 (by decide) (by decide) (by decide) (fun _ _ _ => rfl) (fun x q1 q2 => by omega)
  intro n
  induction n with
  | zero => intro i S g0 g1 gn; omega
  | succ n ih =>
    intro i S g0 g1 gn hk hin
    refine g_iload_n 3 dX1_findWays_2 rfl rfl ?_
    refine g_bipush 5 dX1_findWays_3 rfl (by decide) ?_
    refine g_icmp_ge 49 8 dX1_findWays_5 (by decide) rfl (by omega) (by omega) (fun hc => ?_) (fun hc => ?_)
    · refine g_iconst 50 dX1_findWays_49 rfl ?_
      refine g_istore_n 51 dX1_findWays_50 rfl (by decide) ?_
      refine loop2 344 0 0 0 S _ _ _ (by decide) (by decide) (by decide) (by decide) (by decide) (by decide) hk ⟨fun _ => 0, fun _ => 0, ?_⟩
      refine bf_0 (fun v q1 q2 _ => hp0 v q1 q2) (by decide) (fun u v q1 q2 q3 q4 => by show 0 ≤ 7 * u + v; omega) (fun v q1 q2 => ?_)
      have := hin v q1 (by omega)
      refine ⟨this.1, ?_⟩
      by_cases e : S0 1 v < S0 7 v
      · exact Or.inl ⟨e, by rw [this.2, if_pos e]⟩
      · exact Or.inr ⟨e, by rw [this.2, if_neg e]⟩
    · have hr7 := hPR i g0 (by omega)
      have e7 : S 7 i = S0 7 i := by rw [hk 7 (by decide) (by decide)]
      have e1 : S 1 i = S0 1 i := by rw [hk 1 (by decide) (by decide)]
      refine g_aload_n 9 dX1_findWays_8 rfl rfl ?_
      refine mg_price hE 12 dX1_findWays_9 rfl ?_
      refine g_iload_n 13 dX1_findWays_12 rfl rfl ?_
      refine g_aload_n 14 dX1_findWays_13 rfl rfl ?_
      refine mg_reached hE 17 dX1_findWays_14 rfl ?_
      refine g_iload_n 18 dX1_findWays_17 rfl rfl ?_
      refine ml_reached hE 19 dX1_findWays_18 rfl (by omega) ?_
      refine g_aload_n 20 dX1_findWays_19 rfl rfl ?_
      refine mg_positions hE 23 dX1_findWays_20 rfl ?_
      refine g_iload_n 24 dX1_findWays_23 rfl rfl ?_
      refine ml_positions hE 25 dX1_findWays_24 rfl (by omega) ?_
      have go : ∀ w : Int, w = (if S0 1 i < S0 7 i then 0 else 1000) → G E cX1_findWays 5 S 35 [some (.inr (h 0)), some (.inl i), none, none, none] [.inl w, .inl i, .inr (h 8)] := by
        intro w hw
        refine ms_price hE 36 dX1_findWays_35 rfl (by omega) ?_
        refine g_aload_n 37 dX1_findWays_36 rfl rfl ?_
        refine mg_before hE 40 dX1_findWays_37 rfl ?_
        refine g_iload_n 41 dX1_findWays_40 rfl rfl ?_
        refine g_iconst 42 dX1_findWays_41 rfl ?_
        refine ms_before hE 43 dX1_findWays_42 rfl (by omega) ?_
        refine g_iinc 46 dX1_findWays_43 rfl (by decide) rfl ?_
        refine g_goto 2 dX1_findWays_46 (by decide) ?_
        refine ih (i + 1) _ (by omega) (by omega) (by omega) (fun k q1 q2 => ?_) (fun x q1 q2 => ?_)
        · rw [us_n q2, us_n q1]
          exact hk k q1 q2
        · show ua (S 9) i (-1) x = -1 ∧ ua (S 8) i w x = if S0 1 x < S0 7 x then 0 else 1000
          by_cases e : x = i
          · subst e
            rw [ua_s, ua_s]
            exact ⟨rfl, hw⟩
          · rw [ua_n e, ua_n e]
            exact hin x q1 (by omega)
      refine g_icmp_le 32 28 dX1_findWays_25 (by decide) rfl (by omega) (by omega) (fun h7 => ?_) (fun h7 => ?_)
      · refine g_sipush 35 dX1_findWays_32 rfl (by decide) ?_
        exact go 1000 (by rw [if_neg (by omega)])
      · refine g_iconst 29 dX1_findWays_28 rfl ?_
        refine g_goto 35 dX1_findWays_29 (by decide) ?_
        exact go 0 (by rw [if_pos (by omega)])
theorem m_cheapest : c_meti mW yX1_cheapest cX1_cheapest 3 .int (rk 0) true [] (fun S => ∀ x : Int, 0 ≤ x → x < 7 → (-100000 ≤ S 1 x ∧ S 1 x ≤ 100000) ∧ (-100000 ≤ S 7 x ∧ S 7 x ≤ 100000) ∧ (-400 ≤ S 8 x ∧ S 8 x ≤ 1000)) (fun S z S' => S' = S ∧ (((0 ≤ z ∧ z < 7) ∧ S 7 z < S 1 z ∧ S 8 z < 1000) ∨ (z = -1 ∧ ∀ v : Int, 0 ≤ v → v < 7 → ¬ (S 7 v < S 1 v ∧ S 8 v < 1000)))) := by
  refine c_meti_of (own := RX1) (by decide) rfl mW_fst (fun _ => by simp [c_args]) ?_
  intro E h S hE hR hB hret
  show G E cX1_cheapest 3 S 0 [some (.inr (h 0)), none, none] []
  refine g_iconst 1 dX1_cheapest_0 rfl ?_
  refine g_istore_n 2 dX1_cheapest_1 rfl (by decide) ?_
  refine g_iconst 3 dX1_cheapest_2 rfl ?_
  refine g_istore_n 4 dX1_cheapest_3 rfl (by decide) ?_
  suffices loop : ∀ (n : Nat) (c best : Int), 0 ≤ c → c ≤ 7 → 7 - c < n → (((0 ≤ best ∧ best < 7) ∧ S 7 best < S 1 best ∧ S 8 best < 1000) ∨ (best = -1 ∧ ∀ v : Int, 0 ≤ v → v < c → ¬ (S 7 v < S 1 v ∧ S 8 v < 1000))) → G E cX1_cheapest 3 S 4 [some (.inr (h 0)), some (.inl best), some (.inl c)] [] from loop 8 0 (-1) (by decide) (by decide) (by decide) (Or.inr ⟨rfl, fun v q1 q2 => by omega⟩)
  intro n
  induction n with
  | zero => intro c best g0 g1 gn; omega
  | succ n ih =>
    intro c best g0 g1 gn hg
    have hbr : -1 ≤ best ∧ best < 7 := by rcases hg with ⟨q, -⟩ | ⟨q, -⟩ <;> omega
    refine g_iload_n 5 dX1_cheapest_4 rfl rfl ?_
    refine g_bipush 7 dX1_cheapest_5 rfl (by decide) ?_
    refine g_icmp_ge 64 10 dX1_cheapest_7 (by decide) rfl (by omega) (by omega) (fun hc => ?_) (fun hc => ?_)
    · refine g_iload_n 65 dX1_cheapest_64 rfl rfl ?_
      refine hret _ _ _ _ dX1_cheapest_65 rfl ⟨rfl, ?_⟩
      rcases hg with q | ⟨q1, q2⟩
      · exact Or.inl q
      · exact Or.inr ⟨q1, fun v r1 r2 => q2 v r1 (by omega)⟩
    · have hb1 := hB c g0 (by omega)
      have skip : ((0 ≤ best ∧ best < 7) ∧ S 7 best < S 1 best ∧ S 8 best < 1000) ∨ ¬ (S 7 c < S 1 c ∧ S 8 c < 1000) → G E cX1_cheapest 3 S 58 [some (.inr (h 0)), some (.inl best), some (.inl c)] [] := by
        intro hs
        refine g_iinc 61 dX1_cheapest_58 rfl (by decide) rfl ?_
        refine g_goto 4 dX1_cheapest_61 (by decide) ?_
        refine ih (c + 1) best (by omega) (by omega) (by omega) ?_
        rcases hg with q | ⟨q1, q2⟩
        · exact Or.inl q
        · refine Or.inr ⟨q1, fun v r1 r2 => ?_⟩
          by_cases e : v = c
          · rw [e]
            rcases hs with q | q
            · omega
            · exact q
          · exact q2 v r1 (by omega)
      refine g_aload_n 11 dX1_cheapest_10 rfl rfl ?_
      refine mg_reached hE 14 dX1_cheapest_11 rfl ?_
      refine g_iload_n 15 dX1_cheapest_14 rfl rfl ?_
      refine ml_reached hE 16 dX1_cheapest_15 rfl (by omega) ?_
      refine g_aload_n 17 dX1_cheapest_16 rfl rfl ?_
      refine mg_positions hE 20 dX1_cheapest_17 rfl ?_
      refine g_iload_n 21 dX1_cheapest_20 rfl rfl ?_
      refine ml_positions hE 22 dX1_cheapest_21 rfl (by omega) ?_
      refine g_icmp_ge 58 25 dX1_cheapest_22 (by decide) rfl (by omega) (by omega) (fun h1 => ?_) (fun h1 => ?_)
      · exact skip (Or.inr (fun q => by have := q.1; omega))
      · refine g_aload_n 26 dX1_cheapest_25 rfl rfl ?_
        refine mg_price hE 29 dX1_cheapest_26 rfl ?_
        refine g_iload_n 30 dX1_cheapest_29 rfl rfl ?_
        refine ml_price hE 31 dX1_cheapest_30 rfl (by omega) ?_
        refine g_sipush 34 dX1_cheapest_31 rfl (by decide) ?_
        refine g_icmp_ge 58 37 dX1_cheapest_34 (by decide) rfl (by omega) (by omega) (fun h2 => ?_) (fun h2 => ?_)
        · exact skip (Or.inr (fun q => by have := q.2; omega))
        · have take : G E cX1_cheapest 3 S 56 [some (.inr (h 0)), some (.inl best), some (.inl c)] [] := by
            refine g_iload_n 57 dX1_cheapest_56 rfl rfl ?_
            refine g_istore_n 58 dX1_cheapest_57 rfl (by decide) ?_
            refine g_iinc 61 dX1_cheapest_58 rfl (by decide) rfl ?_
            refine g_goto 4 dX1_cheapest_61 (by decide) ?_
            exact ih (c + 1) c (by omega) (by omega) (by omega) (Or.inl ⟨by omega, h1, h2⟩)
          refine g_iload_n 38 dX1_cheapest_37 rfl rfl ?_
          refine g_if_lt 56 41 dX1_cheapest_38 (by decide) rfl (by omega) (fun h3 => ?_) (fun h3 => ?_)
          · exact take
          · have hb2 := hB best h3 (by omega)
            refine g_aload_n 42 dX1_cheapest_41 rfl rfl ?_
            refine mg_price hE 45 dX1_cheapest_42 rfl ?_
            refine g_iload_n 46 dX1_cheapest_45 rfl rfl ?_
            refine ml_price hE 47 dX1_cheapest_46 rfl (by omega) ?_
            refine g_aload_n 48 dX1_cheapest_47 rfl rfl ?_
            refine mg_price hE 51 dX1_cheapest_48 rfl ?_
            refine g_iload_n 52 dX1_cheapest_51 rfl rfl ?_
            refine ml_price hE 53 dX1_cheapest_52 rfl (by omega) ?_
            refine g_icmp_ge 58 56 dX1_cheapest_53 (by decide) rfl (by omega) (by omega) (fun h4 => ?_) (fun h4 => ?_)
            · refine skip (Or.inl ?_)
              rcases hg with q | ⟨q1, q2⟩
              · exact q
              · omega
            · exact take
theorem m_widthTo (d : Int → Int → Int) (e : Int) (he : 0 ≤ e ∧ e < 7) : c_meti mW yX1_widthTo cX1_widthTo 6 .int (rk 1) true [e] (fun S => MB S d ∧ Chm (mT (S 0)) d (fun v => S 1 v < S 7 v) (S 8) (S 9) ∧ S 7 e < S 1 e ∧ S 8 e < 1000) (fun S z S' => S' = S ∧ 1 ≤ z ∧ z ≤ S 1 e - S 7 e ∧ Wdt (mT (S 0)) d (S 1) (S 7) (S 9) e z) := by
  refine c_meti_of (own := RX1) (by decide) rfl mW_fst (fun _ => by simp [c_args]) ?_
  intro E h S hE hR hpre hret
  obtain ⟨⟨hT, hTd, hPR, hMO⟩, ⟨dep, pt, hTr, hF, hpt, hcf, -, -, -⟩, hlack, hr8⟩ := hpre
  show G E cX1_widthTo 6 S 0 [some (.inr (h 0)), some (.inl e), none, none, none, none] []
  have hOr : ∀ q : Int, 0 ≤ q → q < 49 → -1000 ≤ S 6 q ∧ S 6 q ≤ 1000 := fun q q1 q2 => mo_rng hT hF hMO q1 q2
  have hre := hPR e he.1 he.2
  refine g_aload_n 1 dX1_widthTo_0 rfl rfl ?_
  refine mg_positions hE 4 dX1_widthTo_1 rfl ?_
  refine g_iload_n 5 dX1_widthTo_4 rfl rfl ?_
  refine ml_positions hE 6 dX1_widthTo_5 rfl (by omega) ?_
  refine g_aload_n 7 dX1_widthTo_6 rfl rfl ?_
  refine mg_reached hE 10 dX1_widthTo_7 rfl ?_
  refine g_iload_n 11 dX1_widthTo_10 rfl rfl ?_
  refine ml_reached hE 12 dX1_widthTo_11 rfl (by omega) ?_
  refine g_isub 13 dX1_widthTo_12 rfl ?_
  refine g_istore_n 14 dX1_widthTo_13 rfl (by decide) ?_
  refine g_iload_n 15 dX1_widthTo_14 rfl rfl ?_
  refine g_istore_n 16 dX1_widthTo_15 rfl (by decide) ?_
  refine g_iconst 17 dX1_widthTo_16 rfl ?_
  refine g_istore 19 dX1_widthTo_17 rfl (by decide) ?_
  suffices loop : ∀ (n i : Nat) (c v w : Int) (x5 : Option pv), c = i → v = itn (S 9) e i → 7 - c < n → i ≤ 7 → (1 ≤ w ∧ w ≤ S 1 e - S 7 e) → (∀ k : Nat, k < i → 0 ≤ S 9 (itn (S 9) e k) ∧ w ≤ rm_ (mT (S 0)) d (S 9 (itn (S 9) e k)) (itn (S 9) e k)) → (0 ≤ v ∧ v < 7) → S 8 v < 1000 → dep v ≤ 6 - c → G E cX1_widthTo 6 S 19 [some (.inr (h 0)), some (.inl e), some (.inl w), some (.inl v), some (.inl c), x5] [] from loop 8 0 0 e (S 1 e - S 7 e) _ rfl rfl (by decide) (by decide) (by omega) (fun k hk => by omega) he hr8 (by have := (hTr e he.1 he.2 hr8).2.1; omega)
  intro n
  induction n with
  | zero => intro i c v w x5 hci hv hn hi; omega
  | succ n ih =>
    intro i c v w x5 hci hv hn hi hw hmin hr hre8 hdep
    have hnn := (hTr v hr.1 hr.2 hre8).1
    have hcfv := hcf v hr.1 hr.2 hre8
    have hcf7 : 0 ≤ S 9 v → S 9 v < 7 := fun q => ((hTr v hr.1 hr.2 hre8).2.2 q).1
    refine g_iload 21 dX1_widthTo_19 rfl rfl ?_
    refine g_bipush 23 dX1_widthTo_21 rfl (by decide) ?_
    refine g_icmp_ge 74 26 dX1_widthTo_23 (by decide) rfl (by omega) (by omega) (fun h1 => ?_) (fun h1 => ?_)
    · omega
    · refine g_aload_n 27 dX1_widthTo_26 rfl rfl ?_
      refine mg_before hE 30 dX1_widthTo_27 rfl ?_
      refine g_iload_n 31 dX1_widthTo_30 rfl rfl ?_
      refine ml_before hE 32 dX1_widthTo_31 rfl (by omega) ?_
      refine g_if_lt 74 35 dX1_widthTo_32 (by decide) rfl (by omega) (fun h2 => ?_) (fun h2 => ?_)
      · have hroot : S 1 v < S 7 v := by
          rcases hcfv with q | ⟨-, q⟩
          · omega
          · exact q
        have hrv := hPR v hr.1 hr.2
        refine g_aload_n 75 dX1_widthTo_74 rfl rfl ?_
        refine mg_reached hE 78 dX1_widthTo_75 rfl ?_
        refine g_iload_n 79 dX1_widthTo_78 rfl rfl ?_
        refine ml_reached hE 80 dX1_widthTo_79 rfl (by omega) ?_
        refine g_aload_n 81 dX1_widthTo_80 rfl rfl ?_
        refine mg_positions hE 84 dX1_widthTo_81 rfl ?_
        refine g_iload_n 85 dX1_widthTo_84 rfl rfl ?_
        refine ml_positions hE 86 dX1_widthTo_85 rfl (by omega) ?_
        refine g_isub 87 dX1_widthTo_86 rfl ?_
        refine g_istore 89 dX1_widthTo_87 rfl (by decide) ?_
        refine g_iload 91 dX1_widthTo_89 rfl rfl ?_
        refine g_iload_n 92 dX1_widthTo_91 rfl rfl ?_
        have fin : ∀ z : Int, 1 ≤ z → z ≤ w → z ≤ S 7 v - S 1 v → Wdt (mT (S 0)) d (S 1) (S 7) (S 9) e z := by
          intro z z1 z2 z3
          refine ⟨i, by rw [← hv]; exact h2, by rw [← hv]; exact z3, fun k hk => ?_⟩
          have := hmin k hk
          exact ⟨this.1, by omega⟩
        refine g_icmp_ge 100 95 dX1_widthTo_92 (by decide) rfl (by omega) (by omega) (fun h3 => ?_) (fun h3 => ?_)
        · refine g_iload_n 101 dX1_widthTo_100 rfl rfl ?_
          exact hret _ _ _ _ dX1_widthTo_101 rfl ⟨rfl, hw.1, hw.2, fin w hw.1 (Int.le_refl _) h3⟩
        · refine g_iload 97 dX1_widthTo_95 rfl rfl ?_
          refine g_goto 101 dX1_widthTo_97 (by decide) ?_
          exact hret _ _ _ _ dX1_widthTo_101 rfl ⟨rfl, by omega, by omega, fin _ (by omega) (by omega) (Int.le_refl _)⟩
      · obtain ⟨t4, t5, t6, t7, t8⟩ := (hTr v hr.1 hr.2 hre8).2.2 h2
        refine g_aload_n 36 dX1_widthTo_35 rfl rfl ?_
        refine g_aload_n 37 dX1_widthTo_36 rfl rfl ?_
        refine mg_before hE 40 dX1_widthTo_37 rfl ?_
        refine g_iload_n 41 dX1_widthTo_40 rfl rfl ?_
        refine ml_before hE 42 dX1_widthTo_41 rfl (by omega) ?_
        refine g_iload_n 43 dX1_widthTo_42 rfl rfl ?_
        refine g_calli (na := 2) (m_room (S 9 v) v ⟨h2, t4⟩ hr) mW_ob (lw_V q312 q314 qs20 q26 q315) (by decide +kernel) rfl ⟨rfl, rfl⟩ hE (by rw [hR]; decide) 46 dX1_widthTo_43 rfl [] rfl (by simp) hOr (fun rm S1 hrm => ?_)
        obtain ⟨hS1, hrm⟩ := hrm
        subst hS1
        have hO := hMO (S1 9 v) v h2 t4 hr.1 hr.2
        have hTv := hT (7 * v + S1 9 v) (by omega) (by omega)
        have hTv2 : mT (S1 0) (S1 9 v) v = S1 0 (7 * v + S1 9 v) := rfl
        have hOv := hOr (7 * S1 9 v + v) (by omega) (by omega)
        rw [hO] at hrm hOv
        have hrm2 : rm = rm_ (mT (S1 0)) d (S1 9 v) v := by
          rw [rm_7 t4 hr.2]
          exact hrm
        have hrm3 : 1 ≤ rm ∧ rm ≤ 10000 := by
          rw [hrm]
          split <;> omega
        have go : ∀ w' : Int, 1 ≤ w' → w' ≤ w → w' ≤ rm → G E cX1_widthTo 6 S1 60 [some (.inr (h 0)), some (.inl e), some (.inl w), some (.inl v), some (.inl c), some (.inl rm)] [.inl w'] := by
          intro w' w1 w2 w3
          refine g_istore_n 61 dX1_widthTo_60 rfl (by decide) ?_
          refine g_aload_n 62 dX1_widthTo_61 rfl rfl ?_
          refine mg_before hE 65 dX1_widthTo_62 rfl ?_
          refine g_iload_n 66 dX1_widthTo_65 rfl rfl ?_
          refine ml_before hE 67 dX1_widthTo_66 rfl (by omega) ?_
          refine g_istore_n 68 dX1_widthTo_67 rfl (by decide) ?_
          refine g_iinc 71 dX1_widthTo_68 rfl (by decide) rfl ?_
          refine g_goto 19 dX1_widthTo_71 (by decide) ?_
          refine ih (i + 1) (c + 1) (S1 9 v) w' _ (by omega) (by rw [hv]; rfl) (by omega) (by omega) (by omega) (fun k hk => ?_) ⟨h2, t4⟩ t6 (by omega)
          by_cases q : k = i
          · subst q
            rw [← hv, ← hrm2]
            exact ⟨h2, w3⟩
          · have := hmin k (by omega)
            exact ⟨this.1, by omega⟩
        refine g_istore 48 dX1_widthTo_46 rfl (by decide) ?_
        refine g_iload 50 dX1_widthTo_48 rfl rfl ?_
        refine g_iload_n 51 dX1_widthTo_50 rfl rfl ?_
        refine g_icmp_ge 59 54 dX1_widthTo_51 (by decide) rfl (by omega) (by omega) (fun h3 => ?_) (fun h3 => ?_)
        · refine g_iload_n 60 dX1_widthTo_59 rfl rfl ?_
          exact go w hw.1 (Int.le_refl _) h3
        · refine g_iload 56 dX1_widthTo_54 rfl rfl ?_
          refine g_goto 60 dX1_widthTo_56 (by decide) ?_
          exact go rm (by omega) (by omega) (Int.le_refl _)
theorem m_sendTo (d : Int → Int → Int) (e a : Int) (he : 0 ≤ e ∧ e < 7) (ha : 1 ≤ a) : c_metv mW yX1_sendTo cX1_sendTo 6 (rk 0) true [e, a] (fun S => MB S d ∧ Chm (mT (S 0)) d (fun v => S 1 v < S 7 v) (S 8) (S 9) ∧ S 8 e < 1000 ∧ Wdt (mT (S 0)) d (S 1) (S 7) (S 9) e a) (fun S S' => (∀ k, k ≠ 6 → k ≠ 7 → S' k = S k) ∧ ∃ (r : Int) (d' : Int → Int → Int) (pt' : Int → Int), a ≤ S 7 r - S 1 r ∧ MO d' (S' 6) ∧ Flo 7 (mT (S 0)) d' pt' ∧ (∀ x : Int, 0 ≤ x → x < 7 → sg (d' x) 7 = sg (d x) 7 + (if x = r then a else 0) - (if x = e then a else 0)) ∧ ∀ x : Int, S' 7 x = S 7 x + (if x = e then a else 0) - (if x = r then a else 0)) := by
  refine c_metv_of (own := RX1) (by decide) rfl mW_fst (fun _ => by simp [c_args]) ?_
  intro E h S0 hE hR hpre hret
  obtain ⟨⟨hT, hTd, hPR, hMO⟩, ⟨dep, pt, hTr, hF, hpt, hcf, -, -, -⟩, hr8, ⟨i0, w1, w2, w3⟩⟩ := hpre
  show G E cX1_sendTo 6 S0 0 [some (.inr (h 0)), some (.inl e), some (.inl a), none, none, none] []
  have hc0 := cap0_7 hT
  refine g_iload_n 1 dX1_sendTo_0 rfl rfl ?_
  refine g_istore_n 2 dX1_sendTo_1 rfl (by decide) ?_
  refine g_aload_n 3 dX1_sendTo_2 rfl rfl ?_
  refine mg_reached hE 6 dX1_sendTo_3 rfl ?_
  refine g_iload_n 7 dX1_sendTo_6 rfl rfl ?_
  refine g_aload_n 8 dX1_sendTo_7 rfl rfl ?_
  refine mg_reached hE 11 dX1_sendTo_8 rfl ?_
  refine g_iload_n 12 dX1_sendTo_11 rfl rfl ?_
  refine ml_reached hE 13 dX1_sendTo_12 rfl (by omega) ?_
  refine g_iload_n 14 dX1_sendTo_13 rfl rfl ?_
  refine g_iadd 15 dX1_sendTo_14 rfl ?_
  refine ms_reached hE 16 dX1_sendTo_15 rfl (by omega) ?_
  refine g_iconst 17 dX1_sendTo_16 rfl ?_
  refine g_istore 19 dX1_sendTo_17 rfl (by decide) ?_
  suffices loop : ∀ (n i : Nat) (c v : Int) (S : st_T) (d' : Int → Int → Int) (x5 : Option pv), c = i → v = itn (S0 9) e i → 7 - c < n → i ≤ i0 → i ≤ 7 → (∀ k, k ≠ 6 → k ≠ 7 → S k = S0 k) → S 7 = ua (S0 7) e (S0 7 e + a) → MO d' (S 6) → Aug 7 (mT (S0 0)) d d' pt (S0 8) (S0 9) dep 1000 a e i → (0 ≤ v ∧ v < 7) → S0 8 v < 1000 → dep v ≤ 6 - c → G E cX1_sendTo 6 S 19 [some (.inr (h 0)), some (.inl e), some (.inl a), some (.inl v), some (.inl c), x5] [] from loop 8 0 0 e _ d _ rfl rfl (by decide) (by omega) (by decide) (fun k q1 q2 => us_n q2) rfl hMO (aug_0 hF) he hr8 (by have := (hTr e he.1 he.2 hr8).2.1; omega)
  intro n
  induction n with
  | zero => intro i c v S d' x5 hci hv hn hi0 hi; omega
  | succ n ih =>
    intro i c v S d' x5 hci hv hn hi0 hi hk h7 hmo hA hr hre8 hdep
    have hnn := (hTr v hr.1 hr.2 hre8).1
    have e9 : S 9 v = S0 9 v := by rw [hk 9 (by decide) (by decide)]
    have hcfv := hcf v hr.1 hr.2 hre8
    have hcf7 : 0 ≤ S0 9 v → S0 9 v < 7 := fun q => ((hTr v hr.1 hr.2 hre8).2.2 q).1
    refine g_iload 21 dX1_sendTo_19 rfl rfl ?_
    refine g_bipush 23 dX1_sendTo_21 rfl (by decide) ?_
    refine g_icmp_ge 104 26 dX1_sendTo_23 (by decide) rfl (by omega) (by omega) (fun h1 => ?_) (fun h1 => ?_)
    · omega
    · refine g_aload_n 27 dX1_sendTo_26 rfl rfl ?_
      refine mg_before hE 30 dX1_sendTo_27 rfl ?_
      refine g_iload_n 31 dX1_sendTo_30 rfl rfl ?_
      refine ml_before hE 32 dX1_sendTo_31 rfl (by omega) ?_
      refine g_if_lt 104 35 dX1_sendTo_32 (by decide) rfl (by omega) (fun h2 => ?_) (fun h2 => ?_)
      · have hii : i = i0 := by
          rcases Nat.lt_or_ge i i0 with q | q
          · have := (w3 i q).1
            rw [← hv] at this
            omega
          · omega
        subst hii
        rw [← hv] at w2
        obtain ⟨p1, p2, p3, p4⟩ := hA
        rw [← hv] at p2
        refine g_aload_n 105 dX1_sendTo_104 rfl rfl ?_
        refine mg_reached hE 108 dX1_sendTo_105 rfl ?_
        refine g_iload_n 109 dX1_sendTo_108 rfl rfl ?_
        refine g_aload_n 110 dX1_sendTo_109 rfl rfl ?_
        refine mg_reached hE 113 dX1_sendTo_110 rfl ?_
        refine g_iload_n 114 dX1_sendTo_113 rfl rfl ?_
        refine ml_reached hE 115 dX1_sendTo_114 rfl (by omega) ?_
        refine g_iload_n 116 dX1_sendTo_115 rfl rfl ?_
        refine g_isub 117 dX1_sendTo_116 rfl ?_
        refine ms_reached hE 118 dX1_sendTo_117 rfl (by omega) ?_
        refine hret _ _ _ dX1_sendTo_118 ⟨fun k q1 q2 => by rw [us_n q2]; exact hk k q1 q2, v, d', pt, w2, hmo, p1, p2, fun x => ?_⟩
        show ua (S 7) v (S 7 v - a) x = S0 7 x + (if x = e then a else 0) - (if x = v then a else 0)
        rw [h7]
        by_cases c1 : x = v
        · rw [c1, ua_s, if_pos rfl]
          by_cases c2 : v = e
          · rw [c2, ua_s, if_pos rfl]
          · rw [ua_n c2, if_neg c2]
            omega
        · rw [ua_n c1, if_neg c1]
          by_cases c2 : x = e
          · rw [c2, ua_s, if_pos rfl]
            omega
          · rw [ua_n c2, if_neg c2]
            omega
      · rw [e9] at h2
        obtain ⟨t4, t5, t6, t7, t8⟩ := (hTr v hr.1 hr.2 hre8).2.2 h2
        have hilt : i < i0 := by
          rcases Nat.lt_or_ge i i0 with q | q
          · exact q
          · have : i = i0 := by omega
            rw [← this, ← hv] at w1
            omega
        have hstep := aug_s hc0 hTr hpt hA (by rw [← hv]; exact hr.1) (by rw [← hv]; exact hr.2) (by rw [← hv]; exact hre8) (by rw [← hv]; exact h2) (by omega) (w3 i hilt).2
        rw [← hv] at hstep
        obtain ⟨hsame, hA2⟩ := hstep
        have hux : S0 9 v ≠ v := fun q => by rw [q] at t8; omega
        have hms := mo_step (a := a) hmo ⟨h2, t4⟩ hr hux
        refine g_aload_n 36 dX1_sendTo_35 rfl rfl ?_
        refine mg_before hE 39 dX1_sendTo_36 rfl ?_
        refine g_iload_n 40 dX1_sendTo_39 rfl rfl ?_
        refine ml_before hE 41 dX1_sendTo_40 rfl (by omega) ?_
        refine g_istore 43 dX1_sendTo_41 rfl (by decide) ?_
        rw [e9]
        refine g_aload_n 44 dX1_sendTo_43 rfl rfl ?_
        refine mg_owed hE 47 dX1_sendTo_44 rfl ?_
        refine g_bipush 49 dX1_sendTo_47 rfl (by decide) ?_
        refine g_iload 51 dX1_sendTo_49 rfl rfl ?_
        refine g_imul 52 dX1_sendTo_51 rfl ?_
        refine g_iload_n 53 dX1_sendTo_52 rfl rfl ?_
        refine g_iadd 54 dX1_sendTo_53 rfl ?_
        refine g_aload_n 55 dX1_sendTo_54 rfl rfl ?_
        refine mg_owed hE 58 dX1_sendTo_55 rfl ?_
        refine g_bipush 60 dX1_sendTo_58 rfl (by decide) ?_
        refine g_iload 62 dX1_sendTo_60 rfl rfl ?_
        refine g_imul 63 dX1_sendTo_62 rfl ?_
        refine g_iload_n 64 dX1_sendTo_63 rfl rfl ?_
        refine g_iadd 65 dX1_sendTo_64 rfl ?_
        refine ml_owed hE 66 dX1_sendTo_65 rfl (by omega) ?_
        refine g_iload_n 67 dX1_sendTo_66 rfl rfl ?_
        refine g_iadd 68 dX1_sendTo_67 rfl ?_
        refine ms_owed hE 69 dX1_sendTo_68 rfl (by omega) ?_
        refine g_aload_n 70 dX1_sendTo_69 rfl rfl ?_
        refine mg_owed hE 73 dX1_sendTo_70 rfl ?_
        refine g_bipush 75 dX1_sendTo_73 rfl (by decide) ?_
        refine g_iload_n 76 dX1_sendTo_75 rfl rfl ?_
        refine g_imul 77 dX1_sendTo_76 rfl ?_
        refine g_iload 79 dX1_sendTo_77 rfl rfl ?_
        refine g_iadd 80 dX1_sendTo_79 rfl ?_
        refine g_aload_n 81 dX1_sendTo_80 rfl rfl ?_
        refine mg_owed hE 84 dX1_sendTo_81 rfl ?_
        refine g_bipush 86 dX1_sendTo_84 rfl (by decide) ?_
        refine g_iload_n 87 dX1_sendTo_86 rfl rfl ?_
        refine g_imul 88 dX1_sendTo_87 rfl ?_
        refine g_iload 90 dX1_sendTo_88 rfl rfl ?_
        refine g_iadd 91 dX1_sendTo_90 rfl ?_
        refine ml_owed hE 92 dX1_sendTo_91 rfl (by omega) ?_
        refine g_iload_n 93 dX1_sendTo_92 rfl rfl ?_
        refine g_isub 94 dX1_sendTo_93 rfl ?_
        refine ms_owed hE 95 dX1_sendTo_94 rfl (by omega) ?_
        refine g_iload 97 dX1_sendTo_95 rfl rfl ?_
        refine g_istore_n 98 dX1_sendTo_97 rfl (by decide) ?_
        refine g_iinc 101 dX1_sendTo_98 rfl (by decide) rfl ?_
        refine g_goto 19 dX1_sendTo_101 (by decide) ?_
        refine ih (i + 1) (c + 1) (S0 9 v) _ (up2 d' (S0 9 v) v a) _ (by omega) (by rw [hv]; rfl) (by omega) (by omega) (by omega) (fun k q1 q2 => ?_) ?_ hms hA2 ⟨h2, t4⟩ t6 (by omega)
        · rw [us_n q1, us_n q1]
          exact hk k q1 q2
        · rw [us_n (by decide), us_n (by decide)]
          exact h7
end
section
/-! ===== CreditNetworkModel: debts ===== -/
set_option maxRecDepth 10000
theorem cm_debts : c_meti mW yX1_debts cX1_debts 5 .int (rk 2) true [] MI (fun S z S' => (∀ k, k < 6 → S' k = S k) ∧ Opt (S 0) (S 1) z) := by
  refine c_meti_of (own := RX1) (by decide) rfl mW_fst (fun _ => by simp [c_args]) ?_
  intro E h S0 hE hR hX hret
  show G E cX1_debts 5 S0 0 [some (.inr (h 0)), none, none, none, none] []
  have hTr := MI_T hX
  have hPr := MI_P hX
  obtain ⟨F, hI⟩ := hX.1
  have hdue := due_12 hI
  -- the sum
  have last : ∀ (S : st_T) (d : Int → Int → Int) (pt : Int → Int) (x1 x2 x3 x4 : Option pv), (∀ k, k < 6 → S k = S0 k) → MO d (S 6) → Flo 7 (mT (S0 0)) d pt → (∀ x : Int, 0 ≤ x → x < 7 → sg (d x) 7 = -(S0 1 x)) → G E cX1_debts 5 S 89 [some (.inr (h 0)), x1, x2, x3, x4] [] := by
    intro S d pt x1 x2 x3 x4 hk hmo hF hrow
    refine g_iconst 90 dX1_debts_89 rfl ?_
    refine g_istore_n 91 dX1_debts_90 rfl (by decide) ?_
    refine g_iconst 92 dX1_debts_91 rfl ?_
    refine g_istore_n 93 dX1_debts_92 rfl (by decide) ?_
    suffices loop : ∀ (n i : Nat) (c sum : Int), c = i → i ≤ 49 → 49 - c < n → sum = sg (fun p => pos (S 6 p)) i → G E cX1_debts 5 S 93 [some (.inr (h 0)), x1, some (.inl sum), some (.inl c), x4] [] from loop 50 0 0 0 rfl (by decide) (by decide) rfl
    intro n
    induction n with
    | zero => intro i c sum hci hi hn; omega
    | succ n ih =>
      intro i c sum hci hi hn hsum
      refine g_iload_n 94 dX1_debts_93 rfl rfl ?_
      refine g_bipush 96 dX1_debts_94 rfl (by decide) ?_
      refine g_icmp_ge 127 99 dX1_debts_96 (by decide) rfl (by omega) (by omega) (fun hc => ?_) (fun hc => ?_)
      · refine g_iload_n 128 dX1_debts_127 rfl rfl ?_
        have hi49 : i = 49 := by omega
        subst hi49
        refine hret _ _ _ _ dX1_debts_128 rfl ⟨hk, d, pt, hF, hrow, ?_⟩
        rw [hsum, mo_cost hmo]
      · have hO := mo_rng hTr hF hmo (j := c) (by omega) (by omega)
        have go : ∀ w : Int, w = sum + pos (S 6 c) → G E cX1_debts 5 S 120 [some (.inr (h 0)), x1, some (.inl sum), some (.inl c), x4] [.inl w] := by
          intro w hw
          refine g_istore_n 121 dX1_debts_120 rfl (by decide) ?_
          refine g_iinc 124 dX1_debts_121 rfl (by decide) rfl ?_
          refine g_goto 93 dX1_debts_124 (by decide) ?_
          refine ih (i + 1) (c + 1) w (by omega) (by omega) (by omega) ?_
          show w = sg (fun p => pos (S 6 p)) i + pos (S 6 i)
          rw [hw, hsum, hci]
        refine g_aload_n 100 dX1_debts_99 rfl rfl ?_
        refine mg_owed hE 103 dX1_debts_100 rfl ?_
        refine g_iload_n 104 dX1_debts_103 rfl rfl ?_
        refine ml_owed hE 105 dX1_debts_104 rfl (by omega) ?_
        refine g_if_le 119 108 dX1_debts_105 (by decide) rfl (by omega) (fun h1 => ?_) (fun h1 => ?_)
        · refine g_iload_n 120 dX1_debts_119 rfl rfl ?_
          exact go sum (by unfold pos; rw [if_neg (by omega)]; omega)
        · refine g_iload_n 109 dX1_debts_108 rfl rfl ?_
          refine g_aload_n 110 dX1_debts_109 rfl rfl ?_
          refine mg_owed hE 113 dX1_debts_110 rfl ?_
          refine g_iload_n 114 dX1_debts_113 rfl rfl ?_
          refine ml_owed hE 115 dX1_debts_114 rfl (by omega) ?_
          refine g_iadd 116 dX1_debts_115 rfl ?_
          refine g_goto 120 dX1_debts_116 (by decide) ?_
          exact go _ (by unfold pos; rw [if_pos h1])
  -- the payments
  have main : ∀ (n : Nat) (c more : Int) (S : st_T) (x3 x4 : Option pv), 0 ≤ c → 20000 - c < n → (∀ k, k < 6 → S k = S0 k) → (∃ (d : Int → Int → Int) (pt : Int → Int), MO d (S 6) ∧ Flo 7 (mT (S0 0)) d pt ∧ (∀ x : Int, 0 ≤ x → x < 7 → sg (d x) 7 = -(S 7 x)) ∧ ((more = 1 ∧ c + sg (fun x => pos (S0 1 x - S 7 x)) 7 ≤ 12000) ∨ (more = 0 ∧ c ≤ 12001 ∧ ∀ x : Int, 0 ≤ x → x < 7 → S 7 x = S0 1 x))) → G E cX1_debts 5 S 35 [some (.inr (h 0)), some (.inl more), some (.inl c), x3, x4] [] := by
    intro n
    induction n with
    | zero =>
      intro c more S x3 x4 g0 gn hk hd
      obtain ⟨d, pt, hmo, hF, hrow, hm⟩ := hd
      have : 0 ≤ sg (fun x => pos (S0 1 x - S 7 x)) 7 := sg_nn (fun x _ _ => pos_nn _)
      omega
    | succ n ih =>
      intro c more S x3 x4 g0 gn hk hd
      obtain ⟨d, pt, hmo, hF, hrow, hm⟩ := hd
      have hs0 : 0 ≤ sg (fun x => pos (S0 1 x - S 7 x)) 7 := sg_nn (fun x _ _ => pos_nn _)
      have hm01 : more = 1 ∨ more = 0 := by rcases hm with ⟨q, -⟩ | ⟨q, -⟩ <;> omega
      refine g_iload_n 36 dX1_debts_35 rfl rfl ?_
      refine g_sipush 39 dX1_debts_36 rfl (by decide) ?_
      refine g_icmp_ge 89 42 dX1_debts_39 (by decide) rfl (by omega) (by omega) (fun hc1 => ?_) (fun hc1 => ?_)
      · omega
      · refine g_iload_n 43 dX1_debts_42 rfl rfl ?_
        refine g_if_eq 89 46 dX1_debts_43 (by decide) rfl (by omega) (fun hc2 => ?_) (fun hc2 => ?_)
        · refine last S d pt _ _ _ _ hk hmo hF (fun x q1 q2 => ?_)
          rcases hm with ⟨q, -⟩ | ⟨-, -, q⟩
          · omega
          · rw [hrow x q1 q2, q x q1 q2]
        · rcases hm with ⟨-, hmeas⟩ | ⟨q, -⟩
          · obtain ⟨pt2, hF2, hlow⟩ := flo_low hF
            have e0 : S 0 = S0 0 := hk 0 (by decide)
            have e1 : S 1 = S0 1 := hk 1 (by decide)
            have hR7 : ∀ x : Int, 0 ≤ x → x < 7 → -100000 ≤ S 7 x ∧ S 7 x ≤ 100000 := by
              intro x q1 q2
              have r := hrow x q1 q2
              have hb : ∀ y : Int, 0 ≤ y → y < 7 → -1000 ≤ d x y ∧ d x y ≤ 1000 := fun y q3 q4 => by
                rw [← hmo x y q1 q2 q3 q4]
                exact mo_rng hTr hF hmo (by omega) (by omega)
              have b1 : sg (d x) 7 ≤ sg (fun _ => 1000) 7 := sg_le (fun y q3 q4 => (hb y q3 q4).2)
              have b2 : sg (fun _ => -1000) 7 ≤ sg (d x) 7 := sg_le (fun y q3 q4 => (hb y q3 q4).1)
              rw [sg_const] at b1 b2
              omega
            have hMB : MB S d := by
              refine ⟨by rw [e0]; exact hTr, by rw [e0]; exact hI.2.2.2.2.2, fun x q1 q2 => ⟨?_, hR7 x q1 q2⟩, hmo⟩
              rw [e1]
              have := hPr x q1 q2
              omega
            refine g_aload_n 47 dX1_debts_46 rfl rfl ?_
            refine g_callv (na := 0) (m_findWays d pt2 hlow) mW_ob (lw_V q308 q310 qs19 q26 q311) (by decide +kernel) rfl ⟨rfl, rfl⟩ hE (by rw [hR]; decide) 50 dX1_debts_47 rfl [] rfl (by simp) ⟨hMB, by rw [e0]; exact hF2⟩ (fun S1 hS1 => ?_)
            obtain ⟨hk1, hch⟩ := hS1
            have hMB1 : MB S1 d := by
              unfold MB
              rw [hk1 0 (by decide) (by decide), hk1 1 (by decide) (by decide), hk1 6 (by decide) (by decide), hk1 7 (by decide) (by decide)]
              exact hMB
            have hch1 : Chm (mT (S1 0)) d (fun v => S1 1 v < S1 7 v) (S1 8) (S1 9) := by
              rw [hk1 0 (by decide) (by decide), hk1 1 (by decide) (by decide), hk1 7 (by decide) (by decide)]
              exact hch
            have f1 : S1 1 = S0 1 := by rw [hk1 1 (by decide) (by decide), e1]
            have f7 : S1 7 = S 7 := hk1 7 (by decide) (by decide)
            have hk6 : ∀ k, k < 6 → S1 k = S0 k := fun k q => by rw [hk1 k (by omega) (by omega)]; exact hk k q
            have hmo1 : MO d (S1 6) := by rw [hk1 6 (by decide) (by decide)]; exact hmo
            obtain ⟨dep, pt3, -, -, -, -, hroot, hcl, hdr⟩ := hch
            refine g_aload_n 51 dX1_debts_50 rfl rfl ?_
            refine g_calli (na := 0) (m_cheapest) mW_ob (lw_V q316 q318 qs21 q26 q319) (by decide +kernel) rfl ⟨rfl, rfl⟩ hE (by rw [hR]; decide) 54 dX1_debts_51 rfl [] rfl (by simp) (fun x q1 q2 => ⟨by rw [f1]; have := hPr x q1 q2; omega, by rw [f7]; exact hR7 x q1 q2, hdr x q1 q2⟩) (fun e S2 hS2 => ?_)
            obtain ⟨hS2, he⟩ := hS2
            subst hS2
            have her : -1 ≤ e ∧ e < 7 := by rcases he with ⟨q, -⟩ | ⟨q, -⟩ <;> omega
            refine g_istore_n 55 dX1_debts_54 rfl (by decide) ?_
            refine g_iload_n 56 dX1_debts_55 rfl rfl ?_
            refine g_if_lt 63 59 dX1_debts_56 (by decide) rfl (by omega) (fun h1 => ?_) (fun h1 => ?_)
            · have hno : ∀ v : Int, 0 ≤ v → v < 7 → ¬ (S2 7 v < S2 1 v ∧ S2 8 v < 1000) := by
                rcases he with ⟨q, -⟩ | ⟨-, q⟩
                · omega
                · exact q
              have hall := m_all (R := S 7) (dist := S2 8) hI hF hrow (fun v q1 q2 q3 => hroot v q1 q2 (by rw [e1]; exact q3)) (fun u v q1 q2 q3 q4 q5 q6 => hcl u v q1 q2 q3 q4 (by rw [e0]; exact q5) q6) (fun v q1 q2 q3 => hno v q1 q2 (by rw [f7, f1]; exact q3))
              refine g_iconst 64 dX1_debts_63 rfl ?_
              refine g_istore_n 65 dX1_debts_64 rfl (by decide) ?_
              refine g_iload_n 66 dX1_debts_65 rfl rfl ?_
              refine g_if_eq 83 69 dX1_debts_66 (by decide) rfl (by omega) (fun h2 => ?_) (fun h2 => ?_)
              · refine g_iinc 86 dX1_debts_83 rfl (by decide) rfl ?_
                refine g_goto 35 dX1_debts_86 (by decide) ?_
                refine ih (c + 1) 0 S2 _ _ (by omega) (by omega) hk6 ⟨d, pt, hmo1, hF, fun x q1 q2 => by rw [f7]; exact hrow x q1 q2, Or.inr ⟨rfl, by omega, fun x q1 q2 => by rw [f7]; exact hall x q1 q2⟩⟩
              · omega
            · refine g_iconst 60 dX1_debts_59 rfl ?_
              refine g_goto 64 dX1_debts_60 (by decide) ?_
              refine g_istore_n 65 dX1_debts_64 rfl (by decide) ?_
              refine g_iload_n 66 dX1_debts_65 rfl rfl ?_
              refine g_if_eq 83 69 dX1_debts_66 (by decide) rfl (by omega) (fun h2 => ?_) (fun h2 => ?_)
              · omega
              · obtain ⟨hee, hl1, hl2⟩ : (0 ≤ e ∧ e < 7) ∧ S2 7 e < S2 1 e ∧ S2 8 e < 1000 := by
                  rcases he with q | ⟨q, -⟩
                  · exact q
                  · omega
                refine g_aload_n 70 dX1_debts_69 rfl rfl ?_
                refine g_iload_n 71 dX1_debts_70 rfl rfl ?_
                refine g_calli (na := 1) (m_widthTo d e hee) mW_ob (lw_V q320 q322 qs22 q26 q323) (by decide +kernel) rfl ⟨rfl, rfl⟩ hE (by rw [hR]; decide) 74 dX1_debts_71 rfl [] rfl (by simp) ⟨hMB1, hch1, hl1, hl2⟩ (fun a S3 hS3 => ?_)
                obtain ⟨hS3, ha1, ha2, hwd⟩ := hS3
                subst hS3
                refine g_istore 76 dX1_debts_74 rfl (by decide) ?_
                refine g_aload_n 77 dX1_debts_76 rfl rfl ?_
                refine g_iload_n 78 dX1_debts_77 rfl rfl ?_
                refine g_iload 80 dX1_debts_78 rfl rfl ?_
                refine g_callv (na := 2) (m_sendTo d e a hee ha1) mW_ob (lw_V q324 q326 qs23 q26 q327) (by decide +kernel) rfl ⟨rfl, rfl⟩ hE (by rw [hR]; decide) 83 dX1_debts_80 rfl [] rfl (by simp) ⟨hMB1, hch1, hl2, hwd⟩ (fun S4 hS4 => ?_)
                obtain ⟨hk4, r, d', pt', hr1, hmo', hF', hrow', hR'⟩ := hS4
                rw [f7, f1] at hr1 ha2
                rw [f7] at hR'
                have hF'' : Flo 7 (mT (S0 0)) d' pt' := by rw [← hk6 0 (by decide)]; exact hF'
                refine g_iinc 86 dX1_debts_83 rfl (by decide) rfl ?_
                refine g_goto 35 dX1_debts_86 (by decide) ?_
                refine ih (c + 1) 1 S4 _ _ (by omega) (by omega) (fun k q => by rw [hk4 k (by omega) (by omega)]; exact hk6 k q) ⟨d', pt', hmo', hF'', fun x q1 q2 => ?_, Or.inl ⟨rfl, ?_⟩⟩
                · rw [hrow' x q1 q2, hrow x q1 q2, hR' x]
                  omega
                · rw [m_meas hee ha1 ha2 hr1 hR']
                  omega
          · omega
  -- all to nought
  refine g_iconst 1 dX1_debts_0 rfl ?_
  refine g_istore_n 2 dX1_debts_1 rfl (by decide) ?_
  suffices loop : ∀ (n : Nat) (i : Int) (S : st_T), 0 ≤ i → i ≤ 49 → 49 - i < n → (∀ k, k < 6 → S k = S0 k) → (∀ j : Int, 0 ≤ j → j < i → S 6 j = 0) → (∀ x : Int, 0 ≤ x → 7 * x < i → S 7 x = 0) → G E cX1_debts 5 S 2 [some (.inr (h 0)), some (.inl i), none, none, none] [] from loop 50 0 S0 (by decide) (by decide) (by decide) (fun _ _ => rfl) (fun j q1 q2 => by omega) (fun x q1 q2 => by omega)
  intro n
  induction n with
  | zero => intro i S g0 g1 gn; omega
  | succ n ih =>
    intro i S g0 g1 gn hk h6 h7
    refine g_iload_n 3 dX1_debts_2 rfl rfl ?_
    refine g_bipush 5 dX1_debts_3 rfl (by decide) ?_
    refine g_icmp_ge 31 8 dX1_debts_5 (by decide) rfl (by omega) (by omega) (fun hc => ?_) (fun hc => ?_)
    · refine g_iconst 32 dX1_debts_31 rfl ?_
      refine g_istore_n 33 dX1_debts_32 rfl (by decide) ?_
      refine g_iconst 34 dX1_debts_33 rfl ?_
      refine g_istore_n 35 dX1_debts_34 rfl (by decide) ?_
      refine main 20001 0 1 S _ _ (by decide) (by decide) hk ⟨fun _ _ => 0, fun _ => 0, fun u v q1 q2 q3 q4 => h6 _ (by omega) (by omega), ⟨fun u v _ _ _ _ => rfl, fun u v q1 q2 q3 q4 => (hTr (7 * v + u) (by omega) (by omega)).1, fun u v q1 q2 q3 q4 q5 => ?_⟩, fun x q1 q2 => ?_, Or.inl ⟨rfl, ?_⟩⟩
      · show (0 : Int) ≤ 0 + cst (fun _ _ => 0) u v
        unfold cst
        split
        · decide
        · exact (by decide : (0 : Int) ≤ 0 + (if (0 : Int) < 0 then -1 else 1))
      · rw [sg_zero (fun _ _ _ => rfl), h7 x q1 (by omega)]
        rfl
      · rw [sg_congr (g := fun x => pos (S0 1 x)) (fun x q1 q2 => by rw [h7 x q1 (by omega), Int.sub_zero])]
        omega
    · refine g_aload_n 9 dX1_debts_8 rfl rfl ?_
      refine mg_owed hE 12 dX1_debts_9 rfl ?_
      refine g_iload_n 13 dX1_debts_12 rfl rfl ?_
      refine g_iconst 14 dX1_debts_13 rfl ?_
      refine ms_owed hE 15 dX1_debts_14 rfl (by omega) ?_
      refine g_aload_n 16 dX1_debts_15 rfl rfl ?_
      refine mg_reached hE 19 dX1_debts_16 rfl ?_
      refine g_iload_n 20 dX1_debts_19 rfl rfl ?_
      refine g_bipush 22 dX1_debts_20 rfl (by decide) ?_
      refine g_idiv 23 dX1_debts_22 rfl (by omega) (by omega) ?_
      refine g_iconst 24 dX1_debts_23 rfl ?_
      refine ms_reached hE 25 dX1_debts_24 rfl (by omega) ?_
      refine g_iinc 28 dX1_debts_25 rfl (by decide) rfl ?_
      refine g_goto 2 dX1_debts_28 (by decide) ?_
      refine ih (i + 1) _ (by omega) (by omega) (by omega) (fun k q => ?_) (fun j q1 q2 => ?_) (fun x q1 q2 => ?_)
      · rw [us_n (by omega), us_n (by omega)]
        exact hk k q
      · show ua (S 6) i 0 j = 0
        by_cases e : j = i
        · subst e
          rw [ua_s]
        · rw [ua_n e]
          exact h6 j q1 (by omega)
      · show ua (S 7) (i / 7) 0 x = 0
        by_cases e : x = i / 7
        · rw [e, ua_s]
        · rw [ua_n e]
          exact h7 x q1 (by omega)
end
section
/-! ===== the constructors ===== -/
section
variable {p : Program} {l : Launch} {e : Env} {R : Room} {s : State} {m : MethodId} {args : Array Value} {below : List Frame} {meth : Method} {c : Code} {H : Heap} {locs : List Loc} {cells slots : Nat} {Q : State → Prop}
variable {cc : ByteArray} {pc : Nat} {ls : Array Slot} {rest : List Value} {D : va_G} {cl : List vw_C} {ws : va_W} {A : Nat → Prop} {H0 : Heap} {d : ClassId}
/-- a new array of ints, its class known -/
theorem c_newa (hx : p.tables.exec = Jvm.exec) (hb : c.code = cc) (harr : (Cond.arrayClass .int).before args s = true) (hK : va_K D cl [(d, .int)] s) (hP : va_P D cl ws H) (hD : va_D A ws) (hS : va_S A H0 H locs) (hA : ∀ q, H0.size ≤ q → A q) {n : Int32} {z : Nat} (hn : ¬ n < 0) (hN : n.toNatClampNeg = z) (hz : z < 100000) (hcells : cells + 1 ≤ R.cells) (hslots : slots + z ≤ R.slots) (hdg : decode cc pc = .ok (.newarray .int, 2))
    (kk : ∀ (q : Nat) (H1 : Heap), va_P D cl (ws ++ [(q, cA_ d z (fun _ => 0))]) H1 → va_D A (ws ++ [(q, cA_ d z (fun _ => 0))]) → va_S A H0 H1 locs → W p l e R s m args below meth c H1 locs (cells + 1) (slots + z) Q (F0 m (pc + 2) ls (.ref q :: rest))) : W p l e R s m args below meth c H locs cells slots Q (F0 m pc ls (.int n :: rest)) := by
  refine va_newa (a0 := (z, .inl (fun _ => iI 0))) (ty := .int) hx hb (atype := .int) harr rfl hK hP hD hS hA (fun cA => ?_) hn hN (by show z * 4 ≤ 536870912; omega) hcells hslots hdg (fun q cA H1 hK1 hP1 hD1 hS1 => ?_)
  · rw [vp_cell_i, iI_0]
    rfl
  · have e1 := va_nm_int (hK1.2 0 (d, .int) rfl).2
    have e2 := va_nm_int (hK1.2 1 (cA, .int) rfl).2
    have e3 : cA = d := Option.some.inj (e2.symm.trans e1)
    subst e3
    exact kk q H1 hP1 hD1 hS1
end
def S_0 : st_T := fun _ _ => 0
def ad_ (a : List Nat) : Nat → Nat := fun k => a.getD k 0

def xDef : List Value := [.null, .null, .null, .int (iI 0), .null, .null, .null, .null, .null, .null, .null, .null, .null]
set_option maxHeartbeats 4000000 in
set_option maxRecDepth 100000 in
theorem x_init (l : Launch) (D : va_G) (d : ClassId) (h0 sz : Nat) : Met l yX0_init (ws_ yX0_init cX0_init 1 none) ({ frames := 1, cells := 12, slots := 351, locals := 40 }) (va_Pc [.ref h0] (fun U => U.heap.size = sz ∧ va_P D vwCl [(h0, .inr (0, xDef))] U.heap ∧ va_K D vwCl [(d, .int)] U ∧ va_D (fun _ => True) [(h0, .inr (0, xDef))])) (va_Qv (fun (u : Nat → Nat) => u 0 = h0) (fun u t => va_P D vwCl (xW u d S_0) t.heap ∧ va_D (va_A [(h0, .inr (0, xDef))] sz) (xW u d S_0)) (va_A [(h0, .inr (0, xDef))] sz)) 12 351 (va_A [(h0, .inr (0, xDef))] sz) := by
  refine Met.ofW (cc := cX0_init) (maxL := 1) (ret := none) (by decide) rfl ?_
  intro p e s m args below meth c s₁ B hml hv
  obtain ⟨rfl, hsz, hP, hK, hD0⟩ := hv
  have hx := B.exec
  have hb := B.bytes
  have hr := B.returns
  have hts0 := atoms_spec (ws := ws_ yX0_init cX0_init 1 none) B.pre
  have hts : ∀ w ∈ lw_all, w.before _ s = true := fun w h => hts0 w (List.mem_cons_of_mem _ h)
  have hown : s.vm.findClass RX0 = some m.cls := findClass_of_methodNamed B.named
  have hlocks := B.notSynchronized
  have hin : meth.name = "<init>" := (name_of_methodNamed B.named B.method).1
  subst hsz
  have hD := hD0.self (sz := s.heap.size)
  generalize hAe : va_A [(h0, .inr (0, xDef))] s.heap.size = A at hD ⊢
  have hA : ∀ q : Nat, s.heap.size ≤ q → A q := fun q h => by rw [← hAe]; exact Or.inr h
  have hS : va_S A s.heap s.heap [] := va_S.rf
  have hl := lv_entry ([.ref h0]) (n := 1) (Nat.le_of_ble_eq_true rfl)
  rw [lg_entry_eq]
  generalize (lg_sl ([.ref h0]) ++ List.replicate (1 - (lg_sl ([.ref h0])).length) Slot.unset).toArray = ls at hl ⊢
  have hl : lv_has ls 1 [(0, .ref h0)] := hl
  have hP : va_P D vwCl [(h0, .inr (0, [.null, .null, .null, .int (iI 0), .null, .null, .null, .null, .null, .null, .null, .null, .null]))] s.heap := hP
  have hD : va_D A [(h0, .inr (0, [.null, .null, .null, .int (iI 0), .null, .null, .null, .null, .null, .null, .null, .null, .null]))] := hD
  refine lv_aload_n hx hb dX0_init_0 rfl (lv_at hl 0 rfl) ?_
  refine W.objInit hx hb hown (hts _ q32) (hts _ q33) (hts _ q34) rfl (by rw [hml]; exact hl.1) rfl dX0_init_1 (Nat.le_of_ble_eq_true rfl) (Nat.le_of_ble_eq_true rfl) ?_
  refine W.eq (g2 := F0 m 4 ls []) rfl ?_
  refine lv_aload_n hx hb dX0_init_4 rfl (lv_at hl 0 rfl) ?_
  refine lv_bipush (v := 49) hx hb dX0_init_5 (by decide) ?_
  refine c_newa hx hb (hts _ q75) hK hP hD hS hA (z := 49) (by decide) (by decide) (by decide) (Nat.le_of_ble_eq_true rfl) (Nat.le_of_ble_eq_true rfl) dX0_init_7 (fun q1 H hP hD hS => ?_)
  refine W.widen (k := 1) (n := 49) (by omega) (by omega) ?_
  have hP : va_P D vwCl [(h0, .inr (0, [.null, .null, .null, .int (iI 0), .null, .null, .null, .null, .null, .null, .null, .null, .null])), (q1, cA_ d 49 (fun _ => 0))] H := hP
  have hD : va_D A [(h0, .inr (0, [.null, .null, .null, .int (iI 0), .null, .null, .null, .null, .null, .null, .null, .null, .null])), (q1, cA_ d 49 (fun _ => 0))] := hD
  refine va_putF (D := D) (ci := 0) (v := .ref q1) (ty := .array .int) (C := RX0) (T := TX0) (N := 13) hx hb hts in_X0 tyX0 tyX0_ok nmX0 hown hK hP hD hS 0 rfl rfl 0 (by decide) (hts _ q35) (fun _ h9 => h9) rfl hin rfl (by decide +kernel) rfl rfl (Nat.le_of_ble_eq_true rfl) dX0_init_9 (fun H locs hP hD hS => ?_)
  have hP : va_P D vwCl [(h0, .inr (0, [.ref q1, .null, .null, .int (iI 0), .null, .null, .null, .null, .null, .null, .null, .null, .null])), (q1, cA_ d 49 (fun _ => 0))] H := hP
  have hD : va_D A [(h0, .inr (0, [.ref q1, .null, .null, .int (iI 0), .null, .null, .null, .null, .null, .null, .null, .null, .null])), (q1, cA_ d 49 (fun _ => 0))] := hD
  refine lv_aload_n hx hb dX0_init_12 rfl (lv_at hl 0 rfl) ?_
  refine lv_bipush (v := 7) hx hb dX0_init_13 (by decide) ?_
  refine c_newa hx hb (hts _ q75) hK hP hD hS hA (z := 7) (by decide) (by decide) (by decide) (Nat.le_of_ble_eq_true rfl) (Nat.le_of_ble_eq_true rfl) dX0_init_15 (fun q2 H hP hD hS => ?_)
  refine W.widen (k := 2) (n := 56) (by omega) (by omega) ?_
  have hP : va_P D vwCl [(h0, .inr (0, [.ref q1, .null, .null, .int (iI 0), .null, .null, .null, .null, .null, .null, .null, .null, .null])), (q1, cA_ d 49 (fun _ => 0)), (q2, cA_ d 7 (fun _ => 0))] H := hP
  have hD : va_D A [(h0, .inr (0, [.ref q1, .null, .null, .int (iI 0), .null, .null, .null, .null, .null, .null, .null, .null, .null])), (q1, cA_ d 49 (fun _ => 0)), (q2, cA_ d 7 (fun _ => 0))] := hD
  refine va_putF (D := D) (ci := 0) (v := .ref q2) (ty := .array .int) (C := RX0) (T := TX0) (N := 13) hx hb hts in_X0 tyX0 tyX0_ok nmX0 hown hK hP hD hS 0 rfl rfl 1 (by decide) (hts _ q36) (fun _ h9 => h9) rfl hin rfl (by decide +kernel) rfl rfl (Nat.le_of_ble_eq_true rfl) dX0_init_17 (fun H locs hP hD hS => ?_)
  have hP : va_P D vwCl [(h0, .inr (0, [.ref q1, .ref q2, .null, .int (iI 0), .null, .null, .null, .null, .null, .null, .null, .null, .null])), (q1, cA_ d 49 (fun _ => 0)), (q2, cA_ d 7 (fun _ => 0))] H := hP
  have hD : va_D A [(h0, .inr (0, [.ref q1, .ref q2, .null, .int (iI 0), .null, .null, .null, .null, .null, .null, .null, .null, .null])), (q1, cA_ d 49 (fun _ => 0)), (q2, cA_ d 7 (fun _ => 0))] := hD
  refine lv_aload_n hx hb dX0_init_20 rfl (lv_at hl 0 rfl) ?_
  refine lv_bipush (v := 81) hx hb dX0_init_21 (by decide) ?_
  refine c_newa hx hb (hts _ q75) hK hP hD hS hA (z := 81) (by decide) (by decide) (by decide) (Nat.le_of_ble_eq_true rfl) (Nat.le_of_ble_eq_true rfl) dX0_init_23 (fun q3 H hP hD hS => ?_)
  refine W.widen (k := 3) (n := 137) (by omega) (by omega) ?_
  have hP : va_P D vwCl [(h0, .inr (0, [.ref q1, .ref q2, .null, .int (iI 0), .null, .null, .null, .null, .null, .null, .null, .null, .null])), (q1, cA_ d 49 (fun _ => 0)), (q2, cA_ d 7 (fun _ => 0)), (q3, cA_ d 81 (fun _ => 0))] H := hP
  have hD : va_D A [(h0, .inr (0, [.ref q1, .ref q2, .null, .int (iI 0), .null, .null, .null, .null, .null, .null, .null, .null, .null])), (q1, cA_ d 49 (fun _ => 0)), (q2, cA_ d 7 (fun _ => 0)), (q3, cA_ d 81 (fun _ => 0))] := hD
  refine va_putF (D := D) (ci := 0) (v := .ref q3) (ty := .array .int) (C := RX0) (T := TX0) (N := 13) hx hb hts in_X0 tyX0 tyX0_ok nmX0 hown hK hP hD hS 0 rfl rfl 2 (by decide) (hts _ q37) (fun _ h9 => h9) rfl hin rfl (by decide +kernel) rfl rfl (Nat.le_of_ble_eq_true rfl) dX0_init_25 (fun H locs hP hD hS => ?_)
  have hP : va_P D vwCl [(h0, .inr (0, [.ref q1, .ref q2, .ref q3, .int (iI 0), .null, .null, .null, .null, .null, .null, .null, .null, .null])), (q1, cA_ d 49 (fun _ => 0)), (q2, cA_ d 7 (fun _ => 0)), (q3, cA_ d 81 (fun _ => 0))] H := hP
  have hD : va_D A [(h0, .inr (0, [.ref q1, .ref q2, .ref q3, .int (iI 0), .null, .null, .null, .null, .null, .null, .null, .null, .null])), (q1, cA_ d 49 (fun _ => 0)), (q2, cA_ d 7 (fun _ => 0)), (q3, cA_ d 81 (fun _ => 0))] := hD
  refine lv_aload_n hx hb dX0_init_28 rfl (lv_at hl 0 rfl) ?_
  refine lv_bipush (v := 6) hx hb dX0_init_29 (by decide) ?_
  refine c_newa hx hb (hts _ q75) hK hP hD hS hA (z := 6) (by decide) (by decide) (by decide) (Nat.le_of_ble_eq_true rfl) (Nat.le_of_ble_eq_true rfl) dX0_init_31 (fun q4 H hP hD hS => ?_)
  refine W.widen (k := 4) (n := 143) (by omega) (by omega) ?_
  have hP : va_P D vwCl [(h0, .inr (0, [.ref q1, .ref q2, .ref q3, .int (iI 0), .null, .null, .null, .null, .null, .null, .null, .null, .null])), (q1, cA_ d 49 (fun _ => 0)), (q2, cA_ d 7 (fun _ => 0)), (q3, cA_ d 81 (fun _ => 0)), (q4, cA_ d 6 (fun _ => 0))] H := hP
  have hD : va_D A [(h0, .inr (0, [.ref q1, .ref q2, .ref q3, .int (iI 0), .null, .null, .null, .null, .null, .null, .null, .null, .null])), (q1, cA_ d 49 (fun _ => 0)), (q2, cA_ d 7 (fun _ => 0)), (q3, cA_ d 81 (fun _ => 0)), (q4, cA_ d 6 (fun _ => 0))] := hD
  refine va_putF (D := D) (ci := 0) (v := .ref q4) (ty := .array .int) (C := RX0) (T := TX0) (N := 13) hx hb hts in_X0 tyX0 tyX0_ok nmX0 hown hK hP hD hS 0 rfl rfl 4 (by decide) (hts _ q39) (fun _ h9 => h9) rfl hin rfl (by decide +kernel) rfl rfl (Nat.le_of_ble_eq_true rfl) dX0_init_33 (fun H locs hP hD hS => ?_)
  have hP : va_P D vwCl [(h0, .inr (0, [.ref q1, .ref q2, .ref q3, .int (iI 0), .ref q4, .null, .null, .null, .null, .null, .null, .null, .null])), (q1, cA_ d 49 (fun _ => 0)), (q2, cA_ d 7 (fun _ => 0)), (q3, cA_ d 81 (fun _ => 0)), (q4, cA_ d 6 (fun _ => 0))] H := hP
  have hD : va_D A [(h0, .inr (0, [.ref q1, .ref q2, .ref q3, .int (iI 0), .ref q4, .null, .null, .null, .null, .null, .null, .null, .null])), (q1, cA_ d 49 (fun _ => 0)), (q2, cA_ d 7 (fun _ => 0)), (q3, cA_ d 81 (fun _ => 0)), (q4, cA_ d 6 (fun _ => 0))] := hD
  refine lv_aload_n hx hb dX0_init_36 rfl (lv_at hl 0 rfl) ?_
  refine lv_bipush (v := 6) hx hb dX0_init_37 (by decide) ?_
  refine c_newa hx hb (hts _ q75) hK hP hD hS hA (z := 6) (by decide) (by decide) (by decide) (Nat.le_of_ble_eq_true rfl) (Nat.le_of_ble_eq_true rfl) dX0_init_39 (fun q5 H hP hD hS => ?_)
  refine W.widen (k := 5) (n := 149) (by omega) (by omega) ?_
  have hP : va_P D vwCl [(h0, .inr (0, [.ref q1, .ref q2, .ref q3, .int (iI 0), .ref q4, .null, .null, .null, .null, .null, .null, .null, .null])), (q1, cA_ d 49 (fun _ => 0)), (q2, cA_ d 7 (fun _ => 0)), (q3, cA_ d 81 (fun _ => 0)), (q4, cA_ d 6 (fun _ => 0)), (q5, cA_ d 6 (fun _ => 0))] H := hP
  have hD : va_D A [(h0, .inr (0, [.ref q1, .ref q2, .ref q3, .int (iI 0), .ref q4, .null, .null, .null, .null, .null, .null, .null, .null])), (q1, cA_ d 49 (fun _ => 0)), (q2, cA_ d 7 (fun _ => 0)), (q3, cA_ d 81 (fun _ => 0)), (q4, cA_ d 6 (fun _ => 0)), (q5, cA_ d 6 (fun _ => 0))] := hD
  refine va_putF (D := D) (ci := 0) (v := .ref q5) (ty := .array .int) (C := RX0) (T := TX0) (N := 13) hx hb hts in_X0 tyX0 tyX0_ok nmX0 hown hK hP hD hS 0 rfl rfl 5 (by decide) (hts _ q40) (fun _ h9 => h9) rfl hin rfl (by decide +kernel) rfl rfl (Nat.le_of_ble_eq_true rfl) dX0_init_41 (fun H locs hP hD hS => ?_)
  have hP : va_P D vwCl [(h0, .inr (0, [.ref q1, .ref q2, .ref q3, .int (iI 0), .ref q4, .ref q5, .null, .null, .null, .null, .null, .null, .null])), (q1, cA_ d 49 (fun _ => 0)), (q2, cA_ d 7 (fun _ => 0)), (q3, cA_ d 81 (fun _ => 0)), (q4, cA_ d 6 (fun _ => 0)), (q5, cA_ d 6 (fun _ => 0))] H := hP
  have hD : va_D A [(h0, .inr (0, [.ref q1, .ref q2, .ref q3, .int (iI 0), .ref q4, .ref q5, .null, .null, .null, .null, .null, .null, .null])), (q1, cA_ d 49 (fun _ => 0)), (q2, cA_ d 7 (fun _ => 0)), (q3, cA_ d 81 (fun _ => 0)), (q4, cA_ d 6 (fun _ => 0)), (q5, cA_ d 6 (fun _ => 0))] := hD
  refine lv_aload_n hx hb dX0_init_44 rfl (lv_at hl 0 rfl) ?_
  refine lv_bipush (v := 6) hx hb dX0_init_45 (by decide) ?_
  refine c_newa hx hb (hts _ q75) hK hP hD hS hA (z := 6) (by decide) (by decide) (by decide) (Nat.le_of_ble_eq_true rfl) (Nat.le_of_ble_eq_true rfl) dX0_init_47 (fun q6 H hP hD hS => ?_)
  refine W.widen (k := 6) (n := 155) (by omega) (by omega) ?_
  have hP : va_P D vwCl [(h0, .inr (0, [.ref q1, .ref q2, .ref q3, .int (iI 0), .ref q4, .ref q5, .null, .null, .null, .null, .null, .null, .null])), (q1, cA_ d 49 (fun _ => 0)), (q2, cA_ d 7 (fun _ => 0)), (q3, cA_ d 81 (fun _ => 0)), (q4, cA_ d 6 (fun _ => 0)), (q5, cA_ d 6 (fun _ => 0)), (q6, cA_ d 6 (fun _ => 0))] H := hP
  have hD : va_D A [(h0, .inr (0, [.ref q1, .ref q2, .ref q3, .int (iI 0), .ref q4, .ref q5, .null, .null, .null, .null, .null, .null, .null])), (q1, cA_ d 49 (fun _ => 0)), (q2, cA_ d 7 (fun _ => 0)), (q3, cA_ d 81 (fun _ => 0)), (q4, cA_ d 6 (fun _ => 0)), (q5, cA_ d 6 (fun _ => 0)), (q6, cA_ d 6 (fun _ => 0))] := hD
  refine va_putF (D := D) (ci := 0) (v := .ref q6) (ty := .array .int) (C := RX0) (T := TX0) (N := 13) hx hb hts in_X0 tyX0 tyX0_ok nmX0 hown hK hP hD hS 0 rfl rfl 6 (by decide) (hts _ q41) (fun _ h9 => h9) rfl hin rfl (by decide +kernel) rfl rfl (Nat.le_of_ble_eq_true rfl) dX0_init_49 (fun H locs hP hD hS => ?_)
  have hP : va_P D vwCl [(h0, .inr (0, [.ref q1, .ref q2, .ref q3, .int (iI 0), .ref q4, .ref q5, .ref q6, .null, .null, .null, .null, .null, .null])), (q1, cA_ d 49 (fun _ => 0)), (q2, cA_ d 7 (fun _ => 0)), (q3, cA_ d 81 (fun _ => 0)), (q4, cA_ d 6 (fun _ => 0)), (q5, cA_ d 6 (fun _ => 0)), (q6, cA_ d 6 (fun _ => 0))] H := hP
  have hD : va_D A [(h0, .inr (0, [.ref q1, .ref q2, .ref q3, .int (iI 0), .ref q4, .ref q5, .ref q6, .null, .null, .null, .null, .null, .null])), (q1, cA_ d 49 (fun _ => 0)), (q2, cA_ d 7 (fun _ => 0)), (q3, cA_ d 81 (fun _ => 0)), (q4, cA_ d 6 (fun _ => 0)), (q5, cA_ d 6 (fun _ => 0)), (q6, cA_ d 6 (fun _ => 0))] := hD
  refine lv_aload_n hx hb dX0_init_52 rfl (lv_at hl 0 rfl) ?_
  refine lv_bipush (v := 81) hx hb dX0_init_53 (by decide) ?_
  refine c_newa hx hb (hts _ q75) hK hP hD hS hA (z := 81) (by decide) (by decide) (by decide) (Nat.le_of_ble_eq_true rfl) (Nat.le_of_ble_eq_true rfl) dX0_init_55 (fun q7 H hP hD hS => ?_)
  refine W.widen (k := 7) (n := 236) (by omega) (by omega) ?_
  have hP : va_P D vwCl [(h0, .inr (0, [.ref q1, .ref q2, .ref q3, .int (iI 0), .ref q4, .ref q5, .ref q6, .null, .null, .null, .null, .null, .null])), (q1, cA_ d 49 (fun _ => 0)), (q2, cA_ d 7 (fun _ => 0)), (q3, cA_ d 81 (fun _ => 0)), (q4, cA_ d 6 (fun _ => 0)), (q5, cA_ d 6 (fun _ => 0)), (q6, cA_ d 6 (fun _ => 0)), (q7, cA_ d 81 (fun _ => 0))] H := hP
  have hD : va_D A [(h0, .inr (0, [.ref q1, .ref q2, .ref q3, .int (iI 0), .ref q4, .ref q5, .ref q6, .null, .null, .null, .null, .null, .null])), (q1, cA_ d 49 (fun _ => 0)), (q2, cA_ d 7 (fun _ => 0)), (q3, cA_ d 81 (fun _ => 0)), (q4, cA_ d 6 (fun _ => 0)), (q5, cA_ d 6 (fun _ => 0)), (q6, cA_ d 6 (fun _ => 0)), (q7, cA_ d 81 (fun _ => 0))] := hD
  refine va_putF (D := D) (ci := 0) (v := .ref q7) (ty := .array .int) (C := RX0) (T := TX0) (N := 13) hx hb hts in_X0 tyX0 tyX0_ok nmX0 hown hK hP hD hS 0 rfl rfl 7 (by decide) (hts _ q42) (fun _ h9 => h9) rfl hin rfl (by decide +kernel) rfl rfl (Nat.le_of_ble_eq_true rfl) dX0_init_57 (fun H locs hP hD hS => ?_)
  have hP : va_P D vwCl [(h0, .inr (0, [.ref q1, .ref q2, .ref q3, .int (iI 0), .ref q4, .ref q5, .ref q6, .ref q7, .null, .null, .null, .null, .null])), (q1, cA_ d 49 (fun _ => 0)), (q2, cA_ d 7 (fun _ => 0)), (q3, cA_ d 81 (fun _ => 0)), (q4, cA_ d 6 (fun _ => 0)), (q5, cA_ d 6 (fun _ => 0)), (q6, cA_ d 6 (fun _ => 0)), (q7, cA_ d 81 (fun _ => 0))] H := hP
  have hD : va_D A [(h0, .inr (0, [.ref q1, .ref q2, .ref q3, .int (iI 0), .ref q4, .ref q5, .ref q6, .ref q7, .null, .null, .null, .null, .null])), (q1, cA_ d 49 (fun _ => 0)), (q2, cA_ d 7 (fun _ => 0)), (q3, cA_ d 81 (fun _ => 0)), (q4, cA_ d 6 (fun _ => 0)), (q5, cA_ d 6 (fun _ => 0)), (q6, cA_ d 6 (fun _ => 0)), (q7, cA_ d 81 (fun _ => 0))] := hD
  refine lv_aload_n hx hb dX0_init_60 rfl (lv_at hl 0 rfl) ?_
  refine lv_bipush (v := 81) hx hb dX0_init_61 (by decide) ?_
  refine c_newa hx hb (hts _ q75) hK hP hD hS hA (z := 81) (by decide) (by decide) (by decide) (Nat.le_of_ble_eq_true rfl) (Nat.le_of_ble_eq_true rfl) dX0_init_63 (fun q8 H hP hD hS => ?_)
  refine W.widen (k := 8) (n := 317) (by omega) (by omega) ?_
  have hP : va_P D vwCl [(h0, .inr (0, [.ref q1, .ref q2, .ref q3, .int (iI 0), .ref q4, .ref q5, .ref q6, .ref q7, .null, .null, .null, .null, .null])), (q1, cA_ d 49 (fun _ => 0)), (q2, cA_ d 7 (fun _ => 0)), (q3, cA_ d 81 (fun _ => 0)), (q4, cA_ d 6 (fun _ => 0)), (q5, cA_ d 6 (fun _ => 0)), (q6, cA_ d 6 (fun _ => 0)), (q7, cA_ d 81 (fun _ => 0)), (q8, cA_ d 81 (fun _ => 0))] H := hP
  have hD : va_D A [(h0, .inr (0, [.ref q1, .ref q2, .ref q3, .int (iI 0), .ref q4, .ref q5, .ref q6, .ref q7, .null, .null, .null, .null, .null])), (q1, cA_ d 49 (fun _ => 0)), (q2, cA_ d 7 (fun _ => 0)), (q3, cA_ d 81 (fun _ => 0)), (q4, cA_ d 6 (fun _ => 0)), (q5, cA_ d 6 (fun _ => 0)), (q6, cA_ d 6 (fun _ => 0)), (q7, cA_ d 81 (fun _ => 0)), (q8, cA_ d 81 (fun _ => 0))] := hD
  refine va_putF (D := D) (ci := 0) (v := .ref q8) (ty := .array .int) (C := RX0) (T := TX0) (N := 13) hx hb hts in_X0 tyX0 tyX0_ok nmX0 hown hK hP hD hS 0 rfl rfl 8 (by decide) (hts _ q43) (fun _ h9 => h9) rfl hin rfl (by decide +kernel) rfl rfl (Nat.le_of_ble_eq_true rfl) dX0_init_65 (fun H locs hP hD hS => ?_)
  have hP : va_P D vwCl [(h0, .inr (0, [.ref q1, .ref q2, .ref q3, .int (iI 0), .ref q4, .ref q5, .ref q6, .ref q7, .ref q8, .null, .null, .null, .null])), (q1, cA_ d 49 (fun _ => 0)), (q2, cA_ d 7 (fun _ => 0)), (q3, cA_ d 81 (fun _ => 0)), (q4, cA_ d 6 (fun _ => 0)), (q5, cA_ d 6 (fun _ => 0)), (q6, cA_ d 6 (fun _ => 0)), (q7, cA_ d 81 (fun _ => 0)), (q8, cA_ d 81 (fun _ => 0))] H := hP
  have hD : va_D A [(h0, .inr (0, [.ref q1, .ref q2, .ref q3, .int (iI 0), .ref q4, .ref q5, .ref q6, .ref q7, .ref q8, .null, .null, .null, .null])), (q1, cA_ d 49 (fun _ => 0)), (q2, cA_ d 7 (fun _ => 0)), (q3, cA_ d 81 (fun _ => 0)), (q4, cA_ d 6 (fun _ => 0)), (q5, cA_ d 6 (fun _ => 0)), (q6, cA_ d 6 (fun _ => 0)), (q7, cA_ d 81 (fun _ => 0)), (q8, cA_ d 81 (fun _ => 0))] := hD
  refine lv_aload_n hx hb dX0_init_68 rfl (lv_at hl 0 rfl) ?_
  refine lv_bipush (v := 9) hx hb dX0_init_69 (by decide) ?_
  refine c_newa hx hb (hts _ q75) hK hP hD hS hA (z := 9) (by decide) (by decide) (by decide) (Nat.le_of_ble_eq_true rfl) (Nat.le_of_ble_eq_true rfl) dX0_init_71 (fun q9 H hP hD hS => ?_)
  refine W.widen (k := 9) (n := 326) (by omega) (by omega) ?_
  have hP : va_P D vwCl [(h0, .inr (0, [.ref q1, .ref q2, .ref q3, .int (iI 0), .ref q4, .ref q5, .ref q6, .ref q7, .ref q8, .null, .null, .null, .null])), (q1, cA_ d 49 (fun _ => 0)), (q2, cA_ d 7 (fun _ => 0)), (q3, cA_ d 81 (fun _ => 0)), (q4, cA_ d 6 (fun _ => 0)), (q5, cA_ d 6 (fun _ => 0)), (q6, cA_ d 6 (fun _ => 0)), (q7, cA_ d 81 (fun _ => 0)), (q8, cA_ d 81 (fun _ => 0)), (q9, cA_ d 9 (fun _ => 0))] H := hP
  have hD : va_D A [(h0, .inr (0, [.ref q1, .ref q2, .ref q3, .int (iI 0), .ref q4, .ref q5, .ref q6, .ref q7, .ref q8, .null, .null, .null, .null])), (q1, cA_ d 49 (fun _ => 0)), (q2, cA_ d 7 (fun _ => 0)), (q3, cA_ d 81 (fun _ => 0)), (q4, cA_ d 6 (fun _ => 0)), (q5, cA_ d 6 (fun _ => 0)), (q6, cA_ d 6 (fun _ => 0)), (q7, cA_ d 81 (fun _ => 0)), (q8, cA_ d 81 (fun _ => 0)), (q9, cA_ d 9 (fun _ => 0))] := hD
  refine va_putF (D := D) (ci := 0) (v := .ref q9) (ty := .array .int) (C := RX0) (T := TX0) (N := 13) hx hb hts in_X0 tyX0 tyX0_ok nmX0 hown hK hP hD hS 0 rfl rfl 9 (by decide) (hts _ q44) (fun _ h9 => h9) rfl hin rfl (by decide +kernel) rfl rfl (Nat.le_of_ble_eq_true rfl) dX0_init_73 (fun H locs hP hD hS => ?_)
  have hP : va_P D vwCl [(h0, .inr (0, [.ref q1, .ref q2, .ref q3, .int (iI 0), .ref q4, .ref q5, .ref q6, .ref q7, .ref q8, .ref q9, .null, .null, .null])), (q1, cA_ d 49 (fun _ => 0)), (q2, cA_ d 7 (fun _ => 0)), (q3, cA_ d 81 (fun _ => 0)), (q4, cA_ d 6 (fun _ => 0)), (q5, cA_ d 6 (fun _ => 0)), (q6, cA_ d 6 (fun _ => 0)), (q7, cA_ d 81 (fun _ => 0)), (q8, cA_ d 81 (fun _ => 0)), (q9, cA_ d 9 (fun _ => 0))] H := hP
  have hD : va_D A [(h0, .inr (0, [.ref q1, .ref q2, .ref q3, .int (iI 0), .ref q4, .ref q5, .ref q6, .ref q7, .ref q8, .ref q9, .null, .null, .null])), (q1, cA_ d 49 (fun _ => 0)), (q2, cA_ d 7 (fun _ => 0)), (q3, cA_ d 81 (fun _ => 0)), (q4, cA_ d 6 (fun _ => 0)), (q5, cA_ d 6 (fun _ => 0)), (q6, cA_ d 6 (fun _ => 0)), (q7, cA_ d 81 (fun _ => 0)), (q8, cA_ d 81 (fun _ => 0)), (q9, cA_ d 9 (fun _ => 0))] := hD
  refine lv_aload_n hx hb dX0_init_76 rfl (lv_at hl 0 rfl) ?_
  refine lv_bipush (v := 9) hx hb dX0_init_77 (by decide) ?_
  refine c_newa hx hb (hts _ q75) hK hP hD hS hA (z := 9) (by decide) (by decide) (by decide) (Nat.le_of_ble_eq_true rfl) (Nat.le_of_ble_eq_true rfl) dX0_init_79 (fun q10 H hP hD hS => ?_)
  refine W.widen (k := 10) (n := 335) (by omega) (by omega) ?_
  have hP : va_P D vwCl [(h0, .inr (0, [.ref q1, .ref q2, .ref q3, .int (iI 0), .ref q4, .ref q5, .ref q6, .ref q7, .ref q8, .ref q9, .null, .null, .null])), (q1, cA_ d 49 (fun _ => 0)), (q2, cA_ d 7 (fun _ => 0)), (q3, cA_ d 81 (fun _ => 0)), (q4, cA_ d 6 (fun _ => 0)), (q5, cA_ d 6 (fun _ => 0)), (q6, cA_ d 6 (fun _ => 0)), (q7, cA_ d 81 (fun _ => 0)), (q8, cA_ d 81 (fun _ => 0)), (q9, cA_ d 9 (fun _ => 0)), (q10, cA_ d 9 (fun _ => 0))] H := hP
  have hD : va_D A [(h0, .inr (0, [.ref q1, .ref q2, .ref q3, .int (iI 0), .ref q4, .ref q5, .ref q6, .ref q7, .ref q8, .ref q9, .null, .null, .null])), (q1, cA_ d 49 (fun _ => 0)), (q2, cA_ d 7 (fun _ => 0)), (q3, cA_ d 81 (fun _ => 0)), (q4, cA_ d 6 (fun _ => 0)), (q5, cA_ d 6 (fun _ => 0)), (q6, cA_ d 6 (fun _ => 0)), (q7, cA_ d 81 (fun _ => 0)), (q8, cA_ d 81 (fun _ => 0)), (q9, cA_ d 9 (fun _ => 0)), (q10, cA_ d 9 (fun _ => 0))] := hD
  refine va_putF (D := D) (ci := 0) (v := .ref q10) (ty := .array .int) (C := RX0) (T := TX0) (N := 13) hx hb hts in_X0 tyX0 tyX0_ok nmX0 hown hK hP hD hS 0 rfl rfl 10 (by decide) (hts _ q45) (fun _ h9 => h9) rfl hin rfl (by decide +kernel) rfl rfl (Nat.le_of_ble_eq_true rfl) dX0_init_81 (fun H locs hP hD hS => ?_)
  have hP : va_P D vwCl [(h0, .inr (0, [.ref q1, .ref q2, .ref q3, .int (iI 0), .ref q4, .ref q5, .ref q6, .ref q7, .ref q8, .ref q9, .ref q10, .null, .null])), (q1, cA_ d 49 (fun _ => 0)), (q2, cA_ d 7 (fun _ => 0)), (q3, cA_ d 81 (fun _ => 0)), (q4, cA_ d 6 (fun _ => 0)), (q5, cA_ d 6 (fun _ => 0)), (q6, cA_ d 6 (fun _ => 0)), (q7, cA_ d 81 (fun _ => 0)), (q8, cA_ d 81 (fun _ => 0)), (q9, cA_ d 9 (fun _ => 0)), (q10, cA_ d 9 (fun _ => 0))] H := hP
  have hD : va_D A [(h0, .inr (0, [.ref q1, .ref q2, .ref q3, .int (iI 0), .ref q4, .ref q5, .ref q6, .ref q7, .ref q8, .ref q9, .ref q10, .null, .null])), (q1, cA_ d 49 (fun _ => 0)), (q2, cA_ d 7 (fun _ => 0)), (q3, cA_ d 81 (fun _ => 0)), (q4, cA_ d 6 (fun _ => 0)), (q5, cA_ d 6 (fun _ => 0)), (q6, cA_ d 6 (fun _ => 0)), (q7, cA_ d 81 (fun _ => 0)), (q8, cA_ d 81 (fun _ => 0)), (q9, cA_ d 9 (fun _ => 0)), (q10, cA_ d 9 (fun _ => 0))] := hD
  refine lv_aload_n hx hb dX0_init_84 rfl (lv_at hl 0 rfl) ?_
  refine lv_bipush (v := 9) hx hb dX0_init_85 (by decide) ?_
  refine c_newa hx hb (hts _ q75) hK hP hD hS hA (z := 9) (by decide) (by decide) (by decide) (Nat.le_of_ble_eq_true rfl) (Nat.le_of_ble_eq_true rfl) dX0_init_87 (fun q11 H hP hD hS => ?_)
  refine W.widen (k := 11) (n := 344) (by omega) (by omega) ?_
  have hP : va_P D vwCl [(h0, .inr (0, [.ref q1, .ref q2, .ref q3, .int (iI 0), .ref q4, .ref q5, .ref q6, .ref q7, .ref q8, .ref q9, .ref q10, .null, .null])), (q1, cA_ d 49 (fun _ => 0)), (q2, cA_ d 7 (fun _ => 0)), (q3, cA_ d 81 (fun _ => 0)), (q4, cA_ d 6 (fun _ => 0)), (q5, cA_ d 6 (fun _ => 0)), (q6, cA_ d 6 (fun _ => 0)), (q7, cA_ d 81 (fun _ => 0)), (q8, cA_ d 81 (fun _ => 0)), (q9, cA_ d 9 (fun _ => 0)), (q10, cA_ d 9 (fun _ => 0)), (q11, cA_ d 9 (fun _ => 0))] H := hP
  have hD : va_D A [(h0, .inr (0, [.ref q1, .ref q2, .ref q3, .int (iI 0), .ref q4, .ref q5, .ref q6, .ref q7, .ref q8, .ref q9, .ref q10, .null, .null])), (q1, cA_ d 49 (fun _ => 0)), (q2, cA_ d 7 (fun _ => 0)), (q3, cA_ d 81 (fun _ => 0)), (q4, cA_ d 6 (fun _ => 0)), (q5, cA_ d 6 (fun _ => 0)), (q6, cA_ d 6 (fun _ => 0)), (q7, cA_ d 81 (fun _ => 0)), (q8, cA_ d 81 (fun _ => 0)), (q9, cA_ d 9 (fun _ => 0)), (q10, cA_ d 9 (fun _ => 0)), (q11, cA_ d 9 (fun _ => 0))] := hD
  refine va_putF (D := D) (ci := 0) (v := .ref q11) (ty := .array .int) (C := RX0) (T := TX0) (N := 13) hx hb hts in_X0 tyX0 tyX0_ok nmX0 hown hK hP hD hS 0 rfl rfl 11 (by decide) (hts _ q46) (fun _ h9 => h9) rfl hin rfl (by decide +kernel) rfl rfl (Nat.le_of_ble_eq_true rfl) dX0_init_89 (fun H locs hP hD hS => ?_)
  have hP : va_P D vwCl [(h0, .inr (0, [.ref q1, .ref q2, .ref q3, .int (iI 0), .ref q4, .ref q5, .ref q6, .ref q7, .ref q8, .ref q9, .ref q10, .ref q11, .null])), (q1, cA_ d 49 (fun _ => 0)), (q2, cA_ d 7 (fun _ => 0)), (q3, cA_ d 81 (fun _ => 0)), (q4, cA_ d 6 (fun _ => 0)), (q5, cA_ d 6 (fun _ => 0)), (q6, cA_ d 6 (fun _ => 0)), (q7, cA_ d 81 (fun _ => 0)), (q8, cA_ d 81 (fun _ => 0)), (q9, cA_ d 9 (fun _ => 0)), (q10, cA_ d 9 (fun _ => 0)), (q11, cA_ d 9 (fun _ => 0))] H := hP
  have hD : va_D A [(h0, .inr (0, [.ref q1, .ref q2, .ref q3, .int (iI 0), .ref q4, .ref q5, .ref q6, .ref q7, .ref q8, .ref q9, .ref q10, .ref q11, .null])), (q1, cA_ d 49 (fun _ => 0)), (q2, cA_ d 7 (fun _ => 0)), (q3, cA_ d 81 (fun _ => 0)), (q4, cA_ d 6 (fun _ => 0)), (q5, cA_ d 6 (fun _ => 0)), (q6, cA_ d 6 (fun _ => 0)), (q7, cA_ d 81 (fun _ => 0)), (q8, cA_ d 81 (fun _ => 0)), (q9, cA_ d 9 (fun _ => 0)), (q10, cA_ d 9 (fun _ => 0)), (q11, cA_ d 9 (fun _ => 0))] := hD
  refine lv_aload_n hx hb dX0_init_92 rfl (lv_at hl 0 rfl) ?_
  refine lv_bipush (v := 7) hx hb dX0_init_93 (by decide) ?_
  refine c_newa hx hb (hts _ q75) hK hP hD hS hA (z := 7) (by decide) (by decide) (by decide) (Nat.le_of_ble_eq_true rfl) (Nat.le_of_ble_eq_true rfl) dX0_init_95 (fun q12 H hP hD hS => ?_)
  refine W.widen (k := 12) (n := 351) (by omega) (by omega) ?_
  have hP : va_P D vwCl [(h0, .inr (0, [.ref q1, .ref q2, .ref q3, .int (iI 0), .ref q4, .ref q5, .ref q6, .ref q7, .ref q8, .ref q9, .ref q10, .ref q11, .null])), (q1, cA_ d 49 (fun _ => 0)), (q2, cA_ d 7 (fun _ => 0)), (q3, cA_ d 81 (fun _ => 0)), (q4, cA_ d 6 (fun _ => 0)), (q5, cA_ d 6 (fun _ => 0)), (q6, cA_ d 6 (fun _ => 0)), (q7, cA_ d 81 (fun _ => 0)), (q8, cA_ d 81 (fun _ => 0)), (q9, cA_ d 9 (fun _ => 0)), (q10, cA_ d 9 (fun _ => 0)), (q11, cA_ d 9 (fun _ => 0)), (q12, cA_ d 7 (fun _ => 0))] H := hP
  have hD : va_D A [(h0, .inr (0, [.ref q1, .ref q2, .ref q3, .int (iI 0), .ref q4, .ref q5, .ref q6, .ref q7, .ref q8, .ref q9, .ref q10, .ref q11, .null])), (q1, cA_ d 49 (fun _ => 0)), (q2, cA_ d 7 (fun _ => 0)), (q3, cA_ d 81 (fun _ => 0)), (q4, cA_ d 6 (fun _ => 0)), (q5, cA_ d 6 (fun _ => 0)), (q6, cA_ d 6 (fun _ => 0)), (q7, cA_ d 81 (fun _ => 0)), (q8, cA_ d 81 (fun _ => 0)), (q9, cA_ d 9 (fun _ => 0)), (q10, cA_ d 9 (fun _ => 0)), (q11, cA_ d 9 (fun _ => 0)), (q12, cA_ d 7 (fun _ => 0))] := hD
  refine va_putF (D := D) (ci := 0) (v := .ref q12) (ty := .array .int) (C := RX0) (T := TX0) (N := 13) hx hb hts in_X0 tyX0 tyX0_ok nmX0 hown hK hP hD hS 0 rfl rfl 12 (by decide) (hts _ q47) (fun _ h9 => h9) rfl hin rfl (by decide +kernel) rfl rfl (Nat.le_of_ble_eq_true rfl) dX0_init_97 (fun H locs hP hD hS => ?_)
  have hP : va_P D vwCl [(h0, .inr (0, [.ref q1, .ref q2, .ref q3, .int (iI 0), .ref q4, .ref q5, .ref q6, .ref q7, .ref q8, .ref q9, .ref q10, .ref q11, .ref q12])), (q1, cA_ d 49 (fun _ => 0)), (q2, cA_ d 7 (fun _ => 0)), (q3, cA_ d 81 (fun _ => 0)), (q4, cA_ d 6 (fun _ => 0)), (q5, cA_ d 6 (fun _ => 0)), (q6, cA_ d 6 (fun _ => 0)), (q7, cA_ d 81 (fun _ => 0)), (q8, cA_ d 81 (fun _ => 0)), (q9, cA_ d 9 (fun _ => 0)), (q10, cA_ d 9 (fun _ => 0)), (q11, cA_ d 9 (fun _ => 0)), (q12, cA_ d 7 (fun _ => 0))] H := hP
  have hD : va_D A [(h0, .inr (0, [.ref q1, .ref q2, .ref q3, .int (iI 0), .ref q4, .ref q5, .ref q6, .ref q7, .ref q8, .ref q9, .ref q10, .ref q11, .ref q12])), (q1, cA_ d 49 (fun _ => 0)), (q2, cA_ d 7 (fun _ => 0)), (q3, cA_ d 81 (fun _ => 0)), (q4, cA_ d 6 (fun _ => 0)), (q5, cA_ d 6 (fun _ => 0)), (q6, cA_ d 6 (fun _ => 0)), (q7, cA_ d 81 (fun _ => 0)), (q8, cA_ d 81 (fun _ => 0)), (q9, cA_ d 9 (fun _ => 0)), (q10, cA_ d 9 (fun _ => 0)), (q11, cA_ d 9 (fun _ => 0)), (q12, cA_ d 7 (fun _ => 0))] := hD
  refine lv_aload_n hx hb dX0_init_100 rfl (lv_at hl 0 rfl) ?_
  refine lv_iconst (v := iI 0) hx hb dX0_init_101 (by decide) ?_
  refine va_put (D := D) (ci := 0) (v := .int (iI 0)) (ty := .int) (C := RX0) (T := TX0) (N := 13) hx hb hts in_X0 tyX0 tyX0_ok nmX0 hown hK hP hD hS 0 rfl rfl 3 (by decide) (hts _ q38) (fun _ h9 => h9) rfl (by decide +kernel) rfl rfl (Nat.le_of_ble_eq_true rfl) dX0_init_102 (fun H locs hP hD hS => ?_)
  have hP : va_P D vwCl [(h0, .inr (0, [.ref q1, .ref q2, .ref q3, .int (iI 0), .ref q4, .ref q5, .ref q6, .ref q7, .ref q8, .ref q9, .ref q10, .ref q11, .ref q12])), (q1, cA_ d 49 (fun _ => 0)), (q2, cA_ d 7 (fun _ => 0)), (q3, cA_ d 81 (fun _ => 0)), (q4, cA_ d 6 (fun _ => 0)), (q5, cA_ d 6 (fun _ => 0)), (q6, cA_ d 6 (fun _ => 0)), (q7, cA_ d 81 (fun _ => 0)), (q8, cA_ d 81 (fun _ => 0)), (q9, cA_ d 9 (fun _ => 0)), (q10, cA_ d 9 (fun _ => 0)), (q11, cA_ d 9 (fun _ => 0)), (q12, cA_ d 7 (fun _ => 0))] H := hP
  have hD : va_D A [(h0, .inr (0, [.ref q1, .ref q2, .ref q3, .int (iI 0), .ref q4, .ref q5, .ref q6, .ref q7, .ref q8, .ref q9, .ref q10, .ref q11, .ref q12])), (q1, cA_ d 49 (fun _ => 0)), (q2, cA_ d 7 (fun _ => 0)), (q3, cA_ d 81 (fun _ => 0)), (q4, cA_ d 6 (fun _ => 0)), (q5, cA_ d 6 (fun _ => 0)), (q6, cA_ d 6 (fun _ => 0)), (q7, cA_ d 81 (fun _ => 0)), (q8, cA_ d 81 (fun _ => 0)), (q9, cA_ d 9 (fun _ => 0)), (q10, cA_ d 9 (fun _ => 0)), (q11, cA_ d 9 (fun _ => 0)), (q12, cA_ d 7 (fun _ => 0))] := hD
  have hP9 : va_P D vwCl (xW (ad_ [h0, q1, q2, q3, q4, q5, q6, q7, q8, q9, q10, q11, q12]) d S_0) H := hP.sub [0, 1, 2, 3, 4, 5, 6, 7, 8, 9, 10, 11, 12] rfl
  have hD9 : va_D A (xW (ad_ [h0, q1, q2, q3, q4, q5, q6, q7, q8, q9, q10, q11, q12]) d S_0) := hD.sub [0, 1, 2, 3, 4, 5, 6, 7, 8, 9, 10, 11, 12] (by decide) rfl
  exact W.vret hx hb hr (fun t ht hW => ⟨⟨ad_ [h0, q1, q2, q3, q4, q5, q6, q7, q8, q9, q10, q11, q12], rfl, rfl, by rw [ht]; exact hP9, hD9⟩, hS.F ht⟩) hS.2.2 dX0_init_105
def mDef : List Value := [.null, .null, .int (iI 0), .null, .null, .null, .null, .null, .null, .null]
set_option maxHeartbeats 4000000 in
set_option maxRecDepth 100000 in
theorem m_init (l : Launch) (D : va_G) (d : ClassId) (h0 sz : Nat) : Met l yX1_init (ws_ yX1_init cX1_init 1 none) ({ frames := 1, cells := 9, slots := 144, locals := 40 }) (va_Pc [.ref h0] (fun U => U.heap.size = sz ∧ va_P D vwCl [(h0, .inr (1, mDef))] U.heap ∧ va_K D vwCl [(d, .int)] U ∧ va_D (fun _ => True) [(h0, .inr (1, mDef))])) (va_Qv (fun (u : Nat → Nat) => u 0 = h0) (fun u t => va_P D vwCl (mW u d S_0) t.heap ∧ va_D (va_A [(h0, .inr (1, mDef))] sz) (mW u d S_0)) (va_A [(h0, .inr (1, mDef))] sz)) 9 144 (va_A [(h0, .inr (1, mDef))] sz) := by
  refine Met.ofW (cc := cX1_init) (maxL := 1) (ret := none) (by decide) rfl ?_
  intro p e s m args below meth c s₁ B hml hv
  obtain ⟨rfl, hsz, hP, hK, hD0⟩ := hv
  have hx := B.exec
  have hb := B.bytes
  have hr := B.returns
  have hts0 := atoms_spec (ws := ws_ yX1_init cX1_init 1 none) B.pre
  have hts : ∀ w ∈ lw_all, w.before _ s = true := fun w h => hts0 w (List.mem_cons_of_mem _ h)
  have hown : s.vm.findClass RX1 = some m.cls := findClass_of_methodNamed B.named
  have hlocks := B.notSynchronized
  have hin : meth.name = "<init>" := (name_of_methodNamed B.named B.method).1
  subst hsz
  have hD := hD0.self (sz := s.heap.size)
  generalize hAe : va_A [(h0, .inr (1, mDef))] s.heap.size = A at hD ⊢
  have hA : ∀ q : Nat, s.heap.size ≤ q → A q := fun q h => by rw [← hAe]; exact Or.inr h
  have hS : va_S A s.heap s.heap [] := va_S.rf
  have hl := lv_entry ([.ref h0]) (n := 1) (Nat.le_of_ble_eq_true rfl)
  rw [lg_entry_eq]
  generalize (lg_sl ([.ref h0]) ++ List.replicate (1 - (lg_sl ([.ref h0])).length) Slot.unset).toArray = ls at hl ⊢
  have hl : lv_has ls 1 [(0, .ref h0)] := hl
  have hP : va_P D vwCl [(h0, .inr (1, [.null, .null, .int (iI 0), .null, .null, .null, .null, .null, .null, .null]))] s.heap := hP
  have hD : va_D A [(h0, .inr (1, [.null, .null, .int (iI 0), .null, .null, .null, .null, .null, .null, .null]))] := hD
  refine lv_aload_n hx hb dX1_init_0 rfl (lv_at hl 0 rfl) ?_
  refine W.objInit hx hb hown (hts _ q199) (hts _ q33) (hts _ q34) rfl (by rw [hml]; exact hl.1) rfl dX1_init_1 (Nat.le_of_ble_eq_true rfl) (Nat.le_of_ble_eq_true rfl) ?_
  refine W.eq (g2 := F0 m 4 ls []) rfl ?_
  refine lv_aload_n hx hb dX1_init_4 rfl (lv_at hl 0 rfl) ?_
  refine lv_bipush (v := 49) hx hb dX1_init_5 (by decide) ?_
  refine c_newa hx hb (hts _ q75) hK hP hD hS hA (z := 49) (by decide) (by decide) (by decide) (Nat.le_of_ble_eq_true rfl) (Nat.le_of_ble_eq_true rfl) dX1_init_7 (fun q1 H hP hD hS => ?_)
  refine W.widen (k := 1) (n := 49) (by omega) (by omega) ?_
  have hP : va_P D vwCl [(h0, .inr (1, [.null, .null, .int (iI 0), .null, .null, .null, .null, .null, .null, .null])), (q1, cA_ d 49 (fun _ => 0))] H := hP
  have hD : va_D A [(h0, .inr (1, [.null, .null, .int (iI 0), .null, .null, .null, .null, .null, .null, .null])), (q1, cA_ d 49 (fun _ => 0))] := hD
  refine va_putF (D := D) (ci := 1) (v := .ref q1) (ty := .array .int) (C := RX1) (T := TX1) (N := 10) hx hb hts in_X1 tyX1 tyX1_ok nmX1 hown hK hP hD hS 0 rfl rfl 0 (by decide) (hts _ q200) (fun _ h9 => h9) rfl hin rfl (by decide +kernel) rfl rfl (Nat.le_of_ble_eq_true rfl) dX1_init_9 (fun H locs hP hD hS => ?_)
  have hP : va_P D vwCl [(h0, .inr (1, [.ref q1, .null, .int (iI 0), .null, .null, .null, .null, .null, .null, .null])), (q1, cA_ d 49 (fun _ => 0))] H := hP
  have hD : va_D A [(h0, .inr (1, [.ref q1, .null, .int (iI 0), .null, .null, .null, .null, .null, .null, .null])), (q1, cA_ d 49 (fun _ => 0))] := hD
  refine lv_aload_n hx hb dX1_init_12 rfl (lv_at hl 0 rfl) ?_
  refine lv_bipush (v := 7) hx hb dX1_init_13 (by decide) ?_
  refine c_newa hx hb (hts _ q75) hK hP hD hS hA (z := 7) (by decide) (by decide) (by decide) (Nat.le_of_ble_eq_true rfl) (Nat.le_of_ble_eq_true rfl) dX1_init_15 (fun q2 H hP hD hS => ?_)
  refine W.widen (k := 2) (n := 56) (by omega) (by omega) ?_
  have hP : va_P D vwCl [(h0, .inr (1, [.ref q1, .null, .int (iI 0), .null, .null, .null, .null, .null, .null, .null])), (q1, cA_ d 49 (fun _ => 0)), (q2, cA_ d 7 (fun _ => 0))] H := hP
  have hD : va_D A [(h0, .inr (1, [.ref q1, .null, .int (iI 0), .null, .null, .null, .null, .null, .null, .null])), (q1, cA_ d 49 (fun _ => 0)), (q2, cA_ d 7 (fun _ => 0))] := hD
  refine va_putF (D := D) (ci := 1) (v := .ref q2) (ty := .array .int) (C := RX1) (T := TX1) (N := 10) hx hb hts in_X1 tyX1 tyX1_ok nmX1 hown hK hP hD hS 0 rfl rfl 1 (by decide) (hts _ q201) (fun _ h9 => h9) rfl hin rfl (by decide +kernel) rfl rfl (Nat.le_of_ble_eq_true rfl) dX1_init_17 (fun H locs hP hD hS => ?_)
  have hP : va_P D vwCl [(h0, .inr (1, [.ref q1, .ref q2, .int (iI 0), .null, .null, .null, .null, .null, .null, .null])), (q1, cA_ d 49 (fun _ => 0)), (q2, cA_ d 7 (fun _ => 0))] H := hP
  have hD : va_D A [(h0, .inr (1, [.ref q1, .ref q2, .int (iI 0), .null, .null, .null, .null, .null, .null, .null])), (q1, cA_ d 49 (fun _ => 0)), (q2, cA_ d 7 (fun _ => 0))] := hD
  refine lv_aload_n hx hb dX1_init_20 rfl (lv_at hl 0 rfl) ?_
  refine lv_bipush (v := 6) hx hb dX1_init_21 (by decide) ?_
  refine c_newa hx hb (hts _ q75) hK hP hD hS hA (z := 6) (by decide) (by decide) (by decide) (Nat.le_of_ble_eq_true rfl) (Nat.le_of_ble_eq_true rfl) dX1_init_23 (fun q3 H hP hD hS => ?_)
  refine W.widen (k := 3) (n := 62) (by omega) (by omega) ?_
  have hP : va_P D vwCl [(h0, .inr (1, [.ref q1, .ref q2, .int (iI 0), .null, .null, .null, .null, .null, .null, .null])), (q1, cA_ d 49 (fun _ => 0)), (q2, cA_ d 7 (fun _ => 0)), (q3, cA_ d 6 (fun _ => 0))] H := hP
  have hD : va_D A [(h0, .inr (1, [.ref q1, .ref q2, .int (iI 0), .null, .null, .null, .null, .null, .null, .null])), (q1, cA_ d 49 (fun _ => 0)), (q2, cA_ d 7 (fun _ => 0)), (q3, cA_ d 6 (fun _ => 0))] := hD
  refine va_putF (D := D) (ci := 1) (v := .ref q3) (ty := .array .int) (C := RX1) (T := TX1) (N := 10) hx hb hts in_X1 tyX1 tyX1_ok nmX1 hown hK hP hD hS 0 rfl rfl 3 (by decide) (hts _ q203) (fun _ h9 => h9) rfl hin rfl (by decide +kernel) rfl rfl (Nat.le_of_ble_eq_true rfl) dX1_init_25 (fun H locs hP hD hS => ?_)
  have hP : va_P D vwCl [(h0, .inr (1, [.ref q1, .ref q2, .int (iI 0), .ref q3, .null, .null, .null, .null, .null, .null])), (q1, cA_ d 49 (fun _ => 0)), (q2, cA_ d 7 (fun _ => 0)), (q3, cA_ d 6 (fun _ => 0))] H := hP
  have hD : va_D A [(h0, .inr (1, [.ref q1, .ref q2, .int (iI 0), .ref q3, .null, .null, .null, .null, .null, .null])), (q1, cA_ d 49 (fun _ => 0)), (q2, cA_ d 7 (fun _ => 0)), (q3, cA_ d 6 (fun _ => 0))] := hD
  refine lv_aload_n hx hb dX1_init_28 rfl (lv_at hl 0 rfl) ?_
  refine lv_bipush (v := 6) hx hb dX1_init_29 (by decide) ?_
  refine c_newa hx hb (hts _ q75) hK hP hD hS hA (z := 6) (by decide) (by decide) (by decide) (Nat.le_of_ble_eq_true rfl) (Nat.le_of_ble_eq_true rfl) dX1_init_31 (fun q4 H hP hD hS => ?_)
  refine W.widen (k := 4) (n := 68) (by omega) (by omega) ?_
  have hP : va_P D vwCl [(h0, .inr (1, [.ref q1, .ref q2, .int (iI 0), .ref q3, .null, .null, .null, .null, .null, .null])), (q1, cA_ d 49 (fun _ => 0)), (q2, cA_ d 7 (fun _ => 0)), (q3, cA_ d 6 (fun _ => 0)), (q4, cA_ d 6 (fun _ => 0))] H := hP
  have hD : va_D A [(h0, .inr (1, [.ref q1, .ref q2, .int (iI 0), .ref q3, .null, .null, .null, .null, .null, .null])), (q1, cA_ d 49 (fun _ => 0)), (q2, cA_ d 7 (fun _ => 0)), (q3, cA_ d 6 (fun _ => 0)), (q4, cA_ d 6 (fun _ => 0))] := hD
  refine va_putF (D := D) (ci := 1) (v := .ref q4) (ty := .array .int) (C := RX1) (T := TX1) (N := 10) hx hb hts in_X1 tyX1 tyX1_ok nmX1 hown hK hP hD hS 0 rfl rfl 4 (by decide) (hts _ q204) (fun _ h9 => h9) rfl hin rfl (by decide +kernel) rfl rfl (Nat.le_of_ble_eq_true rfl) dX1_init_33 (fun H locs hP hD hS => ?_)
  have hP : va_P D vwCl [(h0, .inr (1, [.ref q1, .ref q2, .int (iI 0), .ref q3, .ref q4, .null, .null, .null, .null, .null])), (q1, cA_ d 49 (fun _ => 0)), (q2, cA_ d 7 (fun _ => 0)), (q3, cA_ d 6 (fun _ => 0)), (q4, cA_ d 6 (fun _ => 0))] H := hP
  have hD : va_D A [(h0, .inr (1, [.ref q1, .ref q2, .int (iI 0), .ref q3, .ref q4, .null, .null, .null, .null, .null])), (q1, cA_ d 49 (fun _ => 0)), (q2, cA_ d 7 (fun _ => 0)), (q3, cA_ d 6 (fun _ => 0)), (q4, cA_ d 6 (fun _ => 0))] := hD
  refine lv_aload_n hx hb dX1_init_36 rfl (lv_at hl 0 rfl) ?_
  refine lv_bipush (v := 6) hx hb dX1_init_37 (by decide) ?_
  refine c_newa hx hb (hts _ q75) hK hP hD hS hA (z := 6) (by decide) (by decide) (by decide) (Nat.le_of_ble_eq_true rfl) (Nat.le_of_ble_eq_true rfl) dX1_init_39 (fun q5 H hP hD hS => ?_)
  refine W.widen (k := 5) (n := 74) (by omega) (by omega) ?_
  have hP : va_P D vwCl [(h0, .inr (1, [.ref q1, .ref q2, .int (iI 0), .ref q3, .ref q4, .null, .null, .null, .null, .null])), (q1, cA_ d 49 (fun _ => 0)), (q2, cA_ d 7 (fun _ => 0)), (q3, cA_ d 6 (fun _ => 0)), (q4, cA_ d 6 (fun _ => 0)), (q5, cA_ d 6 (fun _ => 0))] H := hP
  have hD : va_D A [(h0, .inr (1, [.ref q1, .ref q2, .int (iI 0), .ref q3, .ref q4, .null, .null, .null, .null, .null])), (q1, cA_ d 49 (fun _ => 0)), (q2, cA_ d 7 (fun _ => 0)), (q3, cA_ d 6 (fun _ => 0)), (q4, cA_ d 6 (fun _ => 0)), (q5, cA_ d 6 (fun _ => 0))] := hD
  refine va_putF (D := D) (ci := 1) (v := .ref q5) (ty := .array .int) (C := RX1) (T := TX1) (N := 10) hx hb hts in_X1 tyX1 tyX1_ok nmX1 hown hK hP hD hS 0 rfl rfl 5 (by decide) (hts _ q205) (fun _ h9 => h9) rfl hin rfl (by decide +kernel) rfl rfl (Nat.le_of_ble_eq_true rfl) dX1_init_41 (fun H locs hP hD hS => ?_)
  have hP : va_P D vwCl [(h0, .inr (1, [.ref q1, .ref q2, .int (iI 0), .ref q3, .ref q4, .ref q5, .null, .null, .null, .null])), (q1, cA_ d 49 (fun _ => 0)), (q2, cA_ d 7 (fun _ => 0)), (q3, cA_ d 6 (fun _ => 0)), (q4, cA_ d 6 (fun _ => 0)), (q5, cA_ d 6 (fun _ => 0))] H := hP
  have hD : va_D A [(h0, .inr (1, [.ref q1, .ref q2, .int (iI 0), .ref q3, .ref q4, .ref q5, .null, .null, .null, .null])), (q1, cA_ d 49 (fun _ => 0)), (q2, cA_ d 7 (fun _ => 0)), (q3, cA_ d 6 (fun _ => 0)), (q4, cA_ d 6 (fun _ => 0)), (q5, cA_ d 6 (fun _ => 0))] := hD
  refine lv_aload_n hx hb dX1_init_44 rfl (lv_at hl 0 rfl) ?_
  refine lv_bipush (v := 49) hx hb dX1_init_45 (by decide) ?_
  refine c_newa hx hb (hts _ q75) hK hP hD hS hA (z := 49) (by decide) (by decide) (by decide) (Nat.le_of_ble_eq_true rfl) (Nat.le_of_ble_eq_true rfl) dX1_init_47 (fun q6 H hP hD hS => ?_)
  refine W.widen (k := 6) (n := 123) (by omega) (by omega) ?_
  have hP : va_P D vwCl [(h0, .inr (1, [.ref q1, .ref q2, .int (iI 0), .ref q3, .ref q4, .ref q5, .null, .null, .null, .null])), (q1, cA_ d 49 (fun _ => 0)), (q2, cA_ d 7 (fun _ => 0)), (q3, cA_ d 6 (fun _ => 0)), (q4, cA_ d 6 (fun _ => 0)), (q5, cA_ d 6 (fun _ => 0)), (q6, cA_ d 49 (fun _ => 0))] H := hP
  have hD : va_D A [(h0, .inr (1, [.ref q1, .ref q2, .int (iI 0), .ref q3, .ref q4, .ref q5, .null, .null, .null, .null])), (q1, cA_ d 49 (fun _ => 0)), (q2, cA_ d 7 (fun _ => 0)), (q3, cA_ d 6 (fun _ => 0)), (q4, cA_ d 6 (fun _ => 0)), (q5, cA_ d 6 (fun _ => 0)), (q6, cA_ d 49 (fun _ => 0))] := hD
  refine va_putF (D := D) (ci := 1) (v := .ref q6) (ty := .array .int) (C := RX1) (T := TX1) (N := 10) hx hb hts in_X1 tyX1 tyX1_ok nmX1 hown hK hP hD hS 0 rfl rfl 6 (by decide) (hts _ q206) (fun _ h9 => h9) rfl hin rfl (by decide +kernel) rfl rfl (Nat.le_of_ble_eq_true rfl) dX1_init_49 (fun H locs hP hD hS => ?_)
  have hP : va_P D vwCl [(h0, .inr (1, [.ref q1, .ref q2, .int (iI 0), .ref q3, .ref q4, .ref q5, .ref q6, .null, .null, .null])), (q1, cA_ d 49 (fun _ => 0)), (q2, cA_ d 7 (fun _ => 0)), (q3, cA_ d 6 (fun _ => 0)), (q4, cA_ d 6 (fun _ => 0)), (q5, cA_ d 6 (fun _ => 0)), (q6, cA_ d 49 (fun _ => 0))] H := hP
  have hD : va_D A [(h0, .inr (1, [.ref q1, .ref q2, .int (iI 0), .ref q3, .ref q4, .ref q5, .ref q6, .null, .null, .null])), (q1, cA_ d 49 (fun _ => 0)), (q2, cA_ d 7 (fun _ => 0)), (q3, cA_ d 6 (fun _ => 0)), (q4, cA_ d 6 (fun _ => 0)), (q5, cA_ d 6 (fun _ => 0)), (q6, cA_ d 49 (fun _ => 0))] := hD
  refine lv_aload_n hx hb dX1_init_52 rfl (lv_at hl 0 rfl) ?_
  refine lv_bipush (v := 7) hx hb dX1_init_53 (by decide) ?_
  refine c_newa hx hb (hts _ q75) hK hP hD hS hA (z := 7) (by decide) (by decide) (by decide) (Nat.le_of_ble_eq_true rfl) (Nat.le_of_ble_eq_true rfl) dX1_init_55 (fun q7 H hP hD hS => ?_)
  refine W.widen (k := 7) (n := 130) (by omega) (by omega) ?_
  have hP : va_P D vwCl [(h0, .inr (1, [.ref q1, .ref q2, .int (iI 0), .ref q3, .ref q4, .ref q5, .ref q6, .null, .null, .null])), (q1, cA_ d 49 (fun _ => 0)), (q2, cA_ d 7 (fun _ => 0)), (q3, cA_ d 6 (fun _ => 0)), (q4, cA_ d 6 (fun _ => 0)), (q5, cA_ d 6 (fun _ => 0)), (q6, cA_ d 49 (fun _ => 0)), (q7, cA_ d 7 (fun _ => 0))] H := hP
  have hD : va_D A [(h0, .inr (1, [.ref q1, .ref q2, .int (iI 0), .ref q3, .ref q4, .ref q5, .ref q6, .null, .null, .null])), (q1, cA_ d 49 (fun _ => 0)), (q2, cA_ d 7 (fun _ => 0)), (q3, cA_ d 6 (fun _ => 0)), (q4, cA_ d 6 (fun _ => 0)), (q5, cA_ d 6 (fun _ => 0)), (q6, cA_ d 49 (fun _ => 0)), (q7, cA_ d 7 (fun _ => 0))] := hD
  refine va_putF (D := D) (ci := 1) (v := .ref q7) (ty := .array .int) (C := RX1) (T := TX1) (N := 10) hx hb hts in_X1 tyX1 tyX1_ok nmX1 hown hK hP hD hS 0 rfl rfl 7 (by decide) (hts _ q207) (fun _ h9 => h9) rfl hin rfl (by decide +kernel) rfl rfl (Nat.le_of_ble_eq_true rfl) dX1_init_57 (fun H locs hP hD hS => ?_)
  have hP : va_P D vwCl [(h0, .inr (1, [.ref q1, .ref q2, .int (iI 0), .ref q3, .ref q4, .ref q5, .ref q6, .ref q7, .null, .null])), (q1, cA_ d 49 (fun _ => 0)), (q2, cA_ d 7 (fun _ => 0)), (q3, cA_ d 6 (fun _ => 0)), (q4, cA_ d 6 (fun _ => 0)), (q5, cA_ d 6 (fun _ => 0)), (q6, cA_ d 49 (fun _ => 0)), (q7, cA_ d 7 (fun _ => 0))] H := hP
  have hD : va_D A [(h0, .inr (1, [.ref q1, .ref q2, .int (iI 0), .ref q3, .ref q4, .ref q5, .ref q6, .ref q7, .null, .null])), (q1, cA_ d 49 (fun _ => 0)), (q2, cA_ d 7 (fun _ => 0)), (q3, cA_ d 6 (fun _ => 0)), (q4, cA_ d 6 (fun _ => 0)), (q5, cA_ d 6 (fun _ => 0)), (q6, cA_ d 49 (fun _ => 0)), (q7, cA_ d 7 (fun _ => 0))] := hD
  refine lv_aload_n hx hb dX1_init_60 rfl (lv_at hl 0 rfl) ?_
  refine lv_bipush (v := 7) hx hb dX1_init_61 (by decide) ?_
  refine c_newa hx hb (hts _ q75) hK hP hD hS hA (z := 7) (by decide) (by decide) (by decide) (Nat.le_of_ble_eq_true rfl) (Nat.le_of_ble_eq_true rfl) dX1_init_63 (fun q8 H hP hD hS => ?_)
  refine W.widen (k := 8) (n := 137) (by omega) (by omega) ?_
  have hP : va_P D vwCl [(h0, .inr (1, [.ref q1, .ref q2, .int (iI 0), .ref q3, .ref q4, .ref q5, .ref q6, .ref q7, .null, .null])), (q1, cA_ d 49 (fun _ => 0)), (q2, cA_ d 7 (fun _ => 0)), (q3, cA_ d 6 (fun _ => 0)), (q4, cA_ d 6 (fun _ => 0)), (q5, cA_ d 6 (fun _ => 0)), (q6, cA_ d 49 (fun _ => 0)), (q7, cA_ d 7 (fun _ => 0)), (q8, cA_ d 7 (fun _ => 0))] H := hP
  have hD : va_D A [(h0, .inr (1, [.ref q1, .ref q2, .int (iI 0), .ref q3, .ref q4, .ref q5, .ref q6, .ref q7, .null, .null])), (q1, cA_ d 49 (fun _ => 0)), (q2, cA_ d 7 (fun _ => 0)), (q3, cA_ d 6 (fun _ => 0)), (q4, cA_ d 6 (fun _ => 0)), (q5, cA_ d 6 (fun _ => 0)), (q6, cA_ d 49 (fun _ => 0)), (q7, cA_ d 7 (fun _ => 0)), (q8, cA_ d 7 (fun _ => 0))] := hD
  refine va_putF (D := D) (ci := 1) (v := .ref q8) (ty := .array .int) (C := RX1) (T := TX1) (N := 10) hx hb hts in_X1 tyX1 tyX1_ok nmX1 hown hK hP hD hS 0 rfl rfl 8 (by decide) (hts _ q208) (fun _ h9 => h9) rfl hin rfl (by decide +kernel) rfl rfl (Nat.le_of_ble_eq_true rfl) dX1_init_65 (fun H locs hP hD hS => ?_)
  have hP : va_P D vwCl [(h0, .inr (1, [.ref q1, .ref q2, .int (iI 0), .ref q3, .ref q4, .ref q5, .ref q6, .ref q7, .ref q8, .null])), (q1, cA_ d 49 (fun _ => 0)), (q2, cA_ d 7 (fun _ => 0)), (q3, cA_ d 6 (fun _ => 0)), (q4, cA_ d 6 (fun _ => 0)), (q5, cA_ d 6 (fun _ => 0)), (q6, cA_ d 49 (fun _ => 0)), (q7, cA_ d 7 (fun _ => 0)), (q8, cA_ d 7 (fun _ => 0))] H := hP
  have hD : va_D A [(h0, .inr (1, [.ref q1, .ref q2, .int (iI 0), .ref q3, .ref q4, .ref q5, .ref q6, .ref q7, .ref q8, .null])), (q1, cA_ d 49 (fun _ => 0)), (q2, cA_ d 7 (fun _ => 0)), (q3, cA_ d 6 (fun _ => 0)), (q4, cA_ d 6 (fun _ => 0)), (q5, cA_ d 6 (fun _ => 0)), (q6, cA_ d 49 (fun _ => 0)), (q7, cA_ d 7 (fun _ => 0)), (q8, cA_ d 7 (fun _ => 0))] := hD
  refine lv_aload_n hx hb dX1_init_68 rfl (lv_at hl 0 rfl) ?_
  refine lv_bipush (v := 7) hx hb dX1_init_69 (by decide) ?_
  refine c_newa hx hb (hts _ q75) hK hP hD hS hA (z := 7) (by decide) (by decide) (by decide) (Nat.le_of_ble_eq_true rfl) (Nat.le_of_ble_eq_true rfl) dX1_init_71 (fun q9 H hP hD hS => ?_)
  refine W.widen (k := 9) (n := 144) (by omega) (by omega) ?_
  have hP : va_P D vwCl [(h0, .inr (1, [.ref q1, .ref q2, .int (iI 0), .ref q3, .ref q4, .ref q5, .ref q6, .ref q7, .ref q8, .null])), (q1, cA_ d 49 (fun _ => 0)), (q2, cA_ d 7 (fun _ => 0)), (q3, cA_ d 6 (fun _ => 0)), (q4, cA_ d 6 (fun _ => 0)), (q5, cA_ d 6 (fun _ => 0)), (q6, cA_ d 49 (fun _ => 0)), (q7, cA_ d 7 (fun _ => 0)), (q8, cA_ d 7 (fun _ => 0)), (q9, cA_ d 7 (fun _ => 0))] H := hP
  have hD : va_D A [(h0, .inr (1, [.ref q1, .ref q2, .int (iI 0), .ref q3, .ref q4, .ref q5, .ref q6, .ref q7, .ref q8, .null])), (q1, cA_ d 49 (fun _ => 0)), (q2, cA_ d 7 (fun _ => 0)), (q3, cA_ d 6 (fun _ => 0)), (q4, cA_ d 6 (fun _ => 0)), (q5, cA_ d 6 (fun _ => 0)), (q6, cA_ d 49 (fun _ => 0)), (q7, cA_ d 7 (fun _ => 0)), (q8, cA_ d 7 (fun _ => 0)), (q9, cA_ d 7 (fun _ => 0))] := hD
  refine va_putF (D := D) (ci := 1) (v := .ref q9) (ty := .array .int) (C := RX1) (T := TX1) (N := 10) hx hb hts in_X1 tyX1 tyX1_ok nmX1 hown hK hP hD hS 0 rfl rfl 9 (by decide) (hts _ q209) (fun _ h9 => h9) rfl hin rfl (by decide +kernel) rfl rfl (Nat.le_of_ble_eq_true rfl) dX1_init_73 (fun H locs hP hD hS => ?_)
  have hP : va_P D vwCl [(h0, .inr (1, [.ref q1, .ref q2, .int (iI 0), .ref q3, .ref q4, .ref q5, .ref q6, .ref q7, .ref q8, .ref q9])), (q1, cA_ d 49 (fun _ => 0)), (q2, cA_ d 7 (fun _ => 0)), (q3, cA_ d 6 (fun _ => 0)), (q4, cA_ d 6 (fun _ => 0)), (q5, cA_ d 6 (fun _ => 0)), (q6, cA_ d 49 (fun _ => 0)), (q7, cA_ d 7 (fun _ => 0)), (q8, cA_ d 7 (fun _ => 0)), (q9, cA_ d 7 (fun _ => 0))] H := hP
  have hD : va_D A [(h0, .inr (1, [.ref q1, .ref q2, .int (iI 0), .ref q3, .ref q4, .ref q5, .ref q6, .ref q7, .ref q8, .ref q9])), (q1, cA_ d 49 (fun _ => 0)), (q2, cA_ d 7 (fun _ => 0)), (q3, cA_ d 6 (fun _ => 0)), (q4, cA_ d 6 (fun _ => 0)), (q5, cA_ d 6 (fun _ => 0)), (q6, cA_ d 49 (fun _ => 0)), (q7, cA_ d 7 (fun _ => 0)), (q8, cA_ d 7 (fun _ => 0)), (q9, cA_ d 7 (fun _ => 0))] := hD
  have hP9 : va_P D vwCl (mW (ad_ [h0, q1, q2, q3, q4, q5, q6, q7, q8, q9]) d S_0) H := hP.sub [0, 1, 2, 3, 4, 5, 6, 7, 8, 9] rfl
  have hD9 : va_D A (mW (ad_ [h0, q1, q2, q3, q4, q5, q6, q7, q8, q9]) d S_0) := hD.sub [0, 1, 2, 3, 4, 5, 6, 7, 8, 9] (by decide) rfl
  exact W.vret hx hb hr (fun t ht hW => ⟨⟨ad_ [h0, q1, q2, q3, q4, q5, q6, q7, q8, q9], rfl, rfl, by rw [ht]; exact hP9, hD9⟩, hS.F ht⟩) hS.2.2 dX1_init_76
end
section
/-! THE CLAIM OUT OF ONE WALK OF THE LAW'S BODY. Your part is whole_start (and what it stands on); all else here is the same for every law, but numbers. -/
def R_law : String := "CreditNetworkLaw"
def lw_P (b : Addr) (xs : List Int32) (args : Array Value) (s : State) : Prop := args = #[.ref b] ∧ s.IntsAt b xs ∧ xs.length ≤ 256 ∧ (Jvm.Cond.and given_1 narrow_1).before args s = true
def lw_Q (_ : Array Value) (s : State) (o : Outcome) (t : State) : Prop := o = .returned (some (.int 1)) ∧ Framed s o t [] 600000 7290000
def lw_Z (below : List Frame) (a : Array Value) (s : State) : State → Prop := fun t => ∃ o, t.status = .running ∧ Ended t below o ∧ lw_Q a s o t
/-- the law's own end, with 1 on the stack, nothing written that was there before, its room as the claim has it -/
theorem lw_ret {p : Program} {l : Launch} {e : Env} {s : State} {m : MethodId} {below : List Frame} {meth : Method} {c : Code} {b : Nat} (hx : p.tables.exec = Jvm.exec) (hb : c.code = code) (hr : meth.sig.returnType = ret) (hlocks : meth.locks = false) {pc : Nat} {H : Heap} {ls : Array Slot} (hdg : decode code pc = .ok (.ireturn, 1)) : W p l e room_1 s m #[Value.ref b] below meth c H [] 600000 7290000 (lw_Z below #[Value.ref b] s) (F0 m pc ls [.int 1]) := by
  intro T hT X
  obtain ⟨fs, hret, hrun, hended, hW, hframe⟩ := X.leave (v := some (.int 1)) (hlocks := hlocks) (fun h => by rw [hr] at h; cases h)
  have hmeth' : T.vm.method? m = some meth := X.method'
  refine ⟨T.setFrames fs, ?_, .returned (some (.int 1)), hrun, hended, rfl, ⟨_, rfl⟩, hW, hframe⟩
  jvm_step X.here [X.here.top, hx, hb, hdg, hmeth', hr, ret, narrow_b1]
  (try refine ⟨rfl, ?_⟩); (try refine ⟨rfl, ?_⟩)
  first | (intro acts; rw [hret _ acts rfl rfl rfl]) | rw [hret _ _ rfl rfl rfl]
  exact Steps.refl _
/-- what holds at the law's entry: the machine, the code, the tables' words (any of lw_tbl by 'hts w (by decide +kernel)'), the script of L ints xs at the cell b, what the Statement gives of the start (any of its parts by flat_of_before) -/
def lw_At (p : Program) (s : State) (m : MethodId) (meth : Method) (c : Code) (b L : Nat) (xs : Nat → Int32) : Prop :=
  p.tables.exec = Jvm.exec ∧ c.code = code ∧ meth.sig.returnType = ret ∧ c.maxLocals = 4 ∧ s.vm.findClass R_law = some m.cls ∧ (∀ w ∈ lw_tbl, w.before #[Value.ref b] s = true) ∧ va_X b L xs s s.heap ∧ b < s.heap.size ∧ meth.locks = false ∧ (Jvm.Cond.and given_1 narrow_1).before #[Value.ref b] s = true
end
section
/-! ===== the law's rows: its two worlds side by side, its script, its calls ===== -/
set_option maxRecDepth 10000
def lS (Sx Sm : st_T) : st_T := fun k => if k < 20 then Sx k else Sm (k - 20)
def lW (hx hm : Nat → Nat) (d : ClassId) (S : st_T) : va_W := xW hx d S ++ mW hm d (fun k => S (k + 20))
theorem lW_fst (hx hm : Nat → Nat) (d : ClassId) (S S' : st_T) : (lW hx hm d S).map Prod.fst = (lW hx hm d S').map Prod.fst := rfl
theorem lW_S (hx hm : Nat → Nat) (d : ClassId) (Sx Sm : st_T) : lW hx hm d (lS Sx Sm) = xW hx d Sx ++ mW hm d Sm := rfl
def ct_l (E : ct_T) (hx hm : Nat → Nat) (b L : Nat) (xs : Nat → Int32) : Prop := match E with
  | ((_, _, _, _, s), _, _, (_, A, own, wf, d)) => own = R_law ∧ wf = lW hx hm d ∧ va_X b L xs s s.heap ∧ b < s.heap.size ∧ ¬ A b
section
variable {E : ct_T} {cc : ByteArray} {nL : Nat} {S Sx Sm : st_T} {pc : Nat} {lv : List (Option pv)} {st : List pv} {hx hm : Nat → Nat} {b L : Nat} {xs : Nat → Int32}
theorem g_sld (hE : ct_l E hx hm b L xs) {z : Int} (pc' : Nat) (hd : decode cc pc = .ok (.iaload, 1)) (hp : pc + 1 = pc') (hz : 0 ≤ z ∧ z < L) (hL : L ≤ 256) (k : G E cc nL S pc' lv (.inl (xs z.toNat).toInt :: st)) : G E cc nL S pc lv (.inl z :: .inr b :: st) := by
  subst hp
  obtain ⟨⟨p, l, e, R, s⟩, ⟨m, args, below, meth, c⟩, ⟨cells, slots, Q⟩, ⟨D, A, own', wf', d⟩⟩ := E
  obtain ⟨rfl, rfl, hX, hbl, hbA⟩ := hE
  intro C H locs ls hP hS hl
  refine va_sld C.1 C.2.1 hX hbl hbA hS (iI_in hz (by omega)) hd ?_
  rw [iI_cl ⟨hz.1, by omega⟩, iI_of (xs z.toNat)]
  exact k C H locs ls hP hS hl
theorem g_slen (hE : ct_l E hx hm b L xs) (pc' : Nat) (hd : decode cc pc = .ok (.arraylength, 1)) (hp : pc + 1 = pc') (k : G E cc nL S pc' lv (.inl (L : Int) :: st)) : G E cc nL S pc lv (.inr b :: st) := by
  subst hp
  obtain ⟨⟨p, l, e, R, s⟩, ⟨m, args, below, meth, c⟩, ⟨cells, slots, Q⟩, ⟨D, A, own', wf', d⟩⟩ := E
  obtain ⟨rfl, rfl, hX, hbl, hbA⟩ := hE
  intro C H locs ls hP hS hl
  exact va_slen C.1 C.2.1 hX hbl hbA hS hd (k C H locs ls hP hS hl)
theorem g_and15 {a : Int} (pc' : Nat) (hd : decode cc pc = .ok (.iand, 1)) (hp : pc + 1 = pc') (k : ∀ z : Int, 0 ≤ z → z < 16 → G E cc nL S pc' lv (.inl z :: st)) : G E cc nL S pc lv (.inl 15 :: .inl a :: st) := by
  subst hp
  obtain ⟨⟨p, l, e, R, s⟩, ⟨m, args, below, meth, c⟩, ⟨cells, slots, Q⟩, ⟨D, A, own', wf', d⟩⟩ := E
  intro C H locs ls hP hS hl
  refine lv_iand C.1 C.2.1 hd ?_
  obtain ⟨j, hj, e⟩ := pk_andE (iI a) (m := iI 15) 4 (by decide)
  rw [e]
  exact k (j : Int) (by omega) (by omega) C H locs ls hP hS hl
theorem g_tin {z dflt lo hi : Int} {offs : Array Int} {len : Nat} {off : Int} (tgt : Nat) (hd : decode cc pc = .ok (.tableswitch dflt lo hi offs, len)) (hr : -2147483648 ≤ z ∧ z ≤ 2147483647) (h1 : ¬ z < lo) (h2 : ¬ hi < z) (ho : offs[(z - lo).toNat]? = some off) (ht : (pc : Int) + off = (tgt : Int)) (k : G E cc nL S tgt lv st) : G E cc nL S pc lv (.inl z :: st) := by
  obtain ⟨⟨p, l, e, R, s⟩, ⟨m, args, below, meth, c⟩, ⟨cells, slots, Q⟩, ⟨D, A, own', wf', d⟩⟩ := E
  intro C H locs ls hP hS hl
  exact lv_tableIn C.1 C.2.1 hd (by rw [iI_toInt hr]; exact h1) (by rw [iI_toInt hr]; exact h2) (by rw [iI_toInt hr]; exact ho) ht (k C H locs ls hP hS hl)
theorem g_tout {z dflt lo hi : Int} {offs : Array Int} {len : Nat} (tgt : Nat) (hd : decode cc pc = .ok (.tableswitch dflt lo hi offs, len)) (hr : -2147483648 ≤ z ∧ z ≤ 2147483647) (h : z < lo ∨ hi < z) (ht : (pc : Int) + dflt = (tgt : Int)) (k : G E cc nL S tgt lv st) : G E cc nL S pc lv (.inl z :: st) := by
  obtain ⟨⟨p, l, e, R, s⟩, ⟨m, args, below, meth, c⟩, ⟨cells, slots, Q⟩, ⟨D, A, own', wf', d⟩⟩ := E
  intro C H locs ls hP hS hl
  exact lv_tableOut C.1 C.2.1 hd (by rw [iI_toInt hr]; exact h) ht (k C H locs ls hP hS hl)
/-- both answers are the same -/
theorem g_same {a y : Int} {off : Int} (tgt : Nat) (hd : decode cc pc = .ok (.if_icmp .eq off, 3)) (ht : (pc : Int) + off = (tgt : Int)) (h : a = y) (k : G E cc nL S tgt lv st) : G E cc nL S pc lv (.inl y :: .inl a :: st) := by
  subst h
  obtain ⟨⟨p, l, e, R, s⟩, ⟨m, args, below, meth, c⟩, ⟨cells, slots, Q⟩, ⟨D, A, own', wf', d⟩⟩ := E
  intro C H locs ls hP hS hl
  exact lv_icmp_eq C.1 C.2.1 hd ht (fun q => k C H locs ls hP hS hl) (fun q => absurd rfl q)
/-- a call of CreditNetwork's -/
theorem gl_callx {na : Nat} {y : MethodName} {ccy : ByteArray} {nLy idx : Nat} {ret : FieldType} {rm : Room} {av : List Int} {Pre : st_T → Prop} {Post : st_T → Int → st_T → Prop} (hM : c_meti xW y ccy nLy ret rm true av Pre Post) (hG : GoodIn lw_all (wsV R_law idx RX0 y (ws_ y ccy nLy (some ret)))) (hy : y.cls = RX0 ∧ y.cls ≠ "java/lang/invoke/MethodHandle" ∧ y.cls ≠ "java/lang/invoke/VarHandle" ∧ (parseMethodDescriptor y.desc).map (fun d => d.parameters.length) = some na) (hna : av.length = na) (hrm : rm.cells = 0 ∧ rm.slots = 0)
    (hE : ct_l E hx hm b L xs) (hR : rm.frames + 1 ≤ (ct_R E).frames ∧ 8 + (nLy + 11) + rm.locals ≤ (ct_R E).locals) (pc' : Nat) (hd : decode cc pc = .ok (.invokevirtual idx, 3)) (hp : pc + 3 = pc') (rest : List pv) (hst : st = (av.map Sum.inl).reverse ++ .inr (hx 0) :: rest) (hrest : rest.length ≤ 8) (hpre : Pre Sx) (k : ∀ (z : Int) (S' : st_T), Post Sx z S' → G E cc nL (lS S' Sm) pc' lv (.inl z :: rest)) : G E cc nL (lS Sx Sm) pc lv st := by
  subst hp
  obtain ⟨⟨p, l, e, R, s⟩, ⟨m, args, below, meth, c⟩, ⟨cells, slots, Q⟩, ⟨D, A, own', wf', d⟩⟩ := E
  obtain ⟨rfl, rfl, hX, hbl, hbA⟩ := hE
  intro C H locs ls hP hS hl
  obtain ⟨hx', hb, hml, hown, hts, hK, hD, hA, hc, hs⟩ := id C
  have hP : va_P D vwCl (xW hx d Sx ++ mW hm d Sm) H := hP
  have hD : va_D A (xW hx d Sx ++ mW hm d Sm) := hD (lS Sx Sm)
  have hPc : va_P D vwCl (xW hx d Sx) H := hP.sub [0, 1, 2, 3, 4, 5, 6, 7, 8, 9, 10, 11, 12] rfl
  have hDc : va_D A (xW hx d Sx) := hD.sub [0, 1, 2, 3, 4, 5, 6, 7, 8, 9, 10, 11, 12] (by decide) rfl
  have hFc := va_free (wc := xW hx d Sx) hD hS hA [0, 1, 2, 3, 4, 5, 6, 7, 8, 9, 10, 11, 12] rfl
  have hrecv := va_recv hK hPc (ci := 0) (q0 := 0) rfl rfl
  refine va_calli (va_runV (As := (av.map Sum.inl).map pV) (rest := rest.map pV) ⟨hx', hb, hml, hown, hts⟩ (hM l D d hx H.size Sx hpre) (cwV na hts hG rfl hrm.1 hrm.2 hy hR) ⟨c_pre_blind, hrecv, fun U hU hW => ⟨rfl, by rw [hU], by rw [hU]; exact hPc, va_K.moved hW.alike hK, hDc.weaken (fun _ _ _ _ => trivial)⟩⟩ rfl (by rw [List.length_map, List.length_map]; exact hna) hl.1 (by rw [hst]; simp [pV]) (lv_room (by rw [pV_sum]; exact hrest)) hd ⟨hc, hs⟩) hS (fun q _ h => hFc q h) hFc (fun r u t H1 locs1 ht hvm hw hB hz1 hk1 hS1 => ?_)
  obtain ⟨z, rfl, hpost⟩ := hw
  obtain ⟨hP1, hK1⟩ := hB
  rw [ht] at hP1
  have hD1 : va_D (va_A (xW hx d Sx) H.size) (xW hx d u) := va_D_fst (xW_fst hx d Sx u) hDc.self
  obtain ⟨hP2, -⟩ := va_join (wr := mW hm d Sm) (w1 := xW hx d u) hP hD [0, 1, 2, 3, 4, 5, 6, 7, 8, 9, 10, 11, 12] [13, 14, 15, 16, 17, 18, 19, 20, 21, 22] rfl rfl (by decide) (by decide) hk1 hFc hP1 hD1
  have hP3 : va_P D vwCl (xW hx d u ++ mW hm d Sm) H1 := hP2.sub [10, 11, 12, 13, 14, 15, 16, 17, 18, 19, 20, 21, 22, 0, 1, 2, 3, 4, 5, 6, 7, 8, 9] rfl
  exact k z u hpost C H1 locs1 ls hP3 hS1 hl
/-- a call of CreditNetworkModel's -/
theorem gl_callm {na : Nat} {y : MethodName} {ccy : ByteArray} {nLy idx : Nat} {ret : FieldType} {rm : Room} {av : List Int} {Pre : st_T → Prop} {Post : st_T → Int → st_T → Prop} (hM : c_meti mW y ccy nLy ret rm true av Pre Post) (hG : GoodIn lw_all (wsV R_law idx RX1 y (ws_ y ccy nLy (some ret)))) (hy : y.cls = RX1 ∧ y.cls ≠ "java/lang/invoke/MethodHandle" ∧ y.cls ≠ "java/lang/invoke/VarHandle" ∧ (parseMethodDescriptor y.desc).map (fun d => d.parameters.length) = some na) (hna : av.length = na) (hrm : rm.cells = 0 ∧ rm.slots = 0)
    (hE : ct_l E hx hm b L xs) (hR : rm.frames + 1 ≤ (ct_R E).frames ∧ 8 + (nLy + 11) + rm.locals ≤ (ct_R E).locals) (pc' : Nat) (hd : decode cc pc = .ok (.invokevirtual idx, 3)) (hp : pc + 3 = pc') (rest : List pv) (hst : st = (av.map Sum.inl).reverse ++ .inr (hm 0) :: rest) (hrest : rest.length ≤ 8) (hpre : Pre Sm) (k : ∀ (z : Int) (S' : st_T), Post Sm z S' → G E cc nL (lS Sx S') pc' lv (.inl z :: rest)) : G E cc nL (lS Sx Sm) pc lv st := by
  subst hp
  obtain ⟨⟨p, l, e, R, s⟩, ⟨m, args, below, meth, c⟩, ⟨cells, slots, Q⟩, ⟨D, A, own', wf', d⟩⟩ := E
  obtain ⟨rfl, rfl, hX, hbl, hbA⟩ := hE
  intro C H locs ls hP hS hl
  obtain ⟨hx', hb, hml, hown, hts, hK, hD, hA, hc, hs⟩ := id C
  have hP : va_P D vwCl (xW hx d Sx ++ mW hm d Sm) H := hP
  have hD : va_D A (xW hx d Sx ++ mW hm d Sm) := hD (lS Sx Sm)
  have hPc : va_P D vwCl (mW hm d Sm) H := hP.sub [13, 14, 15, 16, 17, 18, 19, 20, 21, 22] rfl
  have hDc : va_D A (mW hm d Sm) := hD.sub [13, 14, 15, 16, 17, 18, 19, 20, 21, 22] (by decide) rfl
  have hFc := va_free (wc := mW hm d Sm) hD hS hA [13, 14, 15, 16, 17, 18, 19, 20, 21, 22] rfl
  have hrecv := va_recv hK hPc (ci := 1) (q0 := 0) rfl rfl
  refine va_calli (va_runV (As := (av.map Sum.inl).map pV) (rest := rest.map pV) ⟨hx', hb, hml, hown, hts⟩ (hM l D d hm H.size Sm hpre) (cwV na hts hG rfl hrm.1 hrm.2 hy hR) ⟨c_pre_blind, hrecv, fun U hU hW => ⟨rfl, by rw [hU], by rw [hU]; exact hPc, va_K.moved hW.alike hK, hDc.weaken (fun _ _ _ _ => trivial)⟩⟩ rfl (by rw [List.length_map, List.length_map]; exact hna) hl.1 (by rw [hst]; simp [pV]) (lv_room (by rw [pV_sum]; exact hrest)) hd ⟨hc, hs⟩) hS (fun q _ h => hFc q h) hFc (fun r u t H1 locs1 ht hvm hw hB hz1 hk1 hS1 => ?_)
  obtain ⟨z, rfl, hpost⟩ := hw
  obtain ⟨hP1, hK1⟩ := hB
  rw [ht] at hP1
  have hD1 : va_D (va_A (mW hm d Sm) H.size) (mW hm d u) := va_D_fst (mW_fst hm d Sm u) hDc.self
  obtain ⟨hP2, -⟩ := va_join (wr := xW hx d Sx) (w1 := mW hm d u) hP hD [13, 14, 15, 16, 17, 18, 19, 20, 21, 22] [0, 1, 2, 3, 4, 5, 6, 7, 8, 9, 10, 11, 12] rfl rfl (by decide) (by decide) hk1 hFc hP1 hD1
  exact k z u hpost C H1 locs1 ls hP2 hS1 hl
end
/-- both classes hold the same trusts, positions and list -/
def LR (Sx Sm : st_T) : Prop := XI Sx ∧ Sm 0 = Sx 0 ∧ Sm 1 = Sx 1 ∧ Sm 2 0 = Sx 3 0 ∧ Sm 3 = Sx 4 ∧ Sm 4 = Sx 5 ∧ Sm 5 = Sx 6
theorem LR_MI {Sx Sm : st_T} (h : LR Sx Sm) : MI Sm := by
  obtain ⟨h1, h2, h3, h4, h5, h6, h7⟩ := h
  unfold MI
  rw [h2, h3, h4, h5, h6, h7]
  exact ⟨⟨Sx 2, h1.1⟩, h1.2⟩
theorem LR_keep {Sx Sm Sx' Sm' : st_T} (h : LR Sx Sm) (hk : ∀ k, k < 7 → Sx' k = Sx k) (hm : ∀ k, k < 6 → Sm' k = Sm k) : LR Sx' Sm' := by
  obtain ⟨h1, h2, h3, h4, h5, h6, h7⟩ := h
  refine ⟨XI_keep h1 hk, ?_, ?_, ?_, ?_, ?_, ?_⟩
  · rw [hm 0 (by decide), hk 0 (by decide)]; exact h2
  · rw [hm 1 (by decide), hk 1 (by decide)]; exact h3
  · rw [hm 2 (by decide), hk 3 (by decide)]; exact h4
  · rw [hm 3 (by decide), hk 4 (by decide)]; exact h5
  · rw [hm 4 (by decide), hk 5 (by decide)]; exact h6
  · rw [hm 5 (by decide), hk 6 (by decide)]; exact h7
end
section
/-! ===== the law's loop ===== -/
set_option maxRecDepth 10000
set_option maxHeartbeats 4000000 in
theorem law_loop {E : ct_T} {hx hm : Nat → Nat} {b L : Nat} {xs : Nat → Int32} (hE : ct_l E hx hm b L xs) (hR : ct_R E = room_1) (hL : L ≤ 256) (hret : ∀ (S : st_T) (lv : List (Option pv)), G E cL_law 4 S 533 lv [.inl 1]) : ∀ (n : Nat) (i : Int) (Sx Sm : st_T), 0 ≤ i → i ≤ 256 → 260 - i < n → LR Sx Sm → G E cL_law 4 (lS Sx Sm) 18 [some (.inr b), some (.inr (hx 0)), some (.inr (hm 0)), some (.inl i)] [] := by
  intro n
  induction n with
  | zero => intro i Sx Sm g0 g1 gn; omega
  | succ n ih =>
    intro i Sx Sm g0 g1 gn hlr
    have hMI := LR_MI hlr
    refine g_iload_n 19 dL_law_18 rfl rfl ?_
    refine g_aload_n 20 dL_law_19 rfl rfl ?_
    refine g_slen hE 21 dL_law_20 rfl ?_
    refine g_iconst 22 dL_law_21 rfl ?_
    refine g_isub 23 dL_law_22 rfl ?_
    refine g_icmp_gt 532 26 dL_law_23 (by decide) rfl (by omega) (by omega) (fun hc => ?_) (fun hc => ?_)
    · refine g_iconst 533 dL_law_532 rfl ?_
      exact hret _ _
    · have next : ∀ (Sx' Sm' : st_T), LR Sx' Sm' → G E cL_law 4 (lS Sx' Sm') 526 [some (.inr b), some (.inr (hx 0)), some (.inr (hm 0)), some (.inl i)] [] := by
        intro Sx' Sm' h'
        refine g_iinc 529 dL_law_526 rfl (by decide) rfl ?_
        refine g_goto 18 dL_law_529 (by decide) ?_
        exact ih (i + 4) Sx' Sm' (by omega) (by omega) (by omega) h'
      refine g_aload_n 27 dL_law_26 rfl rfl ?_
      refine g_iload_n 28 dL_law_27 rfl rfl ?_
      refine g_sld hE 29 dL_law_28 rfl (by omega) hL ?_
      refine g_bipush 31 dL_law_29 rfl (by decide) ?_
      refine g_and15 32 dL_law_31 rfl (fun z z0 z1 => ?_)
      have hz : z = 0 ∨ z = 1 ∨ z = 2 ∨ z = 3 ∨ z = 4 ∨ z = 5 ∨ z = 6 ∨ z = 7 ∨ z = 8 ∨ z = 9 ∨ z = 10 ∨ z = 11 ∨ z = 12 ∨ z = 13 ∨ 13 < z := by omega
      rcases hz with rfl | rfl | rfl | rfl | rfl | rfl | rfl | rfl | rfl | rfl | rfl | rfl | rfl | rfl | hz
      · refine g_tin 104 dL_law_32 (by decide) (by decide) (by decide) rfl (by decide) ?_
        refine g_aload_n 105 dL_law_104 rfl rfl ?_
        refine g_aload_n 106 dL_law_105 rfl rfl ?_
        refine g_iload_n 107 dL_law_106 rfl rfl ?_
        refine g_iconst 108 dL_law_107 rfl ?_
        refine g_iadd 109 dL_law_108 rfl ?_
        refine g_sld hE 110 dL_law_109 rfl (by omega) hL ?_
        refine g_aload_n 111 dL_law_110 rfl rfl ?_
        refine g_iload_n 112 dL_law_111 rfl rfl ?_
        refine g_iconst 113 dL_law_112 rfl ?_
        refine g_iadd 114 dL_law_113 rfl ?_
        refine g_sld hE 115 dL_law_114 rfl (by omega) hL ?_
        refine g_aload_n 116 dL_law_115 rfl rfl ?_
        refine g_iload_n 117 dL_law_116 rfl rfl ?_
        refine g_iconst 118 dL_law_117 rfl ?_
        refine g_iadd 119 dL_law_118 rfl ?_
        refine g_sld hE 120 dL_law_119 rfl (by omega) hL ?_
        refine gl_callx (na := 3) (cx_trust (xs (i + 1).toNat).toInt (xs (i + 2).toNat).toInt (xs (i + 3).toNat).toInt (iI_rng _) (iI_rng _) (iI_rng _)) (lw_V q76 q77 q78 q25 q79) (by decide +kernel) rfl ⟨rfl, rfl⟩ hE (by rw [hR]; decide) 123 dL_law_120 rfl [] rfl (by simp) hlr.1 (fun zx Sx' hpx => ?_)
        refine g_aload_n 124 dL_law_123 rfl rfl ?_
        refine g_aload_n 125 dL_law_124 rfl rfl ?_
        refine g_iload_n 126 dL_law_125 rfl rfl ?_
        refine g_iconst 127 dL_law_126 rfl ?_
        refine g_iadd 128 dL_law_127 rfl ?_
        refine g_sld hE 129 dL_law_128 rfl (by omega) hL ?_
        refine g_aload_n 130 dL_law_129 rfl rfl ?_
        refine g_iload_n 131 dL_law_130 rfl rfl ?_
        refine g_iconst 132 dL_law_131 rfl ?_
        refine g_iadd 133 dL_law_132 rfl ?_
        refine g_sld hE 134 dL_law_133 rfl (by omega) hL ?_
        refine g_aload_n 135 dL_law_134 rfl rfl ?_
        refine g_iload_n 136 dL_law_135 rfl rfl ?_
        refine g_iconst 137 dL_law_136 rfl ?_
        refine g_iadd 138 dL_law_137 rfl ?_
        refine g_sld hE 139 dL_law_138 rfl (by omega) hL ?_
        refine gl_callm (na := 3) (cm_trust (xs (i + 1).toNat).toInt (xs (i + 2).toNat).toInt (xs (i + 3).toNat).toInt (iI_rng _) (iI_rng _) (iI_rng _)) (lw_V q231 q232 q233 q26 q234) (by decide +kernel) rfl ⟨rfl, rfl⟩ hE (by rw [hR]; decide) 142 dL_law_139 rfl [.inl zx] rfl (by simp) hMI (fun zm Sm' hpm => ?_)
        have key : zx = zm ∧ LR Sx' Sm' := by
          obtain ⟨l1, l2, l3, l4, l5, l6, l7⟩ := hlr
          obtain ⟨x1, x2, x3, x4, x5, x6, x7⟩ := hpx
          obtain ⟨m1, m2⟩ := hpm
          rw [l2] at m1
          obtain ⟨e, eT⟩ := rTrust_u x2 m1
          refine ⟨e, x1, eT.symm, ?_, ?_, ?_, ?_, ?_⟩
          · rw [m2 1 (by decide), x3]; exact l3
          · rw [m2 2 (by decide), x4]; exact l4
          · rw [m2 3 (by decide), x5]; exact l5
          · rw [m2 4 (by decide), x6]; exact l6
          · rw [m2 5 (by decide), x7]; exact l7
        refine g_same 526 dL_law_142 (by decide) key.1 ?_
        exact next Sx' Sm' key.2
      · refine g_tin 147 dL_law_32 (by decide) (by decide) (by decide) rfl (by decide) ?_
        refine g_aload_n 148 dL_law_147 rfl rfl ?_
        refine g_aload_n 149 dL_law_148 rfl rfl ?_
        refine g_iload_n 150 dL_law_149 rfl rfl ?_
        refine g_iconst 151 dL_law_150 rfl ?_
        refine g_iadd 152 dL_law_151 rfl ?_
        refine g_sld hE 153 dL_law_152 rfl (by omega) hL ?_
        refine g_aload_n 154 dL_law_153 rfl rfl ?_
        refine g_iload_n 155 dL_law_154 rfl rfl ?_
        refine g_iconst 156 dL_law_155 rfl ?_
        refine g_iadd 157 dL_law_156 rfl ?_
        refine g_sld hE 158 dL_law_157 rfl (by omega) hL ?_
        refine g_aload_n 159 dL_law_158 rfl rfl ?_
        refine g_iload_n 160 dL_law_159 rfl rfl ?_
        refine g_iconst 161 dL_law_160 rfl ?_
        refine g_iadd 162 dL_law_161 rfl ?_
        refine g_sld hE 163 dL_law_162 rfl (by omega) hL ?_
        refine gl_callx (na := 3) (cx_withdraw (xs (i + 1).toNat).toInt (xs (i + 2).toNat).toInt (xs (i + 3).toNat).toInt (iI_rng _) (iI_rng _) (iI_rng _)) (lw_V q86 q87 q88 q25 q89) (by decide +kernel) rfl ⟨rfl, rfl⟩ hE (by rw [hR]; decide) 166 dL_law_163 rfl [] rfl (by simp) hlr.1 (fun zx Sx' hpx => ?_)
        refine g_aload_n 167 dL_law_166 rfl rfl ?_
        refine g_aload_n 168 dL_law_167 rfl rfl ?_
        refine g_iload_n 169 dL_law_168 rfl rfl ?_
        refine g_iconst 170 dL_law_169 rfl ?_
        refine g_iadd 171 dL_law_170 rfl ?_
        refine g_sld hE 172 dL_law_171 rfl (by omega) hL ?_
        refine g_aload_n 173 dL_law_172 rfl rfl ?_
        refine g_iload_n 174 dL_law_173 rfl rfl ?_
        refine g_iconst 175 dL_law_174 rfl ?_
        refine g_iadd 176 dL_law_175 rfl ?_
        refine g_sld hE 177 dL_law_176 rfl (by omega) hL ?_
        refine g_aload_n 178 dL_law_177 rfl rfl ?_
        refine g_iload_n 179 dL_law_178 rfl rfl ?_
        refine g_iconst 180 dL_law_179 rfl ?_
        refine g_iadd 181 dL_law_180 rfl ?_
        refine g_sld hE 182 dL_law_181 rfl (by omega) hL ?_
        refine gl_callm (na := 3) (cm_withdraw (xs (i + 1).toNat).toInt (xs (i + 2).toNat).toInt (xs (i + 3).toNat).toInt (iI_rng _) (iI_rng _) (iI_rng _)) (lw_V q239 q240 q241 q26 q242) (by decide +kernel) rfl ⟨rfl, rfl⟩ hE (by rw [hR]; decide) 185 dL_law_182 rfl [.inl zx] rfl (by simp) hMI (fun zm Sm' hpm => ?_)
        have key : zx = zm ∧ LR Sx' Sm' := by
          obtain ⟨l1, l2, l3, l4, l5, l6, l7⟩ := hlr
          obtain ⟨x1, x2, x3, x4, x5, x6, x7⟩ := hpx
          obtain ⟨m1, m2⟩ := hpm
          rw [l2, l3] at m1
          obtain ⟨e, eT⟩ := rWd_u x2 m1
          refine ⟨e, x1, eT.symm, ?_, ?_, ?_, ?_, ?_⟩
          · rw [m2 1 (by decide), x3]; exact l3
          · rw [m2 2 (by decide), x4]; exact l4
          · rw [m2 3 (by decide), x5]; exact l5
          · rw [m2 4 (by decide), x6]; exact l6
          · rw [m2 5 (by decide), x7]; exact l7
        refine g_same 526 dL_law_185 (by decide) key.1 ?_
        exact next Sx' Sm' key.2
      · refine g_tin 190 dL_law_32 (by decide) (by decide) (by decide) rfl (by decide) ?_
        refine g_aload_n 191 dL_law_190 rfl rfl ?_
        refine g_aload_n 192 dL_law_191 rfl rfl ?_
        refine g_iload_n 193 dL_law_192 rfl rfl ?_
        refine g_iconst 194 dL_law_193 rfl ?_
        refine g_iadd 195 dL_law_194 rfl ?_
        refine g_sld hE 196 dL_law_195 rfl (by omega) hL ?_
        refine g_aload_n 197 dL_law_196 rfl rfl ?_
        refine g_iload_n 198 dL_law_197 rfl rfl ?_
        refine g_iconst 199 dL_law_198 rfl ?_
        refine g_iadd 200 dL_law_199 rfl ?_
        refine g_sld hE 201 dL_law_200 rfl (by omega) hL ?_
        refine g_aload_n 202 dL_law_201 rfl rfl ?_
        refine g_iload_n 203 dL_law_202 rfl rfl ?_
        refine g_iconst 204 dL_law_203 rfl ?_
        refine g_iadd 205 dL_law_204 rfl ?_
        refine g_sld hE 206 dL_law_205 rfl (by omega) hL ?_
        refine gl_callx (na := 3) (cx_pay (xs (i + 1).toNat).toInt (xs (i + 2).toNat).toInt (xs (i + 3).toNat).toInt (iI_rng _) (iI_rng _) (iI_rng _)) (lw_V q116 q117 q118 q25 q119) (by decide +kernel) rfl ⟨rfl, rfl⟩ hE (by rw [hR]; decide) 209 dL_law_206 rfl [] rfl (by simp) hlr.1 (fun zx Sx' hpx => ?_)
        refine g_aload_n 210 dL_law_209 rfl rfl ?_
        refine g_aload_n 211 dL_law_210 rfl rfl ?_
        refine g_iload_n 212 dL_law_211 rfl rfl ?_
        refine g_iconst 213 dL_law_212 rfl ?_
        refine g_iadd 214 dL_law_213 rfl ?_
        refine g_sld hE 215 dL_law_214 rfl (by omega) hL ?_
        refine g_aload_n 216 dL_law_215 rfl rfl ?_
        refine g_iload_n 217 dL_law_216 rfl rfl ?_
        refine g_iconst 218 dL_law_217 rfl ?_
        refine g_iadd 219 dL_law_218 rfl ?_
        refine g_sld hE 220 dL_law_219 rfl (by omega) hL ?_
        refine g_aload_n 221 dL_law_220 rfl rfl ?_
        refine g_iload_n 222 dL_law_221 rfl rfl ?_
        refine g_iconst 223 dL_law_222 rfl ?_
        refine g_iadd 224 dL_law_223 rfl ?_
        refine g_sld hE 225 dL_law_224 rfl (by omega) hL ?_
        refine gl_callm (na := 3) (cm_pay (xs (i + 1).toNat).toInt (xs (i + 2).toNat).toInt (xs (i + 3).toNat).toInt (iI_rng _) (iI_rng _) (iI_rng _)) (lw_V q255 q256 q257 q26 q258) (by decide +kernel) rfl ⟨rfl, rfl⟩ hE (by rw [hR]; decide) 228 dL_law_225 rfl [.inl zx] rfl (by simp) hMI (fun zm Sm' hpm => ?_)
        have key : zx = zm ∧ LR Sx' Sm' := by
          obtain ⟨l1, l2, l3, l4, l5, l6, l7⟩ := hlr
          obtain ⟨x1, x2, x3, x4, x5, x6, x7⟩ := hpx
          obtain ⟨⟨mm, m0, m1⟩, m2⟩ := hpm
          rw [l2, l3] at m0
          rw [l3] at m1
          obtain ⟨e, eT⟩ := rPay_u (x2 mm m0) m1
          refine ⟨e, x1, ?_, eT.symm, ?_, ?_, ?_, ?_⟩
          · rw [m2 0 (by decide), x3]; exact l2
          · rw [m2 2 (by decide), x4]; exact l4
          · rw [m2 3 (by decide), x5]; exact l5
          · rw [m2 4 (by decide), x6]; exact l6
          · rw [m2 5 (by decide), x7]; exact l7
        refine g_same 526 dL_law_228 (by decide) key.1 ?_
        exact next Sx' Sm' key.2
      · refine g_tin 233 dL_law_32 (by decide) (by decide) (by decide) rfl (by decide) ?_
        refine g_aload_n 234 dL_law_233 rfl rfl ?_
        refine g_aload_n 235 dL_law_234 rfl rfl ?_
        refine g_iload_n 236 dL_law_235 rfl rfl ?_
        refine g_iconst 237 dL_law_236 rfl ?_
        refine g_iadd 238 dL_law_237 rfl ?_
        refine g_sld hE 239 dL_law_238 rfl (by omega) hL ?_
        refine g_aload_n 240 dL_law_239 rfl rfl ?_
        refine g_iload_n 241 dL_law_240 rfl rfl ?_
        refine g_iconst 242 dL_law_241 rfl ?_
        refine g_iadd 243 dL_law_242 rfl ?_
        refine g_sld hE 244 dL_law_243 rfl (by omega) hL ?_
        refine g_aload_n 245 dL_law_244 rfl rfl ?_
        refine g_iload_n 246 dL_law_245 rfl rfl ?_
        refine g_iconst 247 dL_law_246 rfl ?_
        refine g_iadd 248 dL_law_247 rfl ?_
        refine g_sld hE 249 dL_law_248 rfl (by omega) hL ?_
        refine gl_callx (na := 3) (cx_gather (xs (i + 1).toNat).toInt (xs (i + 2).toNat).toInt (xs (i + 3).toNat).toInt (iI_rng _) (iI_rng _) (iI_rng _)) (lw_V q120 q121 q122 q25 q123) (by decide +kernel) rfl ⟨rfl, rfl⟩ hE (by rw [hR]; decide) 252 dL_law_249 rfl [] rfl (by simp) hlr.1 (fun zx Sx' hpx => ?_)
        refine g_aload_n 253 dL_law_252 rfl rfl ?_
        refine g_aload_n 254 dL_law_253 rfl rfl ?_
        refine g_iload_n 255 dL_law_254 rfl rfl ?_
        refine g_iconst 256 dL_law_255 rfl ?_
        refine g_iadd 257 dL_law_256 rfl ?_
        refine g_sld hE 258 dL_law_257 rfl (by omega) hL ?_
        refine g_aload_n 259 dL_law_258 rfl rfl ?_
        refine g_iload_n 260 dL_law_259 rfl rfl ?_
        refine g_iconst 261 dL_law_260 rfl ?_
        refine g_iadd 262 dL_law_261 rfl ?_
        refine g_sld hE 263 dL_law_262 rfl (by omega) hL ?_
        refine g_aload_n 264 dL_law_263 rfl rfl ?_
        refine g_iload_n 265 dL_law_264 rfl rfl ?_
        refine g_iconst 266 dL_law_265 rfl ?_
        refine g_iadd 267 dL_law_266 rfl ?_
        refine g_sld hE 268 dL_law_267 rfl (by omega) hL ?_
        refine gl_callm (na := 3) (cm_gather (xs (i + 1).toNat).toInt (xs (i + 2).toNat).toInt (xs (i + 3).toNat).toInt (iI_rng _) (iI_rng _) (iI_rng _)) (lw_V q263 q264 q265 q26 q266) (by decide +kernel) rfl ⟨rfl, rfl⟩ hE (by rw [hR]; decide) 271 dL_law_268 rfl [.inl zx] rfl (by simp) hMI (fun zm Sm' hpm => ?_)
        have key : zx = zm ∧ LR Sx' Sm' := by
          obtain ⟨l1, l2, l3, l4, l5, l6, l7⟩ := hlr
          obtain ⟨x1, x2, x3, x4⟩ := hpx
          obtain ⟨m1, m2, m3⟩ := hpm
          rw [l4, l5, l6, l7] at m1
          obtain ⟨e, e1, e2, e3, e4⟩ := rGat_u x2 m1
          refine ⟨e, x1, ?_, ?_, e1.symm, e2.symm, e3.symm, e4.symm⟩
          · rw [m2, x3]; exact l2
          · rw [m3, x4]; exact l3
        refine g_same 526 dL_law_271 (by decide) key.1 ?_
        exact next Sx' Sm' key.2
      · refine g_tin 276 dL_law_32 (by decide) (by decide) (by decide) rfl (by decide) ?_
        refine g_aload_n 277 dL_law_276 rfl rfl ?_
        refine gl_callx (na := 0) (cx_clear) (lw_V q124 q125 q126 q25 q127) (by decide +kernel) rfl ⟨rfl, rfl⟩ hE (by rw [hR]; decide) 280 dL_law_277 rfl [] rfl (by simp) hlr.1 (fun zx Sx' hpx => ?_)
        refine g_aload_n 281 dL_law_280 rfl rfl ?_
        refine gl_callm (na := 0) (cm_clear) (lw_V q267 q268 q269 q26 q270) (by decide +kernel) rfl ⟨rfl, rfl⟩ hE (by rw [hR]; decide) 284 dL_law_281 rfl [.inl zx] rfl (by simp) hMI (fun zm Sm' hpm => ?_)
        have key : zx = zm ∧ LR Sx' Sm' := by
          obtain ⟨l1, l2, l3, l4, l5, l6, l7⟩ := hlr
          obtain ⟨x1, x2, x3, x4, x5, x6⟩ := hpx
          obtain ⟨m1, m2⟩ := hpm
          rw [l2, l3, l4, l5, l6, l7] at m1
          obtain ⟨e, e1, e2⟩ := rClr_u x2 m1
          refine ⟨e, x1, ?_, e1.symm, e2.symm, ?_, ?_, ?_⟩
          · rw [m2 0 (by decide) (by decide), x3]; exact l2
          · rw [m2 3 (by decide) (by decide), x4]; exact l5
          · rw [m2 4 (by decide) (by decide), x5]; exact l6
          · rw [m2 5 (by decide) (by decide), x6]; exact l7
        refine g_same 526 dL_law_284 (by decide) key.1 ?_
        exact next Sx' Sm' key.2
      · refine g_tin 289 dL_law_32 (by decide) (by decide) (by decide) rfl (by decide) ?_
        refine g_aload_n 290 dL_law_289 rfl rfl ?_
        refine gl_callx (na := 0) (cx_forget) (lw_V q128 q129 q130 q25 q131) (by decide +kernel) rfl ⟨rfl, rfl⟩ hE (by rw [hR]; decide) 293 dL_law_290 rfl [] rfl (by simp) hlr.1 (fun zx Sx' hpx => ?_)
        refine g_aload_n 294 dL_law_293 rfl rfl ?_
        refine gl_callm (na := 0) (cm_forget) (lw_V q275 q276 q277 q26 q278) (by decide +kernel) rfl ⟨rfl, rfl⟩ hE (by rw [hR]; decide) 297 dL_law_294 rfl [.inl zx] rfl (by simp) hMI (fun zm Sm' hpm => ?_)
        have key : zx = zm ∧ LR Sx' Sm' := by
          obtain ⟨l1, l2, l3, l4, l5, l6, l7⟩ := hlr
          obtain ⟨x1, x2, x3, x4, x5, x6, x7, x8⟩ := hpx
          obtain ⟨m1, m2, m3⟩ := hpm
          refine ⟨by rw [x2, m1, l4], x1, ?_, ?_, by rw [m2, x3], ?_, ?_, ?_⟩
          · rw [m3 0 (by decide), x4]; exact l2
          · rw [m3 1 (by decide), x5]; exact l3
          · rw [m3 3 (by decide), x6]; exact l5
          · rw [m3 4 (by decide), x7]; exact l6
          · rw [m3 5 (by decide), x8]; exact l7
        refine g_same 526 dL_law_297 (by decide) key.1 ?_
        exact next Sx' Sm' key.2
      · refine g_tin 302 dL_law_32 (by decide) (by decide) (by decide) rfl (by decide) ?_
        refine g_aload_n 303 dL_law_302 rfl rfl ?_
        refine g_aload_n 304 dL_law_303 rfl rfl ?_
        refine g_iload_n 305 dL_law_304 rfl rfl ?_
        refine g_iconst 306 dL_law_305 rfl ?_
        refine g_iadd 307 dL_law_306 rfl ?_
        refine g_sld hE 308 dL_law_307 rfl (by omega) hL ?_
        refine g_aload_n 309 dL_law_308 rfl rfl ?_
        refine g_iload_n 310 dL_law_309 rfl rfl ?_
        refine g_iconst 311 dL_law_310 rfl ?_
        refine g_iadd 312 dL_law_311 rfl ?_
        refine g_sld hE 313 dL_law_312 rfl (by omega) hL ?_
        refine gl_callx (na := 2) (cx_trusted (xs (i + 1).toNat).toInt (xs (i + 2).toNat).toInt (iI_rng _) (iI_rng _)) (lw_V q132 q133 q134 q25 q135) (by decide +kernel) rfl ⟨rfl, rfl⟩ hE (by rw [hR]; decide) 316 dL_law_313 rfl [] rfl (by simp) hlr.1 (fun zx Sx' hpx => ?_)
        refine g_aload_n 317 dL_law_316 rfl rfl ?_
        refine g_aload_n 318 dL_law_317 rfl rfl ?_
        refine g_iload_n 319 dL_law_318 rfl rfl ?_
        refine g_iconst 320 dL_law_319 rfl ?_
        refine g_iadd 321 dL_law_320 rfl ?_
        refine g_sld hE 322 dL_law_321 rfl (by omega) hL ?_
        refine g_aload_n 323 dL_law_322 rfl rfl ?_
        refine g_iload_n 324 dL_law_323 rfl rfl ?_
        refine g_iconst 325 dL_law_324 rfl ?_
        refine g_iadd 326 dL_law_325 rfl ?_
        refine g_sld hE 327 dL_law_326 rfl (by omega) hL ?_
        refine gl_callm (na := 2) (cm_trusted (xs (i + 1).toNat).toInt (xs (i + 2).toNat).toInt (iI_rng _) (iI_rng _)) (lw_V q279 q280 q281 q26 q282) (by decide +kernel) rfl ⟨rfl, rfl⟩ hE (by rw [hR]; decide) 330 dL_law_327 rfl [.inl zx] rfl (by simp) hMI (fun zm Sm' hpm => ?_)
        have key : zx = zm ∧ LR Sx' Sm' := by
          obtain ⟨l1, l2, l3, l4, l5, l6, l7⟩ := hlr
          obtain ⟨x1, x2⟩ := hpx
          obtain ⟨m1, m2⟩ := hpm
          rw [l2] at m2
          refine ⟨?_, LR_keep ⟨l1, l2, l3, l4, l5, l6, l7⟩ (fun k _ => by rw [x1]) (fun k _ => by rw [m1])⟩
          rcases x2 with ⟨p1, p2⟩ | ⟨p1, p2⟩ <;> rcases m2 with ⟨q1, q2⟩ | ⟨q1, q2⟩
          · rw [p2, q2]
          · exact absurd p1 q1
          · exact absurd q1 p1
          · rw [p2, q2]
        refine g_same 526 dL_law_330 (by decide) key.1 ?_
        exact next Sx' Sm' key.2
      · refine g_tin 335 dL_law_32 (by decide) (by decide) (by decide) rfl (by decide) ?_
        refine g_aload_n 336 dL_law_335 rfl rfl ?_
        refine g_aload_n 337 dL_law_336 rfl rfl ?_
        refine g_iload_n 338 dL_law_337 rfl rfl ?_
        refine g_iconst 339 dL_law_338 rfl ?_
        refine g_iadd 340 dL_law_339 rfl ?_
        refine g_sld hE 341 dL_law_340 rfl (by omega) hL ?_
        refine gl_callx (na := 1) (cx_position (xs (i + 1).toNat).toInt (iI_rng _)) (lw_V q136 q137 q138 q25 q139) (by decide +kernel) rfl ⟨rfl, rfl⟩ hE (by rw [hR]; decide) 344 dL_law_341 rfl [] rfl (by simp) hlr.1 (fun zx Sx' hpx => ?_)
        refine g_aload_n 345 dL_law_344 rfl rfl ?_
        refine g_aload_n 346 dL_law_345 rfl rfl ?_
        refine g_iload_n 347 dL_law_346 rfl rfl ?_
        refine g_iconst 348 dL_law_347 rfl ?_
        refine g_iadd 349 dL_law_348 rfl ?_
        refine g_sld hE 350 dL_law_349 rfl (by omega) hL ?_
        refine gl_callm (na := 1) (cm_position (xs (i + 1).toNat).toInt (iI_rng _)) (lw_V q283 q284 q285 q26 q286) (by decide +kernel) rfl ⟨rfl, rfl⟩ hE (by rw [hR]; decide) 353 dL_law_350 rfl [.inl zx] rfl (by simp) hMI (fun zm Sm' hpm => ?_)
        have key : zx = zm ∧ LR Sx' Sm' := by
          obtain ⟨l1, l2, l3, l4, l5, l6, l7⟩ := hlr
          obtain ⟨x1, x2⟩ := hpx
          obtain ⟨m1, m2⟩ := hpm
          rw [l3] at m2
          exact ⟨by rw [x2, m2], LR_keep ⟨l1, l2, l3, l4, l5, l6, l7⟩ (fun k _ => by rw [x1]) (fun k _ => by rw [m1])⟩
        refine g_same 526 dL_law_353 (by decide) key.1 ?_
        exact next Sx' Sm' key.2
      · refine g_tin 358 dL_law_32 (by decide) (by decide) (by decide) rfl (by decide) ?_
        refine g_aload_n 359 dL_law_358 rfl rfl ?_
        refine g_aload_n 360 dL_law_359 rfl rfl ?_
        refine g_iload_n 361 dL_law_360 rfl rfl ?_
        refine g_iconst 362 dL_law_361 rfl ?_
        refine g_iadd 363 dL_law_362 rfl ?_
        refine g_sld hE 364 dL_law_363 rfl (by omega) hL ?_
        refine g_aload_n 365 dL_law_364 rfl rfl ?_
        refine g_iload_n 366 dL_law_365 rfl rfl ?_
        refine g_iconst 367 dL_law_366 rfl ?_
        refine g_iadd 368 dL_law_367 rfl ?_
        refine g_sld hE 369 dL_law_368 rfl (by omega) hL ?_
        refine gl_callx (na := 2) (cx_most (xs (i + 1).toNat).toInt (xs (i + 2).toNat).toInt (iI_rng _) (iI_rng _)) (lw_V q140 q141 q142 q25 q143) (by decide +kernel) rfl ⟨rfl, rfl⟩ hE (by rw [hR]; decide) 372 dL_law_369 rfl [] rfl (by simp) hlr.1 (fun zx Sx' hpx => ?_)
        refine g_aload_n 373 dL_law_372 rfl rfl ?_
        refine g_aload_n 374 dL_law_373 rfl rfl ?_
        refine g_iload_n 375 dL_law_374 rfl rfl ?_
        refine g_iconst 376 dL_law_375 rfl ?_
        refine g_iadd 377 dL_law_376 rfl ?_
        refine g_sld hE 378 dL_law_377 rfl (by omega) hL ?_
        refine g_aload_n 379 dL_law_378 rfl rfl ?_
        refine g_iload_n 380 dL_law_379 rfl rfl ?_
        refine g_iconst 381 dL_law_380 rfl ?_
        refine g_iadd 382 dL_law_381 rfl ?_
        refine g_sld hE 383 dL_law_382 rfl (by omega) hL ?_
        refine gl_callm (na := 2) (cm_most (xs (i + 1).toNat).toInt (xs (i + 2).toNat).toInt (iI_rng _) (iI_rng _)) (lw_V q287 q288 q289 q26 q290) (by decide +kernel) rfl ⟨rfl, rfl⟩ hE (by rw [hR]; decide) 386 dL_law_383 rfl [.inl zx] rfl (by simp) hMI (fun zm Sm' hpm => ?_)
        have key : zx = zm ∧ LR Sx' Sm' := by
          obtain ⟨l1, l2, l3, l4, l5, l6, l7⟩ := hlr
          obtain ⟨x1, x2⟩ := hpx
          obtain ⟨m1, m2⟩ := hpm
          rw [l2, l3] at m2
          exact ⟨rMost_u x2 m2, LR_keep ⟨l1, l2, l3, l4, l5, l6, l7⟩ x1 (fun k _ => by rw [m1])⟩
        refine g_same 526 dL_law_386 (by decide) key.1 ?_
        exact next Sx' Sm' key.2
      · refine g_tin 391 dL_law_32 (by decide) (by decide) (by decide) rfl (by decide) ?_
        refine g_aload_n 392 dL_law_391 rfl rfl ?_
        refine g_aload_n 393 dL_law_392 rfl rfl ?_
        refine g_iload_n 394 dL_law_393 rfl rfl ?_
        refine g_iconst 395 dL_law_394 rfl ?_
        refine g_iadd 396 dL_law_395 rfl ?_
        refine g_sld hE 397 dL_law_396 rfl (by omega) hL ?_
        refine g_aload_n 398 dL_law_397 rfl rfl ?_
        refine g_iload_n 399 dL_law_398 rfl rfl ?_
        refine g_iconst 400 dL_law_399 rfl ?_
        refine g_iadd 401 dL_law_400 rfl ?_
        refine g_sld hE 402 dL_law_401 rfl (by omega) hL ?_
        refine gl_callx (na := 2) (cx_spread (xs (i + 1).toNat).toInt (xs (i + 2).toNat).toInt (iI_rng _) (iI_rng _)) (lw_V q144 q145 q146 q25 q147) (by decide +kernel) rfl ⟨rfl, rfl⟩ hE (by rw [hR]; decide) 405 dL_law_402 rfl [] rfl (by simp) hlr.1 (fun zx Sx' hpx => ?_)
        refine g_aload_n 406 dL_law_405 rfl rfl ?_
        refine g_aload_n 407 dL_law_406 rfl rfl ?_
        refine g_iload_n 408 dL_law_407 rfl rfl ?_
        refine g_iconst 409 dL_law_408 rfl ?_
        refine g_iadd 410 dL_law_409 rfl ?_
        refine g_sld hE 411 dL_law_410 rfl (by omega) hL ?_
        refine g_aload_n 412 dL_law_411 rfl rfl ?_
        refine g_iload_n 413 dL_law_412 rfl rfl ?_
        refine g_iconst 414 dL_law_413 rfl ?_
        refine g_iadd 415 dL_law_414 rfl ?_
        refine g_sld hE 416 dL_law_415 rfl (by omega) hL ?_
        refine gl_callm (na := 2) (cm_spread (xs (i + 1).toNat).toInt (xs (i + 2).toNat).toInt (iI_rng _) (iI_rng _)) (lw_V q291 q292 q293 q26 q294) (by decide +kernel) rfl ⟨rfl, rfl⟩ hE (by rw [hR]; decide) 419 dL_law_416 rfl [.inl zx] rfl (by simp) hMI (fun zm Sm' hpm => ?_)
        have key : zx = zm ∧ LR Sx' Sm' := by
          obtain ⟨l1, l2, l3, l4, l5, l6, l7⟩ := hlr
          obtain ⟨x1, x2⟩ := hpx
          obtain ⟨m1, m2⟩ := hpm
          rw [l2, l3] at m2
          exact ⟨rSpr_u x2 m2, LR_keep ⟨l1, l2, l3, l4, l5, l6, l7⟩ x1 (fun k _ => by rw [m1])⟩
        refine g_same 526 dL_law_419 (by decide) key.1 ?_
        exact next Sx' Sm' key.2
      · refine g_tin 424 dL_law_32 (by decide) (by decide) (by decide) rfl (by decide) ?_
        refine g_aload_n 425 dL_law_424 rfl rfl ?_
        refine g_aload_n 426 dL_law_425 rfl rfl ?_
        refine g_iload_n 427 dL_law_426 rfl rfl ?_
        refine g_iconst 428 dL_law_427 rfl ?_
        refine g_iadd 429 dL_law_428 rfl ?_
        refine g_sld hE 430 dL_law_429 rfl (by omega) hL ?_
        refine g_aload_n 431 dL_law_430 rfl rfl ?_
        refine g_iload_n 432 dL_law_431 rfl rfl ?_
        refine g_iconst 433 dL_law_432 rfl ?_
        refine g_iadd 434 dL_law_433 rfl ?_
        refine g_sld hE 435 dL_law_434 rfl (by omega) hL ?_
        refine gl_callx (na := 2) (cx_leastDebt (xs (i + 1).toNat).toInt (xs (i + 2).toNat).toInt (iI_rng _) (iI_rng _)) (lw_V q148 q149 q150 q25 q151) (by decide +kernel) rfl ⟨rfl, rfl⟩ hE (by rw [hR]; decide) 438 dL_law_435 rfl [] rfl (by simp) hlr.1 (fun zx Sx' hpx => ?_)
        refine g_aload_n 439 dL_law_438 rfl rfl ?_
        refine g_aload_n 440 dL_law_439 rfl rfl ?_
        refine g_iload_n 441 dL_law_440 rfl rfl ?_
        refine g_iconst 442 dL_law_441 rfl ?_
        refine g_iadd 443 dL_law_442 rfl ?_
        refine g_sld hE 444 dL_law_443 rfl (by omega) hL ?_
        refine g_aload_n 445 dL_law_444 rfl rfl ?_
        refine g_iload_n 446 dL_law_445 rfl rfl ?_
        refine g_iconst 447 dL_law_446 rfl ?_
        refine g_iadd 448 dL_law_447 rfl ?_
        refine g_sld hE 449 dL_law_448 rfl (by omega) hL ?_
        refine gl_callm (na := 2) (cm_leastDebt (xs (i + 1).toNat).toInt (xs (i + 2).toNat).toInt (iI_rng _) (iI_rng _)) (lw_V q295 q296 q297 q26 q298) (by decide +kernel) rfl ⟨rfl, rfl⟩ hE (by rw [hR]; decide) 452 dL_law_449 rfl [.inl zx] rfl (by simp) hMI (fun zm Sm' hpm => ?_)
        have key : zx = zm ∧ LR Sx' Sm' := by
          obtain ⟨l1, l2, l3, l4, l5, l6, l7⟩ := hlr
          obtain ⟨x1, x2⟩ := hpx
          obtain ⟨m1, mm, m2, m3⟩ := hpm
          rw [l2, l3] at m2
          rw [l2] at m3
          exact ⟨rLst_u (x2 mm m2) m3, LR_keep ⟨l1, l2, l3, l4, l5, l6, l7⟩ x1 (fun k _ => by rw [m1])⟩
        refine g_same 526 dL_law_452 (by decide) key.1 ?_
        exact next Sx' Sm' key.2
      · refine g_tin 457 dL_law_32 (by decide) (by decide) (by decide) rfl (by decide) ?_
        refine g_aload_n 458 dL_law_457 rfl rfl ?_
        refine g_aload_n 459 dL_law_458 rfl rfl ?_
        refine g_iload_n 460 dL_law_459 rfl rfl ?_
        refine g_iconst 461 dL_law_460 rfl ?_
        refine g_iadd 462 dL_law_461 rfl ?_
        refine g_sld hE 463 dL_law_462 rfl (by omega) hL ?_
        refine g_aload_n 464 dL_law_463 rfl rfl ?_
        refine g_iload_n 465 dL_law_464 rfl rfl ?_
        refine g_iconst 466 dL_law_465 rfl ?_
        refine g_iadd 467 dL_law_466 rfl ?_
        refine g_sld hE 468 dL_law_467 rfl (by omega) hL ?_
        refine gl_callx (na := 2) (cx_greatestDebt (xs (i + 1).toNat).toInt (xs (i + 2).toNat).toInt (iI_rng _) (iI_rng _)) (lw_V q161 q162 q163 q25 q164) (by decide +kernel) rfl ⟨rfl, rfl⟩ hE (by rw [hR]; decide) 471 dL_law_468 rfl [] rfl (by simp) hlr.1 (fun zx Sx' hpx => ?_)
        refine g_aload_n 472 dL_law_471 rfl rfl ?_
        refine g_aload_n 473 dL_law_472 rfl rfl ?_
        refine g_iload_n 474 dL_law_473 rfl rfl ?_
        refine g_iconst 475 dL_law_474 rfl ?_
        refine g_iadd 476 dL_law_475 rfl ?_
        refine g_sld hE 477 dL_law_476 rfl (by omega) hL ?_
        refine g_aload_n 478 dL_law_477 rfl rfl ?_
        refine g_iload_n 479 dL_law_478 rfl rfl ?_
        refine g_iconst 480 dL_law_479 rfl ?_
        refine g_iadd 481 dL_law_480 rfl ?_
        refine g_sld hE 482 dL_law_481 rfl (by omega) hL ?_
        refine gl_callm (na := 2) (cm_greatestDebt (xs (i + 1).toNat).toInt (xs (i + 2).toNat).toInt (iI_rng _) (iI_rng _)) (lw_V q300 q301 q302 q26 q303) (by decide +kernel) rfl ⟨rfl, rfl⟩ hE (by rw [hR]; decide) 485 dL_law_482 rfl [.inl zx] rfl (by simp) hMI (fun zm Sm' hpm => ?_)
        have key : zx = zm ∧ LR Sx' Sm' := by
          obtain ⟨l1, l2, l3, l4, l5, l6, l7⟩ := hlr
          obtain ⟨x1, x2⟩ := hpx
          obtain ⟨m1, mm, m2, m3⟩ := hpm
          rw [l2, l3] at m2
          rw [l2] at m3
          exact ⟨rGrt_u (x2 mm m2) m3, LR_keep ⟨l1, l2, l3, l4, l5, l6, l7⟩ x1 (fun k _ => by rw [m1])⟩
        refine g_same 526 dL_law_485 (by decide) key.1 ?_
        exact next Sx' Sm' key.2
      · refine g_tin 490 dL_law_32 (by decide) (by decide) (by decide) rfl (by decide) ?_
        refine g_aload_n 491 dL_law_490 rfl rfl ?_
        refine gl_callx (na := 0) (cx_debts) (lw_V q165 q166 q167 q25 q168) (by decide +kernel) rfl ⟨rfl, rfl⟩ hE (by rw [hR]; decide) 494 dL_law_491 rfl [] rfl (by simp) hlr.1 (fun zx Sx' hpx => ?_)
        refine g_aload_n 495 dL_law_494 rfl rfl ?_
        refine gl_callm (na := 0) (cm_debts) (lw_V q304 q305 q306 q26 q307) (by decide +kernel) rfl ⟨rfl, rfl⟩ hE (by rw [hR]; decide) 498 dL_law_495 rfl [.inl zx] rfl (by simp) hMI (fun zm Sm' hpm => ?_)
        have key : zx = zm ∧ LR Sx' Sm' := by
          obtain ⟨l1, l2, l3, l4, l5, l6, l7⟩ := hlr
          obtain ⟨x1, x2⟩ := hpx
          obtain ⟨m1, m2⟩ := hpm
          rw [l2, l3] at m2
          exact ⟨opt_uniq x2 m2, LR_keep ⟨l1, l2, l3, l4, l5, l6, l7⟩ x1 m1⟩
        refine g_same 526 dL_law_498 (by decide) key.1 ?_
        exact next Sx' Sm' key.2
      · refine g_tin 503 dL_law_32 (by decide) (by decide) (by decide) rfl (by decide) ?_
        refine g_aload_n 504 dL_law_503 rfl rfl ?_
        refine g_aload_n 505 dL_law_504 rfl rfl ?_
        refine g_iload_n 506 dL_law_505 rfl rfl ?_
        refine g_iconst 507 dL_law_506 rfl ?_
        refine g_iadd 508 dL_law_507 rfl ?_
        refine g_sld hE 509 dL_law_508 rfl (by omega) hL ?_
        refine gl_callx (na := 1) (cx_open (xs (i + 1).toNat).toInt (iI_rng _)) (lw_V q189 q190 q191 q25 q192) (by decide +kernel) rfl ⟨rfl, rfl⟩ hE (by rw [hR]; decide) 512 dL_law_509 rfl [] rfl (by simp) hlr.1 (fun zx Sx' hpx => ?_)
        refine g_aload_n 513 dL_law_512 rfl rfl ?_
        refine g_aload_n 514 dL_law_513 rfl rfl ?_
        refine g_iload_n 515 dL_law_514 rfl rfl ?_
        refine g_iconst 516 dL_law_515 rfl ?_
        refine g_iadd 517 dL_law_516 rfl ?_
        refine g_sld hE 518 dL_law_517 rfl (by omega) hL ?_
        refine gl_callm (na := 1) (cm_open (xs (i + 1).toNat).toInt (iI_rng _)) (lw_V q328 q329 q330 q26 q331) (by decide +kernel) rfl ⟨rfl, rfl⟩ hE (by rw [hR]; decide) 521 dL_law_518 rfl [.inl zx] rfl (by simp) hMI (fun zm Sm' hpm => ?_)
        have key : zx = zm ∧ LR Sx' Sm' := by
          obtain ⟨l1, l2, l3, l4, l5, l6, l7⟩ := hlr
          obtain ⟨x1, x2⟩ := hpx
          obtain ⟨m1, m2⟩ := hpm
          rw [l2, l3] at m2
          exact ⟨rOpn_u x2 m2, LR_keep ⟨l1, l2, l3, l4, l5, l6, l7⟩ x1 (fun k _ => by rw [m1])⟩
        refine g_same 526 dL_law_521 (by decide) key.1 ?_
        exact next Sx' Sm' key.2
      · refine g_tout 526 dL_law_32 (by omega) (by omega) (by decide) ?_
        exact next Sx Sm hlr
end
section
/-! ===== the law from its entry ===== -/
set_option maxRecDepth 10000
theorem LR_0 : LR S_0 S_0 := by
  have hI : InvF (S_0 0) (S_0 1) (S_0 2) := by
    refine ⟨fun j _ _ => ?_, fun j _ _ _ => rfl, fun u v _ _ _ _ => rfl, fun u _ _ => ?_, fun j _ _ => ?_, fun u _ _ => rfl⟩
    · show (0 : Int) ≤ 0 ∧ (0 : Int) ≤ 2000
      decide
    · show sg (fun _ => (0 : Int)) 7 = sg (fun _ => (0 : Int)) 7 + 0
      omega
    · show (0 : Int) ≤ 0 ∧ (0 : Int) ≤ 1000
      decide
  refine ⟨⟨hI, ?_, fun i q1 q2 => ?_⟩, rfl, rfl, rfl, rfl, rfl, rfl⟩
  · show (0 : Int) ≤ 0 ∧ (0 : Int) ≤ 6
    decide
  · have q2 : i < 0 := q2
    omega
theorem law_in {E : ct_T} {hx hm : Nat → Nat} {b L : Nat} {xs : Nat → Int32} (hE : ct_l E hx hm b L xs) (hR : ct_R E = room_1) (hL : L ≤ 256) (hret : ∀ (S : st_T) (lv : List (Option pv)), G E cL_law 4 S 533 lv [.inl 1]) : G E cL_law 4 (lS S_0 S_0) 16 [some (.inr b), some (.inr (hx 0)), some (.inr (hm 0)), none] [] := by
  refine g_iconst 17 dL_law_16 rfl ?_
  refine g_istore_n 18 dL_law_17 rfl (by decide) ?_
  exact law_loop hE hR hL hret 261 0 S_0 S_0 (by decide) (by decide) (by decide) LR_0
set_option maxHeartbeats 4000000 in
set_option maxRecDepth 100000 in
/-- THE LAW, from its entry -/
theorem whole_start {p : Program} {e : Env} {s : State} {m : MethodId} {below : List Frame} {meth : Method} {c : Code} (l : Launch) {b L : Nat} {xs : Nat → Int32} (hL : L ≤ 256) (C0 : lw_At p s m meth c b L xs) : W p l e room_1 s m #[Value.ref b] below meth c s.heap [] 0 0 (lw_Z below #[Value.ref b] s) (entryFrame m ([Value.ref b] : List Value).toArray 4) := by
  obtain ⟨hx, hb, hr, hml, hown, hts0, hX, hbl, hlocks, hgv⟩ := id C0
  have hts : ∀ w ∈ lw_all, w.before #[Value.ref b] s = true := fun w h => hts0 w (lw_all_tbl h)
  have hA : ∀ q : Nat, s.heap.size ≤ q → (fun q : Nat => s.heap.size ≤ q) q := fun _ h => h
  have hbA : ¬ (fun q : Nat => s.heap.size ≤ q) b := Nat.not_le.mpr hbl
  obtain ⟨c0, iS0, hKn0⟩ := u_known (C := RX0) (T := TX0) (N := 13) (n := 13) hts in_X0 (hts _ q28)
  obtain ⟨c1, iS1, hKn1⟩ := u_known (C := RX1) (T := TX1) (N := 10) (n := 10) hts in_X1 (hts _ q195)
  obtain ⟨D, hKc⟩ : ∃ D : va_G, ∀ (k : Nat) (q : vw_C), vwCl[k]? = some q → u_Kn s q.1 q.2.1 q.2.2 (D.1 k) (D.2 k) := by
    refine ⟨(fun k => if k = 0 then c0 else c1, fun k => if k = 0 then iS0 else iS1), ?_⟩
    intro k q hq
    match k, hq with
    | 0, hq => cases hq; exact hKn0
    | 1, hq => cases hq; exact hKn1
    | k + 2, hq => simp at hq
  obtain ⟨d, kA, comp, hd1, hd2, hd3⟩ := Cond.arrayClass_spec (hts _ q75)
  have hK : va_K D vwCl [(d, .int)] s := by
    refine ⟨hKc, fun k q h => ?_⟩
    have hz : k < 1 := (List.getElem?_eq_some_iff.mp h).1
    rw [show k = 0 by omega] at h
    cases h
    exact ⟨fun n z => ⟨fun k h => (by cases h), kA, hd2, comp, hd3⟩, hd1⟩
  have hS : va_S (fun q : Nat => s.heap.size ≤ q) s.heap s.heap [] := va_S.rf
  have hP : va_P D vwCl [] s.heap := fun k q h => by simp at h
  have hD : va_D (fun q : Nat => s.heap.size ≤ q) [] := ⟨fun i j p q h => by simp at h, fun k q h => by simp at h⟩
  have hl : cl_has ((lg_sl ([.ref b]) ++ List.replicate (4 - (lg_sl ([.ref b])).length) Slot.unset).toArray) 4 [some (.inr b), none, none, none] := cl_entry ([.inr b] : List pv) (n := 4) (Nat.le_of_ble_eq_true rfl)
  rw [lg_entry_eq]
  generalize (lg_sl ([.ref b]) ++ List.replicate (4 - (lg_sl ([.ref b])).length) Slot.unset).toArray = ls at hl ⊢
  refine va_new (ci := 0) (fs := xDef) (C := RX0) (T := TX0) (N := 13) hx hb hts in_X0 tyX0 tyX0_ok hown (hts _ q27) (hts _ q28) (hts _ q25) hK hP hD hS hA rfl (fun j hj => by rcases (show j = 0 ∨ j = 1 ∨ j = 2 ∨ j = 3 ∨ j = 4 ∨ j = 5 ∨ j = 6 ∨ j = 7 ∨ j = 8 ∨ j = 9 ∨ j = 10 ∨ j = 11 ∨ j = 12 by omega) with rfl | rfl | rfl | rfl | rfl | rfl | rfl | rfl | rfl | rfl | rfl | rfl | rfl <;> first | rfl | (show Value.int 0 = Value.int (iI 0); rw [iI_0])) (Nat.le_of_ble_eq_true rfl) (Nat.le_of_ble_eq_true rfl) dL_law_0 (fun q0 H hP hD hS => ?_)
  refine W.widen (k := 1) (n := 13) (by omega) (by omega) ?_
  have hP : va_P D vwCl [(q0, .inr (0, xDef))] H := hP
  have hD : va_D (fun q : Nat => s.heap.size ≤ q) [(q0, .inr (0, xDef))] := hD
  refine lv_dup hx hb dL_law_3 rfl ?_
  have hFc := va_free (wc := [(q0, .inr (0, xDef))]) hD hS hA [0] rfl
  refine va_callv (va_runI (As := []) (rest := [.ref q0]) ⟨hx, hb, hml, hown, hts⟩ (x_init l D d q0 H.size) (cwI 0 hts (lw_meth q31) rfl rfl rfl (hts _ q25) (hts _ q29) (hts _ q30) rfl (by decide +kernel) ⟨Nat.le_of_ble_eq_true rfl, Nat.le_of_ble_eq_true rfl⟩) ⟨fun a U g mk q => by obtain ⟨q0, q1, qP, qK, qD⟩ := q; exact ⟨q0, q1, qP, va_K.moved (u := U) (U := U.calling g mk a) (Vm.Alike.refl U.vm) qK, qD⟩, fun U hU hW => ⟨rfl, by rw [hU], by rw [hU]; exact hP, va_K.moved hW.alike hK, hD.weaken (fun _ _ _ _ => trivial)⟩⟩ rfl rfl hl.1 rfl (lv_room (Nat.le_of_ble_eq_true rfl)) dL_law_4 ⟨Nat.le_of_ble_eq_true rfl, Nat.le_of_ble_eq_true rfl⟩) hS (fun q _ h => hFc q h) hFc (fun ux t H1 locs ht hvm hw hB hz1 hk1 hS => ?_)
  obtain ⟨hP1, hD1⟩ := hB
  rw [ht] at hP1
  have hw : ux 0 = q0 := hw
  subst hw
  obtain ⟨hP, hD⟩ := va_join (wr := []) (w1 := xW ux d S_0) hP hD [0] [] rfl rfl (by decide) (by decide) hk1 hFc hP1 hD1
  generalize H1 = H at hP hS ⊢
  have hP : va_P D vwCl (xW ux d S_0) H := hP
  have hD : va_D (fun q : Nat => s.heap.size ≤ q) (xW ux d S_0) := hD
  refine W.widen (k := 13) (n := 364) (by omega) (by omega) ?_
  refine lv_astore_n hx hb dL_law_7 rfl (cl_to hl) (by decide) rfl (fun ls hl0 => ?_)
  have hl : cl_has ls 4 [some (.inr b), some (.inr (ux 0)), none, none] := cl_store (v := .inr (ux 0)) hl0
  refine va_new (ci := 1) (fs := mDef) (C := RX1) (T := TX1) (N := 10) hx hb hts in_X1 tyX1 tyX1_ok hown (hts _ q194) (hts _ q195) (hts _ q26) hK hP hD hS hA rfl (fun j hj => by rcases (show j = 0 ∨ j = 1 ∨ j = 2 ∨ j = 3 ∨ j = 4 ∨ j = 5 ∨ j = 6 ∨ j = 7 ∨ j = 8 ∨ j = 9 by omega) with rfl | rfl | rfl | rfl | rfl | rfl | rfl | rfl | rfl | rfl <;> first | rfl | (show Value.int 0 = Value.int (iI 0); rw [iI_0])) (Nat.le_of_ble_eq_true rfl) (Nat.le_of_ble_eq_true rfl) dL_law_8 (fun q1 H hP hD hS => ?_)
  refine W.widen (k := 14) (n := 374) (by omega) (by omega) ?_
  refine lv_dup hx hb dL_law_11 rfl ?_
  have hPc : va_P D vwCl [(q1, .inr (1, mDef))] H := hP.sub [13] rfl
  have hDc : va_D (fun q : Nat => s.heap.size ≤ q) [(q1, .inr (1, mDef))] := hD.sub [13] (by decide) rfl
  have hFc := va_free (wc := [(q1, .inr (1, mDef))]) hD hS hA [13] rfl
  refine va_callv (va_runI (As := []) (rest := [.ref q1]) ⟨hx, hb, hml, hown, hts⟩ (m_init l D d q1 H.size) (cwI 0 hts (lw_meth q198) rfl rfl rfl (hts _ q26) (hts _ q196) (hts _ q197) rfl (by decide +kernel) ⟨Nat.le_of_ble_eq_true rfl, Nat.le_of_ble_eq_true rfl⟩) ⟨fun a U g mk q => by obtain ⟨q0, q1, qP, qK, qD⟩ := q; exact ⟨q0, q1, qP, va_K.moved (u := U) (U := U.calling g mk a) (Vm.Alike.refl U.vm) qK, qD⟩, fun U hU hW => ⟨rfl, by rw [hU], by rw [hU]; exact hPc, va_K.moved hW.alike hK, hDc.weaken (fun _ _ _ _ => trivial)⟩⟩ rfl rfl hl.1 rfl (lv_room (Nat.le_of_ble_eq_true rfl)) dL_law_12 ⟨Nat.le_of_ble_eq_true rfl, Nat.le_of_ble_eq_true rfl⟩) hS (fun q _ h => hFc q h) hFc (fun um t H1 locs ht hvm hw hB hz1 hk1 hS => ?_)
  obtain ⟨hP1, hD1⟩ := hB
  rw [ht] at hP1
  have hw : um 0 = q1 := hw
  subst hw
  obtain ⟨hP, hD⟩ := va_join (wr := xW ux d S_0) (w1 := mW um d S_0) hP hD [13] [0, 1, 2, 3, 4, 5, 6, 7, 8, 9, 10, 11, 12] rfl rfl (by decide) (by decide) hk1 hFc hP1 hD1
  refine W.widen (k := 600000) (n := 7290000) (by omega) (by omega) ?_
  refine lv_astore_n hx hb dL_law_15 rfl (cl_to hl) (by decide) rfl (fun ls hl0 => ?_)
  have hl : cl_has ls 4 [some (.inr b), some (.inr (ux 0)), some (.inr (um 0)), none] := cl_store (v := .inr (um 0)) hl0
  have hP : va_P D vwCl (lW ux um d (lS S_0 S_0)) H1 := hP
  have hD : va_D (fun q : Nat => s.heap.size ≤ q) (lW ux um d (lS S_0 S_0)) := hD
  refine law_in (E := ((p, l, e, room_1, s), (m, #[Value.ref b], below, meth, c), (600000, 7290000, lw_Z below #[Value.ref b] s), (D, fun q => s.heap.size ≤ q, R_law, lW ux um d, d))) (hx := ux) (hm := um) (b := b) (L := L) (xs := xs) ⟨rfl, rfl, hX, hbl, hbA⟩ rfl hL ?_ ⟨hx, hb, hml, hown, hts, hK, fun S => va_D_fst (lW_fst ux um d (lS S_0 S_0) S) hD, hA, Nat.le_refl _, Nat.le_refl _⟩ H1 locs ls hP hS hl
  intro S lv C H locs ls hP hS hl
  refine va_forget (fun q hq => hS.2.2 q hq) ?_
  have e1 : iI 1 = 1 := by decide +kernel
  show W p l e room_1 s m #[Value.ref b] below meth c H [] 600000 7290000 (lw_Z below #[Value.ref b] s) (F0 m 533 ls [.int (iI 1)])
  rw [e1]
  exact lw_ret hx hb hr hlocks dL_law_533
end
section
set_option maxHeartbeats 4000000 in
theorem lw_walk (l : Launch) (b : Addr) (xs : List Int32) : MetFree l x (headSpec (Jvm.Cond.code x code maxLocals ret :: tables_1) room_1) (lw_P b xs) (fun _ _ _ _ _ => True) lw_Q := by
  refine MetFree.of_bodyS (code := code) (maxLocals := maxLocals) (ret := ret) (by decide) ?_ ?_
  · intro args s m h hn
    obtain ⟨meth, c, h1, h2, h3, h4, h5, h6, -, -⟩ := Cond.code_spec hn (atoms_spec (ws := Jvm.Cond.code x code maxLocals ret :: tables_1) h _ List.mem_cons_self)
    exact ⟨meth, c, h1, h2, h3, h4, h5, h6⟩
  · intro p e s m args below meth c s₁ B hml0 hP _
    obtain ⟨rfl, hx, hbd, hgv⟩ := hP
    obtain ⟨scr, harrAt, hlist, hof, hsmall⟩ := hx
    obtain ⟨hcb, hkn, -, -⟩ := State.arrayAt?_spec harrAt
    have hown : s.vm.findClass R_law = some m.cls := findClass_of_methodNamed B.named
    have hts0 : ∀ c ∈ (Jvm.Cond.code x code maxLocals ret :: tables_1), c.before #[Value.ref b] s = true := atoms_spec (ws := Jvm.Cond.code x code maxLocals ret :: tables_1) B.pre
    have hts : ∀ w ∈ lw_tbl, w.before #[Value.ref b] s = true := k2_hts_sels lw_privs (fun w hw => hts0 w (List.mem_cons_of_mem _ hw)) lw_privs_ok
    have hml : c.maxLocals = 4 := B.maxLocals_eq (hts0 _ List.mem_cons_self)
    have X₀ : Stand p l e room_1 s m #[Value.ref b] below meth c s₁ [] 0 0 := Stand.of_body B
    have hh0 : s₁.heap = s.heap := by rw [B.state]; rfl
    have hsz : scr.slots.size = xs.length := by rw [← Array.length_toList, hlist, List.length_map]
    have hval : ∀ j : Nat, j < xs.length → scr.slots[j]? = some (.int (xs.getD j 0)) := fun j hj => by
      rw [← Array.getElem?_toList, hlist]
      simp [hj]
    have hbl : b < s.heap.size := (Array.getElem?_eq_some_iff.mp hcb).1
    have hX : va_X b xs.length (fun j => xs.getD j 0) s s.heap := ⟨scr, hcb, hof, hkn, hsz, hval⟩
    have K : W p l e room_1 s m #[Value.ref b] below meth c s₁.heap [] 0 0 (lw_Z below #[Value.ref b] s) (entryFrame m ([Value.ref b] : List Value).toArray 4) := by
      rw [hh0]
      exact whole_start l hbd ⟨B.exec, B.bytes, B.returns, hml, hown, hts, hX, hbl, B.notSynchronized, hgv⟩
    obtain ⟨t, a1, o, b1, b2, b3⟩ := K s₁ rfl X₀
    exact ⟨t, o, a1, b1, b2, b3⟩
theorem lw_pre_spec {args : Array Value} {s : State} (h : (Jvm.Cond.and given_1 narrow_1).before args s = true) (hr : rest_1_c.before args s = true) : ∃ (b : Addr) (xs : List Int32), lw_P b xs args s := by
  have hs := flat_of_before _ h
  have hq := flat_of_before _ hr
  have hc : (Cond.count 1).before args s = true := hs _ (by decide +kernel)
  have harr : (Cond.arrayOf (.arg 0) .int).before args s = true := hs _ (by decide +kernel)
  have hle : (Cond.le (.length (.arg 0)) (.int 256)).before args s = true := hs _ (by decide +kernel)
  have hlen : (Cond.isInt (.length (.arg 0))).before args s = true := hq _ (by decide +kernel)
  have hall : (Cond.all (.arg 0) (.isInt (.elem (.arg 0) (.index 0)))).before args s = true := hq _ (by decide +kernel)
  obtain ⟨b, xs, hb, hx⟩ := State.ints_of_pre rfl harr hlen hall
  have hsm : xs.length < 2 ^ 31 := hx.choose_spec.2.2.2
  have hev : (Term.length (.arg 0)).eval args s none [] s = some (.int xs.length.toInt32) := hx.length_eval hb
  have hv := Cond.le_ints hev (show (Term.int 256).eval args s none [] s = some (.int 256) from rfl)
  have hd : xs.length.toInt32 ≤ 256 := by
    simpa [Cond.before, Cond.holds, hv] using hle
  have hN : xs.length ≤ 256 := (Int32.ofNat_le_ofNat hsm (by decide)).mp (show Int32.ofNat xs.length ≤ Int32.ofNat 256 from hd)
  exact ⟨b, xs, Cond.one_arg hc (show args[0]? = some (.ref b) from hb), hx, hN, h⟩
theorem lw_comes (l : Launch) : Comes l x (Jvm.Cond.code x code maxLocals ret :: tables_1) room_1 (fun tb e args s => Calls_1 tb e args s ∧ rest_1 tb e args s ∧ Pre_1 tb e args s)
    (fun _ _ args s o t => lw_Q args s o t) := by
  intro p e ha hc hk s m args below hf hfit hheap happ hpre
  obtain ⟨b, xs, hP⟩ := lw_pre_spec hpre.2.2 hpre.2.1
  obtain ⟨k, o, h1, h2, h3, hQ⟩ := lw_walk l b xs p e ha hc hk s m args below hf ((Spec.applies_iff_loose hf).mp happ).1 hP trivial
  exact ⟨k, o, h1, h2, h3, hQ⟩
theorem lw_frame {s t : State} {o : Outcome} {args : Array Value} (h : Framed s o t [] 600000 7290000) :
    Framed s o t (fieldLocs frame_1_writes args s ++ arrayLocs frame_1_arrays args s ++ staticLocs frame_1_statics s) 600000 7290000 := h
theorem lw_limb (L : Cond) (hL : ∀ (args : Array Value) (s t : State), L.after args s (.returned (some (.int 1))) t = true) :
    ArmFor flags0 classFile x code maxLocals ret World_1 tables_1 room_1 Calls_1 rest_1 Pre_1
      (fun tb e a s o t => postC L tb e a s o t ∧ Framed s o t (fieldLocs frame_1_writes a s ++ arrayLocs frame_1_arrays a s ++ staticLocs frame_1_statics s) 600000 7290000) := by
  intro l _ _ _ p e ha hc hk s m args below hf hfit hheap happ hpre
  obtain ⟨k, o, h1, h2, h3, rfl, hF⟩ := lw_comes l p e ha hc hk s m args below hf hfit hheap happ hpre
  exact ⟨k, _, h1, h2, h3, hL args s _, lw_frame hF⟩
theorem i_vc : Claimed_1_1 ∧ Claimed_1_2 := ⟨lw_limb limb_1_1 (fun args s t => by simp [limb_1_1, Cond.after, Cond.holds, Cond.value]), lw_limb limb_1_2 (fun args s t => Cond.after_iff.mpr (by
  first | (rw [show limb_1_2 = Cond.eq .result (.int 1) from rfl, Cond.eq_ints (x := 1) (y := 1) rfl rfl]; simp; done) | (simp [limb_1_2, Cond.value, Term.eval]; done)))⟩
end
