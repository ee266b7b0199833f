section
-- ===== PART A: goes FIRST, ahead of the names: the tables' words, and 'selects' of the private methods out of them =====
/-- a private method of a class that the tables say can be made, by its rows of tables_1 -/
def lw_okq (q : MethodName × Nat) : Prop := (q.1.cls ≠ "java/lang/invoke/MethodHandle" ∧ q.1.cls ≠ "java/lang/invoke/VarHandle") ∧ Cond.instantiable q.1.cls q.2 ∈ tables_1 ∧ Cond.privateMethod q.1 ∈ tables_1 ∧ Cond.instanceMethod q.1 ∈ tables_1
set_option maxRecDepth 100000
theorem lw_t1 {w : Cond} (h : w ∈ tables_1_1) : w ∈ tables_1 := List.mem_append_left _ h
theorem lw_t2 {w : Cond} (h : w ∈ tables_1_2) : w ∈ tables_1 := List.mem_append_right _ h
theorem lw_p0 : lw_okq (⟨"TrackMarket", "has", "(I)Z"⟩, 13) := ⟨⟨by decide +kernel, by decide +kernel⟩, lw_t1 (List.mem_of_getElem? (i := 4) rfl), lw_t1 (List.mem_of_getElem? (i := 58) rfl), lw_t1 (List.mem_of_getElem? (i := 59) rfl)⟩
theorem lw_p1 : lw_okq (⟨"TrackMarket", "choose", "()V"⟩, 13) := ⟨⟨by decide +kernel, by decide +kernel⟩, lw_t1 (List.mem_of_getElem? (i := 4) rfl), lw_t1 (List.mem_of_getElem? (i := 86) rfl), lw_t1 (List.mem_of_getElem? (i := 87) rfl)⟩
theorem lw_p2 : lw_okq (⟨"TrackMarket", "prepare", "(I)V"⟩, 13) := ⟨⟨by decide +kernel, by decide +kernel⟩, lw_t1 (List.mem_of_getElem? (i := 4) rfl), lw_t1 (List.mem_of_getElem? (i := 90) rfl), lw_t1 (List.mem_of_getElem? (i := 91) rfl)⟩
theorem lw_p3 : lw_okq (⟨"TrackMarket", "markedWorth", "(I)I"⟩, 13) := ⟨⟨by decide +kernel, by decide +kernel⟩, lw_t1 (List.mem_of_getElem? (i := 4) rfl), lw_t1 (List.mem_of_getElem? (i := 94) rfl), lw_t1 (List.mem_of_getElem? (i := 95) rfl)⟩
theorem lw_p4 : lw_okq (⟨"TrackMarket", "send", "(I)V"⟩, 13) := ⟨⟨by decide +kernel, by decide +kernel⟩, lw_t1 (List.mem_of_getElem? (i := 4) rfl), lw_t1 (List.mem_of_getElem? (i := 98) rfl), lw_t1 (List.mem_of_getElem? (i := 99) rfl)⟩
theorem lw_p5 : lw_okq (⟨"TrackMarket", "findWays", "()V"⟩, 13) := ⟨⟨by decide +kernel, by decide +kernel⟩, lw_t1 (List.mem_of_getElem? (i := 4) rfl), lw_t1 (List.mem_of_getElem? (i := 102) rfl), lw_t1 (List.mem_of_getElem? (i := 103) rfl)⟩
theorem lw_p6 : lw_okq (⟨"TrackMarket", "improve", "(IIII)V"⟩, 13) := ⟨⟨by decide +kernel, by decide +kernel⟩, lw_t1 (List.mem_of_getElem? (i := 4) rfl), lw_t1 (List.mem_of_getElem? (i := 107) rfl), lw_t1 (List.mem_of_getElem? (i := 108) rfl)⟩
theorem lw_p7 : lw_okq (⟨"TrackMarket", "improveByJob", "(I)V"⟩, 13) := ⟨⟨by decide +kernel, by decide +kernel⟩, lw_t1 (List.mem_of_getElem? (i := 4) rfl), lw_t1 (List.mem_of_getElem? (i := 111) rfl), lw_t1 (List.mem_of_getElem? (i := 112) rfl)⟩
theorem lw_p8 : lw_okq (⟨"TrackMarket", "follow", "()V"⟩, 13) := ⟨⟨by decide +kernel, by decide +kernel⟩, lw_t1 (List.mem_of_getElem? (i := 4) rfl), lw_t1 (List.mem_of_getElem? (i := 115) rfl), lw_t1 (List.mem_of_getElem? (i := 116) rfl)⟩
theorem lw_p9 : lw_okq (⟨"TrackMarket", "markedSum", "(I)I"⟩, 13) := ⟨⟨by decide +kernel, by decide +kernel⟩, lw_t1 (List.mem_of_getElem? (i := 4) rfl), lw_t1 (List.mem_of_getElem? (i := 123) rfl), lw_t1 (List.mem_of_getElem? (i := 124) rfl)⟩
theorem lw_p10 : lw_okq (⟨"TrackMarket", "greatestCrowd", "(I)I"⟩, 13) := ⟨⟨by decide +kernel, by decide +kernel⟩, lw_t1 (List.mem_of_getElem? (i := 4) rfl), lw_t1 (List.mem_of_getElem? (i := 134) rfl), lw_t1 (List.mem_of_getElem? (i := 135) rfl)⟩
theorem lw_p11 : lw_okq (⟨"TrackMarket", "crowd", "(II)I"⟩, 13) := ⟨⟨by decide +kernel, by decide +kernel⟩, lw_t1 (List.mem_of_getElem? (i := 4) rfl), lw_t1 (List.mem_of_getElem? (i := 138) rfl), lw_t1 (List.mem_of_getElem? (i := 139) rfl)⟩
theorem lw_p12 : lw_okq (⟨"TrackMarket", "bestWith", "(II)I"⟩, 13) := ⟨⟨by decide +kernel, by decide +kernel⟩, lw_t1 (List.mem_of_getElem? (i := 4) rfl), lw_t1 (List.mem_of_getElem? (i := 150) rfl), lw_t1 (List.mem_of_getElem? (i := 151) rfl)⟩
theorem lw_p13 : lw_okq (⟨"TrackMarket", "totalFor", "(I)I"⟩, 13) := ⟨⟨by decide +kernel, by decide +kernel⟩, lw_t1 (List.mem_of_getElem? (i := 4) rfl), lw_t1 (List.mem_of_getElem? (i := 164) rfl), lw_t1 (List.mem_of_getElem? (i := 165) rfl)⟩
theorem lw_p14 : lw_okq (⟨"TrackMarketModel", "is", "(I)Z"⟩, 6) := ⟨⟨by decide +kernel, by decide +kernel⟩, lw_t1 (List.mem_of_getElem? (i := 179) rfl), lw_t1 (List.mem_of_getElem? (i := 213) rfl), lw_t1 (List.mem_of_getElem? (i := 214) rfl)⟩
theorem lw_p15 : lw_okq (⟨"TrackMarketModel", "work", "()V"⟩, 6) := ⟨⟨by decide +kernel, by decide +kernel⟩, lw_t1 (List.mem_of_getElem? (i := 179) rfl), lw_t1 (List.mem_of_getElem? (i := 237) rfl), lw_t1 (List.mem_of_getElem? (i := 238) rfl)⟩
def lw_privs_1 : List (MethodName × Nat) := [(⟨"TrackMarket", "has", "(I)Z"⟩, 13), (⟨"TrackMarket", "choose", "()V"⟩, 13), (⟨"TrackMarket", "prepare", "(I)V"⟩, 13), (⟨"TrackMarket", "markedWorth", "(I)I"⟩, 13), (⟨"TrackMarket", "send", "(I)V"⟩, 13), (⟨"TrackMarket", "findWays", "()V"⟩, 13), (⟨"TrackMarket", "improve", "(IIII)V"⟩, 13), (⟨"TrackMarket", "improveByJob", "(I)V"⟩, 13), (⟨"TrackMarket", "follow", "()V"⟩, 13), (⟨"TrackMarket", "markedSum", "(I)I"⟩, 13), (⟨"TrackMarket", "greatestCrowd", "(I)I"⟩, 13), (⟨"TrackMarket", "crowd", "(II)I"⟩, 13), (⟨"TrackMarket", "bestWith", "(II)I"⟩, 13), (⟨"TrackMarket", "totalFor", "(I)I"⟩, 13), (⟨"TrackMarketModel", "is", "(I)Z"⟩, 6), (⟨"TrackMarketModel", "work", "()V"⟩, 6)]
theorem lw_r1 : ∀ q ∈ lw_privs_1, lw_okq q := List.forall_mem_cons.mpr ⟨lw_p0, List.forall_mem_cons.mpr ⟨lw_p1, List.forall_mem_cons.mpr ⟨lw_p2, List.forall_mem_cons.mpr ⟨lw_p3, List.forall_mem_cons.mpr ⟨lw_p4, List.forall_mem_cons.mpr ⟨lw_p5, List.forall_mem_cons.mpr ⟨lw_p6, List.forall_mem_cons.mpr ⟨lw_p7, List.forall_mem_cons.mpr ⟨lw_p8, List.forall_mem_cons.mpr ⟨lw_p9, List.forall_mem_cons.mpr ⟨lw_p10, List.forall_mem_cons.mpr ⟨lw_p11, List.forall_mem_cons.mpr ⟨lw_p12, List.forall_mem_cons.mpr ⟨lw_p13, List.forall_mem_cons.mpr ⟨lw_p14, List.forall_mem_cons.mpr ⟨lw_p15, fun _ h => absurd h List.not_mem_nil⟩⟩⟩⟩⟩⟩⟩⟩⟩⟩⟩⟩⟩⟩⟩⟩
theorem lw_p16 : lw_okq (⟨"TrackMarketModel", "at", "(II)I"⟩, 6) := ⟨⟨by decide +kernel, by decide +kernel⟩, lw_t1 (List.mem_of_getElem? (i := 179) rfl), lw_t2 (List.mem_of_getElem? (i := 2) rfl), lw_t2 (List.mem_of_getElem? (i := 3) rfl)⟩
theorem lw_p17 : lw_okq (⟨"TrackMarketModel", "best", "(I)I"⟩, 6) := ⟨⟨by decide +kernel, by decide +kernel⟩, lw_t1 (List.mem_of_getElem? (i := 179) rfl), lw_t2 (List.mem_of_getElem? (i := 6) rfl), lw_t2 (List.mem_of_getElem? (i := 7) rfl)⟩
theorem lw_p18 : lw_okq (⟨"TrackMarketModel", "before", "(II)Z"⟩, 6) := ⟨⟨by decide +kernel, by decide +kernel⟩, lw_t1 (List.mem_of_getElem? (i := 179) rfl), lw_t2 (List.mem_of_getElem? (i := 10) rfl), lw_t2 (List.mem_of_getElem? (i := 11) rfl)⟩
theorem lw_p19 : lw_okq (⟨"TrackMarketModel", "sum", "(I)I"⟩, 6) := ⟨⟨by decide +kernel, by decide +kernel⟩, lw_t1 (List.mem_of_getElem? (i := 179) rfl), lw_t2 (List.mem_of_getElem? (i := 14) rfl), lw_t2 (List.mem_of_getElem? (i := 15) rfl)⟩
def lw_privs_2 : List (MethodName × Nat) := [(⟨"TrackMarketModel", "at", "(II)I"⟩, 6), (⟨"TrackMarketModel", "best", "(I)I"⟩, 6), (⟨"TrackMarketModel", "before", "(II)Z"⟩, 6), (⟨"TrackMarketModel", "sum", "(I)I"⟩, 6)]
theorem lw_r2 : ∀ q ∈ lw_privs_2, lw_okq q := List.forall_mem_cons.mpr ⟨lw_p16, List.forall_mem_cons.mpr ⟨lw_p17, List.forall_mem_cons.mpr ⟨lw_p18, List.forall_mem_cons.mpr ⟨lw_p19, fun _ h => absurd h List.not_mem_nil⟩⟩⟩⟩
def lw_privs : List (MethodName × Nat) := lw_privs_1 ++ (lw_privs_2)
def lw_tbl : List Cond := k2_sels lw_privs ++ tables_1
theorem lw_privs_ok : ∀ q ∈ lw_privs, lw_okq q := by
  show ∀ q ∈ lw_privs_1 ++ (lw_privs_2), lw_okq q
  exact List.forall_mem_append.mpr ⟨lw_r1, lw_r2⟩
-- ===== ONE list of words for every method: the tables' words that hold all through a run =====
def lw_all : List Cond := lw_tbl.filter goodWord
/-- a word of the tables by its place: claim/WORDS.tsv -/
theorem lw_w {w : Cond} (i : Nat) (h : lw_tbl[i]? = some w) (g : goodWord w = true) : w ∈ lw_all := List.mem_filter.mpr ⟨List.mem_of_getElem? h, g⟩
theorem lw_all_tbl {w : Cond} (h : w ∈ lw_all) : w ∈ lw_tbl := (List.mem_filter.mp h).1
theorem lw_self : GoodIn lw_all lw_all := fun w h => ⟨h, good_of_word (List.mem_filter.mp h).2⟩
/-- a class's field words, by their places -/
theorem lw_in (ws : List Cond) (ps : List Nat) (hp : ws = ps.filterMap (fun i => lw_tbl[i]?)) (hg : ws.all goodWord = true) : ∀ w ∈ ws, w ∈ lw_all := by
  intro w h
  have h1 := List.all_eq_true.mp hg w h
  rw [hp] at h
  obtain ⟨i, -, hi⟩ := List.mem_filterMap.mp h
  exact lw_w i hi h1
/-- the words of a contract for the method y with code b, L locals, answer r -/
abbrev ws_ (y : MethodName) (b : ByteArray) (L : Nat) (r : Option FieldType) : List Cond := Cond.code y b L r :: lw_all
theorem lw_meth {y : MethodName} {b : ByteArray} {L : Nat} {r : Option FieldType} (h : Cond.code y b L r ∈ lw_all) : GoodIn lw_all (ws_ y b L r) := by
  intro w hw
  rcases List.mem_cons.mp hw with e | e
  · rw [e]
    exact lw_self _ h
  · exact lw_self _ e
theorem lw_app {a c : List Cond} (ha : ∀ w ∈ a, w ∈ lw_all) (hc : GoodIn lw_all c) : GoodIn lw_all (a ++ c) := by
  intro w hw
  rcases List.mem_append.mp hw with e | e
  · exact lw_self w (ha w e)
  · exact hc w e
/-- what a call through an object asks: cwV n hts (lw_V ..) -/
theorem lw_V {own : String} {idx : Nat} {C : String} {y : MethodName} {b : ByteArray} {L : Nat} {r : Option FieldType} (h1 : Cond.methodLink own idx y ∈ lw_all) (h2 : Cond.instanceMethod y ∈ lw_all) (h3 : Cond.selects C y y ∈ lw_all) (h4 : Cond.initialized C ∈ lw_all) (h5 : Cond.code y b L r ∈ lw_all) : GoodIn lw_all (wsV own idx C y (ws_ y b L r)) := by
  refine lw_app ?_ (lw_meth h5)
  intro w hw
  simp only [List.mem_cons, List.not_mem_nil, or_false] at hw
  rcases hw with e | e | e | e
  · rw [e]; exact h1
  · rw [e]; exact h2
  · rw [e]; exact h3
  · rw [e]; exact h4
/-- what a static call asks: va_cwS n hts (lw_S ..) -/
theorem lw_S {own : String} {idx : Nat} {y : MethodName} {b : ByteArray} {L : Nat} {r : Option FieldType} (h1 : Cond.methodLink own idx y ∈ lw_all) (h2 : Cond.static y ∈ lw_all) (h3 : Cond.initialized y.cls ∈ lw_all) (h4 : Cond.code y b L r ∈ lw_all) : GoodIn lw_all (va_wsS own idx y (ws_ y b L r)) := by
  refine lw_app ?_ (lw_meth h4)
  intro w hw
  simp only [List.mem_cons, List.not_mem_nil, or_false] at hw
  rcases hw with e | e | e
  · rw [e]; exact h1
  · rw [e]; exact h2
  · rw [e]; exact h3
/-- the words of a contract for a method WITH HANDLERS (hh: its table) -/
abbrev wsW_ (y : MethodName) (b : ByteArray) (L : Nat) (r : Option FieldType) (hh : List (Nat × Nat × Nat × Nat)) : List Cond := Cond.codeWith y b L r hh :: lw_all
theorem lw_methW {y : MethodName} {b : ByteArray} {L : Nat} {r : Option FieldType} {hh : List (Nat × Nat × Nat × Nat)} (h : Cond.codeWith y b L r hh ∈ lw_all) : GoodIn lw_all (wsW_ y b L r hh) := by
  intro w hw
  rcases List.mem_cons.mp hw with e | e
  · rw [e]
    exact lw_self _ h
  · exact lw_self _ e
/-- any list of words by their places (lw_in), good -/
theorem lw_good {ws : List Cond} (h : ∀ w ∈ ws, w ∈ lw_all) : GoodIn lw_all ws := fun w hw => lw_self w (h w hw)
/-- what a call of a method with handlers asks: vx_cwVW n hts (lw_VW ..), vx_cwSW n hts (lw_SW ..) -/
theorem lw_VW {own : String} {idx : Nat} {C : String} {y : MethodName} {b : ByteArray} {L : Nat} {r : Option FieldType} {hh : List (Nat × Nat × Nat × Nat)} (h1 : Cond.methodLink own idx y ∈ lw_all) (h2 : Cond.instanceMethod y ∈ lw_all) (h3 : Cond.selects C y y ∈ lw_all) (h4 : Cond.initialized C ∈ lw_all) (h5 : Cond.codeWith y b L r hh ∈ lw_all) : GoodIn lw_all (wsV own idx C y (wsW_ y b L r hh)) := by
  refine lw_app ?_ (lw_methW h5)
  intro w hw
  simp only [List.mem_cons, List.not_mem_nil, or_false] at hw
  rcases hw with e | e | e | e
  · rw [e]; exact h1
  · rw [e]; exact h2
  · rw [e]; exact h3
  · rw [e]; exact h4
theorem lw_SW {own : String} {idx : Nat} {y : MethodName} {b : ByteArray} {L : Nat} {r : Option FieldType} {hh : List (Nat × Nat × Nat × Nat)} (h1 : Cond.methodLink own idx y ∈ lw_all) (h2 : Cond.static y ∈ lw_all) (h3 : Cond.initialized y.cls ∈ lw_all) (h4 : Cond.codeWith y b L r hh ∈ lw_all) : GoodIn lw_all (va_wsS own idx y (wsW_ y b L r hh)) := by
  refine lw_app ?_ (lw_methW h4)
  intro w hw
  simp only [List.mem_cons, List.not_mem_nil, or_false] at hw
  rcases hw with e | e | e
  · rw [e]; exact h1
  · rw [e]; exact h2
  · rw [e]; exact h3
/-- a word by its place in its run of the tables -/
theorem lw_at {r : List Cond} (hr : ∀ w ∈ r, w ∈ lw_tbl) {w : Cond} (i : Nat) (h : r[i]? = some w) : w ∈ lw_tbl := hr w (List.mem_of_getElem? h)
theorem lw_g {w : Cond} (h : w ∈ lw_tbl) (g : goodWord w = true) : w ∈ lw_all := List.mem_filter.mpr ⟨h, g⟩
theorem lw_ms : ∀ w ∈ k2_sels lw_privs, w ∈ lw_tbl := fun w h => show w ∈ k2_sels lw_privs ++ tables_1 from List.mem_append_left _ h
theorem lw_m1 : ∀ w ∈ tables_1_1, w ∈ lw_tbl := fun w h => show w ∈ k2_sels lw_privs ++ tables_1 from List.mem_append_right (k2_sels lw_privs) (show w ∈ tables_1 from List.mem_append_left _ h)
theorem lw_m2 : ∀ w ∈ tables_1_2, w ∈ lw_tbl := fun w h => show w ∈ k2_sels lw_privs ++ tables_1 from List.mem_append_right (k2_sels lw_privs) (show w ∈ tables_1 from List.mem_append_right _ h)
theorem qs0 : (Cond.selects "TrackMarket" ⟨"TrackMarket", "has", "(I)Z"⟩ ⟨"TrackMarket", "has", "(I)Z"⟩) ∈ lw_all := lw_g (lw_at lw_ms 0 rfl) rfl
theorem qs1 : (Cond.selects "TrackMarket" ⟨"TrackMarket", "choose", "()V"⟩ ⟨"TrackMarket", "choose", "()V"⟩) ∈ lw_all := lw_g (lw_at lw_ms 1 rfl) rfl
theorem qs2 : (Cond.selects "TrackMarket" ⟨"TrackMarket", "prepare", "(I)V"⟩ ⟨"TrackMarket", "prepare", "(I)V"⟩) ∈ lw_all := lw_g (lw_at lw_ms 2 rfl) rfl
theorem qs3 : (Cond.selects "TrackMarket" ⟨"TrackMarket", "markedWorth", "(I)I"⟩ ⟨"TrackMarket", "markedWorth", "(I)I"⟩) ∈ lw_all := lw_g (lw_at lw_ms 3 rfl) rfl
theorem qs4 : (Cond.selects "TrackMarket" ⟨"TrackMarket", "send", "(I)V"⟩ ⟨"TrackMarket", "send", "(I)V"⟩) ∈ lw_all := lw_g (lw_at lw_ms 4 rfl) rfl
theorem qs5 : (Cond.selects "TrackMarket" ⟨"TrackMarket", "findWays", "()V"⟩ ⟨"TrackMarket", "findWays", "()V"⟩) ∈ lw_all := lw_g (lw_at lw_ms 5 rfl) rfl
theorem qs6 : (Cond.selects "TrackMarket" ⟨"TrackMarket", "improve", "(IIII)V"⟩ ⟨"TrackMarket", "improve", "(IIII)V"⟩) ∈ lw_all := lw_g (lw_at lw_ms 6 rfl) rfl
theorem qs7 : (Cond.selects "TrackMarket" ⟨"TrackMarket", "improveByJob", "(I)V"⟩ ⟨"TrackMarket", "improveByJob", "(I)V"⟩) ∈ lw_all := lw_g (lw_at lw_ms 7 rfl) rfl
theorem qs8 : (Cond.selects "TrackMarket" ⟨"TrackMarket", "follow", "()V"⟩ ⟨"TrackMarket", "follow", "()V"⟩) ∈ lw_all := lw_g (lw_at lw_ms 8 rfl) rfl
theorem qs9 : (Cond.selects "TrackMarket" ⟨"TrackMarket", "markedSum", "(I)I"⟩ ⟨"TrackMarket", "markedSum", "(I)I"⟩) ∈ lw_all := lw_g (lw_at lw_ms 9 rfl) rfl
theorem qs10 : (Cond.selects "TrackMarket" ⟨"TrackMarket", "greatestCrowd", "(I)I"⟩ ⟨"TrackMarket", "greatestCrowd", "(I)I"⟩) ∈ lw_all := lw_g (lw_at lw_ms 10 rfl) rfl
theorem qs11 : (Cond.selects "TrackMarket" ⟨"TrackMarket", "crowd", "(II)I"⟩ ⟨"TrackMarket", "crowd", "(II)I"⟩) ∈ lw_all := lw_g (lw_at lw_ms 11 rfl) rfl
theorem qs12 : (Cond.selects "TrackMarket" ⟨"TrackMarket", "bestWith", "(II)I"⟩ ⟨"TrackMarket", "bestWith", "(II)I"⟩) ∈ lw_all := lw_g (lw_at lw_ms 12 rfl) rfl
theorem qs13 : (Cond.selects "TrackMarket" ⟨"TrackMarket", "totalFor", "(I)I"⟩ ⟨"TrackMarket", "totalFor", "(I)I"⟩) ∈ lw_all := lw_g (lw_at lw_ms 13 rfl) rfl
theorem qs14 : (Cond.selects "TrackMarketModel" ⟨"TrackMarketModel", "is", "(I)Z"⟩ ⟨"TrackMarketModel", "is", "(I)Z"⟩) ∈ lw_all := lw_g (lw_at lw_ms 14 rfl) rfl
theorem qs15 : (Cond.selects "TrackMarketModel" ⟨"TrackMarketModel", "work", "()V"⟩ ⟨"TrackMarketModel", "work", "()V"⟩) ∈ lw_all := lw_g (lw_at lw_ms 15 rfl) rfl
theorem qs16 : (Cond.selects "TrackMarketModel" ⟨"TrackMarketModel", "at", "(II)I"⟩ ⟨"TrackMarketModel", "at", "(II)I"⟩) ∈ lw_all := lw_g (lw_at lw_ms 16 rfl) rfl
theorem qs17 : (Cond.selects "TrackMarketModel" ⟨"TrackMarketModel", "best", "(I)I"⟩ ⟨"TrackMarketModel", "best", "(I)I"⟩) ∈ lw_all := lw_g (lw_at lw_ms 17 rfl) rfl
theorem qs18 : (Cond.selects "TrackMarketModel" ⟨"TrackMarketModel", "before", "(II)Z"⟩ ⟨"TrackMarketModel", "before", "(II)Z"⟩) ∈ lw_all := lw_g (lw_at lw_ms 18 rfl) rfl
theorem qs19 : (Cond.selects "TrackMarketModel" ⟨"TrackMarketModel", "sum", "(I)I"⟩ ⟨"TrackMarketModel", "sum", "(I)I"⟩) ∈ lw_all := lw_g (lw_at lw_ms 19 rfl) rfl
end
section
/-! java/lang/Object -/
set_option maxRecDepth 100000
def RJ0 : String := "java/lang/Object"
abbrev cJ0_init : ByteArray := object_method_1_code
def yJ0_init : MethodName := ⟨RJ0, "<init>", "()V"⟩
theorem dJ0_init_0 : decode cJ0_init 0 = .ok (.return_, 1) := by decide +kernel
theorem q29 : (Jvm.Cond.instanceMethod ({ cls := "java/lang/Object", name := "<init>", desc := "()V" } : Jvm.MethodName)) ∈ lw_all := lw_g (lw_at lw_m1 9 rfl) rfl
theorem q30 : (Jvm.Cond.code ({ cls := "java/lang/Object", name := "<init>", desc := "()V" } : Jvm.MethodName) object_method_1_code (1 : Nat) (Option.none : Option Jvm.ClassFile.FieldType)) ∈ lw_all := lw_g (lw_at lw_m1 10 rfl) rfl
theorem q71 : (Jvm.Cond.arrayClass Jvm.ClassFile.FieldType.byte) ∈ lw_all := lw_g (lw_at lw_m1 51 rfl) rfl
set_option maxRecDepth 100000
theorem q72 : (Jvm.Cond.arrayClass Jvm.ClassFile.FieldType.int) ∈ lw_all := lw_g (lw_at lw_m1 52 rfl) rfl
theorem q223 : (Jvm.Cond.arrayClass Jvm.ClassFile.FieldType.boolean) ∈ lw_all := lw_g (lw_at lw_m1 203 rfl) rfl
/-! TrackMarket -/
set_option maxRecDepth 100000
def RX1 : String := "TrackMarket"
def TX1 : u_T := fun k => match k with
  | 0 => ("TrackMarket", "trackCount", "I", false)
  | 1 => ("TrackMarket", "present", "I", false)
  | 2 => ("TrackMarket", "starts", "[B", true)
  | 3 => ("TrackMarket", "ends", "[B", true)
  | 4 => ("TrackMarket", "worths", "[B", true)
  | 5 => ("TrackMarket", "gains", "[I", true)
  | 6 => ("TrackMarket", "usable", "I", false)
  | 7 => ("TrackMarket", "used", "I", false)
  | 8 => ("TrackMarket", "waiting", "[B", true)
  | 9 => ("TrackMarket", "reach", "[I", true)
  | 10 => ("TrackMarket", "step", "[B", true)
  | 11 => ("TrackMarket", "known", "Z", false)
  | _ => ("TrackMarket", "chosenSet", "I", false)
def tyX1 : Nat → FieldType := fun k => match k with
  | 0 => .int
  | 1 => .int
  | 2 => .array .byte
  | 3 => .array .byte
  | 4 => .array .byte
  | 5 => .array .int
  | 6 => .int
  | 7 => .int
  | 8 => .array .byte
  | 9 => .array .int
  | 10 => .array .byte
  | 11 => .boolean
  | _ => .int
abbrev wsX10 : List Cond := u_ws RX1 TX1 13
set_option maxRecDepth 100000 in
theorem nmX1 : ∀ a, a < 13 → ∀ b, b < 13 → a ≠ b → (TX1 a).2.1 ≠ (TX1 b).2.1 := by decide +kernel
set_option maxRecDepth 100000 in
theorem tyX1_ok : ∀ k, k < 13 → parseFieldDescriptor (TX1 k).2.2.1 = some (tyX1 k) := by decide +kernel
abbrev cX1_init : ByteArray := prog_1_method_1_code
def yX1_init : MethodName := ⟨RX1, "<init>", "(I)V"⟩
theorem dX1_init_0 : decode cX1_init 0 = .ok (.aload_n 0, 1) := by decide +kernel
theorem dX1_init_1 : decode cX1_init 1 = .ok (.invokespecial 1, 3) := by decide +kernel
theorem dX1_init_4 : decode cX1_init 4 = .ok (.aload_n 0, 1) := by decide +kernel
theorem dX1_init_5 : decode cX1_init 5 = .ok (.bipush 8, 2) := by decide +kernel
theorem dX1_init_7 : decode cX1_init 7 = .ok (.newarray .byte, 2) := by decide +kernel
theorem dX1_init_9 : decode cX1_init 9 = .ok (.putfield 7, 3) := by decide +kernel
theorem dX1_init_12 : decode cX1_init 12 = .ok (.aload_n 0, 1) := by decide +kernel
theorem dX1_init_13 : decode cX1_init 13 = .ok (.bipush 8, 2) := by decide +kernel
theorem dX1_init_15 : decode cX1_init 15 = .ok (.newarray .byte, 2) := by decide +kernel
theorem dX1_init_17 : decode cX1_init 17 = .ok (.putfield 13, 3) := by decide +kernel
theorem dX1_init_20 : decode cX1_init 20 = .ok (.aload_n 0, 1) := by decide +kernel
theorem dX1_init_21 : decode cX1_init 21 = .ok (.bipush 8, 2) := by decide +kernel
theorem dX1_init_23 : decode cX1_init 23 = .ok (.newarray .byte, 2) := by decide +kernel
theorem dX1_init_25 : decode cX1_init 25 = .ok (.putfield 16, 3) := by decide +kernel
theorem dX1_init_28 : decode cX1_init 28 = .ok (.aload_n 0, 1) := by decide +kernel
theorem dX1_init_29 : decode cX1_init 29 = .ok (.bipush 8, 2) := by decide +kernel
theorem dX1_init_31 : decode cX1_init 31 = .ok (.newarray .int, 2) := by decide +kernel
theorem dX1_init_33 : decode cX1_init 33 = .ok (.putfield 19, 3) := by decide +kernel
theorem dX1_init_36 : decode cX1_init 36 = .ok (.aload_n 0, 1) := by decide +kernel
theorem dX1_init_37 : decode cX1_init 37 = .ok (.bipush 16, 2) := by decide +kernel
theorem dX1_init_39 : decode cX1_init 39 = .ok (.newarray .byte, 2) := by decide +kernel
theorem dX1_init_41 : decode cX1_init 41 = .ok (.putfield 23, 3) := by decide +kernel
theorem dX1_init_44 : decode cX1_init 44 = .ok (.aload_n 0, 1) := by decide +kernel
theorem dX1_init_45 : decode cX1_init 45 = .ok (.bipush 17, 2) := by decide +kernel
theorem dX1_init_47 : decode cX1_init 47 = .ok (.newarray .int, 2) := by decide +kernel
theorem dX1_init_49 : decode cX1_init 49 = .ok (.putfield 26, 3) := by decide +kernel
theorem dX1_init_52 : decode cX1_init 52 = .ok (.aload_n 0, 1) := by decide +kernel
theorem dX1_init_53 : decode cX1_init 53 = .ok (.bipush 17, 2) := by decide +kernel
theorem dX1_init_55 : decode cX1_init 55 = .ok (.newarray .byte, 2) := by decide +kernel
theorem dX1_init_57 : decode cX1_init 57 = .ok (.putfield 29, 3) := by decide +kernel
theorem dX1_init_60 : decode cX1_init 60 = .ok (.aload_n 0, 1) := by decide +kernel
theorem dX1_init_61 : decode cX1_init 61 = .ok (.iload_n 1, 1) := by decide +kernel
theorem dX1_init_62 : decode cX1_init 62 = .ok (.ifCond .ge 7, 3) := by decide +kernel
theorem dX1_init_65 : decode cX1_init 65 = .ok (.iconst 0, 1) := by decide +kernel
theorem dX1_init_66 : decode cX1_init 66 = .ok (.goto 13, 3) := by decide +kernel
theorem dX1_init_69 : decode cX1_init 69 = .ok (.iload_n 1, 1) := by decide +kernel
theorem dX1_init_70 : decode cX1_init 70 = .ok (.iconst 4, 1) := by decide +kernel
theorem dX1_init_71 : decode cX1_init 71 = .ok (.if_icmp .le 7, 3) := by decide +kernel
theorem dX1_init_74 : decode cX1_init 74 = .ok (.iconst 4, 1) := by decide +kernel
theorem dX1_init_75 : decode cX1_init 75 = .ok (.goto 4, 3) := by decide +kernel
theorem dX1_init_78 : decode cX1_init 78 = .ok (.iload_n 1, 1) := by decide +kernel
theorem dX1_init_79 : decode cX1_init 79 = .ok (.putfield 32, 3) := by decide +kernel
theorem dX1_init_82 : decode cX1_init 82 = .ok (.return_, 1) := by decide +kernel
abbrev cX1_bring : ByteArray := prog_1_method_3_code
def yX1_bring : MethodName := ⟨RX1, "bring", "(III)I"⟩
theorem dX1_bring_0 : decode cX1_bring 0 = .ok (.iload_n 1, 1) := by decide +kernel
theorem dX1_bring_1 : decode cX1_bring 1 = .ok (.ifCond .lt 25, 3) := by decide +kernel
theorem dX1_bring_4 : decode cX1_bring 4 = .ok (.iload_n 2, 1) := by decide +kernel
theorem dX1_bring_5 : decode cX1_bring 5 = .ok (.bipush 16, 2) := by decide +kernel
theorem dX1_bring_7 : decode cX1_bring 7 = .ok (.if_icmp .gt 19, 3) := by decide +kernel
theorem dX1_bring_10 : decode cX1_bring 10 = .ok (.iload_n 1, 1) := by decide +kernel
theorem dX1_bring_11 : decode cX1_bring 11 = .ok (.iload_n 2, 1) := by decide +kernel
theorem dX1_bring_12 : decode cX1_bring 12 = .ok (.if_icmp .ge 14, 3) := by decide +kernel
theorem dX1_bring_15 : decode cX1_bring 15 = .ok (.iload_n 3, 1) := by decide +kernel
theorem dX1_bring_16 : decode cX1_bring 16 = .ok (.iconst 1, 1) := by decide +kernel
theorem dX1_bring_17 : decode cX1_bring 17 = .ok (.if_icmp .lt 9, 3) := by decide +kernel
theorem dX1_bring_20 : decode cX1_bring 20 = .ok (.iload_n 3, 1) := by decide +kernel
theorem dX1_bring_21 : decode cX1_bring 21 = .ok (.bipush 20, 2) := by decide +kernel
theorem dX1_bring_23 : decode cX1_bring 23 = .ok (.if_icmp .le 5, 3) := by decide +kernel
theorem dX1_bring_26 : decode cX1_bring 26 = .ok (.iconst (-1), 1) := by decide +kernel
theorem dX1_bring_27 : decode cX1_bring 27 = .ok (.ireturn, 1) := by decide +kernel
theorem dX1_bring_28 : decode cX1_bring 28 = .ok (.iconst 0, 1) := by decide +kernel
theorem dX1_bring_29 : decode cX1_bring 29 = .ok (.istore 4, 2) := by decide +kernel
theorem dX1_bring_31 : decode cX1_bring 31 = .ok (.iload 4, 2) := by decide +kernel
theorem dX1_bring_33 : decode cX1_bring 33 = .ok (.bipush 8, 2) := by decide +kernel
theorem dX1_bring_35 : decode cX1_bring 35 = .ok (.if_icmp .ge 66, 3) := by decide +kernel
theorem dX1_bring_38 : decode cX1_bring 38 = .ok (.aload_n 0, 1) := by decide +kernel
theorem dX1_bring_39 : decode cX1_bring 39 = .ok (.iload 4, 2) := by decide +kernel
theorem dX1_bring_41 : decode cX1_bring 41 = .ok (.invokevirtual 39, 3) := by decide +kernel
theorem dX1_bring_44 : decode cX1_bring 44 = .ok (.ifCond .ne 51, 3) := by decide +kernel
theorem dX1_bring_47 : decode cX1_bring 47 = .ok (.aload_n 0, 1) := by decide +kernel
theorem dX1_bring_48 : decode cX1_bring 48 = .ok (.dup, 1) := by decide +kernel
theorem dX1_bring_49 : decode cX1_bring 49 = .ok (.getfield 36, 3) := by decide +kernel
theorem dX1_bring_52 : decode cX1_bring 52 = .ok (.iconst 1, 1) := by decide +kernel
theorem dX1_bring_53 : decode cX1_bring 53 = .ok (.iload 4, 2) := by decide +kernel
theorem dX1_bring_55 : decode cX1_bring 55 = .ok (.ishl, 1) := by decide +kernel
theorem dX1_bring_56 : decode cX1_bring 56 = .ok (.ior, 1) := by decide +kernel
theorem dX1_bring_57 : decode cX1_bring 57 = .ok (.putfield 36, 3) := by decide +kernel
theorem dX1_bring_60 : decode cX1_bring 60 = .ok (.aload_n 0, 1) := by decide +kernel
theorem dX1_bring_61 : decode cX1_bring 61 = .ok (.getfield 7, 3) := by decide +kernel
theorem dX1_bring_64 : decode cX1_bring 64 = .ok (.iload 4, 2) := by decide +kernel
theorem dX1_bring_66 : decode cX1_bring 66 = .ok (.iload_n 1, 1) := by decide +kernel
theorem dX1_bring_67 : decode cX1_bring 67 = .ok (.i2b, 1) := by decide +kernel
theorem dX1_bring_68 : decode cX1_bring 68 = .ok (.bastore, 1) := by decide +kernel
theorem dX1_bring_69 : decode cX1_bring 69 = .ok (.aload_n 0, 1) := by decide +kernel
theorem dX1_bring_70 : decode cX1_bring 70 = .ok (.getfield 13, 3) := by decide +kernel
theorem dX1_bring_73 : decode cX1_bring 73 = .ok (.iload 4, 2) := by decide +kernel
theorem dX1_bring_75 : decode cX1_bring 75 = .ok (.iload_n 2, 1) := by decide +kernel
theorem dX1_bring_76 : decode cX1_bring 76 = .ok (.i2b, 1) := by decide +kernel
theorem dX1_bring_77 : decode cX1_bring 77 = .ok (.bastore, 1) := by decide +kernel
theorem dX1_bring_78 : decode cX1_bring 78 = .ok (.aload_n 0, 1) := by decide +kernel
theorem dX1_bring_79 : decode cX1_bring 79 = .ok (.getfield 16, 3) := by decide +kernel
theorem dX1_bring_82 : decode cX1_bring 82 = .ok (.iload 4, 2) := by decide +kernel
theorem dX1_bring_84 : decode cX1_bring 84 = .ok (.iload_n 3, 1) := by decide +kernel
theorem dX1_bring_85 : decode cX1_bring 85 = .ok (.i2b, 1) := by decide +kernel
theorem dX1_bring_86 : decode cX1_bring 86 = .ok (.bastore, 1) := by decide +kernel
theorem dX1_bring_87 : decode cX1_bring 87 = .ok (.aload_n 0, 1) := by decide +kernel
theorem dX1_bring_88 : decode cX1_bring 88 = .ok (.iconst 0, 1) := by decide +kernel
theorem dX1_bring_89 : decode cX1_bring 89 = .ok (.putfield 43, 3) := by decide +kernel
theorem dX1_bring_92 : decode cX1_bring 92 = .ok (.iload 4, 2) := by decide +kernel
theorem dX1_bring_94 : decode cX1_bring 94 = .ok (.ireturn, 1) := by decide +kernel
theorem dX1_bring_95 : decode cX1_bring 95 = .ok (.iinc 4 1, 3) := by decide +kernel
theorem dX1_bring_98 : decode cX1_bring 98 = .ok (.goto (-67), 3) := by decide +kernel
theorem dX1_bring_101 : decode cX1_bring 101 = .ok (.bipush (-2), 2) := by decide +kernel
theorem dX1_bring_103 : decode cX1_bring 103 = .ok (.ireturn, 1) := by decide +kernel
abbrev cX1_has : ByteArray := prog_1_method_2_code
def yX1_has : MethodName := ⟨RX1, "has", "(I)Z"⟩
theorem dX1_has_0 : decode cX1_has 0 = .ok (.iload_n 1, 1) := by decide +kernel
theorem dX1_has_1 : decode cX1_has 1 = .ok (.ifCond .lt 24, 3) := by decide +kernel
theorem dX1_has_4 : decode cX1_has 4 = .ok (.iload_n 1, 1) := by decide +kernel
theorem dX1_has_5 : decode cX1_has 5 = .ok (.bipush 8, 2) := by decide +kernel
theorem dX1_has_7 : decode cX1_has 7 = .ok (.if_icmp .ge 18, 3) := by decide +kernel
theorem dX1_has_10 : decode cX1_has 10 = .ok (.aload_n 0, 1) := by decide +kernel
theorem dX1_has_11 : decode cX1_has 11 = .ok (.getfield 36, 3) := by decide +kernel
theorem dX1_has_14 : decode cX1_has 14 = .ok (.iload_n 1, 1) := by decide +kernel
theorem dX1_has_15 : decode cX1_has 15 = .ok (.ishr, 1) := by decide +kernel
theorem dX1_has_16 : decode cX1_has 16 = .ok (.iconst 1, 1) := by decide +kernel
theorem dX1_has_17 : decode cX1_has 17 = .ok (.iand, 1) := by decide +kernel
theorem dX1_has_18 : decode cX1_has 18 = .ok (.ifCond .eq 7, 3) := by decide +kernel
theorem dX1_has_21 : decode cX1_has 21 = .ok (.iconst 1, 1) := by decide +kernel
theorem dX1_has_22 : decode cX1_has 22 = .ok (.goto 4, 3) := by decide +kernel
theorem dX1_has_25 : decode cX1_has 25 = .ok (.iconst 0, 1) := by decide +kernel
theorem dX1_has_26 : decode cX1_has 26 = .ok (.ireturn, 1) := by decide +kernel
abbrev cX1_take : ByteArray := prog_1_method_4_code
def yX1_take : MethodName := ⟨RX1, "take", "(I)Z"⟩
theorem dX1_take_0 : decode cX1_take 0 = .ok (.aload_n 0, 1) := by decide +kernel
theorem dX1_take_1 : decode cX1_take 1 = .ok (.iload_n 1, 1) := by decide +kernel
theorem dX1_take_2 : decode cX1_take 2 = .ok (.invokevirtual 39, 3) := by decide +kernel
theorem dX1_take_5 : decode cX1_take 5 = .ok (.ifCond .ne 5, 3) := by decide +kernel
theorem dX1_take_8 : decode cX1_take 8 = .ok (.iconst 0, 1) := by decide +kernel
theorem dX1_take_9 : decode cX1_take 9 = .ok (.ireturn, 1) := by decide +kernel
theorem dX1_take_10 : decode cX1_take 10 = .ok (.aload_n 0, 1) := by decide +kernel
theorem dX1_take_11 : decode cX1_take 11 = .ok (.dup, 1) := by decide +kernel
theorem dX1_take_12 : decode cX1_take 12 = .ok (.getfield 36, 3) := by decide +kernel
theorem dX1_take_15 : decode cX1_take 15 = .ok (.iconst 1, 1) := by decide +kernel
theorem dX1_take_16 : decode cX1_take 16 = .ok (.iload_n 1, 1) := by decide +kernel
theorem dX1_take_17 : decode cX1_take 17 = .ok (.ishl, 1) := by decide +kernel
theorem dX1_take_18 : decode cX1_take 18 = .ok (.iconst (-1), 1) := by decide +kernel
theorem dX1_take_19 : decode cX1_take 19 = .ok (.ixor, 1) := by decide +kernel
theorem dX1_take_20 : decode cX1_take 20 = .ok (.iand, 1) := by decide +kernel
theorem dX1_take_21 : decode cX1_take 21 = .ok (.putfield 36, 3) := by decide +kernel
theorem dX1_take_24 : decode cX1_take 24 = .ok (.aload_n 0, 1) := by decide +kernel
theorem dX1_take_25 : decode cX1_take 25 = .ok (.iconst 0, 1) := by decide +kernel
theorem dX1_take_26 : decode cX1_take 26 = .ok (.putfield 43, 3) := by decide +kernel
theorem dX1_take_29 : decode cX1_take 29 = .ok (.iconst 1, 1) := by decide +kernel
theorem dX1_take_30 : decode cX1_take 30 = .ok (.ireturn, 1) := by decide +kernel
abbrev cX1_revalue : ByteArray := prog_1_method_5_code
def yX1_revalue : MethodName := ⟨RX1, "revalue", "(II)Z"⟩
theorem dX1_revalue_0 : decode cX1_revalue 0 = .ok (.aload_n 0, 1) := by decide +kernel
theorem dX1_revalue_1 : decode cX1_revalue 1 = .ok (.iload_n 1, 1) := by decide +kernel
theorem dX1_revalue_2 : decode cX1_revalue 2 = .ok (.invokevirtual 39, 3) := by decide +kernel
theorem dX1_revalue_5 : decode cX1_revalue 5 = .ok (.ifCond .eq 14, 3) := by decide +kernel
theorem dX1_revalue_8 : decode cX1_revalue 8 = .ok (.iload_n 2, 1) := by decide +kernel
theorem dX1_revalue_9 : decode cX1_revalue 9 = .ok (.iconst 1, 1) := by decide +kernel
theorem dX1_revalue_10 : decode cX1_revalue 10 = .ok (.if_icmp .lt 9, 3) := by decide +kernel
theorem dX1_revalue_13 : decode cX1_revalue 13 = .ok (.iload_n 2, 1) := by decide +kernel
theorem dX1_revalue_14 : decode cX1_revalue 14 = .ok (.bipush 20, 2) := by decide +kernel
theorem dX1_revalue_16 : decode cX1_revalue 16 = .ok (.if_icmp .le 5, 3) := by decide +kernel
theorem dX1_revalue_19 : decode cX1_revalue 19 = .ok (.iconst 0, 1) := by decide +kernel
theorem dX1_revalue_20 : decode cX1_revalue 20 = .ok (.ireturn, 1) := by decide +kernel
theorem dX1_revalue_21 : decode cX1_revalue 21 = .ok (.aload_n 0, 1) := by decide +kernel
theorem dX1_revalue_22 : decode cX1_revalue 22 = .ok (.getfield 16, 3) := by decide +kernel
theorem dX1_revalue_25 : decode cX1_revalue 25 = .ok (.iload_n 1, 1) := by decide +kernel
theorem dX1_revalue_26 : decode cX1_revalue 26 = .ok (.iload_n 2, 1) := by decide +kernel
theorem dX1_revalue_27 : decode cX1_revalue 27 = .ok (.i2b, 1) := by decide +kernel
theorem dX1_revalue_28 : decode cX1_revalue 28 = .ok (.bastore, 1) := by decide +kernel
theorem dX1_revalue_29 : decode cX1_revalue 29 = .ok (.aload_n 0, 1) := by decide +kernel
theorem dX1_revalue_30 : decode cX1_revalue 30 = .ok (.iconst 0, 1) := by decide +kernel
theorem dX1_revalue_31 : decode cX1_revalue 31 = .ok (.putfield 43, 3) := by decide +kernel
theorem dX1_revalue_34 : decode cX1_revalue 34 = .ok (.iconst 1, 1) := by decide +kernel
theorem dX1_revalue_35 : decode cX1_revalue 35 = .ok (.ireturn, 1) := by decide +kernel
abbrev cX1_setTracks : ByteArray := prog_1_method_6_code
def yX1_setTracks : MethodName := ⟨RX1, "setTracks", "(I)Z"⟩
theorem dX1_setTracks_0 : decode cX1_setTracks 0 = .ok (.iload_n 1, 1) := by decide +kernel
theorem dX1_setTracks_1 : decode cX1_setTracks 1 = .ok (.ifCond .lt 8, 3) := by decide +kernel
theorem dX1_setTracks_4 : decode cX1_setTracks 4 = .ok (.iload_n 1, 1) := by decide +kernel
theorem dX1_setTracks_5 : decode cX1_setTracks 5 = .ok (.iconst 4, 1) := by decide +kernel
theorem dX1_setTracks_6 : decode cX1_setTracks 6 = .ok (.if_icmp .le 5, 3) := by decide +kernel
theorem dX1_setTracks_9 : decode cX1_setTracks 9 = .ok (.iconst 0, 1) := by decide +kernel
theorem dX1_setTracks_10 : decode cX1_setTracks 10 = .ok (.ireturn, 1) := by decide +kernel
theorem dX1_setTracks_11 : decode cX1_setTracks 11 = .ok (.aload_n 0, 1) := by decide +kernel
theorem dX1_setTracks_12 : decode cX1_setTracks 12 = .ok (.iload_n 1, 1) := by decide +kernel
theorem dX1_setTracks_13 : decode cX1_setTracks 13 = .ok (.putfield 32, 3) := by decide +kernel
theorem dX1_setTracks_16 : decode cX1_setTracks 16 = .ok (.aload_n 0, 1) := by decide +kernel
theorem dX1_setTracks_17 : decode cX1_setTracks 17 = .ok (.iconst 0, 1) := by decide +kernel
theorem dX1_setTracks_18 : decode cX1_setTracks 18 = .ok (.putfield 43, 3) := by decide +kernel
theorem dX1_setTracks_21 : decode cX1_setTracks 21 = .ok (.iconst 1, 1) := by decide +kernel
theorem dX1_setTracks_22 : decode cX1_setTracks 22 = .ok (.ireturn, 1) := by decide +kernel
abbrev cX1_tracks : ByteArray := prog_1_method_7_code
def yX1_tracks : MethodName := ⟨RX1, "tracks", "()I"⟩
theorem dX1_tracks_0 : decode cX1_tracks 0 = .ok (.aload_n 0, 1) := by decide +kernel
theorem dX1_tracks_1 : decode cX1_tracks 1 = .ok (.getfield 32, 3) := by decide +kernel
theorem dX1_tracks_4 : decode cX1_tracks 4 = .ok (.ireturn, 1) := by decide +kernel
abbrev cX1_jobs : ByteArray := prog_1_method_8_code
def yX1_jobs : MethodName := ⟨RX1, "jobs", "()I"⟩
theorem dX1_jobs_0 : decode cX1_jobs 0 = .ok (.aload_n 0, 1) := by decide +kernel
theorem dX1_jobs_1 : decode cX1_jobs 1 = .ok (.getfield 36, 3) := by decide +kernel
theorem dX1_jobs_4 : decode cX1_jobs 4 = .ok (.ireturn, 1) := by decide +kernel
abbrev cX1_chosen : ByteArray := prog_1_method_21_code
def yX1_chosen : MethodName := ⟨RX1, "chosen", "()I"⟩
theorem dX1_chosen_0 : decode cX1_chosen 0 = .ok (.aload_n 0, 1) := by decide +kernel
theorem dX1_chosen_1 : decode cX1_chosen 1 = .ok (.invokevirtual 88, 3) := by decide +kernel
theorem dX1_chosen_4 : decode cX1_chosen 4 = .ok (.aload_n 0, 1) := by decide +kernel
theorem dX1_chosen_5 : decode cX1_chosen 5 = .ok (.getfield 78, 3) := by decide +kernel
theorem dX1_chosen_8 : decode cX1_chosen 8 = .ok (.ireturn, 1) := by decide +kernel
abbrev cX1_choose : ByteArray := prog_1_method_17_code
def yX1_choose : MethodName := ⟨RX1, "choose", "()V"⟩
theorem dX1_choose_0 : decode cX1_choose 0 = .ok (.aload_n 0, 1) := by decide +kernel
theorem dX1_choose_1 : decode cX1_choose 1 = .ok (.getfield 43, 3) := by decide +kernel
theorem dX1_choose_4 : decode cX1_choose 4 = .ok (.ifCond .eq 4, 3) := by decide +kernel
theorem dX1_choose_7 : decode cX1_choose 7 = .ok (.return_, 1) := by decide +kernel
theorem dX1_choose_8 : decode cX1_choose 8 = .ok (.aload_n 0, 1) := by decide +kernel
theorem dX1_choose_9 : decode cX1_choose 9 = .ok (.iconst 1, 1) := by decide +kernel
theorem dX1_choose_10 : decode cX1_choose 10 = .ok (.putfield 43, 3) := by decide +kernel
theorem dX1_choose_13 : decode cX1_choose 13 = .ok (.aload_n 0, 1) := by decide +kernel
theorem dX1_choose_14 : decode cX1_choose 14 = .ok (.aload_n 0, 1) := by decide +kernel
theorem dX1_choose_15 : decode cX1_choose 15 = .ok (.getfield 36, 3) := by decide +kernel
theorem dX1_choose_18 : decode cX1_choose 18 = .ok (.invokevirtual 72, 3) := by decide +kernel
theorem dX1_choose_21 : decode cX1_choose 21 = .ok (.aload_n 0, 1) := by decide +kernel
theorem dX1_choose_22 : decode cX1_choose 22 = .ok (.aload_n 0, 1) := by decide +kernel
theorem dX1_choose_23 : decode cX1_choose 23 = .ok (.getfield 32, 3) := by decide +kernel
theorem dX1_choose_26 : decode cX1_choose 26 = .ok (.invokevirtual 75, 3) := by decide +kernel
theorem dX1_choose_29 : decode cX1_choose 29 = .ok (.aload_n 0, 1) := by decide +kernel
theorem dX1_choose_30 : decode cX1_choose 30 = .ok (.aload_n 0, 1) := by decide +kernel
theorem dX1_choose_31 : decode cX1_choose 31 = .ok (.getfield 50, 3) := by decide +kernel
theorem dX1_choose_34 : decode cX1_choose 34 = .ok (.putfield 78, 3) := by decide +kernel
theorem dX1_choose_37 : decode cX1_choose 37 = .ok (.return_, 1) := by decide +kernel
abbrev cX1_prepare : ByteArray := prog_1_method_10_code
def yX1_prepare : MethodName := ⟨RX1, "prepare", "(I)V"⟩
theorem dX1_prepare_0 : decode cX1_prepare 0 = .ok (.aload_n 0, 1) := by decide +kernel
theorem dX1_prepare_1 : decode cX1_prepare 1 = .ok (.iload_n 1, 1) := by decide +kernel
theorem dX1_prepare_2 : decode cX1_prepare 2 = .ok (.putfield 47, 3) := by decide +kernel
theorem dX1_prepare_5 : decode cX1_prepare 5 = .ok (.aload_n 0, 1) := by decide +kernel
theorem dX1_prepare_6 : decode cX1_prepare 6 = .ok (.iconst 0, 1) := by decide +kernel
theorem dX1_prepare_7 : decode cX1_prepare 7 = .ok (.putfield 50, 3) := by decide +kernel
theorem dX1_prepare_10 : decode cX1_prepare 10 = .ok (.iconst 0, 1) := by decide +kernel
theorem dX1_prepare_11 : decode cX1_prepare 11 = .ok (.istore_n 2, 1) := by decide +kernel
theorem dX1_prepare_12 : decode cX1_prepare 12 = .ok (.iload_n 2, 1) := by decide +kernel
theorem dX1_prepare_13 : decode cX1_prepare 13 = .ok (.bipush 8, 2) := by decide +kernel
theorem dX1_prepare_15 : decode cX1_prepare 15 = .ok (.if_icmp .ge 20, 3) := by decide +kernel
theorem dX1_prepare_18 : decode cX1_prepare 18 = .ok (.aload_n 0, 1) := by decide +kernel
theorem dX1_prepare_19 : decode cX1_prepare 19 = .ok (.getfield 19, 3) := by decide +kernel
theorem dX1_prepare_22 : decode cX1_prepare 22 = .ok (.iload_n 2, 1) := by decide +kernel
theorem dX1_prepare_23 : decode cX1_prepare 23 = .ok (.aload_n 0, 1) := by decide +kernel
theorem dX1_prepare_24 : decode cX1_prepare 24 = .ok (.iload_n 2, 1) := by decide +kernel
theorem dX1_prepare_25 : decode cX1_prepare 25 = .ok (.invokevirtual 53, 3) := by decide +kernel
theorem dX1_prepare_28 : decode cX1_prepare 28 = .ok (.iastore, 1) := by decide +kernel
theorem dX1_prepare_29 : decode cX1_prepare 29 = .ok (.iinc 2 1, 3) := by decide +kernel
theorem dX1_prepare_32 : decode cX1_prepare 32 = .ok (.goto (-20), 3) := by decide +kernel
theorem dX1_prepare_35 : decode cX1_prepare 35 = .ok (.iconst 0, 1) := by decide +kernel
theorem dX1_prepare_36 : decode cX1_prepare 36 = .ok (.istore_n 2, 1) := by decide +kernel
theorem dX1_prepare_37 : decode cX1_prepare 37 = .ok (.iload_n 2, 1) := by decide +kernel
theorem dX1_prepare_38 : decode cX1_prepare 38 = .ok (.bipush 16, 2) := by decide +kernel
theorem dX1_prepare_40 : decode cX1_prepare 40 = .ok (.if_icmp .ge 16, 3) := by decide +kernel
theorem dX1_prepare_43 : decode cX1_prepare 43 = .ok (.aload_n 0, 1) := by decide +kernel
theorem dX1_prepare_44 : decode cX1_prepare 44 = .ok (.getfield 23, 3) := by decide +kernel
theorem dX1_prepare_47 : decode cX1_prepare 47 = .ok (.iload_n 2, 1) := by decide +kernel
theorem dX1_prepare_48 : decode cX1_prepare 48 = .ok (.iconst 0, 1) := by decide +kernel
theorem dX1_prepare_49 : decode cX1_prepare 49 = .ok (.bastore, 1) := by decide +kernel
theorem dX1_prepare_50 : decode cX1_prepare 50 = .ok (.iinc 2 1, 3) := by decide +kernel
theorem dX1_prepare_53 : decode cX1_prepare 53 = .ok (.goto (-16), 3) := by decide +kernel
theorem dX1_prepare_56 : decode cX1_prepare 56 = .ok (.return_, 1) := by decide +kernel
abbrev cX1_markedWorth : ByteArray := prog_1_method_9_code
def yX1_markedWorth : MethodName := ⟨RX1, "markedWorth", "(I)I"⟩
theorem dX1_markedWorth_0 : decode cX1_markedWorth 0 = .ok (.aload_n 0, 1) := by decide +kernel
theorem dX1_markedWorth_1 : decode cX1_markedWorth 1 = .ok (.getfield 16, 3) := by decide +kernel
theorem dX1_markedWorth_4 : decode cX1_markedWorth 4 = .ok (.iload_n 1, 1) := by decide +kernel
theorem dX1_markedWorth_5 : decode cX1_markedWorth 5 = .ok (.baload, 1) := by decide +kernel
theorem dX1_markedWorth_6 : decode cX1_markedWorth 6 = .ok (.sipush 256, 3) := by decide +kernel
theorem dX1_markedWorth_9 : decode cX1_markedWorth 9 = .ok (.imul, 1) := by decide +kernel
theorem dX1_markedWorth_10 : decode cX1_markedWorth 10 = .ok (.iconst 1, 1) := by decide +kernel
theorem dX1_markedWorth_11 : decode cX1_markedWorth 11 = .ok (.bipush 7, 2) := by decide +kernel
theorem dX1_markedWorth_13 : decode cX1_markedWorth 13 = .ok (.iload_n 1, 1) := by decide +kernel
theorem dX1_markedWorth_14 : decode cX1_markedWorth 14 = .ok (.isub, 1) := by decide +kernel
theorem dX1_markedWorth_15 : decode cX1_markedWorth 15 = .ok (.ishl, 1) := by decide +kernel
theorem dX1_markedWorth_16 : decode cX1_markedWorth 16 = .ok (.iadd, 1) := by decide +kernel
theorem dX1_markedWorth_17 : decode cX1_markedWorth 17 = .ok (.ireturn, 1) := by decide +kernel
abbrev cX1_send : ByteArray := prog_1_method_11_code
def yX1_send : MethodName := ⟨RX1, "send", "(I)V"⟩
theorem dX1_send_0 : decode cX1_send 0 = .ok (.iconst 0, 1) := by decide +kernel
theorem dX1_send_1 : decode cX1_send 1 = .ok (.istore_n 2, 1) := by decide +kernel
theorem dX1_send_2 : decode cX1_send 2 = .ok (.iload_n 2, 1) := by decide +kernel
theorem dX1_send_3 : decode cX1_send 3 = .ok (.iload_n 1, 1) := by decide +kernel
theorem dX1_send_4 : decode cX1_send 4 = .ok (.if_icmp .ge 17, 3) := by decide +kernel
theorem dX1_send_7 : decode cX1_send 7 = .ok (.aload_n 0, 1) := by decide +kernel
theorem dX1_send_8 : decode cX1_send 8 = .ok (.invokevirtual 57, 3) := by decide +kernel
theorem dX1_send_11 : decode cX1_send 11 = .ok (.aload_n 0, 1) := by decide +kernel
theorem dX1_send_12 : decode cX1_send 12 = .ok (.invokevirtual 60, 3) := by decide +kernel
theorem dX1_send_15 : decode cX1_send 15 = .ok (.iinc 2 1, 3) := by decide +kernel
theorem dX1_send_18 : decode cX1_send 18 = .ok (.goto (-16), 3) := by decide +kernel
theorem dX1_send_21 : decode cX1_send 21 = .ok (.return_, 1) := by decide +kernel
abbrev cX1_findWays : ByteArray := prog_1_method_12_code
def yX1_findWays : MethodName := ⟨RX1, "findWays", "()V"⟩
theorem dX1_findWays_0 : decode cX1_findWays 0 = .ok (.iconst 0, 1) := by decide +kernel
theorem dX1_findWays_1 : decode cX1_findWays 1 = .ok (.istore_n 1, 1) := by decide +kernel
theorem dX1_findWays_2 : decode cX1_findWays 2 = .ok (.iload_n 1, 1) := by decide +kernel
theorem dX1_findWays_3 : decode cX1_findWays 3 = .ok (.bipush 16, 2) := by decide +kernel
theorem dX1_findWays_5 : decode cX1_findWays 5 = .ok (.if_icmp .gt 24, 3) := by decide +kernel
theorem dX1_findWays_8 : decode cX1_findWays 8 = .ok (.aload_n 0, 1) := by decide +kernel
theorem dX1_findWays_9 : decode cX1_findWays 9 = .ok (.getfield 26, 3) := by decide +kernel
theorem dX1_findWays_12 : decode cX1_findWays 12 = .ok (.iload_n 1, 1) := by decide +kernel
theorem dX1_findWays_13 : decode cX1_findWays 13 = .ok (.ldc 63, 2) := by decide +kernel
theorem dX1_findWays_15 : decode cX1_findWays 15 = .ok (.iastore, 1) := by decide +kernel
theorem dX1_findWays_16 : decode cX1_findWays 16 = .ok (.aload_n 0, 1) := by decide +kernel
theorem dX1_findWays_17 : decode cX1_findWays 17 = .ok (.getfield 29, 3) := by decide +kernel
theorem dX1_findWays_20 : decode cX1_findWays 20 = .ok (.iload_n 1, 1) := by decide +kernel
theorem dX1_findWays_21 : decode cX1_findWays 21 = .ok (.iconst (-1), 1) := by decide +kernel
theorem dX1_findWays_22 : decode cX1_findWays 22 = .ok (.bastore, 1) := by decide +kernel
theorem dX1_findWays_23 : decode cX1_findWays 23 = .ok (.iinc 1 1, 3) := by decide +kernel
theorem dX1_findWays_26 : decode cX1_findWays 26 = .ok (.goto (-24), 3) := by decide +kernel
theorem dX1_findWays_29 : decode cX1_findWays 29 = .ok (.aload_n 0, 1) := by decide +kernel
theorem dX1_findWays_30 : decode cX1_findWays 30 = .ok (.getfield 26, 3) := by decide +kernel
theorem dX1_findWays_33 : decode cX1_findWays 33 = .ok (.iconst 0, 1) := by decide +kernel
theorem dX1_findWays_34 : decode cX1_findWays 34 = .ok (.iconst 0, 1) := by decide +kernel
theorem dX1_findWays_35 : decode cX1_findWays 35 = .ok (.iastore, 1) := by decide +kernel
theorem dX1_findWays_36 : decode cX1_findWays 36 = .ok (.iconst 0, 1) := by decide +kernel
theorem dX1_findWays_37 : decode cX1_findWays 37 = .ok (.istore_n 1, 1) := by decide +kernel
theorem dX1_findWays_38 : decode cX1_findWays 38 = .ok (.iload_n 1, 1) := by decide +kernel
theorem dX1_findWays_39 : decode cX1_findWays 39 = .ok (.bipush 16, 2) := by decide +kernel
theorem dX1_findWays_41 : decode cX1_findWays 41 = .ok (.if_icmp .gt 73, 3) := by decide +kernel
theorem dX1_findWays_44 : decode cX1_findWays 44 = .ok (.iconst 0, 1) := by decide +kernel
theorem dX1_findWays_45 : decode cX1_findWays 45 = .ok (.istore_n 2, 1) := by decide +kernel
theorem dX1_findWays_46 : decode cX1_findWays 46 = .ok (.iload_n 2, 1) := by decide +kernel
theorem dX1_findWays_47 : decode cX1_findWays 47 = .ok (.bipush 16, 2) := by decide +kernel
theorem dX1_findWays_49 : decode cX1_findWays 49 = .ok (.if_icmp .ge 40, 3) := by decide +kernel
theorem dX1_findWays_52 : decode cX1_findWays 52 = .ok (.aload_n 0, 1) := by decide +kernel
theorem dX1_findWays_53 : decode cX1_findWays 53 = .ok (.iload_n 2, 1) := by decide +kernel
theorem dX1_findWays_54 : decode cX1_findWays 54 = .ok (.iload_n 2, 1) := by decide +kernel
theorem dX1_findWays_55 : decode cX1_findWays 55 = .ok (.iconst 1, 1) := by decide +kernel
theorem dX1_findWays_56 : decode cX1_findWays 56 = .ok (.iadd, 1) := by decide +kernel
theorem dX1_findWays_57 : decode cX1_findWays 57 = .ok (.iconst 0, 1) := by decide +kernel
theorem dX1_findWays_58 : decode cX1_findWays 58 = .ok (.bipush 16, 2) := by decide +kernel
theorem dX1_findWays_60 : decode cX1_findWays 60 = .ok (.invokevirtual 64, 3) := by decide +kernel
theorem dX1_findWays_63 : decode cX1_findWays 63 = .ok (.aload_n 0, 1) := by decide +kernel
theorem dX1_findWays_64 : decode cX1_findWays 64 = .ok (.getfield 23, 3) := by decide +kernel
theorem dX1_findWays_67 : decode cX1_findWays 67 = .ok (.iload_n 2, 1) := by decide +kernel
theorem dX1_findWays_68 : decode cX1_findWays 68 = .ok (.baload, 1) := by decide +kernel
theorem dX1_findWays_69 : decode cX1_findWays 69 = .ok (.ifCond .le 14, 3) := by decide +kernel
theorem dX1_findWays_72 : decode cX1_findWays 72 = .ok (.aload_n 0, 1) := by decide +kernel
theorem dX1_findWays_73 : decode cX1_findWays 73 = .ok (.iload_n 2, 1) := by decide +kernel
theorem dX1_findWays_74 : decode cX1_findWays 74 = .ok (.iconst 1, 1) := by decide +kernel
theorem dX1_findWays_75 : decode cX1_findWays 75 = .ok (.iadd, 1) := by decide +kernel
theorem dX1_findWays_76 : decode cX1_findWays 76 = .ok (.iload_n 2, 1) := by decide +kernel
theorem dX1_findWays_77 : decode cX1_findWays 77 = .ok (.iconst 0, 1) := by decide +kernel
theorem dX1_findWays_78 : decode cX1_findWays 78 = .ok (.bipush 17, 2) := by decide +kernel
theorem dX1_findWays_80 : decode cX1_findWays 80 = .ok (.invokevirtual 64, 3) := by decide +kernel
theorem dX1_findWays_83 : decode cX1_findWays 83 = .ok (.iinc 2 1, 3) := by decide +kernel
theorem dX1_findWays_86 : decode cX1_findWays 86 = .ok (.goto (-40), 3) := by decide +kernel
theorem dX1_findWays_89 : decode cX1_findWays 89 = .ok (.iconst 0, 1) := by decide +kernel
theorem dX1_findWays_90 : decode cX1_findWays 90 = .ok (.istore_n 2, 1) := by decide +kernel
theorem dX1_findWays_91 : decode cX1_findWays 91 = .ok (.iload_n 2, 1) := by decide +kernel
theorem dX1_findWays_92 : decode cX1_findWays 92 = .ok (.bipush 8, 2) := by decide +kernel
theorem dX1_findWays_94 : decode cX1_findWays 94 = .ok (.if_icmp .ge 14, 3) := by decide +kernel
theorem dX1_findWays_97 : decode cX1_findWays 97 = .ok (.aload_n 0, 1) := by decide +kernel
theorem dX1_findWays_98 : decode cX1_findWays 98 = .ok (.iload_n 2, 1) := by decide +kernel
theorem dX1_findWays_99 : decode cX1_findWays 99 = .ok (.invokevirtual 68, 3) := by decide +kernel
theorem dX1_findWays_102 : decode cX1_findWays 102 = .ok (.iinc 2 1, 3) := by decide +kernel
theorem dX1_findWays_105 : decode cX1_findWays 105 = .ok (.goto (-14), 3) := by decide +kernel
theorem dX1_findWays_108 : decode cX1_findWays 108 = .ok (.iinc 1 1, 3) := by decide +kernel
theorem dX1_findWays_111 : decode cX1_findWays 111 = .ok (.goto (-73), 3) := by decide +kernel
theorem dX1_findWays_114 : decode cX1_findWays 114 = .ok (.return_, 1) := by decide +kernel
abbrev cX1_improve : ByteArray := prog_1_method_14_code
def yX1_improve : MethodName := ⟨RX1, "improve", "(IIII)V"⟩
theorem dX1_improve_0 : decode cX1_improve 0 = .ok (.aload_n 0, 1) := by decide +kernel
theorem dX1_improve_1 : decode cX1_improve 1 = .ok (.getfield 26, 3) := by decide +kernel
theorem dX1_improve_4 : decode cX1_improve 4 = .ok (.iload_n 1, 1) := by decide +kernel
theorem dX1_improve_5 : decode cX1_improve 5 = .ok (.iaload, 1) := by decide +kernel
theorem dX1_improve_6 : decode cX1_improve 6 = .ok (.ldc 63, 2) := by decide +kernel
theorem dX1_improve_8 : decode cX1_improve 8 = .ok (.if_icmp .le 43, 3) := by decide +kernel
theorem dX1_improve_11 : decode cX1_improve 11 = .ok (.aload_n 0, 1) := by decide +kernel
theorem dX1_improve_12 : decode cX1_improve 12 = .ok (.getfield 26, 3) := by decide +kernel
theorem dX1_improve_15 : decode cX1_improve 15 = .ok (.iload_n 1, 1) := by decide +kernel
theorem dX1_improve_16 : decode cX1_improve 16 = .ok (.iaload, 1) := by decide +kernel
theorem dX1_improve_17 : decode cX1_improve 17 = .ok (.iload_n 3, 1) := by decide +kernel
theorem dX1_improve_18 : decode cX1_improve 18 = .ok (.iadd, 1) := by decide +kernel
theorem dX1_improve_19 : decode cX1_improve 19 = .ok (.aload_n 0, 1) := by decide +kernel
theorem dX1_improve_20 : decode cX1_improve 20 = .ok (.getfield 26, 3) := by decide +kernel
theorem dX1_improve_23 : decode cX1_improve 23 = .ok (.iload_n 2, 1) := by decide +kernel
theorem dX1_improve_24 : decode cX1_improve 24 = .ok (.iaload, 1) := by decide +kernel
theorem dX1_improve_25 : decode cX1_improve 25 = .ok (.if_icmp .le 26, 3) := by decide +kernel
theorem dX1_improve_28 : decode cX1_improve 28 = .ok (.aload_n 0, 1) := by decide +kernel
theorem dX1_improve_29 : decode cX1_improve 29 = .ok (.getfield 26, 3) := by decide +kernel
theorem dX1_improve_32 : decode cX1_improve 32 = .ok (.iload_n 2, 1) := by decide +kernel
theorem dX1_improve_33 : decode cX1_improve 33 = .ok (.aload_n 0, 1) := by decide +kernel
theorem dX1_improve_34 : decode cX1_improve 34 = .ok (.getfield 26, 3) := by decide +kernel
theorem dX1_improve_37 : decode cX1_improve 37 = .ok (.iload_n 1, 1) := by decide +kernel
theorem dX1_improve_38 : decode cX1_improve 38 = .ok (.iaload, 1) := by decide +kernel
theorem dX1_improve_39 : decode cX1_improve 39 = .ok (.iload_n 3, 1) := by decide +kernel
theorem dX1_improve_40 : decode cX1_improve 40 = .ok (.iadd, 1) := by decide +kernel
theorem dX1_improve_41 : decode cX1_improve 41 = .ok (.iastore, 1) := by decide +kernel
theorem dX1_improve_42 : decode cX1_improve 42 = .ok (.aload_n 0, 1) := by decide +kernel
theorem dX1_improve_43 : decode cX1_improve 43 = .ok (.getfield 29, 3) := by decide +kernel
theorem dX1_improve_46 : decode cX1_improve 46 = .ok (.iload_n 2, 1) := by decide +kernel
theorem dX1_improve_47 : decode cX1_improve 47 = .ok (.iload 4, 2) := by decide +kernel
theorem dX1_improve_49 : decode cX1_improve 49 = .ok (.i2b, 1) := by decide +kernel
theorem dX1_improve_50 : decode cX1_improve 50 = .ok (.bastore, 1) := by decide +kernel
theorem dX1_improve_51 : decode cX1_improve 51 = .ok (.return_, 1) := by decide +kernel
abbrev cX1_improveByJob : ByteArray := prog_1_method_13_code
def yX1_improveByJob : MethodName := ⟨RX1, "improveByJob", "(I)V"⟩
theorem dX1_improveByJob_0 : decode cX1_improveByJob 0 = .ok (.aload_n 0, 1) := by decide +kernel
theorem dX1_improveByJob_1 : decode cX1_improveByJob 1 = .ok (.getfield 50, 3) := by decide +kernel
theorem dX1_improveByJob_4 : decode cX1_improveByJob 4 = .ok (.iload_n 1, 1) := by decide +kernel
theorem dX1_improveByJob_5 : decode cX1_improveByJob 5 = .ok (.ishr, 1) := by decide +kernel
theorem dX1_improveByJob_6 : decode cX1_improveByJob 6 = .ok (.iconst 1, 1) := by decide +kernel
theorem dX1_improveByJob_7 : decode cX1_improveByJob 7 = .ok (.iand, 1) := by decide +kernel
theorem dX1_improveByJob_8 : decode cX1_improveByJob 8 = .ok (.ifCond .eq 33, 3) := by decide +kernel
theorem dX1_improveByJob_11 : decode cX1_improveByJob 11 = .ok (.aload_n 0, 1) := by decide +kernel
theorem dX1_improveByJob_12 : decode cX1_improveByJob 12 = .ok (.aload_n 0, 1) := by decide +kernel
theorem dX1_improveByJob_13 : decode cX1_improveByJob 13 = .ok (.getfield 13, 3) := by decide +kernel
theorem dX1_improveByJob_16 : decode cX1_improveByJob 16 = .ok (.iload_n 1, 1) := by decide +kernel
theorem dX1_improveByJob_17 : decode cX1_improveByJob 17 = .ok (.baload, 1) := by decide +kernel
theorem dX1_improveByJob_18 : decode cX1_improveByJob 18 = .ok (.aload_n 0, 1) := by decide +kernel
theorem dX1_improveByJob_19 : decode cX1_improveByJob 19 = .ok (.getfield 7, 3) := by decide +kernel
theorem dX1_improveByJob_22 : decode cX1_improveByJob 22 = .ok (.iload_n 1, 1) := by decide +kernel
theorem dX1_improveByJob_23 : decode cX1_improveByJob 23 = .ok (.baload, 1) := by decide +kernel
theorem dX1_improveByJob_24 : decode cX1_improveByJob 24 = .ok (.aload_n 0, 1) := by decide +kernel
theorem dX1_improveByJob_25 : decode cX1_improveByJob 25 = .ok (.getfield 19, 3) := by decide +kernel
theorem dX1_improveByJob_28 : decode cX1_improveByJob 28 = .ok (.iload_n 1, 1) := by decide +kernel
theorem dX1_improveByJob_29 : decode cX1_improveByJob 29 = .ok (.iaload, 1) := by decide +kernel
theorem dX1_improveByJob_30 : decode cX1_improveByJob 30 = .ok (.ineg, 1) := by decide +kernel
theorem dX1_improveByJob_31 : decode cX1_improveByJob 31 = .ok (.bipush 8, 2) := by decide +kernel
theorem dX1_improveByJob_33 : decode cX1_improveByJob 33 = .ok (.iload_n 1, 1) := by decide +kernel
theorem dX1_improveByJob_34 : decode cX1_improveByJob 34 = .ok (.iadd, 1) := by decide +kernel
theorem dX1_improveByJob_35 : decode cX1_improveByJob 35 = .ok (.invokevirtual 64, 3) := by decide +kernel
theorem dX1_improveByJob_38 : decode cX1_improveByJob 38 = .ok (.goto 37, 3) := by decide +kernel
theorem dX1_improveByJob_41 : decode cX1_improveByJob 41 = .ok (.aload_n 0, 1) := by decide +kernel
theorem dX1_improveByJob_42 : decode cX1_improveByJob 42 = .ok (.getfield 47, 3) := by decide +kernel
theorem dX1_improveByJob_45 : decode cX1_improveByJob 45 = .ok (.iload_n 1, 1) := by decide +kernel
theorem dX1_improveByJob_46 : decode cX1_improveByJob 46 = .ok (.ishr, 1) := by decide +kernel
theorem dX1_improveByJob_47 : decode cX1_improveByJob 47 = .ok (.iconst 1, 1) := by decide +kernel
theorem dX1_improveByJob_48 : decode cX1_improveByJob 48 = .ok (.iand, 1) := by decide +kernel
theorem dX1_improveByJob_49 : decode cX1_improveByJob 49 = .ok (.ifCond .eq 26, 3) := by decide +kernel
theorem dX1_improveByJob_52 : decode cX1_improveByJob 52 = .ok (.aload_n 0, 1) := by decide +kernel
theorem dX1_improveByJob_53 : decode cX1_improveByJob 53 = .ok (.aload_n 0, 1) := by decide +kernel
theorem dX1_improveByJob_54 : decode cX1_improveByJob 54 = .ok (.getfield 7, 3) := by decide +kernel
theorem dX1_improveByJob_57 : decode cX1_improveByJob 57 = .ok (.iload_n 1, 1) := by decide +kernel
theorem dX1_improveByJob_58 : decode cX1_improveByJob 58 = .ok (.baload, 1) := by decide +kernel
theorem dX1_improveByJob_59 : decode cX1_improveByJob 59 = .ok (.aload_n 0, 1) := by decide +kernel
theorem dX1_improveByJob_60 : decode cX1_improveByJob 60 = .ok (.getfield 13, 3) := by decide +kernel
theorem dX1_improveByJob_63 : decode cX1_improveByJob 63 = .ok (.iload_n 1, 1) := by decide +kernel
theorem dX1_improveByJob_64 : decode cX1_improveByJob 64 = .ok (.baload, 1) := by decide +kernel
theorem dX1_improveByJob_65 : decode cX1_improveByJob 65 = .ok (.aload_n 0, 1) := by decide +kernel
theorem dX1_improveByJob_66 : decode cX1_improveByJob 66 = .ok (.getfield 19, 3) := by decide +kernel
theorem dX1_improveByJob_69 : decode cX1_improveByJob 69 = .ok (.iload_n 1, 1) := by decide +kernel
theorem dX1_improveByJob_70 : decode cX1_improveByJob 70 = .ok (.iaload, 1) := by decide +kernel
theorem dX1_improveByJob_71 : decode cX1_improveByJob 71 = .ok (.iload_n 1, 1) := by decide +kernel
theorem dX1_improveByJob_72 : decode cX1_improveByJob 72 = .ok (.invokevirtual 64, 3) := by decide +kernel
theorem dX1_improveByJob_75 : decode cX1_improveByJob 75 = .ok (.return_, 1) := by decide +kernel
abbrev cX1_follow : ByteArray := prog_1_method_15_code
def yX1_follow : MethodName := ⟨RX1, "follow", "()V"⟩
theorem dX1_follow_0 : decode cX1_follow 0 = .ok (.bipush 16, 2) := by decide +kernel
theorem dX1_follow_2 : decode cX1_follow 2 = .ok (.istore_n 1, 1) := by decide +kernel
theorem dX1_follow_3 : decode cX1_follow 3 = .ok (.iconst 0, 1) := by decide +kernel
theorem dX1_follow_4 : decode cX1_follow 4 = .ok (.istore_n 2, 1) := by decide +kernel
theorem dX1_follow_5 : decode cX1_follow 5 = .ok (.iload_n 2, 1) := by decide +kernel
theorem dX1_follow_6 : decode cX1_follow 6 = .ok (.bipush 64, 2) := by decide +kernel
theorem dX1_follow_8 : decode cX1_follow 8 = .ok (.if_icmp .ge 131, 3) := by decide +kernel
theorem dX1_follow_11 : decode cX1_follow 11 = .ok (.iload_n 1, 1) := by decide +kernel
theorem dX1_follow_12 : decode cX1_follow 12 = .ok (.ifCond .le 127, 3) := by decide +kernel
theorem dX1_follow_15 : decode cX1_follow 15 = .ok (.aload_n 0, 1) := by decide +kernel
theorem dX1_follow_16 : decode cX1_follow 16 = .ok (.getfield 29, 3) := by decide +kernel
theorem dX1_follow_19 : decode cX1_follow 19 = .ok (.iload_n 1, 1) := by decide +kernel
theorem dX1_follow_20 : decode cX1_follow 20 = .ok (.baload, 1) := by decide +kernel
theorem dX1_follow_21 : decode cX1_follow 21 = .ok (.istore_n 3, 1) := by decide +kernel
theorem dX1_follow_22 : decode cX1_follow 22 = .ok (.iload_n 3, 1) := by decide +kernel
theorem dX1_follow_23 : decode cX1_follow 23 = .ok (.bipush 16, 2) := by decide +kernel
theorem dX1_follow_25 : decode cX1_follow 25 = .ok (.if_icmp .ne 22, 3) := by decide +kernel
theorem dX1_follow_28 : decode cX1_follow 28 = .ok (.aload_n 0, 1) := by decide +kernel
theorem dX1_follow_29 : decode cX1_follow 29 = .ok (.getfield 23, 3) := by decide +kernel
theorem dX1_follow_32 : decode cX1_follow 32 = .ok (.iload_n 1, 1) := by decide +kernel
theorem dX1_follow_33 : decode cX1_follow 33 = .ok (.iconst 1, 1) := by decide +kernel
theorem dX1_follow_34 : decode cX1_follow 34 = .ok (.isub, 1) := by decide +kernel
theorem dX1_follow_35 : decode cX1_follow 35 = .ok (.dup2, 1) := by decide +kernel
theorem dX1_follow_36 : decode cX1_follow 36 = .ok (.baload, 1) := by decide +kernel
theorem dX1_follow_37 : decode cX1_follow 37 = .ok (.iconst 1, 1) := by decide +kernel
theorem dX1_follow_38 : decode cX1_follow 38 = .ok (.iadd, 1) := by decide +kernel
theorem dX1_follow_39 : decode cX1_follow 39 = .ok (.i2b, 1) := by decide +kernel
theorem dX1_follow_40 : decode cX1_follow 40 = .ok (.bastore, 1) := by decide +kernel
theorem dX1_follow_41 : decode cX1_follow 41 = .ok (.iinc 1 (-1), 3) := by decide +kernel
theorem dX1_follow_44 : decode cX1_follow 44 = .ok (.goto 89, 3) := by decide +kernel
theorem dX1_follow_47 : decode cX1_follow 47 = .ok (.iload_n 3, 1) := by decide +kernel
theorem dX1_follow_48 : decode cX1_follow 48 = .ok (.bipush 17, 2) := by decide +kernel
theorem dX1_follow_50 : decode cX1_follow 50 = .ok (.if_icmp .ne 20, 3) := by decide +kernel
theorem dX1_follow_53 : decode cX1_follow 53 = .ok (.aload_n 0, 1) := by decide +kernel
theorem dX1_follow_54 : decode cX1_follow 54 = .ok (.getfield 23, 3) := by decide +kernel
theorem dX1_follow_57 : decode cX1_follow 57 = .ok (.iload_n 1, 1) := by decide +kernel
theorem dX1_follow_58 : decode cX1_follow 58 = .ok (.dup2, 1) := by decide +kernel
theorem dX1_follow_59 : decode cX1_follow 59 = .ok (.baload, 1) := by decide +kernel
theorem dX1_follow_60 : decode cX1_follow 60 = .ok (.iconst 1, 1) := by decide +kernel
theorem dX1_follow_61 : decode cX1_follow 61 = .ok (.isub, 1) := by decide +kernel
theorem dX1_follow_62 : decode cX1_follow 62 = .ok (.i2b, 1) := by decide +kernel
theorem dX1_follow_63 : decode cX1_follow 63 = .ok (.bastore, 1) := by decide +kernel
theorem dX1_follow_64 : decode cX1_follow 64 = .ok (.iinc 1 1, 3) := by decide +kernel
theorem dX1_follow_67 : decode cX1_follow 67 = .ok (.goto 66, 3) := by decide +kernel
theorem dX1_follow_70 : decode cX1_follow 70 = .ok (.iload_n 3, 1) := by decide +kernel
theorem dX1_follow_71 : decode cX1_follow 71 = .ok (.bipush 8, 2) := by decide +kernel
theorem dX1_follow_73 : decode cX1_follow 73 = .ok (.if_icmp .lt 33, 3) := by decide +kernel
theorem dX1_follow_76 : decode cX1_follow 76 = .ok (.aload_n 0, 1) := by decide +kernel
theorem dX1_follow_77 : decode cX1_follow 77 = .ok (.dup, 1) := by decide +kernel
theorem dX1_follow_78 : decode cX1_follow 78 = .ok (.getfield 50, 3) := by decide +kernel
theorem dX1_follow_81 : decode cX1_follow 81 = .ok (.iconst 1, 1) := by decide +kernel
theorem dX1_follow_82 : decode cX1_follow 82 = .ok (.iload_n 3, 1) := by decide +kernel
theorem dX1_follow_83 : decode cX1_follow 83 = .ok (.bipush 8, 2) := by decide +kernel
theorem dX1_follow_85 : decode cX1_follow 85 = .ok (.isub, 1) := by decide +kernel
theorem dX1_follow_86 : decode cX1_follow 86 = .ok (.ishl, 1) := by decide +kernel
theorem dX1_follow_87 : decode cX1_follow 87 = .ok (.iconst (-1), 1) := by decide +kernel
theorem dX1_follow_88 : decode cX1_follow 88 = .ok (.ixor, 1) := by decide +kernel
theorem dX1_follow_89 : decode cX1_follow 89 = .ok (.iand, 1) := by decide +kernel
theorem dX1_follow_90 : decode cX1_follow 90 = .ok (.putfield 50, 3) := by decide +kernel
theorem dX1_follow_93 : decode cX1_follow 93 = .ok (.aload_n 0, 1) := by decide +kernel
theorem dX1_follow_94 : decode cX1_follow 94 = .ok (.getfield 13, 3) := by decide +kernel
theorem dX1_follow_97 : decode cX1_follow 97 = .ok (.iload_n 3, 1) := by decide +kernel
theorem dX1_follow_98 : decode cX1_follow 98 = .ok (.bipush 8, 2) := by decide +kernel
theorem dX1_follow_100 : decode cX1_follow 100 = .ok (.isub, 1) := by decide +kernel
theorem dX1_follow_101 : decode cX1_follow 101 = .ok (.baload, 1) := by decide +kernel
theorem dX1_follow_102 : decode cX1_follow 102 = .ok (.istore_n 1, 1) := by decide +kernel
theorem dX1_follow_103 : decode cX1_follow 103 = .ok (.goto 30, 3) := by decide +kernel
theorem dX1_follow_106 : decode cX1_follow 106 = .ok (.iload_n 3, 1) := by decide +kernel
theorem dX1_follow_107 : decode cX1_follow 107 = .ok (.ifCond .lt 25, 3) := by decide +kernel
theorem dX1_follow_110 : decode cX1_follow 110 = .ok (.aload_n 0, 1) := by decide +kernel
theorem dX1_follow_111 : decode cX1_follow 111 = .ok (.dup, 1) := by decide +kernel
theorem dX1_follow_112 : decode cX1_follow 112 = .ok (.getfield 50, 3) := by decide +kernel
theorem dX1_follow_115 : decode cX1_follow 115 = .ok (.iconst 1, 1) := by decide +kernel
theorem dX1_follow_116 : decode cX1_follow 116 = .ok (.iload_n 3, 1) := by decide +kernel
theorem dX1_follow_117 : decode cX1_follow 117 = .ok (.ishl, 1) := by decide +kernel
theorem dX1_follow_118 : decode cX1_follow 118 = .ok (.ior, 1) := by decide +kernel
theorem dX1_follow_119 : decode cX1_follow 119 = .ok (.putfield 50, 3) := by decide +kernel
theorem dX1_follow_122 : decode cX1_follow 122 = .ok (.aload_n 0, 1) := by decide +kernel
theorem dX1_follow_123 : decode cX1_follow 123 = .ok (.getfield 7, 3) := by decide +kernel
theorem dX1_follow_126 : decode cX1_follow 126 = .ok (.iload_n 3, 1) := by decide +kernel
theorem dX1_follow_127 : decode cX1_follow 127 = .ok (.baload, 1) := by decide +kernel
theorem dX1_follow_128 : decode cX1_follow 128 = .ok (.istore_n 1, 1) := by decide +kernel
theorem dX1_follow_129 : decode cX1_follow 129 = .ok (.goto 4, 3) := by decide +kernel
theorem dX1_follow_132 : decode cX1_follow 132 = .ok (.return_, 1) := by decide +kernel
theorem dX1_follow_133 : decode cX1_follow 133 = .ok (.iinc 2 1, 3) := by decide +kernel
theorem dX1_follow_136 : decode cX1_follow 136 = .ok (.goto (-131), 3) := by decide +kernel
theorem dX1_follow_139 : decode cX1_follow 139 = .ok (.return_, 1) := by decide +kernel
abbrev cX1_total : ByteArray := prog_1_method_22_code
def yX1_total : MethodName := ⟨RX1, "total", "()I"⟩
theorem dX1_total_0 : decode cX1_total 0 = .ok (.aload_n 0, 1) := by decide +kernel
theorem dX1_total_1 : decode cX1_total 1 = .ok (.invokevirtual 88, 3) := by decide +kernel
theorem dX1_total_4 : decode cX1_total 4 = .ok (.aload_n 0, 1) := by decide +kernel
theorem dX1_total_5 : decode cX1_total 5 = .ok (.aload_n 0, 1) := by decide +kernel
theorem dX1_total_6 : decode cX1_total 6 = .ok (.getfield 78, 3) := by decide +kernel
theorem dX1_total_9 : decode cX1_total 9 = .ok (.invokevirtual 81, 3) := by decide +kernel
theorem dX1_total_12 : decode cX1_total 12 = .ok (.istore_n 1, 1) := by decide +kernel
theorem dX1_total_13 : decode cX1_total 13 = .ok (.iload_n 1, 1) := by decide +kernel
theorem dX1_total_14 : decode cX1_total 14 = .ok (.invokestatic 84, 3) := by decide +kernel
theorem dX1_total_17 : decode cX1_total 17 = .ok (.ireturn, 1) := by decide +kernel
abbrev cX1_markedSum : ByteArray := prog_1_method_16_code
def yX1_markedSum : MethodName := ⟨RX1, "markedSum", "(I)I"⟩
theorem dX1_markedSum_0 : decode cX1_markedSum 0 = .ok (.iconst 0, 1) := by decide +kernel
theorem dX1_markedSum_1 : decode cX1_markedSum 1 = .ok (.istore_n 2, 1) := by decide +kernel
theorem dX1_markedSum_2 : decode cX1_markedSum 2 = .ok (.iconst 0, 1) := by decide +kernel
theorem dX1_markedSum_3 : decode cX1_markedSum 3 = .ok (.istore_n 3, 1) := by decide +kernel
theorem dX1_markedSum_4 : decode cX1_markedSum 4 = .ok (.iload_n 3, 1) := by decide +kernel
theorem dX1_markedSum_5 : decode cX1_markedSum 5 = .ok (.bipush 8, 2) := by decide +kernel
theorem dX1_markedSum_7 : decode cX1_markedSum 7 = .ok (.if_icmp .ge 25, 3) := by decide +kernel
theorem dX1_markedSum_10 : decode cX1_markedSum 10 = .ok (.iload_n 1, 1) := by decide +kernel
theorem dX1_markedSum_11 : decode cX1_markedSum 11 = .ok (.iload_n 3, 1) := by decide +kernel
theorem dX1_markedSum_12 : decode cX1_markedSum 12 = .ok (.ishr, 1) := by decide +kernel
theorem dX1_markedSum_13 : decode cX1_markedSum 13 = .ok (.iconst 1, 1) := by decide +kernel
theorem dX1_markedSum_14 : decode cX1_markedSum 14 = .ok (.iand, 1) := by decide +kernel
theorem dX1_markedSum_15 : decode cX1_markedSum 15 = .ok (.ifCond .eq 11, 3) := by decide +kernel
theorem dX1_markedSum_18 : decode cX1_markedSum 18 = .ok (.iload_n 2, 1) := by decide +kernel
theorem dX1_markedSum_19 : decode cX1_markedSum 19 = .ok (.aload_n 0, 1) := by decide +kernel
theorem dX1_markedSum_20 : decode cX1_markedSum 20 = .ok (.iload_n 3, 1) := by decide +kernel
theorem dX1_markedSum_21 : decode cX1_markedSum 21 = .ok (.invokevirtual 53, 3) := by decide +kernel
theorem dX1_markedSum_24 : decode cX1_markedSum 24 = .ok (.iadd, 1) := by decide +kernel
theorem dX1_markedSum_25 : decode cX1_markedSum 25 = .ok (.istore_n 2, 1) := by decide +kernel
theorem dX1_markedSum_26 : decode cX1_markedSum 26 = .ok (.iinc 3 1, 3) := by decide +kernel
theorem dX1_markedSum_29 : decode cX1_markedSum 29 = .ok (.goto (-25), 3) := by decide +kernel
theorem dX1_markedSum_32 : decode cX1_markedSum 32 = .ok (.iload_n 2, 1) := by decide +kernel
theorem dX1_markedSum_33 : decode cX1_markedSum 33 = .ok (.ireturn, 1) := by decide +kernel
abbrev cX1_plain : ByteArray := prog_1_method_18_code
def yX1_plain : MethodName := ⟨RX1, "plain", "(I)I"⟩
theorem dX1_plain_0 : decode cX1_plain 0 = .ok (.iload_n 0, 1) := by decide +kernel
theorem dX1_plain_1 : decode cX1_plain 1 = .ok (.bipush 8, 2) := by decide +kernel
theorem dX1_plain_3 : decode cX1_plain 3 = .ok (.ishr, 1) := by decide +kernel
theorem dX1_plain_4 : decode cX1_plain 4 = .ok (.ireturn, 1) := by decide +kernel
abbrev cX1_fits : ByteArray := prog_1_method_25_code
def yX1_fits : MethodName := ⟨RX1, "fits", "(I)Z"⟩
theorem dX1_fits_0 : decode cX1_fits 0 = .ok (.iload_n 1, 1) := by decide +kernel
theorem dX1_fits_1 : decode cX1_fits 1 = .ok (.aload_n 0, 1) := by decide +kernel
theorem dX1_fits_2 : decode cX1_fits 2 = .ok (.getfield 36, 3) := by decide +kernel
theorem dX1_fits_5 : decode cX1_fits 5 = .ok (.iconst (-1), 1) := by decide +kernel
theorem dX1_fits_6 : decode cX1_fits 6 = .ok (.ixor, 1) := by decide +kernel
theorem dX1_fits_7 : decode cX1_fits 7 = .ok (.iand, 1) := by decide +kernel
theorem dX1_fits_8 : decode cX1_fits 8 = .ok (.ifCond .ne 19, 3) := by decide +kernel
theorem dX1_fits_11 : decode cX1_fits 11 = .ok (.aload_n 0, 1) := by decide +kernel
theorem dX1_fits_12 : decode cX1_fits 12 = .ok (.iload_n 1, 1) := by decide +kernel
theorem dX1_fits_13 : decode cX1_fits 13 = .ok (.invokevirtual 95, 3) := by decide +kernel
theorem dX1_fits_16 : decode cX1_fits 16 = .ok (.aload_n 0, 1) := by decide +kernel
theorem dX1_fits_17 : decode cX1_fits 17 = .ok (.getfield 32, 3) := by decide +kernel
theorem dX1_fits_20 : decode cX1_fits 20 = .ok (.if_icmp .gt 7, 3) := by decide +kernel
theorem dX1_fits_23 : decode cX1_fits 23 = .ok (.iconst 1, 1) := by decide +kernel
theorem dX1_fits_24 : decode cX1_fits 24 = .ok (.goto 4, 3) := by decide +kernel
theorem dX1_fits_27 : decode cX1_fits 27 = .ok (.iconst 0, 1) := by decide +kernel
theorem dX1_fits_28 : decode cX1_fits 28 = .ok (.ireturn, 1) := by decide +kernel
abbrev cX1_greatestCrowd : ByteArray := prog_1_method_24_code
def yX1_greatestCrowd : MethodName := ⟨RX1, "greatestCrowd", "(I)I"⟩
theorem dX1_greatestCrowd_0 : decode cX1_greatestCrowd 0 = .ok (.iconst 0, 1) := by decide +kernel
theorem dX1_greatestCrowd_1 : decode cX1_greatestCrowd 1 = .ok (.istore_n 2, 1) := by decide +kernel
theorem dX1_greatestCrowd_2 : decode cX1_greatestCrowd 2 = .ok (.iconst 0, 1) := by decide +kernel
theorem dX1_greatestCrowd_3 : decode cX1_greatestCrowd 3 = .ok (.istore_n 3, 1) := by decide +kernel
theorem dX1_greatestCrowd_4 : decode cX1_greatestCrowd 4 = .ok (.iload_n 3, 1) := by decide +kernel
theorem dX1_greatestCrowd_5 : decode cX1_greatestCrowd 5 = .ok (.bipush 16, 2) := by decide +kernel
theorem dX1_greatestCrowd_7 : decode cX1_greatestCrowd 7 = .ok (.if_icmp .ge 30, 3) := by decide +kernel
theorem dX1_greatestCrowd_10 : decode cX1_greatestCrowd 10 = .ok (.aload_n 0, 1) := by decide +kernel
theorem dX1_greatestCrowd_11 : decode cX1_greatestCrowd 11 = .ok (.iload_n 1, 1) := by decide +kernel
theorem dX1_greatestCrowd_12 : decode cX1_greatestCrowd 12 = .ok (.iload_n 3, 1) := by decide +kernel
theorem dX1_greatestCrowd_13 : decode cX1_greatestCrowd 13 = .ok (.invokevirtual 91, 3) := by decide +kernel
theorem dX1_greatestCrowd_16 : decode cX1_greatestCrowd 16 = .ok (.istore 4, 2) := by decide +kernel
theorem dX1_greatestCrowd_18 : decode cX1_greatestCrowd 18 = .ok (.iload 4, 2) := by decide +kernel
theorem dX1_greatestCrowd_20 : decode cX1_greatestCrowd 20 = .ok (.iload_n 2, 1) := by decide +kernel
theorem dX1_greatestCrowd_21 : decode cX1_greatestCrowd 21 = .ok (.if_icmp .le 8, 3) := by decide +kernel
theorem dX1_greatestCrowd_24 : decode cX1_greatestCrowd 24 = .ok (.iload 4, 2) := by decide +kernel
theorem dX1_greatestCrowd_26 : decode cX1_greatestCrowd 26 = .ok (.goto 4, 3) := by decide +kernel
theorem dX1_greatestCrowd_29 : decode cX1_greatestCrowd 29 = .ok (.iload_n 2, 1) := by decide +kernel
theorem dX1_greatestCrowd_30 : decode cX1_greatestCrowd 30 = .ok (.istore_n 2, 1) := by decide +kernel
theorem dX1_greatestCrowd_31 : decode cX1_greatestCrowd 31 = .ok (.iinc 3 1, 3) := by decide +kernel
theorem dX1_greatestCrowd_34 : decode cX1_greatestCrowd 34 = .ok (.goto (-30), 3) := by decide +kernel
theorem dX1_greatestCrowd_37 : decode cX1_greatestCrowd 37 = .ok (.iload_n 2, 1) := by decide +kernel
theorem dX1_greatestCrowd_38 : decode cX1_greatestCrowd 38 = .ok (.ireturn, 1) := by decide +kernel
abbrev cX1_crowd : ByteArray := prog_1_method_23_code
def yX1_crowd : MethodName := ⟨RX1, "crowd", "(II)I"⟩
theorem dX1_crowd_0 : decode cX1_crowd 0 = .ok (.iconst 0, 1) := by decide +kernel
theorem dX1_crowd_1 : decode cX1_crowd 1 = .ok (.istore_n 3, 1) := by decide +kernel
theorem dX1_crowd_2 : decode cX1_crowd 2 = .ok (.iconst 0, 1) := by decide +kernel
theorem dX1_crowd_3 : decode cX1_crowd 3 = .ok (.istore 4, 2) := by decide +kernel
theorem dX1_crowd_5 : decode cX1_crowd 5 = .ok (.iload 4, 2) := by decide +kernel
theorem dX1_crowd_7 : decode cX1_crowd 7 = .ok (.bipush 8, 2) := by decide +kernel
theorem dX1_crowd_9 : decode cX1_crowd 9 = .ok (.if_icmp .ge 43, 3) := by decide +kernel
theorem dX1_crowd_12 : decode cX1_crowd 12 = .ok (.iload_n 1, 1) := by decide +kernel
theorem dX1_crowd_13 : decode cX1_crowd 13 = .ok (.iload 4, 2) := by decide +kernel
theorem dX1_crowd_15 : decode cX1_crowd 15 = .ok (.ishr, 1) := by decide +kernel
theorem dX1_crowd_16 : decode cX1_crowd 16 = .ok (.iconst 1, 1) := by decide +kernel
theorem dX1_crowd_17 : decode cX1_crowd 17 = .ok (.iand, 1) := by decide +kernel
theorem dX1_crowd_18 : decode cX1_crowd 18 = .ok (.ifCond .eq 28, 3) := by decide +kernel
theorem dX1_crowd_21 : decode cX1_crowd 21 = .ok (.aload_n 0, 1) := by decide +kernel
theorem dX1_crowd_22 : decode cX1_crowd 22 = .ok (.getfield 7, 3) := by decide +kernel
theorem dX1_crowd_25 : decode cX1_crowd 25 = .ok (.iload 4, 2) := by decide +kernel
theorem dX1_crowd_27 : decode cX1_crowd 27 = .ok (.baload, 1) := by decide +kernel
theorem dX1_crowd_28 : decode cX1_crowd 28 = .ok (.iload_n 2, 1) := by decide +kernel
theorem dX1_crowd_29 : decode cX1_crowd 29 = .ok (.if_icmp .gt 17, 3) := by decide +kernel
theorem dX1_crowd_32 : decode cX1_crowd 32 = .ok (.iload_n 2, 1) := by decide +kernel
theorem dX1_crowd_33 : decode cX1_crowd 33 = .ok (.aload_n 0, 1) := by decide +kernel
theorem dX1_crowd_34 : decode cX1_crowd 34 = .ok (.getfield 13, 3) := by decide +kernel
theorem dX1_crowd_37 : decode cX1_crowd 37 = .ok (.iload 4, 2) := by decide +kernel
theorem dX1_crowd_39 : decode cX1_crowd 39 = .ok (.baload, 1) := by decide +kernel
theorem dX1_crowd_40 : decode cX1_crowd 40 = .ok (.if_icmp .ge 6, 3) := by decide +kernel
theorem dX1_crowd_43 : decode cX1_crowd 43 = .ok (.iinc 3 1, 3) := by decide +kernel
theorem dX1_crowd_46 : decode cX1_crowd 46 = .ok (.iinc 4 1, 3) := by decide +kernel
theorem dX1_crowd_49 : decode cX1_crowd 49 = .ok (.goto (-44), 3) := by decide +kernel
theorem dX1_crowd_52 : decode cX1_crowd 52 = .ok (.iload_n 3, 1) := by decide +kernel
theorem dX1_crowd_53 : decode cX1_crowd 53 = .ok (.ireturn, 1) := by decide +kernel
abbrev cX1_tracksFor : ByteArray := prog_1_method_26_code
def yX1_tracksFor : MethodName := ⟨RX1, "tracksFor", "(I)I"⟩
theorem dX1_tracksFor_0 : decode cX1_tracksFor 0 = .ok (.aload_n 0, 1) := by decide +kernel
theorem dX1_tracksFor_1 : decode cX1_tracksFor 1 = .ok (.iload_n 1, 1) := by decide +kernel
theorem dX1_tracksFor_2 : decode cX1_tracksFor 2 = .ok (.aload_n 0, 1) := by decide +kernel
theorem dX1_tracksFor_3 : decode cX1_tracksFor 3 = .ok (.getfield 36, 3) := by decide +kernel
theorem dX1_tracksFor_6 : decode cX1_tracksFor 6 = .ok (.iand, 1) := by decide +kernel
theorem dX1_tracksFor_7 : decode cX1_tracksFor 7 = .ok (.invokevirtual 95, 3) := by decide +kernel
theorem dX1_tracksFor_10 : decode cX1_tracksFor 10 = .ok (.ireturn, 1) := by decide +kernel
abbrev cX1_price : ByteArray := prog_1_method_27_code
def yX1_price : MethodName := ⟨RX1, "price", "(I)I"⟩
theorem dX1_price_0 : decode cX1_price 0 = .ok (.aload_n 0, 1) := by decide +kernel
theorem dX1_price_1 : decode cX1_price 1 = .ok (.iload_n 1, 1) := by decide +kernel
theorem dX1_price_2 : decode cX1_price 2 = .ok (.invokevirtual 39, 3) := by decide +kernel
theorem dX1_price_5 : decode cX1_price 5 = .ok (.ifCond .ne 5, 3) := by decide +kernel
theorem dX1_price_8 : decode cX1_price 8 = .ok (.iconst (-1), 1) := by decide +kernel
theorem dX1_price_9 : decode cX1_price 9 = .ok (.ireturn, 1) := by decide +kernel
theorem dX1_price_10 : decode cX1_price 10 = .ok (.aload_n 0, 1) := by decide +kernel
theorem dX1_price_11 : decode cX1_price 11 = .ok (.iconst 1, 1) := by decide +kernel
theorem dX1_price_12 : decode cX1_price 12 = .ok (.iload_n 1, 1) := by decide +kernel
theorem dX1_price_13 : decode cX1_price 13 = .ok (.ishl, 1) := by decide +kernel
theorem dX1_price_14 : decode cX1_price 14 = .ok (.iconst 0, 1) := by decide +kernel
theorem dX1_price_15 : decode cX1_price 15 = .ok (.invokevirtual 98, 3) := by decide +kernel
theorem dX1_price_18 : decode cX1_price 18 = .ok (.istore_n 2, 1) := by decide +kernel
theorem dX1_price_19 : decode cX1_price 19 = .ok (.iload_n 2, 1) := by decide +kernel
theorem dX1_price_20 : decode cX1_price 20 = .ok (.ifCond .ge 6, 3) := by decide +kernel
theorem dX1_price_23 : decode cX1_price 23 = .ok (.bipush 21, 2) := by decide +kernel
theorem dX1_price_25 : decode cX1_price 25 = .ok (.ireturn, 1) := by decide +kernel
theorem dX1_price_26 : decode cX1_price 26 = .ok (.aload_n 0, 1) := by decide +kernel
theorem dX1_price_27 : decode cX1_price 27 = .ok (.iload_n 2, 1) := by decide +kernel
theorem dX1_price_28 : decode cX1_price 28 = .ok (.iconst 1, 1) := by decide +kernel
theorem dX1_price_29 : decode cX1_price 29 = .ok (.iload_n 1, 1) := by decide +kernel
theorem dX1_price_30 : decode cX1_price 30 = .ok (.ishl, 1) := by decide +kernel
theorem dX1_price_31 : decode cX1_price 31 = .ok (.iconst (-1), 1) := by decide +kernel
theorem dX1_price_32 : decode cX1_price 32 = .ok (.ixor, 1) := by decide +kernel
theorem dX1_price_33 : decode cX1_price 33 = .ok (.iand, 1) := by decide +kernel
theorem dX1_price_34 : decode cX1_price 34 = .ok (.invokevirtual 81, 3) := by decide +kernel
theorem dX1_price_37 : decode cX1_price 37 = .ok (.istore_n 3, 1) := by decide +kernel
theorem dX1_price_38 : decode cX1_price 38 = .ok (.aload_n 0, 1) := by decide +kernel
theorem dX1_price_39 : decode cX1_price 39 = .ok (.iconst 0, 1) := by decide +kernel
theorem dX1_price_40 : decode cX1_price 40 = .ok (.iconst 1, 1) := by decide +kernel
theorem dX1_price_41 : decode cX1_price 41 = .ok (.iload_n 1, 1) := by decide +kernel
theorem dX1_price_42 : decode cX1_price 42 = .ok (.ishl, 1) := by decide +kernel
theorem dX1_price_43 : decode cX1_price 43 = .ok (.invokevirtual 98, 3) := by decide +kernel
theorem dX1_price_46 : decode cX1_price 46 = .ok (.istore 4, 2) := by decide +kernel
theorem dX1_price_48 : decode cX1_price 48 = .ok (.aload_n 0, 1) := by decide +kernel
theorem dX1_price_49 : decode cX1_price 49 = .ok (.iload 4, 2) := by decide +kernel
theorem dX1_price_51 : decode cX1_price 51 = .ok (.invokevirtual 81, 3) := by decide +kernel
theorem dX1_price_54 : decode cX1_price 54 = .ok (.iload_n 3, 1) := by decide +kernel
theorem dX1_price_55 : decode cX1_price 55 = .ok (.isub, 1) := by decide +kernel
theorem dX1_price_56 : decode cX1_price 56 = .ok (.istore 5, 2) := by decide +kernel
theorem dX1_price_58 : decode cX1_price 58 = .ok (.iconst 1, 1) := by decide +kernel
theorem dX1_price_59 : decode cX1_price 59 = .ok (.istore 6, 2) := by decide +kernel
theorem dX1_price_61 : decode cX1_price 61 = .ok (.iload 6, 2) := by decide +kernel
theorem dX1_price_63 : decode cX1_price 63 = .ok (.bipush 20, 2) := by decide +kernel
theorem dX1_price_65 : decode cX1_price 65 = .ok (.if_icmp .gt 30, 3) := by decide +kernel
theorem dX1_price_68 : decode cX1_price 68 = .ok (.iload 6, 2) := by decide +kernel
theorem dX1_price_70 : decode cX1_price 70 = .ok (.sipush 256, 3) := by decide +kernel
theorem dX1_price_73 : decode cX1_price 73 = .ok (.imul, 1) := by decide +kernel
theorem dX1_price_74 : decode cX1_price 74 = .ok (.iconst 1, 1) := by decide +kernel
theorem dX1_price_75 : decode cX1_price 75 = .ok (.bipush 7, 2) := by decide +kernel
theorem dX1_price_77 : decode cX1_price 77 = .ok (.iload_n 1, 1) := by decide +kernel
theorem dX1_price_78 : decode cX1_price 78 = .ok (.isub, 1) := by decide +kernel
theorem dX1_price_79 : decode cX1_price 79 = .ok (.ishl, 1) := by decide +kernel
theorem dX1_price_80 : decode cX1_price 80 = .ok (.iadd, 1) := by decide +kernel
theorem dX1_price_81 : decode cX1_price 81 = .ok (.iload 5, 2) := by decide +kernel
theorem dX1_price_83 : decode cX1_price 83 = .ok (.if_icmp .le 6, 3) := by decide +kernel
theorem dX1_price_86 : decode cX1_price 86 = .ok (.iload 6, 2) := by decide +kernel
theorem dX1_price_88 : decode cX1_price 88 = .ok (.ireturn, 1) := by decide +kernel
theorem dX1_price_89 : decode cX1_price 89 = .ok (.iinc 6 1, 3) := by decide +kernel
theorem dX1_price_92 : decode cX1_price 92 = .ok (.goto (-31), 3) := by decide +kernel
theorem dX1_price_95 : decode cX1_price 95 = .ok (.bipush 21, 2) := by decide +kernel
theorem dX1_price_97 : decode cX1_price 97 = .ok (.ireturn, 1) := by decide +kernel
abbrev cX1_bestWith : ByteArray := prog_1_method_20_code
def yX1_bestWith : MethodName := ⟨RX1, "bestWith", "(II)I"⟩
theorem dX1_bestWith_0 : decode cX1_bestWith 0 = .ok (.aload_n 0, 1) := by decide +kernel
theorem dX1_bestWith_1 : decode cX1_bestWith 1 = .ok (.aload_n 0, 1) := by decide +kernel
theorem dX1_bestWith_2 : decode cX1_bestWith 2 = .ok (.getfield 36, 3) := by decide +kernel
theorem dX1_bestWith_5 : decode cX1_bestWith 5 = .ok (.iload_n 2, 1) := by decide +kernel
theorem dX1_bestWith_6 : decode cX1_bestWith 6 = .ok (.iconst (-1), 1) := by decide +kernel
theorem dX1_bestWith_7 : decode cX1_bestWith 7 = .ok (.ixor, 1) := by decide +kernel
theorem dX1_bestWith_8 : decode cX1_bestWith 8 = .ok (.iand, 1) := by decide +kernel
theorem dX1_bestWith_9 : decode cX1_bestWith 9 = .ok (.invokevirtual 72, 3) := by decide +kernel
theorem dX1_bestWith_12 : decode cX1_bestWith 12 = .ok (.iconst 0, 1) := by decide +kernel
theorem dX1_bestWith_13 : decode cX1_bestWith 13 = .ok (.istore_n 3, 1) := by decide +kernel
theorem dX1_bestWith_14 : decode cX1_bestWith 14 = .ok (.iload_n 3, 1) := by decide +kernel
theorem dX1_bestWith_15 : decode cX1_bestWith 15 = .ok (.bipush 8, 2) := by decide +kernel
theorem dX1_bestWith_17 : decode cX1_bestWith 17 = .ok (.if_icmp .ge 28, 3) := by decide +kernel
theorem dX1_bestWith_20 : decode cX1_bestWith 20 = .ok (.iload_n 1, 1) := by decide +kernel
theorem dX1_bestWith_21 : decode cX1_bestWith 21 = .ok (.iload_n 3, 1) := by decide +kernel
theorem dX1_bestWith_22 : decode cX1_bestWith 22 = .ok (.ishr, 1) := by decide +kernel
theorem dX1_bestWith_23 : decode cX1_bestWith 23 = .ok (.iconst 1, 1) := by decide +kernel
theorem dX1_bestWith_24 : decode cX1_bestWith 24 = .ok (.iand, 1) := by decide +kernel
theorem dX1_bestWith_25 : decode cX1_bestWith 25 = .ok (.ifCond .eq 14, 3) := by decide +kernel
theorem dX1_bestWith_28 : decode cX1_bestWith 28 = .ok (.aload_n 0, 1) := by decide +kernel
theorem dX1_bestWith_29 : decode cX1_bestWith 29 = .ok (.getfield 19, 3) := by decide +kernel
theorem dX1_bestWith_32 : decode cX1_bestWith 32 = .ok (.iload_n 3, 1) := by decide +kernel
theorem dX1_bestWith_33 : decode cX1_bestWith 33 = .ok (.dup2, 1) := by decide +kernel
theorem dX1_bestWith_34 : decode cX1_bestWith 34 = .ok (.iaload, 1) := by decide +kernel
theorem dX1_bestWith_35 : decode cX1_bestWith 35 = .ok (.ldc 87, 2) := by decide +kernel
theorem dX1_bestWith_37 : decode cX1_bestWith 37 = .ok (.iadd, 1) := by decide +kernel
theorem dX1_bestWith_38 : decode cX1_bestWith 38 = .ok (.iastore, 1) := by decide +kernel
theorem dX1_bestWith_39 : decode cX1_bestWith 39 = .ok (.iinc 3 1, 3) := by decide +kernel
theorem dX1_bestWith_42 : decode cX1_bestWith 42 = .ok (.goto (-28), 3) := by decide +kernel
theorem dX1_bestWith_45 : decode cX1_bestWith 45 = .ok (.aload_n 0, 1) := by decide +kernel
theorem dX1_bestWith_46 : decode cX1_bestWith 46 = .ok (.aload_n 0, 1) := by decide +kernel
theorem dX1_bestWith_47 : decode cX1_bestWith 47 = .ok (.getfield 32, 3) := by decide +kernel
theorem dX1_bestWith_50 : decode cX1_bestWith 50 = .ok (.invokevirtual 75, 3) := by decide +kernel
theorem dX1_bestWith_53 : decode cX1_bestWith 53 = .ok (.iload_n 1, 1) := by decide +kernel
theorem dX1_bestWith_54 : decode cX1_bestWith 54 = .ok (.aload_n 0, 1) := by decide +kernel
theorem dX1_bestWith_55 : decode cX1_bestWith 55 = .ok (.getfield 50, 3) := by decide +kernel
theorem dX1_bestWith_58 : decode cX1_bestWith 58 = .ok (.iconst (-1), 1) := by decide +kernel
theorem dX1_bestWith_59 : decode cX1_bestWith 59 = .ok (.ixor, 1) := by decide +kernel
theorem dX1_bestWith_60 : decode cX1_bestWith 60 = .ok (.iand, 1) := by decide +kernel
theorem dX1_bestWith_61 : decode cX1_bestWith 61 = .ok (.ifCond .eq 7, 3) := by decide +kernel
theorem dX1_bestWith_64 : decode cX1_bestWith 64 = .ok (.iconst (-1), 1) := by decide +kernel
theorem dX1_bestWith_65 : decode cX1_bestWith 65 = .ok (.goto 7, 3) := by decide +kernel
theorem dX1_bestWith_68 : decode cX1_bestWith 68 = .ok (.aload_n 0, 1) := by decide +kernel
theorem dX1_bestWith_69 : decode cX1_bestWith 69 = .ok (.getfield 50, 3) := by decide +kernel
theorem dX1_bestWith_72 : decode cX1_bestWith 72 = .ok (.ireturn, 1) := by decide +kernel
abbrev cX1_totalWith : ByteArray := prog_1_method_28_code
def yX1_totalWith : MethodName := ⟨RX1, "totalWith", "(II)I"⟩
theorem dX1_totalWith_0 : decode cX1_totalWith 0 = .ok (.iload_n 1, 1) := by decide +kernel
theorem dX1_totalWith_1 : decode cX1_totalWith 1 = .ok (.iload_n 2, 1) := by decide +kernel
theorem dX1_totalWith_2 : decode cX1_totalWith 2 = .ok (.iand, 1) := by decide +kernel
theorem dX1_totalWith_3 : decode cX1_totalWith 3 = .ok (.aload_n 0, 1) := by decide +kernel
theorem dX1_totalWith_4 : decode cX1_totalWith 4 = .ok (.getfield 36, 3) := by decide +kernel
theorem dX1_totalWith_7 : decode cX1_totalWith 7 = .ok (.iand, 1) := by decide +kernel
theorem dX1_totalWith_8 : decode cX1_totalWith 8 = .ok (.ifCond .eq 5, 3) := by decide +kernel
theorem dX1_totalWith_11 : decode cX1_totalWith 11 = .ok (.iconst (-1), 1) := by decide +kernel
theorem dX1_totalWith_12 : decode cX1_totalWith 12 = .ok (.ireturn, 1) := by decide +kernel
theorem dX1_totalWith_13 : decode cX1_totalWith 13 = .ok (.aload_n 0, 1) := by decide +kernel
theorem dX1_totalWith_14 : decode cX1_totalWith 14 = .ok (.iload_n 1, 1) := by decide +kernel
theorem dX1_totalWith_15 : decode cX1_totalWith 15 = .ok (.aload_n 0, 1) := by decide +kernel
theorem dX1_totalWith_16 : decode cX1_totalWith 16 = .ok (.getfield 36, 3) := by decide +kernel
theorem dX1_totalWith_19 : decode cX1_totalWith 19 = .ok (.iand, 1) := by decide +kernel
theorem dX1_totalWith_20 : decode cX1_totalWith 20 = .ok (.iload_n 2, 1) := by decide +kernel
theorem dX1_totalWith_21 : decode cX1_totalWith 21 = .ok (.invokevirtual 98, 3) := by decide +kernel
theorem dX1_totalWith_24 : decode cX1_totalWith 24 = .ok (.istore_n 3, 1) := by decide +kernel
theorem dX1_totalWith_25 : decode cX1_totalWith 25 = .ok (.iload_n 3, 1) := by decide +kernel
theorem dX1_totalWith_26 : decode cX1_totalWith 26 = .ok (.ifCond .ge 7, 3) := by decide +kernel
theorem dX1_totalWith_29 : decode cX1_totalWith 29 = .ok (.iconst 0, 1) := by decide +kernel
theorem dX1_totalWith_30 : decode cX1_totalWith 30 = .ok (.goto 8, 3) := by decide +kernel
theorem dX1_totalWith_33 : decode cX1_totalWith 33 = .ok (.aload_n 0, 1) := by decide +kernel
theorem dX1_totalWith_34 : decode cX1_totalWith 34 = .ok (.iload_n 3, 1) := by decide +kernel
theorem dX1_totalWith_35 : decode cX1_totalWith 35 = .ok (.invokevirtual 81, 3) := by decide +kernel
theorem dX1_totalWith_38 : decode cX1_totalWith 38 = .ok (.istore 4, 2) := by decide +kernel
theorem dX1_totalWith_40 : decode cX1_totalWith 40 = .ok (.iload_n 3, 1) := by decide +kernel
theorem dX1_totalWith_41 : decode cX1_totalWith 41 = .ok (.ifCond .ge 7, 3) := by decide +kernel
theorem dX1_totalWith_44 : decode cX1_totalWith 44 = .ok (.iconst (-1), 1) := by decide +kernel
theorem dX1_totalWith_45 : decode cX1_totalWith 45 = .ok (.goto 8, 3) := by decide +kernel
theorem dX1_totalWith_48 : decode cX1_totalWith 48 = .ok (.iload 4, 2) := by decide +kernel
theorem dX1_totalWith_50 : decode cX1_totalWith 50 = .ok (.invokestatic 84, 3) := by decide +kernel
theorem dX1_totalWith_53 : decode cX1_totalWith 53 = .ok (.ireturn, 1) := by decide +kernel
abbrev cX1_gain : ByteArray := prog_1_method_29_code
def yX1_gain : MethodName := ⟨RX1, "gain", "()I"⟩
theorem dX1_gain_0 : decode cX1_gain 0 = .ok (.aload_n 0, 1) := by decide +kernel
theorem dX1_gain_1 : decode cX1_gain 1 = .ok (.invokevirtual 101, 3) := by decide +kernel
theorem dX1_gain_4 : decode cX1_gain 4 = .ok (.istore_n 1, 1) := by decide +kernel
theorem dX1_gain_5 : decode cX1_gain 5 = .ok (.aload_n 0, 1) := by decide +kernel
theorem dX1_gain_6 : decode cX1_gain 6 = .ok (.aload_n 0, 1) := by decide +kernel
theorem dX1_gain_7 : decode cX1_gain 7 = .ok (.getfield 32, 3) := by decide +kernel
theorem dX1_gain_10 : decode cX1_gain 10 = .ok (.iconst 1, 1) := by decide +kernel
theorem dX1_gain_11 : decode cX1_gain 11 = .ok (.iadd, 1) := by decide +kernel
theorem dX1_gain_12 : decode cX1_gain 12 = .ok (.invokevirtual 105, 3) := by decide +kernel
theorem dX1_gain_15 : decode cX1_gain 15 = .ok (.iload_n 1, 1) := by decide +kernel
theorem dX1_gain_16 : decode cX1_gain 16 = .ok (.isub, 1) := by decide +kernel
theorem dX1_gain_17 : decode cX1_gain 17 = .ok (.ireturn, 1) := by decide +kernel
abbrev cX1_totalFor : ByteArray := prog_1_method_19_code
def yX1_totalFor : MethodName := ⟨RX1, "totalFor", "(I)I"⟩
theorem dX1_totalFor_0 : decode cX1_totalFor 0 = .ok (.aload_n 0, 1) := by decide +kernel
theorem dX1_totalFor_1 : decode cX1_totalFor 1 = .ok (.aload_n 0, 1) := by decide +kernel
theorem dX1_totalFor_2 : decode cX1_totalFor 2 = .ok (.getfield 36, 3) := by decide +kernel
theorem dX1_totalFor_5 : decode cX1_totalFor 5 = .ok (.invokevirtual 72, 3) := by decide +kernel
theorem dX1_totalFor_8 : decode cX1_totalFor 8 = .ok (.aload_n 0, 1) := by decide +kernel
theorem dX1_totalFor_9 : decode cX1_totalFor 9 = .ok (.iload_n 1, 1) := by decide +kernel
theorem dX1_totalFor_10 : decode cX1_totalFor 10 = .ok (.invokevirtual 75, 3) := by decide +kernel
theorem dX1_totalFor_13 : decode cX1_totalFor 13 = .ok (.aload_n 0, 1) := by decide +kernel
theorem dX1_totalFor_14 : decode cX1_totalFor 14 = .ok (.aload_n 0, 1) := by decide +kernel
theorem dX1_totalFor_15 : decode cX1_totalFor 15 = .ok (.getfield 50, 3) := by decide +kernel
theorem dX1_totalFor_18 : decode cX1_totalFor 18 = .ok (.invokevirtual 81, 3) := by decide +kernel
theorem dX1_totalFor_21 : decode cX1_totalFor 21 = .ok (.istore_n 2, 1) := by decide +kernel
theorem dX1_totalFor_22 : decode cX1_totalFor 22 = .ok (.iload_n 2, 1) := by decide +kernel
theorem dX1_totalFor_23 : decode cX1_totalFor 23 = .ok (.invokestatic 84, 3) := by decide +kernel
theorem dX1_totalFor_26 : decode cX1_totalFor 26 = .ok (.ireturn, 1) := by decide +kernel
abbrev cX1_loss : ByteArray := prog_1_method_30_code
def yX1_loss : MethodName := ⟨RX1, "loss", "()I"⟩
theorem dX1_loss_0 : decode cX1_loss 0 = .ok (.aload_n 0, 1) := by decide +kernel
theorem dX1_loss_1 : decode cX1_loss 1 = .ok (.getfield 32, 3) := by decide +kernel
theorem dX1_loss_4 : decode cX1_loss 4 = .ok (.ifCond .ne 5, 3) := by decide +kernel
theorem dX1_loss_7 : decode cX1_loss 7 = .ok (.iconst (-1), 1) := by decide +kernel
theorem dX1_loss_8 : decode cX1_loss 8 = .ok (.ireturn, 1) := by decide +kernel
theorem dX1_loss_9 : decode cX1_loss 9 = .ok (.aload_n 0, 1) := by decide +kernel
theorem dX1_loss_10 : decode cX1_loss 10 = .ok (.invokevirtual 101, 3) := by decide +kernel
theorem dX1_loss_13 : decode cX1_loss 13 = .ok (.istore_n 1, 1) := by decide +kernel
theorem dX1_loss_14 : decode cX1_loss 14 = .ok (.iload_n 1, 1) := by decide +kernel
theorem dX1_loss_15 : decode cX1_loss 15 = .ok (.aload_n 0, 1) := by decide +kernel
theorem dX1_loss_16 : decode cX1_loss 16 = .ok (.aload_n 0, 1) := by decide +kernel
theorem dX1_loss_17 : decode cX1_loss 17 = .ok (.getfield 32, 3) := by decide +kernel
theorem dX1_loss_20 : decode cX1_loss 20 = .ok (.iconst 1, 1) := by decide +kernel
theorem dX1_loss_21 : decode cX1_loss 21 = .ok (.isub, 1) := by decide +kernel
theorem dX1_loss_22 : decode cX1_loss 22 = .ok (.invokevirtual 105, 3) := by decide +kernel
theorem dX1_loss_25 : decode cX1_loss 25 = .ok (.isub, 1) := by decide +kernel
theorem dX1_loss_26 : decode cX1_loss 26 = .ok (.ireturn, 1) := by decide +kernel
abbrev cX1_busy : ByteArray := prog_1_method_31_code
def yX1_busy : MethodName := ⟨RX1, "busy", "(I)I"⟩
theorem dX1_busy_0 : decode cX1_busy 0 = .ok (.iload_n 1, 1) := by decide +kernel
theorem dX1_busy_1 : decode cX1_busy 1 = .ok (.ifCond .lt 9, 3) := by decide +kernel
theorem dX1_busy_4 : decode cX1_busy 4 = .ok (.iload_n 1, 1) := by decide +kernel
theorem dX1_busy_5 : decode cX1_busy 5 = .ok (.bipush 16, 2) := by decide +kernel
theorem dX1_busy_7 : decode cX1_busy 7 = .ok (.if_icmp .lt 5, 3) := by decide +kernel
theorem dX1_busy_10 : decode cX1_busy 10 = .ok (.iconst 0, 1) := by decide +kernel
theorem dX1_busy_11 : decode cX1_busy 11 = .ok (.ireturn, 1) := by decide +kernel
theorem dX1_busy_12 : decode cX1_busy 12 = .ok (.aload_n 0, 1) := by decide +kernel
theorem dX1_busy_13 : decode cX1_busy 13 = .ok (.invokevirtual 88, 3) := by decide +kernel
theorem dX1_busy_16 : decode cX1_busy 16 = .ok (.aload_n 0, 1) := by decide +kernel
theorem dX1_busy_17 : decode cX1_busy 17 = .ok (.aload_n 0, 1) := by decide +kernel
theorem dX1_busy_18 : decode cX1_busy 18 = .ok (.getfield 78, 3) := by decide +kernel
theorem dX1_busy_21 : decode cX1_busy 21 = .ok (.iload_n 1, 1) := by decide +kernel
theorem dX1_busy_22 : decode cX1_busy 22 = .ok (.invokevirtual 91, 3) := by decide +kernel
theorem dX1_busy_25 : decode cX1_busy 25 = .ok (.ireturn, 1) := by decide +kernel
theorem q21 : (Jvm.Cond.initialized "TrackMarket") ∈ lw_all := lw_g (lw_at lw_m1 1 rfl) rfl
theorem q24 : (Jvm.Cond.instantiable "TrackMarket" (13 : Nat)) ∈ lw_all := lw_g (lw_at lw_m1 4 rfl) rfl
theorem q26 : (Jvm.Cond.instanceMethod ({ cls := "TrackMarket", name := "<init>", desc := "(I)V" } : Jvm.MethodName)) ∈ lw_all := lw_g (lw_at lw_m1 6 rfl) rfl
theorem q27 : (Jvm.Cond.code ({ cls := "TrackMarket", name := "<init>", desc := "(I)V" } : Jvm.MethodName) prog_1_method_1_code (2 : Nat) (Option.none : Option Jvm.ClassFile.FieldType)) ∈ lw_all := lw_g (lw_at lw_m1 7 rfl) rfl
theorem q28 : (Jvm.Cond.methodLink "TrackMarket" (1 : Nat) ({ cls := "java/lang/Object", name := "<init>", desc := "()V" } : Jvm.MethodName)) ∈ lw_all := lw_g (lw_at lw_m1 8 rfl) rfl
theorem q31 : (Jvm.Cond.fieldLink "TrackMarket" (32 : Nat) "TrackMarket" "trackCount" "I") ∈ lw_all := lw_g (lw_at lw_m1 11 rfl) rfl
theorem q32 : (Jvm.Cond.fieldLink "TrackMarket" (36 : Nat) "TrackMarket" "present" "I") ∈ lw_all := lw_g (lw_at lw_m1 12 rfl) rfl
theorem q33 : (Jvm.Cond.fieldLink "TrackMarket" (7 : Nat) "TrackMarket" "starts" "[B") ∈ lw_all := lw_g (lw_at lw_m1 13 rfl) rfl
theorem q34 : (Jvm.Cond.fieldLink "TrackMarket" (13 : Nat) "TrackMarket" "ends" "[B") ∈ lw_all := lw_g (lw_at lw_m1 14 rfl) rfl
theorem q35 : (Jvm.Cond.fieldLink "TrackMarket" (16 : Nat) "TrackMarket" "worths" "[B") ∈ lw_all := lw_g (lw_at lw_m1 15 rfl) rfl
theorem q36 : (Jvm.Cond.fieldLink "TrackMarket" (19 : Nat) "TrackMarket" "gains" "[I") ∈ lw_all := lw_g (lw_at lw_m1 16 rfl) rfl
theorem q37 : (Jvm.Cond.fieldLink "TrackMarket" (47 : Nat) "TrackMarket" "usable" "I") ∈ lw_all := lw_g (lw_at lw_m1 17 rfl) rfl
theorem q38 : (Jvm.Cond.fieldLink "TrackMarket" (50 : Nat) "TrackMarket" "used" "I") ∈ lw_all := lw_g (lw_at lw_m1 18 rfl) rfl
theorem q39 : (Jvm.Cond.fieldLink "TrackMarket" (23 : Nat) "TrackMarket" "waiting" "[B") ∈ lw_all := lw_g (lw_at lw_m1 19 rfl) rfl
theorem q40 : (Jvm.Cond.fieldLink "TrackMarket" (26 : Nat) "TrackMarket" "reach" "[I") ∈ lw_all := lw_g (lw_at lw_m1 20 rfl) rfl
theorem q41 : (Jvm.Cond.fieldLink "TrackMarket" (29 : Nat) "TrackMarket" "step" "[B") ∈ lw_all := lw_g (lw_at lw_m1 21 rfl) rfl
theorem q42 : (Jvm.Cond.fieldLink "TrackMarket" (43 : Nat) "TrackMarket" "known" "Z") ∈ lw_all := lw_g (lw_at lw_m1 22 rfl) rfl
theorem q43 : (Jvm.Cond.fieldLink "TrackMarket" (78 : Nat) "TrackMarket" "chosenSet" "I") ∈ lw_all := lw_g (lw_at lw_m1 23 rfl) rfl
theorem q44 : (Jvm.Cond.lays "TrackMarket" "TrackMarket" "trackCount" "I") ∈ lw_all := lw_g (lw_at lw_m1 24 rfl) rfl
theorem q45 : (Jvm.Cond.soleField "TrackMarket" "trackCount") ∈ lw_all := lw_g (lw_at lw_m1 25 rfl) rfl
theorem q46 : (Jvm.Cond.lays "TrackMarket" "TrackMarket" "present" "I") ∈ lw_all := lw_g (lw_at lw_m1 26 rfl) rfl
theorem q47 : (Jvm.Cond.soleField "TrackMarket" "present") ∈ lw_all := lw_g (lw_at lw_m1 27 rfl) rfl
theorem q48 : (Jvm.Cond.laysFinal "TrackMarket" "TrackMarket" "starts" "[B") ∈ lw_all := lw_g (lw_at lw_m1 28 rfl) rfl
theorem q49 : (Jvm.Cond.soleField "TrackMarket" "starts") ∈ lw_all := lw_g (lw_at lw_m1 29 rfl) rfl
theorem q50 : (Jvm.Cond.laysFinal "TrackMarket" "TrackMarket" "ends" "[B") ∈ lw_all := lw_g (lw_at lw_m1 30 rfl) rfl
theorem q51 : (Jvm.Cond.soleField "TrackMarket" "ends") ∈ lw_all := lw_g (lw_at lw_m1 31 rfl) rfl
theorem q52 : (Jvm.Cond.laysFinal "TrackMarket" "TrackMarket" "worths" "[B") ∈ lw_all := lw_g (lw_at lw_m1 32 rfl) rfl
theorem q53 : (Jvm.Cond.soleField "TrackMarket" "worths") ∈ lw_all := lw_g (lw_at lw_m1 33 rfl) rfl
theorem q54 : (Jvm.Cond.laysFinal "TrackMarket" "TrackMarket" "gains" "[I") ∈ lw_all := lw_g (lw_at lw_m1 34 rfl) rfl
theorem q55 : (Jvm.Cond.soleField "TrackMarket" "gains") ∈ lw_all := lw_g (lw_at lw_m1 35 rfl) rfl
theorem q56 : (Jvm.Cond.lays "TrackMarket" "TrackMarket" "usable" "I") ∈ lw_all := lw_g (lw_at lw_m1 36 rfl) rfl
theorem q57 : (Jvm.Cond.soleField "TrackMarket" "usable") ∈ lw_all := lw_g (lw_at lw_m1 37 rfl) rfl
theorem q58 : (Jvm.Cond.lays "TrackMarket" "TrackMarket" "used" "I") ∈ lw_all := lw_g (lw_at lw_m1 38 rfl) rfl
theorem q59 : (Jvm.Cond.soleField "TrackMarket" "used") ∈ lw_all := lw_g (lw_at lw_m1 39 rfl) rfl
theorem q60 : (Jvm.Cond.laysFinal "TrackMarket" "TrackMarket" "waiting" "[B") ∈ lw_all := lw_g (lw_at lw_m1 40 rfl) rfl
theorem q61 : (Jvm.Cond.soleField "TrackMarket" "waiting") ∈ lw_all := lw_g (lw_at lw_m1 41 rfl) rfl
theorem q62 : (Jvm.Cond.laysFinal "TrackMarket" "TrackMarket" "reach" "[I") ∈ lw_all := lw_g (lw_at lw_m1 42 rfl) rfl
theorem q63 : (Jvm.Cond.soleField "TrackMarket" "reach") ∈ lw_all := lw_g (lw_at lw_m1 43 rfl) rfl
theorem q64 : (Jvm.Cond.laysFinal "TrackMarket" "TrackMarket" "step" "[B") ∈ lw_all := lw_g (lw_at lw_m1 44 rfl) rfl
theorem q65 : (Jvm.Cond.soleField "TrackMarket" "step") ∈ lw_all := lw_g (lw_at lw_m1 45 rfl) rfl
theorem q66 : (Jvm.Cond.lays "TrackMarket" "TrackMarket" "known" "Z") ∈ lw_all := lw_g (lw_at lw_m1 46 rfl) rfl
theorem q67 : (Jvm.Cond.soleField "TrackMarket" "known") ∈ lw_all := lw_g (lw_at lw_m1 47 rfl) rfl
theorem q68 : (Jvm.Cond.lays "TrackMarket" "TrackMarket" "chosenSet" "I") ∈ lw_all := lw_g (lw_at lw_m1 48 rfl) rfl
theorem q69 : (Jvm.Cond.soleField "TrackMarket" "chosenSet") ∈ lw_all := lw_g (lw_at lw_m1 49 rfl) rfl
theorem q70 : (Jvm.Cond.superclass "TrackMarket" "java/lang/Object") ∈ lw_all := lw_g (lw_at lw_m1 50 rfl) rfl
theorem q74 : (Jvm.Cond.instanceMethod ({ cls := "TrackMarket", name := "bring", desc := "(III)I" } : Jvm.MethodName)) ∈ lw_all := lw_g (lw_at lw_m1 54 rfl) rfl
theorem q75 : (Jvm.Cond.selects "TrackMarket" ({ cls := "TrackMarket", name := "bring", desc := "(III)I" } : Jvm.MethodName) ({ cls := "TrackMarket", name := "bring", desc := "(III)I" } : Jvm.MethodName)) ∈ lw_all := lw_g (lw_at lw_m1 55 rfl) rfl
theorem q76 : (Jvm.Cond.code ({ cls := "TrackMarket", name := "bring", desc := "(III)I" } : Jvm.MethodName) prog_1_method_3_code (5 : Nat) (Option.some Jvm.ClassFile.FieldType.int)) ∈ lw_all := lw_g (lw_at lw_m1 56 rfl) rfl
theorem q77 : (Jvm.Cond.methodLink "TrackMarket" (39 : Nat) ({ cls := "TrackMarket", name := "has", desc := "(I)Z" } : Jvm.MethodName)) ∈ lw_all := lw_g (lw_at lw_m1 57 rfl) rfl
theorem q78 : (Jvm.Cond.privateMethod ({ cls := "TrackMarket", name := "has", desc := "(I)Z" } : Jvm.MethodName)) ∈ lw_tbl := lw_at lw_m1 58 rfl
theorem q79 : (Jvm.Cond.instanceMethod ({ cls := "TrackMarket", name := "has", desc := "(I)Z" } : Jvm.MethodName)) ∈ lw_all := lw_g (lw_at lw_m1 59 rfl) rfl
theorem q80 : (Jvm.Cond.code ({ cls := "TrackMarket", name := "has", desc := "(I)Z" } : Jvm.MethodName) prog_1_method_2_code (2 : Nat) (Option.some Jvm.ClassFile.FieldType.boolean)) ∈ lw_all := lw_g (lw_at lw_m1 60 rfl) rfl
theorem q82 : (Jvm.Cond.instanceMethod ({ cls := "TrackMarket", name := "take", desc := "(I)Z" } : Jvm.MethodName)) ∈ lw_all := lw_g (lw_at lw_m1 62 rfl) rfl
theorem q83 : (Jvm.Cond.selects "TrackMarket" ({ cls := "TrackMarket", name := "take", desc := "(I)Z" } : Jvm.MethodName) ({ cls := "TrackMarket", name := "take", desc := "(I)Z" } : Jvm.MethodName)) ∈ lw_all := lw_g (lw_at lw_m1 63 rfl) rfl
theorem q84 : (Jvm.Cond.code ({ cls := "TrackMarket", name := "take", desc := "(I)Z" } : Jvm.MethodName) prog_1_method_4_code (2 : Nat) (Option.some Jvm.ClassFile.FieldType.boolean)) ∈ lw_all := lw_g (lw_at lw_m1 64 rfl) rfl
theorem q86 : (Jvm.Cond.instanceMethod ({ cls := "TrackMarket", name := "revalue", desc := "(II)Z" } : Jvm.MethodName)) ∈ lw_all := lw_g (lw_at lw_m1 66 rfl) rfl
theorem q87 : (Jvm.Cond.selects "TrackMarket" ({ cls := "TrackMarket", name := "revalue", desc := "(II)Z" } : Jvm.MethodName) ({ cls := "TrackMarket", name := "revalue", desc := "(II)Z" } : Jvm.MethodName)) ∈ lw_all := lw_g (lw_at lw_m1 67 rfl) rfl
theorem q88 : (Jvm.Cond.code ({ cls := "TrackMarket", name := "revalue", desc := "(II)Z" } : Jvm.MethodName) prog_1_method_5_code (3 : Nat) (Option.some Jvm.ClassFile.FieldType.boolean)) ∈ lw_all := lw_g (lw_at lw_m1 68 rfl) rfl
theorem q90 : (Jvm.Cond.instanceMethod ({ cls := "TrackMarket", name := "setTracks", desc := "(I)Z" } : Jvm.MethodName)) ∈ lw_all := lw_g (lw_at lw_m1 70 rfl) rfl
theorem q91 : (Jvm.Cond.selects "TrackMarket" ({ cls := "TrackMarket", name := "setTracks", desc := "(I)Z" } : Jvm.MethodName) ({ cls := "TrackMarket", name := "setTracks", desc := "(I)Z" } : Jvm.MethodName)) ∈ lw_all := lw_g (lw_at lw_m1 71 rfl) rfl
theorem q92 : (Jvm.Cond.code ({ cls := "TrackMarket", name := "setTracks", desc := "(I)Z" } : Jvm.MethodName) prog_1_method_6_code (2 : Nat) (Option.some Jvm.ClassFile.FieldType.boolean)) ∈ lw_all := lw_g (lw_at lw_m1 72 rfl) rfl
theorem q94 : (Jvm.Cond.instanceMethod ({ cls := "TrackMarket", name := "tracks", desc := "()I" } : Jvm.MethodName)) ∈ lw_all := lw_g (lw_at lw_m1 74 rfl) rfl
theorem q95 : (Jvm.Cond.selects "TrackMarket" ({ cls := "TrackMarket", name := "tracks", desc := "()I" } : Jvm.MethodName) ({ cls := "TrackMarket", name := "tracks", desc := "()I" } : Jvm.MethodName)) ∈ lw_all := lw_g (lw_at lw_m1 75 rfl) rfl
theorem q96 : (Jvm.Cond.code ({ cls := "TrackMarket", name := "tracks", desc := "()I" } : Jvm.MethodName) prog_1_method_7_code (1 : Nat) (Option.some Jvm.ClassFile.FieldType.int)) ∈ lw_all := lw_g (lw_at lw_m1 76 rfl) rfl
theorem q98 : (Jvm.Cond.instanceMethod ({ cls := "TrackMarket", name := "jobs", desc := "()I" } : Jvm.MethodName)) ∈ lw_all := lw_g (lw_at lw_m1 78 rfl) rfl
theorem q99 : (Jvm.Cond.selects "TrackMarket" ({ cls := "TrackMarket", name := "jobs", desc := "()I" } : Jvm.MethodName) ({ cls := "TrackMarket", name := "jobs", desc := "()I" } : Jvm.MethodName)) ∈ lw_all := lw_g (lw_at lw_m1 79 rfl) rfl
theorem q100 : (Jvm.Cond.code ({ cls := "TrackMarket", name := "jobs", desc := "()I" } : Jvm.MethodName) prog_1_method_8_code (1 : Nat) (Option.some Jvm.ClassFile.FieldType.int)) ∈ lw_all := lw_g (lw_at lw_m1 80 rfl) rfl
theorem q102 : (Jvm.Cond.instanceMethod ({ cls := "TrackMarket", name := "chosen", desc := "()I" } : Jvm.MethodName)) ∈ lw_all := lw_g (lw_at lw_m1 82 rfl) rfl
theorem q103 : (Jvm.Cond.selects "TrackMarket" ({ cls := "TrackMarket", name := "chosen", desc := "()I" } : Jvm.MethodName) ({ cls := "TrackMarket", name := "chosen", desc := "()I" } : Jvm.MethodName)) ∈ lw_all := lw_g (lw_at lw_m1 83 rfl) rfl
theorem q104 : (Jvm.Cond.code ({ cls := "TrackMarket", name := "chosen", desc := "()I" } : Jvm.MethodName) prog_1_method_21_code (1 : Nat) (Option.some Jvm.ClassFile.FieldType.int)) ∈ lw_all := lw_g (lw_at lw_m1 84 rfl) rfl
theorem q105 : (Jvm.Cond.methodLink "TrackMarket" (88 : Nat) ({ cls := "TrackMarket", name := "choose", desc := "()V" } : Jvm.MethodName)) ∈ lw_all := lw_g (lw_at lw_m1 85 rfl) rfl
theorem q106 : (Jvm.Cond.privateMethod ({ cls := "TrackMarket", name := "choose", desc := "()V" } : Jvm.MethodName)) ∈ lw_tbl := lw_at lw_m1 86 rfl
theorem q107 : (Jvm.Cond.instanceMethod ({ cls := "TrackMarket", name := "choose", desc := "()V" } : Jvm.MethodName)) ∈ lw_all := lw_g (lw_at lw_m1 87 rfl) rfl
theorem q108 : (Jvm.Cond.code ({ cls := "TrackMarket", name := "choose", desc := "()V" } : Jvm.MethodName) prog_1_method_17_code (1 : Nat) (Option.none : Option Jvm.ClassFile.FieldType)) ∈ lw_all := lw_g (lw_at lw_m1 88 rfl) rfl
theorem q109 : (Jvm.Cond.methodLink "TrackMarket" (72 : Nat) ({ cls := "TrackMarket", name := "prepare", desc := "(I)V" } : Jvm.MethodName)) ∈ lw_all := lw_g (lw_at lw_m1 89 rfl) rfl
theorem q110 : (Jvm.Cond.privateMethod ({ cls := "TrackMarket", name := "prepare", desc := "(I)V" } : Jvm.MethodName)) ∈ lw_tbl := lw_at lw_m1 90 rfl
theorem q111 : (Jvm.Cond.instanceMethod ({ cls := "TrackMarket", name := "prepare", desc := "(I)V" } : Jvm.MethodName)) ∈ lw_all := lw_g (lw_at lw_m1 91 rfl) rfl
theorem q112 : (Jvm.Cond.code ({ cls := "TrackMarket", name := "prepare", desc := "(I)V" } : Jvm.MethodName) prog_1_method_10_code (3 : Nat) (Option.none : Option Jvm.ClassFile.FieldType)) ∈ lw_all := lw_g (lw_at lw_m1 92 rfl) rfl
theorem q113 : (Jvm.Cond.methodLink "TrackMarket" (53 : Nat) ({ cls := "TrackMarket", name := "markedWorth", desc := "(I)I" } : Jvm.MethodName)) ∈ lw_all := lw_g (lw_at lw_m1 93 rfl) rfl
theorem q114 : (Jvm.Cond.privateMethod ({ cls := "TrackMarket", name := "markedWorth", desc := "(I)I" } : Jvm.MethodName)) ∈ lw_tbl := lw_at lw_m1 94 rfl
theorem q115 : (Jvm.Cond.instanceMethod ({ cls := "TrackMarket", name := "markedWorth", desc := "(I)I" } : Jvm.MethodName)) ∈ lw_all := lw_g (lw_at lw_m1 95 rfl) rfl
theorem q116 : (Jvm.Cond.code ({ cls := "TrackMarket", name := "markedWorth", desc := "(I)I" } : Jvm.MethodName) prog_1_method_9_code (2 : Nat) (Option.some Jvm.ClassFile.FieldType.int)) ∈ lw_all := lw_g (lw_at lw_m1 96 rfl) rfl
theorem q117 : (Jvm.Cond.methodLink "TrackMarket" (75 : Nat) ({ cls := "TrackMarket", name := "send", desc := "(I)V" } : Jvm.MethodName)) ∈ lw_all := lw_g (lw_at lw_m1 97 rfl) rfl
theorem q118 : (Jvm.Cond.privateMethod ({ cls := "TrackMarket", name := "send", desc := "(I)V" } : Jvm.MethodName)) ∈ lw_tbl := lw_at lw_m1 98 rfl
theorem q119 : (Jvm.Cond.instanceMethod ({ cls := "TrackMarket", name := "send", desc := "(I)V" } : Jvm.MethodName)) ∈ lw_all := lw_g (lw_at lw_m1 99 rfl) rfl
theorem q120 : (Jvm.Cond.code ({ cls := "TrackMarket", name := "send", desc := "(I)V" } : Jvm.MethodName) prog_1_method_11_code (3 : Nat) (Option.none : Option Jvm.ClassFile.FieldType)) ∈ lw_all := lw_g (lw_at lw_m1 100 rfl) rfl
theorem q121 : (Jvm.Cond.methodLink "TrackMarket" (57 : Nat) ({ cls := "TrackMarket", name := "findWays", desc := "()V" } : Jvm.MethodName)) ∈ lw_all := lw_g (lw_at lw_m1 101 rfl) rfl
theorem q122 : (Jvm.Cond.privateMethod ({ cls := "TrackMarket", name := "findWays", desc := "()V" } : Jvm.MethodName)) ∈ lw_tbl := lw_at lw_m1 102 rfl
theorem q123 : (Jvm.Cond.instanceMethod ({ cls := "TrackMarket", name := "findWays", desc := "()V" } : Jvm.MethodName)) ∈ lw_all := lw_g (lw_at lw_m1 103 rfl) rfl
theorem q124 : (Jvm.Cond.code ({ cls := "TrackMarket", name := "findWays", desc := "()V" } : Jvm.MethodName) prog_1_method_12_code (3 : Nat) (Option.none : Option Jvm.ClassFile.FieldType)) ∈ lw_all := lw_g (lw_at lw_m1 104 rfl) rfl
theorem q125 : (Jvm.Cond.constant "TrackMarket" (63 : Nat) (-268435456 : Int32)) ∈ lw_all := lw_g (lw_at lw_m1 105 rfl) rfl
theorem q126 : (Jvm.Cond.methodLink "TrackMarket" (64 : Nat) ({ cls := "TrackMarket", name := "improve", desc := "(IIII)V" } : Jvm.MethodName)) ∈ lw_all := lw_g (lw_at lw_m1 106 rfl) rfl
theorem q127 : (Jvm.Cond.privateMethod ({ cls := "TrackMarket", name := "improve", desc := "(IIII)V" } : Jvm.MethodName)) ∈ lw_tbl := lw_at lw_m1 107 rfl
theorem q128 : (Jvm.Cond.instanceMethod ({ cls := "TrackMarket", name := "improve", desc := "(IIII)V" } : Jvm.MethodName)) ∈ lw_all := lw_g (lw_at lw_m1 108 rfl) rfl
theorem q129 : (Jvm.Cond.code ({ cls := "TrackMarket", name := "improve", desc := "(IIII)V" } : Jvm.MethodName) prog_1_method_14_code (5 : Nat) (Option.none : Option Jvm.ClassFile.FieldType)) ∈ lw_all := lw_g (lw_at lw_m1 109 rfl) rfl
theorem q130 : (Jvm.Cond.methodLink "TrackMarket" (68 : Nat) ({ cls := "TrackMarket", name := "improveByJob", desc := "(I)V" } : Jvm.MethodName)) ∈ lw_all := lw_g (lw_at lw_m1 110 rfl) rfl
theorem q131 : (Jvm.Cond.privateMethod ({ cls := "TrackMarket", name := "improveByJob", desc := "(I)V" } : Jvm.MethodName)) ∈ lw_tbl := lw_at lw_m1 111 rfl
theorem q132 : (Jvm.Cond.instanceMethod ({ cls := "TrackMarket", name := "improveByJob", desc := "(I)V" } : Jvm.MethodName)) ∈ lw_all := lw_g (lw_at lw_m1 112 rfl) rfl
theorem q133 : (Jvm.Cond.code ({ cls := "TrackMarket", name := "improveByJob", desc := "(I)V" } : Jvm.MethodName) prog_1_method_13_code (2 : Nat) (Option.none : Option Jvm.ClassFile.FieldType)) ∈ lw_all := lw_g (lw_at lw_m1 113 rfl) rfl
theorem q134 : (Jvm.Cond.methodLink "TrackMarket" (60 : Nat) ({ cls := "TrackMarket", name := "follow", desc := "()V" } : Jvm.MethodName)) ∈ lw_all := lw_g (lw_at lw_m1 114 rfl) rfl
theorem q135 : (Jvm.Cond.privateMethod ({ cls := "TrackMarket", name := "follow", desc := "()V" } : Jvm.MethodName)) ∈ lw_tbl := lw_at lw_m1 115 rfl
theorem q136 : (Jvm.Cond.instanceMethod ({ cls := "TrackMarket", name := "follow", desc := "()V" } : Jvm.MethodName)) ∈ lw_all := lw_g (lw_at lw_m1 116 rfl) rfl
theorem q137 : (Jvm.Cond.code ({ cls := "TrackMarket", name := "follow", desc := "()V" } : Jvm.MethodName) prog_1_method_15_code (4 : Nat) (Option.none : Option Jvm.ClassFile.FieldType)) ∈ lw_all := lw_g (lw_at lw_m1 117 rfl) rfl
theorem q139 : (Jvm.Cond.instanceMethod ({ cls := "TrackMarket", name := "total", desc := "()I" } : Jvm.MethodName)) ∈ lw_all := lw_g (lw_at lw_m1 119 rfl) rfl
theorem q140 : (Jvm.Cond.selects "TrackMarket" ({ cls := "TrackMarket", name := "total", desc := "()I" } : Jvm.MethodName) ({ cls := "TrackMarket", name := "total", desc := "()I" } : Jvm.MethodName)) ∈ lw_all := lw_g (lw_at lw_m1 120 rfl) rfl
theorem q141 : (Jvm.Cond.code ({ cls := "TrackMarket", name := "total", desc := "()I" } : Jvm.MethodName) prog_1_method_22_code (2 : Nat) (Option.some Jvm.ClassFile.FieldType.int)) ∈ lw_all := lw_g (lw_at lw_m1 121 rfl) rfl
theorem q142 : (Jvm.Cond.methodLink "TrackMarket" (81 : Nat) ({ cls := "TrackMarket", name := "markedSum", desc := "(I)I" } : Jvm.MethodName)) ∈ lw_all := lw_g (lw_at lw_m1 122 rfl) rfl
theorem q143 : (Jvm.Cond.privateMethod ({ cls := "TrackMarket", name := "markedSum", desc := "(I)I" } : Jvm.MethodName)) ∈ lw_tbl := lw_at lw_m1 123 rfl
theorem q144 : (Jvm.Cond.instanceMethod ({ cls := "TrackMarket", name := "markedSum", desc := "(I)I" } : Jvm.MethodName)) ∈ lw_all := lw_g (lw_at lw_m1 124 rfl) rfl
theorem q145 : (Jvm.Cond.code ({ cls := "TrackMarket", name := "markedSum", desc := "(I)I" } : Jvm.MethodName) prog_1_method_16_code (4 : Nat) (Option.some Jvm.ClassFile.FieldType.int)) ∈ lw_all := lw_g (lw_at lw_m1 125 rfl) rfl
theorem q146 : (Jvm.Cond.methodLink "TrackMarket" (84 : Nat) ({ cls := "TrackMarket", name := "plain", desc := "(I)I" } : Jvm.MethodName)) ∈ lw_all := lw_g (lw_at lw_m1 126 rfl) rfl
theorem q147 : (Jvm.Cond.static ({ cls := "TrackMarket", name := "plain", desc := "(I)I" } : Jvm.MethodName)) ∈ lw_all := lw_g (lw_at lw_m1 127 rfl) rfl
theorem q148 : (Jvm.Cond.code ({ cls := "TrackMarket", name := "plain", desc := "(I)I" } : Jvm.MethodName) prog_1_method_18_code (1 : Nat) (Option.some Jvm.ClassFile.FieldType.int)) ∈ lw_all := lw_g (lw_at lw_m1 128 rfl) rfl
theorem q150 : (Jvm.Cond.instanceMethod ({ cls := "TrackMarket", name := "fits", desc := "(I)Z" } : Jvm.MethodName)) ∈ lw_all := lw_g (lw_at lw_m1 130 rfl) rfl
theorem q151 : (Jvm.Cond.selects "TrackMarket" ({ cls := "TrackMarket", name := "fits", desc := "(I)Z" } : Jvm.MethodName) ({ cls := "TrackMarket", name := "fits", desc := "(I)Z" } : Jvm.MethodName)) ∈ lw_all := lw_g (lw_at lw_m1 131 rfl) rfl
theorem q152 : (Jvm.Cond.code ({ cls := "TrackMarket", name := "fits", desc := "(I)Z" } : Jvm.MethodName) prog_1_method_25_code (2 : Nat) (Option.some Jvm.ClassFile.FieldType.boolean)) ∈ lw_all := lw_g (lw_at lw_m1 132 rfl) rfl
theorem q153 : (Jvm.Cond.methodLink "TrackMarket" (95 : Nat) ({ cls := "TrackMarket", name := "greatestCrowd", desc := "(I)I" } : Jvm.MethodName)) ∈ lw_all := lw_g (lw_at lw_m1 133 rfl) rfl
theorem q154 : (Jvm.Cond.privateMethod ({ cls := "TrackMarket", name := "greatestCrowd", desc := "(I)I" } : Jvm.MethodName)) ∈ lw_tbl := lw_at lw_m1 134 rfl
theorem q155 : (Jvm.Cond.instanceMethod ({ cls := "TrackMarket", name := "greatestCrowd", desc := "(I)I" } : Jvm.MethodName)) ∈ lw_all := lw_g (lw_at lw_m1 135 rfl) rfl
theorem q156 : (Jvm.Cond.code ({ cls := "TrackMarket", name := "greatestCrowd", desc := "(I)I" } : Jvm.MethodName) prog_1_method_24_code (5 : Nat) (Option.some Jvm.ClassFile.FieldType.int)) ∈ lw_all := lw_g (lw_at lw_m1 136 rfl) rfl
theorem q157 : (Jvm.Cond.methodLink "TrackMarket" (91 : Nat) ({ cls := "TrackMarket", name := "crowd", desc := "(II)I" } : Jvm.MethodName)) ∈ lw_all := lw_g (lw_at lw_m1 137 rfl) rfl
theorem q158 : (Jvm.Cond.privateMethod ({ cls := "TrackMarket", name := "crowd", desc := "(II)I" } : Jvm.MethodName)) ∈ lw_tbl := lw_at lw_m1 138 rfl
theorem q159 : (Jvm.Cond.instanceMethod ({ cls := "TrackMarket", name := "crowd", desc := "(II)I" } : Jvm.MethodName)) ∈ lw_all := lw_g (lw_at lw_m1 139 rfl) rfl
theorem q160 : (Jvm.Cond.code ({ cls := "TrackMarket", name := "crowd", desc := "(II)I" } : Jvm.MethodName) prog_1_method_23_code (5 : Nat) (Option.some Jvm.ClassFile.FieldType.int)) ∈ lw_all := lw_g (lw_at lw_m1 140 rfl) rfl
theorem q162 : (Jvm.Cond.instanceMethod ({ cls := "TrackMarket", name := "tracksFor", desc := "(I)I" } : Jvm.MethodName)) ∈ lw_all := lw_g (lw_at lw_m1 142 rfl) rfl
theorem q163 : (Jvm.Cond.selects "TrackMarket" ({ cls := "TrackMarket", name := "tracksFor", desc := "(I)I" } : Jvm.MethodName) ({ cls := "TrackMarket", name := "tracksFor", desc := "(I)I" } : Jvm.MethodName)) ∈ lw_all := lw_g (lw_at lw_m1 143 rfl) rfl
theorem q164 : (Jvm.Cond.code ({ cls := "TrackMarket", name := "tracksFor", desc := "(I)I" } : Jvm.MethodName) prog_1_method_26_code (2 : Nat) (Option.some Jvm.ClassFile.FieldType.int)) ∈ lw_all := lw_g (lw_at lw_m1 144 rfl) rfl
theorem q166 : (Jvm.Cond.instanceMethod ({ cls := "TrackMarket", name := "price", desc := "(I)I" } : Jvm.MethodName)) ∈ lw_all := lw_g (lw_at lw_m1 146 rfl) rfl
theorem q167 : (Jvm.Cond.selects "TrackMarket" ({ cls := "TrackMarket", name := "price", desc := "(I)I" } : Jvm.MethodName) ({ cls := "TrackMarket", name := "price", desc := "(I)I" } : Jvm.MethodName)) ∈ lw_all := lw_g (lw_at lw_m1 147 rfl) rfl
theorem q168 : (Jvm.Cond.code ({ cls := "TrackMarket", name := "price", desc := "(I)I" } : Jvm.MethodName) prog_1_method_27_code (7 : Nat) (Option.some Jvm.ClassFile.FieldType.int)) ∈ lw_all := lw_g (lw_at lw_m1 148 rfl) rfl
theorem q169 : (Jvm.Cond.methodLink "TrackMarket" (98 : Nat) ({ cls := "TrackMarket", name := "bestWith", desc := "(II)I" } : Jvm.MethodName)) ∈ lw_all := lw_g (lw_at lw_m1 149 rfl) rfl
theorem q170 : (Jvm.Cond.privateMethod ({ cls := "TrackMarket", name := "bestWith", desc := "(II)I" } : Jvm.MethodName)) ∈ lw_tbl := lw_at lw_m1 150 rfl
theorem q171 : (Jvm.Cond.instanceMethod ({ cls := "TrackMarket", name := "bestWith", desc := "(II)I" } : Jvm.MethodName)) ∈ lw_all := lw_g (lw_at lw_m1 151 rfl) rfl
theorem q172 : (Jvm.Cond.code ({ cls := "TrackMarket", name := "bestWith", desc := "(II)I" } : Jvm.MethodName) prog_1_method_20_code (4 : Nat) (Option.some Jvm.ClassFile.FieldType.int)) ∈ lw_all := lw_g (lw_at lw_m1 152 rfl) rfl
theorem q173 : (Jvm.Cond.constant "TrackMarket" (87 : Nat) (1048576 : Int32)) ∈ lw_all := lw_g (lw_at lw_m1 153 rfl) rfl
theorem q175 : (Jvm.Cond.instanceMethod ({ cls := "TrackMarket", name := "totalWith", desc := "(II)I" } : Jvm.MethodName)) ∈ lw_all := lw_g (lw_at lw_m1 155 rfl) rfl
theorem q176 : (Jvm.Cond.selects "TrackMarket" ({ cls := "TrackMarket", name := "totalWith", desc := "(II)I" } : Jvm.MethodName) ({ cls := "TrackMarket", name := "totalWith", desc := "(II)I" } : Jvm.MethodName)) ∈ lw_all := lw_g (lw_at lw_m1 156 rfl) rfl
theorem q177 : (Jvm.Cond.code ({ cls := "TrackMarket", name := "totalWith", desc := "(II)I" } : Jvm.MethodName) prog_1_method_28_code (5 : Nat) (Option.some Jvm.ClassFile.FieldType.int)) ∈ lw_all := lw_g (lw_at lw_m1 157 rfl) rfl
theorem q179 : (Jvm.Cond.instanceMethod ({ cls := "TrackMarket", name := "gain", desc := "()I" } : Jvm.MethodName)) ∈ lw_all := lw_g (lw_at lw_m1 159 rfl) rfl
theorem q180 : (Jvm.Cond.selects "TrackMarket" ({ cls := "TrackMarket", name := "gain", desc := "()I" } : Jvm.MethodName) ({ cls := "TrackMarket", name := "gain", desc := "()I" } : Jvm.MethodName)) ∈ lw_all := lw_g (lw_at lw_m1 160 rfl) rfl
theorem q181 : (Jvm.Cond.code ({ cls := "TrackMarket", name := "gain", desc := "()I" } : Jvm.MethodName) prog_1_method_29_code (2 : Nat) (Option.some Jvm.ClassFile.FieldType.int)) ∈ lw_all := lw_g (lw_at lw_m1 161 rfl) rfl
theorem q182 : (Jvm.Cond.methodLink "TrackMarket" (101 : Nat) ({ cls := "TrackMarket", name := "total", desc := "()I" } : Jvm.MethodName)) ∈ lw_all := lw_g (lw_at lw_m1 162 rfl) rfl
theorem q183 : (Jvm.Cond.methodLink "TrackMarket" (105 : Nat) ({ cls := "TrackMarket", name := "totalFor", desc := "(I)I" } : Jvm.MethodName)) ∈ lw_all := lw_g (lw_at lw_m1 163 rfl) rfl
theorem q184 : (Jvm.Cond.privateMethod ({ cls := "TrackMarket", name := "totalFor", desc := "(I)I" } : Jvm.MethodName)) ∈ lw_tbl := lw_at lw_m1 164 rfl
theorem q185 : (Jvm.Cond.instanceMethod ({ cls := "TrackMarket", name := "totalFor", desc := "(I)I" } : Jvm.MethodName)) ∈ lw_all := lw_g (lw_at lw_m1 165 rfl) rfl
theorem q186 : (Jvm.Cond.code ({ cls := "TrackMarket", name := "totalFor", desc := "(I)I" } : Jvm.MethodName) prog_1_method_19_code (3 : Nat) (Option.some Jvm.ClassFile.FieldType.int)) ∈ lw_all := lw_g (lw_at lw_m1 166 rfl) rfl
theorem q188 : (Jvm.Cond.instanceMethod ({ cls := "TrackMarket", name := "loss", desc := "()I" } : Jvm.MethodName)) ∈ lw_all := lw_g (lw_at lw_m1 168 rfl) rfl
theorem q189 : (Jvm.Cond.selects "TrackMarket" ({ cls := "TrackMarket", name := "loss", desc := "()I" } : Jvm.MethodName) ({ cls := "TrackMarket", name := "loss", desc := "()I" } : Jvm.MethodName)) ∈ lw_all := lw_g (lw_at lw_m1 169 rfl) rfl
theorem q190 : (Jvm.Cond.code ({ cls := "TrackMarket", name := "loss", desc := "()I" } : Jvm.MethodName) prog_1_method_30_code (2 : Nat) (Option.some Jvm.ClassFile.FieldType.int)) ∈ lw_all := lw_g (lw_at lw_m1 170 rfl) rfl
theorem q192 : (Jvm.Cond.instanceMethod ({ cls := "TrackMarket", name := "busy", desc := "(I)I" } : Jvm.MethodName)) ∈ lw_all := lw_g (lw_at lw_m1 172 rfl) rfl
theorem q193 : (Jvm.Cond.selects "TrackMarket" ({ cls := "TrackMarket", name := "busy", desc := "(I)I" } : Jvm.MethodName) ({ cls := "TrackMarket", name := "busy", desc := "(I)I" } : Jvm.MethodName)) ∈ lw_all := lw_g (lw_at lw_m1 173 rfl) rfl
theorem q194 : (Jvm.Cond.code ({ cls := "TrackMarket", name := "busy", desc := "(I)I" } : Jvm.MethodName) prog_1_method_31_code (2 : Nat) (Option.some Jvm.ClassFile.FieldType.int)) ∈ lw_all := lw_g (lw_at lw_m1 174 rfl) rfl
theorem in_X1 : ∀ w ∈ wsX10, w ∈ lw_all := lw_in wsX10 [44, 46, 48, 50, 52, 54, 56, 58, 60, 62, 64, 66, 68] (by decide +kernel) (by decide +kernel)
end
section
/-! TrackMarketModel -/
set_option maxRecDepth 100000
def RX2 : String := "TrackMarketModel"
def TX2 : u_T := fun k => match k with
  | 0 => ("TrackMarketModel", "lanes", "I", false)
  | 1 => ("TrackMarketModel", "there", "[Z", false)
  | 2 => ("TrackMarketModel", "from", "[I", false)
  | 3 => ("TrackMarketModel", "to", "[I", false)
  | 4 => ("TrackMarketModel", "value", "[I", false)
  | _ => ("TrackMarketModel", "load", "[I", false)
def tyX2 : Nat → FieldType := fun k => match k with
  | 0 => .int
  | 1 => .array .boolean
  | 2 => .array .int
  | 3 => .array .int
  | 4 => .array .int
  | _ => .array .int
abbrev wsX20 : List Cond := u_ws RX2 TX2 6
theorem nmX2 : ∀ a, a < 6 → ∀ b, b < 6 → a ≠ b → (TX2 a).2.1 ≠ (TX2 b).2.1 := by decide +kernel
theorem tyX2_ok : ∀ k, k < 6 → parseFieldDescriptor (TX2 k).2.2.1 = some (tyX2 k) := by decide +kernel
abbrev cX2_init : ByteArray := prog_3_method_1_code
def yX2_init : MethodName := ⟨RX2, "<init>", "(I)V"⟩
theorem dX2_init_0 : decode cX2_init 0 = .ok (.aload_n 0, 1) := by decide +kernel
theorem dX2_init_1 : decode cX2_init 1 = .ok (.invokespecial 1, 3) := by decide +kernel
theorem dX2_init_4 : decode cX2_init 4 = .ok (.aload_n 0, 1) := by decide +kernel
theorem dX2_init_5 : decode cX2_init 5 = .ok (.bipush 8, 2) := by decide +kernel
theorem dX2_init_7 : decode cX2_init 7 = .ok (.newarray .boolean, 2) := by decide +kernel
theorem dX2_init_9 : decode cX2_init 9 = .ok (.putfield 7, 3) := by decide +kernel
theorem dX2_init_12 : decode cX2_init 12 = .ok (.aload_n 0, 1) := by decide +kernel
theorem dX2_init_13 : decode cX2_init 13 = .ok (.bipush 8, 2) := by decide +kernel
theorem dX2_init_15 : decode cX2_init 15 = .ok (.newarray .int, 2) := by decide +kernel
theorem dX2_init_17 : decode cX2_init 17 = .ok (.putfield 13, 3) := by decide +kernel
theorem dX2_init_20 : decode cX2_init 20 = .ok (.aload_n 0, 1) := by decide +kernel
theorem dX2_init_21 : decode cX2_init 21 = .ok (.bipush 8, 2) := by decide +kernel
theorem dX2_init_23 : decode cX2_init 23 = .ok (.newarray .int, 2) := by decide +kernel
theorem dX2_init_25 : decode cX2_init 25 = .ok (.putfield 17, 3) := by decide +kernel
theorem dX2_init_28 : decode cX2_init 28 = .ok (.aload_n 0, 1) := by decide +kernel
theorem dX2_init_29 : decode cX2_init 29 = .ok (.bipush 8, 2) := by decide +kernel
theorem dX2_init_31 : decode cX2_init 31 = .ok (.newarray .int, 2) := by decide +kernel
theorem dX2_init_33 : decode cX2_init 33 = .ok (.putfield 20, 3) := by decide +kernel
theorem dX2_init_36 : decode cX2_init 36 = .ok (.aload_n 0, 1) := by decide +kernel
theorem dX2_init_37 : decode cX2_init 37 = .ok (.sipush 256, 3) := by decide +kernel
theorem dX2_init_40 : decode cX2_init 40 = .ok (.newarray .int, 2) := by decide +kernel
theorem dX2_init_42 : decode cX2_init 42 = .ok (.putfield 23, 3) := by decide +kernel
theorem dX2_init_45 : decode cX2_init 45 = .ok (.aload_n 0, 1) := by decide +kernel
theorem dX2_init_46 : decode cX2_init 46 = .ok (.iload_n 1, 1) := by decide +kernel
theorem dX2_init_47 : decode cX2_init 47 = .ok (.ifCond .ge 7, 3) := by decide +kernel
theorem dX2_init_50 : decode cX2_init 50 = .ok (.iconst 0, 1) := by decide +kernel
theorem dX2_init_51 : decode cX2_init 51 = .ok (.goto 13, 3) := by decide +kernel
theorem dX2_init_54 : decode cX2_init 54 = .ok (.iload_n 1, 1) := by decide +kernel
theorem dX2_init_55 : decode cX2_init 55 = .ok (.iconst 4, 1) := by decide +kernel
theorem dX2_init_56 : decode cX2_init 56 = .ok (.if_icmp .le 7, 3) := by decide +kernel
theorem dX2_init_59 : decode cX2_init 59 = .ok (.iconst 4, 1) := by decide +kernel
theorem dX2_init_60 : decode cX2_init 60 = .ok (.goto 4, 3) := by decide +kernel
theorem dX2_init_63 : decode cX2_init 63 = .ok (.iload_n 1, 1) := by decide +kernel
theorem dX2_init_64 : decode cX2_init 64 = .ok (.putfield 26, 3) := by decide +kernel
theorem dX2_init_67 : decode cX2_init 67 = .ok (.return_, 1) := by decide +kernel
abbrev cX2_bring : ByteArray := prog_3_method_3_code
def yX2_bring : MethodName := ⟨RX2, "bring", "(III)I"⟩
theorem dX2_bring_0 : decode cX2_bring 0 = .ok (.iload_n 1, 1) := by decide +kernel
theorem dX2_bring_1 : decode cX2_bring 1 = .ok (.ifCond .lt 25, 3) := by decide +kernel
theorem dX2_bring_4 : decode cX2_bring 4 = .ok (.iload_n 1, 1) := by decide +kernel
theorem dX2_bring_5 : decode cX2_bring 5 = .ok (.iload_n 2, 1) := by decide +kernel
theorem dX2_bring_6 : decode cX2_bring 6 = .ok (.if_icmp .ge 20, 3) := by decide +kernel
theorem dX2_bring_9 : decode cX2_bring 9 = .ok (.iload_n 2, 1) := by decide +kernel
theorem dX2_bring_10 : decode cX2_bring 10 = .ok (.bipush 16, 2) := by decide +kernel
theorem dX2_bring_12 : decode cX2_bring 12 = .ok (.if_icmp .gt 14, 3) := by decide +kernel
theorem dX2_bring_15 : decode cX2_bring 15 = .ok (.iload_n 3, 1) := by decide +kernel
theorem dX2_bring_16 : decode cX2_bring 16 = .ok (.iconst 1, 1) := by decide +kernel
theorem dX2_bring_17 : decode cX2_bring 17 = .ok (.if_icmp .lt 9, 3) := by decide +kernel
theorem dX2_bring_20 : decode cX2_bring 20 = .ok (.iload_n 3, 1) := by decide +kernel
theorem dX2_bring_21 : decode cX2_bring 21 = .ok (.bipush 20, 2) := by decide +kernel
theorem dX2_bring_23 : decode cX2_bring 23 = .ok (.if_icmp .le 5, 3) := by decide +kernel
theorem dX2_bring_26 : decode cX2_bring 26 = .ok (.iconst (-1), 1) := by decide +kernel
theorem dX2_bring_27 : decode cX2_bring 27 = .ok (.ireturn, 1) := by decide +kernel
theorem dX2_bring_28 : decode cX2_bring 28 = .ok (.iconst 0, 1) := by decide +kernel
theorem dX2_bring_29 : decode cX2_bring 29 = .ok (.istore 4, 2) := by decide +kernel
theorem dX2_bring_31 : decode cX2_bring 31 = .ok (.iload 4, 2) := by decide +kernel
theorem dX2_bring_33 : decode cX2_bring 33 = .ok (.bipush 8, 2) := by decide +kernel
theorem dX2_bring_35 : decode cX2_bring 35 = .ok (.if_icmp .ge 54, 3) := by decide +kernel
theorem dX2_bring_38 : decode cX2_bring 38 = .ok (.aload_n 0, 1) := by decide +kernel
theorem dX2_bring_39 : decode cX2_bring 39 = .ok (.getfield 7, 3) := by decide +kernel
theorem dX2_bring_42 : decode cX2_bring 42 = .ok (.iload 4, 2) := by decide +kernel
theorem dX2_bring_44 : decode cX2_bring 44 = .ok (.baload, 1) := by decide +kernel
theorem dX2_bring_45 : decode cX2_bring 45 = .ok (.ifCond .ne 38, 3) := by decide +kernel
theorem dX2_bring_48 : decode cX2_bring 48 = .ok (.aload_n 0, 1) := by decide +kernel
theorem dX2_bring_49 : decode cX2_bring 49 = .ok (.getfield 7, 3) := by decide +kernel
theorem dX2_bring_52 : decode cX2_bring 52 = .ok (.iload 4, 2) := by decide +kernel
theorem dX2_bring_54 : decode cX2_bring 54 = .ok (.iconst 1, 1) := by decide +kernel
theorem dX2_bring_55 : decode cX2_bring 55 = .ok (.bastore, 1) := by decide +kernel
theorem dX2_bring_56 : decode cX2_bring 56 = .ok (.aload_n 0, 1) := by decide +kernel
theorem dX2_bring_57 : decode cX2_bring 57 = .ok (.getfield 13, 3) := by decide +kernel
theorem dX2_bring_60 : decode cX2_bring 60 = .ok (.iload 4, 2) := by decide +kernel
theorem dX2_bring_62 : decode cX2_bring 62 = .ok (.iload_n 1, 1) := by decide +kernel
theorem dX2_bring_63 : decode cX2_bring 63 = .ok (.iastore, 1) := by decide +kernel
theorem dX2_bring_64 : decode cX2_bring 64 = .ok (.aload_n 0, 1) := by decide +kernel
theorem dX2_bring_65 : decode cX2_bring 65 = .ok (.getfield 17, 3) := by decide +kernel
theorem dX2_bring_68 : decode cX2_bring 68 = .ok (.iload 4, 2) := by decide +kernel
theorem dX2_bring_70 : decode cX2_bring 70 = .ok (.iload_n 2, 1) := by decide +kernel
theorem dX2_bring_71 : decode cX2_bring 71 = .ok (.iastore, 1) := by decide +kernel
theorem dX2_bring_72 : decode cX2_bring 72 = .ok (.aload_n 0, 1) := by decide +kernel
theorem dX2_bring_73 : decode cX2_bring 73 = .ok (.getfield 20, 3) := by decide +kernel
theorem dX2_bring_76 : decode cX2_bring 76 = .ok (.iload 4, 2) := by decide +kernel
theorem dX2_bring_78 : decode cX2_bring 78 = .ok (.iload_n 3, 1) := by decide +kernel
theorem dX2_bring_79 : decode cX2_bring 79 = .ok (.iastore, 1) := by decide +kernel
theorem dX2_bring_80 : decode cX2_bring 80 = .ok (.iload 4, 2) := by decide +kernel
theorem dX2_bring_82 : decode cX2_bring 82 = .ok (.ireturn, 1) := by decide +kernel
theorem dX2_bring_83 : decode cX2_bring 83 = .ok (.iinc 4 1, 3) := by decide +kernel
theorem dX2_bring_86 : decode cX2_bring 86 = .ok (.goto (-55), 3) := by decide +kernel
theorem dX2_bring_89 : decode cX2_bring 89 = .ok (.bipush (-2), 2) := by decide +kernel
theorem dX2_bring_91 : decode cX2_bring 91 = .ok (.ireturn, 1) := by decide +kernel
abbrev cX2_take : ByteArray := prog_3_method_4_code
def yX2_take : MethodName := ⟨RX2, "take", "(I)Z"⟩
theorem dX2_take_0 : decode cX2_take 0 = .ok (.aload_n 0, 1) := by decide +kernel
theorem dX2_take_1 : decode cX2_take 1 = .ok (.iload_n 1, 1) := by decide +kernel
theorem dX2_take_2 : decode cX2_take 2 = .ok (.invokevirtual 30, 3) := by decide +kernel
theorem dX2_take_5 : decode cX2_take 5 = .ok (.ifCond .ne 5, 3) := by decide +kernel
theorem dX2_take_8 : decode cX2_take 8 = .ok (.iconst 0, 1) := by decide +kernel
theorem dX2_take_9 : decode cX2_take 9 = .ok (.ireturn, 1) := by decide +kernel
theorem dX2_take_10 : decode cX2_take 10 = .ok (.aload_n 0, 1) := by decide +kernel
theorem dX2_take_11 : decode cX2_take 11 = .ok (.getfield 7, 3) := by decide +kernel
theorem dX2_take_14 : decode cX2_take 14 = .ok (.iload_n 1, 1) := by decide +kernel
theorem dX2_take_15 : decode cX2_take 15 = .ok (.iconst 0, 1) := by decide +kernel
theorem dX2_take_16 : decode cX2_take 16 = .ok (.bastore, 1) := by decide +kernel
theorem dX2_take_17 : decode cX2_take 17 = .ok (.iconst 1, 1) := by decide +kernel
theorem dX2_take_18 : decode cX2_take 18 = .ok (.ireturn, 1) := by decide +kernel
abbrev cX2_is : ByteArray := prog_3_method_2_code
def yX2_is : MethodName := ⟨RX2, "is", "(I)Z"⟩
theorem dX2_is_0 : decode cX2_is 0 = .ok (.iload_n 1, 1) := by decide +kernel
theorem dX2_is_1 : decode cX2_is 1 = .ok (.ifCond .lt 22, 3) := by decide +kernel
theorem dX2_is_4 : decode cX2_is 4 = .ok (.iload_n 1, 1) := by decide +kernel
theorem dX2_is_5 : decode cX2_is 5 = .ok (.bipush 8, 2) := by decide +kernel
theorem dX2_is_7 : decode cX2_is 7 = .ok (.if_icmp .ge 16, 3) := by decide +kernel
theorem dX2_is_10 : decode cX2_is 10 = .ok (.aload_n 0, 1) := by decide +kernel
theorem dX2_is_11 : decode cX2_is 11 = .ok (.getfield 7, 3) := by decide +kernel
theorem dX2_is_14 : decode cX2_is 14 = .ok (.iload_n 1, 1) := by decide +kernel
theorem dX2_is_15 : decode cX2_is 15 = .ok (.baload, 1) := by decide +kernel
theorem dX2_is_16 : decode cX2_is 16 = .ok (.ifCond .eq 7, 3) := by decide +kernel
theorem dX2_is_19 : decode cX2_is 19 = .ok (.iconst 1, 1) := by decide +kernel
theorem dX2_is_20 : decode cX2_is 20 = .ok (.goto 4, 3) := by decide +kernel
theorem dX2_is_23 : decode cX2_is 23 = .ok (.iconst 0, 1) := by decide +kernel
theorem dX2_is_24 : decode cX2_is 24 = .ok (.ireturn, 1) := by decide +kernel
abbrev cX2_revalue : ByteArray := prog_3_method_5_code
def yX2_revalue : MethodName := ⟨RX2, "revalue", "(II)Z"⟩
theorem dX2_revalue_0 : decode cX2_revalue 0 = .ok (.aload_n 0, 1) := by decide +kernel
theorem dX2_revalue_1 : decode cX2_revalue 1 = .ok (.iload_n 1, 1) := by decide +kernel
theorem dX2_revalue_2 : decode cX2_revalue 2 = .ok (.invokevirtual 30, 3) := by decide +kernel
theorem dX2_revalue_5 : decode cX2_revalue 5 = .ok (.ifCond .eq 14, 3) := by decide +kernel
theorem dX2_revalue_8 : decode cX2_revalue 8 = .ok (.iload_n 2, 1) := by decide +kernel
theorem dX2_revalue_9 : decode cX2_revalue 9 = .ok (.iconst 1, 1) := by decide +kernel
theorem dX2_revalue_10 : decode cX2_revalue 10 = .ok (.if_icmp .lt 9, 3) := by decide +kernel
theorem dX2_revalue_13 : decode cX2_revalue 13 = .ok (.iload_n 2, 1) := by decide +kernel
theorem dX2_revalue_14 : decode cX2_revalue 14 = .ok (.bipush 20, 2) := by decide +kernel
theorem dX2_revalue_16 : decode cX2_revalue 16 = .ok (.if_icmp .le 5, 3) := by decide +kernel
theorem dX2_revalue_19 : decode cX2_revalue 19 = .ok (.iconst 0, 1) := by decide +kernel
theorem dX2_revalue_20 : decode cX2_revalue 20 = .ok (.ireturn, 1) := by decide +kernel
theorem dX2_revalue_21 : decode cX2_revalue 21 = .ok (.aload_n 0, 1) := by decide +kernel
theorem dX2_revalue_22 : decode cX2_revalue 22 = .ok (.getfield 20, 3) := by decide +kernel
theorem dX2_revalue_25 : decode cX2_revalue 25 = .ok (.iload_n 1, 1) := by decide +kernel
theorem dX2_revalue_26 : decode cX2_revalue 26 = .ok (.iload_n 2, 1) := by decide +kernel
theorem dX2_revalue_27 : decode cX2_revalue 27 = .ok (.iastore, 1) := by decide +kernel
theorem dX2_revalue_28 : decode cX2_revalue 28 = .ok (.iconst 1, 1) := by decide +kernel
theorem dX2_revalue_29 : decode cX2_revalue 29 = .ok (.ireturn, 1) := by decide +kernel
abbrev cX2_setTracks : ByteArray := prog_3_method_6_code
def yX2_setTracks : MethodName := ⟨RX2, "setTracks", "(I)Z"⟩
theorem dX2_setTracks_0 : decode cX2_setTracks 0 = .ok (.iload_n 1, 1) := by decide +kernel
theorem dX2_setTracks_1 : decode cX2_setTracks 1 = .ok (.ifCond .lt 8, 3) := by decide +kernel
theorem dX2_setTracks_4 : decode cX2_setTracks 4 = .ok (.iload_n 1, 1) := by decide +kernel
theorem dX2_setTracks_5 : decode cX2_setTracks 5 = .ok (.iconst 4, 1) := by decide +kernel
theorem dX2_setTracks_6 : decode cX2_setTracks 6 = .ok (.if_icmp .le 5, 3) := by decide +kernel
theorem dX2_setTracks_9 : decode cX2_setTracks 9 = .ok (.iconst 0, 1) := by decide +kernel
theorem dX2_setTracks_10 : decode cX2_setTracks 10 = .ok (.ireturn, 1) := by decide +kernel
theorem dX2_setTracks_11 : decode cX2_setTracks 11 = .ok (.aload_n 0, 1) := by decide +kernel
theorem dX2_setTracks_12 : decode cX2_setTracks 12 = .ok (.iload_n 1, 1) := by decide +kernel
theorem dX2_setTracks_13 : decode cX2_setTracks 13 = .ok (.putfield 26, 3) := by decide +kernel
theorem dX2_setTracks_16 : decode cX2_setTracks 16 = .ok (.iconst 1, 1) := by decide +kernel
theorem dX2_setTracks_17 : decode cX2_setTracks 17 = .ok (.ireturn, 1) := by decide +kernel
abbrev cX2_tracks : ByteArray := prog_3_method_7_code
def yX2_tracks : MethodName := ⟨RX2, "tracks", "()I"⟩
theorem dX2_tracks_0 : decode cX2_tracks 0 = .ok (.aload_n 0, 1) := by decide +kernel
theorem dX2_tracks_1 : decode cX2_tracks 1 = .ok (.getfield 26, 3) := by decide +kernel
theorem dX2_tracks_4 : decode cX2_tracks 4 = .ok (.ireturn, 1) := by decide +kernel
abbrev cX2_jobs : ByteArray := prog_3_method_8_code
def yX2_jobs : MethodName := ⟨RX2, "jobs", "()I"⟩
theorem dX2_jobs_0 : decode cX2_jobs 0 = .ok (.iconst 0, 1) := by decide +kernel
theorem dX2_jobs_1 : decode cX2_jobs 1 = .ok (.istore_n 1, 1) := by decide +kernel
theorem dX2_jobs_2 : decode cX2_jobs 2 = .ok (.iconst 0, 1) := by decide +kernel
theorem dX2_jobs_3 : decode cX2_jobs 3 = .ok (.istore_n 2, 1) := by decide +kernel
theorem dX2_jobs_4 : decode cX2_jobs 4 = .ok (.iload_n 2, 1) := by decide +kernel
theorem dX2_jobs_5 : decode cX2_jobs 5 = .ok (.bipush 8, 2) := by decide +kernel
theorem dX2_jobs_7 : decode cX2_jobs 7 = .ok (.if_icmp .ge 28, 3) := by decide +kernel
theorem dX2_jobs_10 : decode cX2_jobs 10 = .ok (.iload_n 1, 1) := by decide +kernel
theorem dX2_jobs_11 : decode cX2_jobs 11 = .ok (.aload_n 0, 1) := by decide +kernel
theorem dX2_jobs_12 : decode cX2_jobs 12 = .ok (.getfield 7, 3) := by decide +kernel
theorem dX2_jobs_15 : decode cX2_jobs 15 = .ok (.iload_n 2, 1) := by decide +kernel
theorem dX2_jobs_16 : decode cX2_jobs 16 = .ok (.baload, 1) := by decide +kernel
theorem dX2_jobs_17 : decode cX2_jobs 17 = .ok (.ifCond .eq 9, 3) := by decide +kernel
theorem dX2_jobs_20 : decode cX2_jobs 20 = .ok (.iconst 1, 1) := by decide +kernel
theorem dX2_jobs_21 : decode cX2_jobs 21 = .ok (.iload_n 2, 1) := by decide +kernel
theorem dX2_jobs_22 : decode cX2_jobs 22 = .ok (.ishl, 1) := by decide +kernel
theorem dX2_jobs_23 : decode cX2_jobs 23 = .ok (.goto 4, 3) := by decide +kernel
theorem dX2_jobs_26 : decode cX2_jobs 26 = .ok (.iconst 0, 1) := by decide +kernel
theorem dX2_jobs_27 : decode cX2_jobs 27 = .ok (.ior, 1) := by decide +kernel
theorem dX2_jobs_28 : decode cX2_jobs 28 = .ok (.istore_n 1, 1) := by decide +kernel
theorem dX2_jobs_29 : decode cX2_jobs 29 = .ok (.iinc 2 1, 3) := by decide +kernel
theorem dX2_jobs_32 : decode cX2_jobs 32 = .ok (.goto (-28), 3) := by decide +kernel
theorem dX2_jobs_35 : decode cX2_jobs 35 = .ok (.iload_n 1, 1) := by decide +kernel
theorem dX2_jobs_36 : decode cX2_jobs 36 = .ok (.ireturn, 1) := by decide +kernel
abbrev cX2_chosen : ByteArray := prog_3_method_14_code
def yX2_chosen : MethodName := ⟨RX2, "chosen", "()I"⟩
theorem dX2_chosen_0 : decode cX2_chosen 0 = .ok (.aload_n 0, 1) := by decide +kernel
theorem dX2_chosen_1 : decode cX2_chosen 1 = .ok (.invokevirtual 50, 3) := by decide +kernel
theorem dX2_chosen_4 : decode cX2_chosen 4 = .ok (.aload_n 0, 1) := by decide +kernel
theorem dX2_chosen_5 : decode cX2_chosen 5 = .ok (.aload_n 0, 1) := by decide +kernel
theorem dX2_chosen_6 : decode cX2_chosen 6 = .ok (.getfield 26, 3) := by decide +kernel
theorem dX2_chosen_9 : decode cX2_chosen 9 = .ok (.invokevirtual 53, 3) := by decide +kernel
theorem dX2_chosen_12 : decode cX2_chosen 12 = .ok (.ireturn, 1) := by decide +kernel
abbrev cX2_work : ByteArray := prog_3_method_10_code
def yX2_work : MethodName := ⟨RX2, "work", "()V"⟩
theorem dX2_work_0 : decode cX2_work 0 = .ok (.aload_n 0, 1) := by decide +kernel
theorem dX2_work_1 : decode cX2_work 1 = .ok (.invokevirtual 34, 3) := by decide +kernel
theorem dX2_work_4 : decode cX2_work 4 = .ok (.istore_n 1, 1) := by decide +kernel
theorem dX2_work_5 : decode cX2_work 5 = .ok (.iconst 0, 1) := by decide +kernel
theorem dX2_work_6 : decode cX2_work 6 = .ok (.istore_n 2, 1) := by decide +kernel
theorem dX2_work_7 : decode cX2_work 7 = .ok (.iload_n 2, 1) := by decide +kernel
theorem dX2_work_8 : decode cX2_work 8 = .ok (.sipush 256, 3) := by decide +kernel
theorem dX2_work_11 : decode cX2_work 11 = .ok (.if_icmp .ge 74, 3) := by decide +kernel
theorem dX2_work_14 : decode cX2_work 14 = .ok (.aload_n 0, 1) := by decide +kernel
theorem dX2_work_15 : decode cX2_work 15 = .ok (.getfield 23, 3) := by decide +kernel
theorem dX2_work_18 : decode cX2_work 18 = .ok (.iload_n 2, 1) := by decide +kernel
theorem dX2_work_19 : decode cX2_work 19 = .ok (.iconst 0, 1) := by decide +kernel
theorem dX2_work_20 : decode cX2_work 20 = .ok (.iastore, 1) := by decide +kernel
theorem dX2_work_21 : decode cX2_work 21 = .ok (.iconst 0, 1) := by decide +kernel
theorem dX2_work_22 : decode cX2_work 22 = .ok (.istore_n 3, 1) := by decide +kernel
theorem dX2_work_23 : decode cX2_work 23 = .ok (.iload_n 3, 1) := by decide +kernel
theorem dX2_work_24 : decode cX2_work 24 = .ok (.bipush 16, 2) := by decide +kernel
theorem dX2_work_26 : decode cX2_work 26 = .ok (.if_icmp .ge 53, 3) := by decide +kernel
theorem dX2_work_29 : decode cX2_work 29 = .ok (.iload_n 2, 1) := by decide +kernel
theorem dX2_work_30 : decode cX2_work 30 = .ok (.iload_n 1, 1) := by decide +kernel
theorem dX2_work_31 : decode cX2_work 31 = .ok (.iconst (-1), 1) := by decide +kernel
theorem dX2_work_32 : decode cX2_work 32 = .ok (.ixor, 1) := by decide +kernel
theorem dX2_work_33 : decode cX2_work 33 = .ok (.iand, 1) := by decide +kernel
theorem dX2_work_34 : decode cX2_work 34 = .ok (.ifCond .ne 45, 3) := by decide +kernel
theorem dX2_work_37 : decode cX2_work 37 = .ok (.aload_n 0, 1) := by decide +kernel
theorem dX2_work_38 : decode cX2_work 38 = .ok (.iload_n 2, 1) := by decide +kernel
theorem dX2_work_39 : decode cX2_work 39 = .ok (.iload_n 3, 1) := by decide +kernel
theorem dX2_work_40 : decode cX2_work 40 = .ok (.invokevirtual 38, 3) := by decide +kernel
theorem dX2_work_43 : decode cX2_work 43 = .ok (.istore 4, 2) := by decide +kernel
theorem dX2_work_45 : decode cX2_work 45 = .ok (.aload_n 0, 1) := by decide +kernel
theorem dX2_work_46 : decode cX2_work 46 = .ok (.getfield 23, 3) := by decide +kernel
theorem dX2_work_49 : decode cX2_work 49 = .ok (.iload_n 2, 1) := by decide +kernel
theorem dX2_work_50 : decode cX2_work 50 = .ok (.iload 4, 2) := by decide +kernel
theorem dX2_work_52 : decode cX2_work 52 = .ok (.aload_n 0, 1) := by decide +kernel
theorem dX2_work_53 : decode cX2_work 53 = .ok (.getfield 23, 3) := by decide +kernel
theorem dX2_work_56 : decode cX2_work 56 = .ok (.iload_n 2, 1) := by decide +kernel
theorem dX2_work_57 : decode cX2_work 57 = .ok (.iaload, 1) := by decide +kernel
theorem dX2_work_58 : decode cX2_work 58 = .ok (.if_icmp .le 8, 3) := by decide +kernel
theorem dX2_work_61 : decode cX2_work 61 = .ok (.iload 4, 2) := by decide +kernel
theorem dX2_work_63 : decode cX2_work 63 = .ok (.goto 9, 3) := by decide +kernel
theorem dX2_work_66 : decode cX2_work 66 = .ok (.aload_n 0, 1) := by decide +kernel
theorem dX2_work_67 : decode cX2_work 67 = .ok (.getfield 23, 3) := by decide +kernel
theorem dX2_work_70 : decode cX2_work 70 = .ok (.iload_n 2, 1) := by decide +kernel
theorem dX2_work_71 : decode cX2_work 71 = .ok (.iaload, 1) := by decide +kernel
theorem dX2_work_72 : decode cX2_work 72 = .ok (.iastore, 1) := by decide +kernel
theorem dX2_work_73 : decode cX2_work 73 = .ok (.iinc 3 1, 3) := by decide +kernel
theorem dX2_work_76 : decode cX2_work 76 = .ok (.goto (-53), 3) := by decide +kernel
theorem dX2_work_79 : decode cX2_work 79 = .ok (.iinc 2 1, 3) := by decide +kernel
theorem dX2_work_82 : decode cX2_work 82 = .ok (.goto (-75), 3) := by decide +kernel
theorem dX2_work_85 : decode cX2_work 85 = .ok (.return_, 1) := by decide +kernel
abbrev cX2_at : ByteArray := prog_3_method_9_code
def yX2_at : MethodName := ⟨RX2, "at", "(II)I"⟩
theorem dX2_at_0 : decode cX2_at 0 = .ok (.iconst 0, 1) := by decide +kernel
theorem dX2_at_1 : decode cX2_at 1 = .ok (.istore_n 3, 1) := by decide +kernel
theorem dX2_at_2 : decode cX2_at 2 = .ok (.iconst 0, 1) := by decide +kernel
theorem dX2_at_3 : decode cX2_at 3 = .ok (.istore 4, 2) := by decide +kernel
theorem dX2_at_5 : decode cX2_at 5 = .ok (.iload 4, 2) := by decide +kernel
theorem dX2_at_7 : decode cX2_at 7 = .ok (.bipush 8, 2) := by decide +kernel
theorem dX2_at_9 : decode cX2_at 9 = .ok (.if_icmp .ge 49, 3) := by decide +kernel
theorem dX2_at_12 : decode cX2_at 12 = .ok (.iload_n 3, 1) := by decide +kernel
theorem dX2_at_13 : decode cX2_at 13 = .ok (.iload_n 1, 1) := by decide +kernel
theorem dX2_at_14 : decode cX2_at 14 = .ok (.iload 4, 2) := by decide +kernel
theorem dX2_at_16 : decode cX2_at 16 = .ok (.ishr, 1) := by decide +kernel
theorem dX2_at_17 : decode cX2_at 17 = .ok (.iconst 1, 1) := by decide +kernel
theorem dX2_at_18 : decode cX2_at 18 = .ok (.iand, 1) := by decide +kernel
theorem dX2_at_19 : decode cX2_at 19 = .ok (.iconst 1, 1) := by decide +kernel
theorem dX2_at_20 : decode cX2_at 20 = .ok (.if_icmp .ne 29, 3) := by decide +kernel
theorem dX2_at_23 : decode cX2_at 23 = .ok (.aload_n 0, 1) := by decide +kernel
theorem dX2_at_24 : decode cX2_at 24 = .ok (.getfield 13, 3) := by decide +kernel
theorem dX2_at_27 : decode cX2_at 27 = .ok (.iload 4, 2) := by decide +kernel
theorem dX2_at_29 : decode cX2_at 29 = .ok (.iaload, 1) := by decide +kernel
theorem dX2_at_30 : decode cX2_at 30 = .ok (.iload_n 2, 1) := by decide +kernel
theorem dX2_at_31 : decode cX2_at 31 = .ok (.if_icmp .gt 18, 3) := by decide +kernel
theorem dX2_at_34 : decode cX2_at 34 = .ok (.iload_n 2, 1) := by decide +kernel
theorem dX2_at_35 : decode cX2_at 35 = .ok (.aload_n 0, 1) := by decide +kernel
theorem dX2_at_36 : decode cX2_at 36 = .ok (.getfield 17, 3) := by decide +kernel
theorem dX2_at_39 : decode cX2_at 39 = .ok (.iload 4, 2) := by decide +kernel
theorem dX2_at_41 : decode cX2_at 41 = .ok (.iaload, 1) := by decide +kernel
theorem dX2_at_42 : decode cX2_at 42 = .ok (.if_icmp .ge 7, 3) := by decide +kernel
theorem dX2_at_45 : decode cX2_at 45 = .ok (.iconst 1, 1) := by decide +kernel
theorem dX2_at_46 : decode cX2_at 46 = .ok (.goto 4, 3) := by decide +kernel
theorem dX2_at_49 : decode cX2_at 49 = .ok (.iconst 0, 1) := by decide +kernel
theorem dX2_at_50 : decode cX2_at 50 = .ok (.iadd, 1) := by decide +kernel
theorem dX2_at_51 : decode cX2_at 51 = .ok (.istore_n 3, 1) := by decide +kernel
theorem dX2_at_52 : decode cX2_at 52 = .ok (.iinc 4 1, 3) := by decide +kernel
theorem dX2_at_55 : decode cX2_at 55 = .ok (.goto (-50), 3) := by decide +kernel
theorem dX2_at_58 : decode cX2_at 58 = .ok (.iload_n 3, 1) := by decide +kernel
theorem dX2_at_59 : decode cX2_at 59 = .ok (.ireturn, 1) := by decide +kernel
abbrev cX2_best : ByteArray := prog_3_method_13_code
def yX2_best : MethodName := ⟨RX2, "best", "(I)I"⟩
theorem dX2_best_0 : decode cX2_best 0 = .ok (.aload_n 0, 1) := by decide +kernel
theorem dX2_best_1 : decode cX2_best 1 = .ok (.invokevirtual 34, 3) := by decide +kernel
theorem dX2_best_4 : decode cX2_best 4 = .ok (.istore_n 2, 1) := by decide +kernel
theorem dX2_best_5 : decode cX2_best 5 = .ok (.iconst 0, 1) := by decide +kernel
theorem dX2_best_6 : decode cX2_best 6 = .ok (.istore_n 3, 1) := by decide +kernel
theorem dX2_best_7 : decode cX2_best 7 = .ok (.iconst 1, 1) := by decide +kernel
theorem dX2_best_8 : decode cX2_best 8 = .ok (.istore 4, 2) := by decide +kernel
theorem dX2_best_10 : decode cX2_best 10 = .ok (.iload 4, 2) := by decide +kernel
theorem dX2_best_12 : decode cX2_best 12 = .ok (.sipush 256, 3) := by decide +kernel
theorem dX2_best_15 : decode cX2_best 15 = .ok (.if_icmp .ge 42, 3) := by decide +kernel
theorem dX2_best_18 : decode cX2_best 18 = .ok (.iload 4, 2) := by decide +kernel
theorem dX2_best_20 : decode cX2_best 20 = .ok (.iload_n 2, 1) := by decide +kernel
theorem dX2_best_21 : decode cX2_best 21 = .ok (.iconst (-1), 1) := by decide +kernel
theorem dX2_best_22 : decode cX2_best 22 = .ok (.ixor, 1) := by decide +kernel
theorem dX2_best_23 : decode cX2_best 23 = .ok (.iand, 1) := by decide +kernel
theorem dX2_best_24 : decode cX2_best 24 = .ok (.ifCond .ne 27, 3) := by decide +kernel
theorem dX2_best_27 : decode cX2_best 27 = .ok (.aload_n 0, 1) := by decide +kernel
theorem dX2_best_28 : decode cX2_best 28 = .ok (.getfield 23, 3) := by decide +kernel
theorem dX2_best_31 : decode cX2_best 31 = .ok (.iload 4, 2) := by decide +kernel
theorem dX2_best_33 : decode cX2_best 33 = .ok (.iaload, 1) := by decide +kernel
theorem dX2_best_34 : decode cX2_best 34 = .ok (.iload_n 1, 1) := by decide +kernel
theorem dX2_best_35 : decode cX2_best 35 = .ok (.if_icmp .gt 16, 3) := by decide +kernel
theorem dX2_best_38 : decode cX2_best 38 = .ok (.aload_n 0, 1) := by decide +kernel
theorem dX2_best_39 : decode cX2_best 39 = .ok (.iload 4, 2) := by decide +kernel
theorem dX2_best_41 : decode cX2_best 41 = .ok (.iload_n 3, 1) := by decide +kernel
theorem dX2_best_42 : decode cX2_best 42 = .ok (.invokevirtual 46, 3) := by decide +kernel
theorem dX2_best_45 : decode cX2_best 45 = .ok (.ifCond .eq 6, 3) := by decide +kernel
theorem dX2_best_48 : decode cX2_best 48 = .ok (.iload 4, 2) := by decide +kernel
theorem dX2_best_50 : decode cX2_best 50 = .ok (.istore_n 3, 1) := by decide +kernel
theorem dX2_best_51 : decode cX2_best 51 = .ok (.iinc 4 1, 3) := by decide +kernel
theorem dX2_best_54 : decode cX2_best 54 = .ok (.goto (-44), 3) := by decide +kernel
theorem dX2_best_57 : decode cX2_best 57 = .ok (.iload_n 3, 1) := by decide +kernel
theorem dX2_best_58 : decode cX2_best 58 = .ok (.ireturn, 1) := by decide +kernel
abbrev cX2_before : ByteArray := prog_3_method_12_code
def yX2_before : MethodName := ⟨RX2, "before", "(II)Z"⟩
theorem dX2_before_0 : decode cX2_before 0 = .ok (.aload_n 0, 1) := by decide +kernel
theorem dX2_before_1 : decode cX2_before 1 = .ok (.iload_n 1, 1) := by decide +kernel
theorem dX2_before_2 : decode cX2_before 2 = .ok (.invokevirtual 42, 3) := by decide +kernel
theorem dX2_before_5 : decode cX2_before 5 = .ok (.istore_n 3, 1) := by decide +kernel
theorem dX2_before_6 : decode cX2_before 6 = .ok (.aload_n 0, 1) := by decide +kernel
theorem dX2_before_7 : decode cX2_before 7 = .ok (.iload_n 2, 1) := by decide +kernel
theorem dX2_before_8 : decode cX2_before 8 = .ok (.invokevirtual 42, 3) := by decide +kernel
theorem dX2_before_11 : decode cX2_before 11 = .ok (.istore 4, 2) := by decide +kernel
theorem dX2_before_13 : decode cX2_before 13 = .ok (.iload_n 3, 1) := by decide +kernel
theorem dX2_before_14 : decode cX2_before 14 = .ok (.iload 4, 2) := by decide +kernel
theorem dX2_before_16 : decode cX2_before 16 = .ok (.if_icmp .eq 15, 3) := by decide +kernel
theorem dX2_before_19 : decode cX2_before 19 = .ok (.iload_n 3, 1) := by decide +kernel
theorem dX2_before_20 : decode cX2_before 20 = .ok (.iload 4, 2) := by decide +kernel
theorem dX2_before_22 : decode cX2_before 22 = .ok (.if_icmp .le 7, 3) := by decide +kernel
theorem dX2_before_25 : decode cX2_before 25 = .ok (.iconst 1, 1) := by decide +kernel
theorem dX2_before_26 : decode cX2_before 26 = .ok (.goto 4, 3) := by decide +kernel
theorem dX2_before_29 : decode cX2_before 29 = .ok (.iconst 0, 1) := by decide +kernel
theorem dX2_before_30 : decode cX2_before 30 = .ok (.ireturn, 1) := by decide +kernel
theorem dX2_before_31 : decode cX2_before 31 = .ok (.iconst 0, 1) := by decide +kernel
theorem dX2_before_32 : decode cX2_before 32 = .ok (.istore 5, 2) := by decide +kernel
theorem dX2_before_34 : decode cX2_before 34 = .ok (.iload 5, 2) := by decide +kernel
theorem dX2_before_36 : decode cX2_before 36 = .ok (.bipush 8, 2) := by decide +kernel
theorem dX2_before_38 : decode cX2_before 38 = .ok (.if_icmp .ge 40, 3) := by decide +kernel
theorem dX2_before_41 : decode cX2_before 41 = .ok (.iload_n 1, 1) := by decide +kernel
theorem dX2_before_42 : decode cX2_before 42 = .ok (.iload 5, 2) := by decide +kernel
theorem dX2_before_44 : decode cX2_before 44 = .ok (.ishr, 1) := by decide +kernel
theorem dX2_before_45 : decode cX2_before 45 = .ok (.iconst 1, 1) := by decide +kernel
theorem dX2_before_46 : decode cX2_before 46 = .ok (.iand, 1) := by decide +kernel
theorem dX2_before_47 : decode cX2_before 47 = .ok (.iload_n 2, 1) := by decide +kernel
theorem dX2_before_48 : decode cX2_before 48 = .ok (.iload 5, 2) := by decide +kernel
theorem dX2_before_50 : decode cX2_before 50 = .ok (.ishr, 1) := by decide +kernel
theorem dX2_before_51 : decode cX2_before 51 = .ok (.iconst 1, 1) := by decide +kernel
theorem dX2_before_52 : decode cX2_before 52 = .ok (.iand, 1) := by decide +kernel
theorem dX2_before_53 : decode cX2_before 53 = .ok (.if_icmp .eq 19, 3) := by decide +kernel
theorem dX2_before_56 : decode cX2_before 56 = .ok (.iload_n 1, 1) := by decide +kernel
theorem dX2_before_57 : decode cX2_before 57 = .ok (.iload 5, 2) := by decide +kernel
theorem dX2_before_59 : decode cX2_before 59 = .ok (.ishr, 1) := by decide +kernel
theorem dX2_before_60 : decode cX2_before 60 = .ok (.iconst 1, 1) := by decide +kernel
theorem dX2_before_61 : decode cX2_before 61 = .ok (.iand, 1) := by decide +kernel
theorem dX2_before_62 : decode cX2_before 62 = .ok (.iconst 1, 1) := by decide +kernel
theorem dX2_before_63 : decode cX2_before 63 = .ok (.if_icmp .ne 7, 3) := by decide +kernel
theorem dX2_before_66 : decode cX2_before 66 = .ok (.iconst 1, 1) := by decide +kernel
theorem dX2_before_67 : decode cX2_before 67 = .ok (.goto 4, 3) := by decide +kernel
theorem dX2_before_70 : decode cX2_before 70 = .ok (.iconst 0, 1) := by decide +kernel
theorem dX2_before_71 : decode cX2_before 71 = .ok (.ireturn, 1) := by decide +kernel
theorem dX2_before_72 : decode cX2_before 72 = .ok (.iinc 5 1, 3) := by decide +kernel
theorem dX2_before_75 : decode cX2_before 75 = .ok (.goto (-41), 3) := by decide +kernel
theorem dX2_before_78 : decode cX2_before 78 = .ok (.iconst 0, 1) := by decide +kernel
theorem dX2_before_79 : decode cX2_before 79 = .ok (.ireturn, 1) := by decide +kernel
abbrev cX2_sum : ByteArray := prog_3_method_11_code
def yX2_sum : MethodName := ⟨RX2, "sum", "(I)I"⟩
theorem dX2_sum_0 : decode cX2_sum 0 = .ok (.iconst 0, 1) := by decide +kernel
theorem dX2_sum_1 : decode cX2_sum 1 = .ok (.istore_n 2, 1) := by decide +kernel
theorem dX2_sum_2 : decode cX2_sum 2 = .ok (.iconst 0, 1) := by decide +kernel
theorem dX2_sum_3 : decode cX2_sum 3 = .ok (.istore_n 3, 1) := by decide +kernel
theorem dX2_sum_4 : decode cX2_sum 4 = .ok (.iload_n 3, 1) := by decide +kernel
theorem dX2_sum_5 : decode cX2_sum 5 = .ok (.bipush 8, 2) := by decide +kernel
theorem dX2_sum_7 : decode cX2_sum 7 = .ok (.if_icmp .ge 31, 3) := by decide +kernel
theorem dX2_sum_10 : decode cX2_sum 10 = .ok (.iload_n 2, 1) := by decide +kernel
theorem dX2_sum_11 : decode cX2_sum 11 = .ok (.iload_n 1, 1) := by decide +kernel
theorem dX2_sum_12 : decode cX2_sum 12 = .ok (.iload_n 3, 1) := by decide +kernel
theorem dX2_sum_13 : decode cX2_sum 13 = .ok (.ishr, 1) := by decide +kernel
theorem dX2_sum_14 : decode cX2_sum 14 = .ok (.iconst 1, 1) := by decide +kernel
theorem dX2_sum_15 : decode cX2_sum 15 = .ok (.iand, 1) := by decide +kernel
theorem dX2_sum_16 : decode cX2_sum 16 = .ok (.iconst 1, 1) := by decide +kernel
theorem dX2_sum_17 : decode cX2_sum 17 = .ok (.if_icmp .ne 12, 3) := by decide +kernel
theorem dX2_sum_20 : decode cX2_sum 20 = .ok (.aload_n 0, 1) := by decide +kernel
theorem dX2_sum_21 : decode cX2_sum 21 = .ok (.getfield 20, 3) := by decide +kernel
theorem dX2_sum_24 : decode cX2_sum 24 = .ok (.iload_n 3, 1) := by decide +kernel
theorem dX2_sum_25 : decode cX2_sum 25 = .ok (.iaload, 1) := by decide +kernel
theorem dX2_sum_26 : decode cX2_sum 26 = .ok (.goto 4, 3) := by decide +kernel
theorem dX2_sum_29 : decode cX2_sum 29 = .ok (.iconst 0, 1) := by decide +kernel
theorem dX2_sum_30 : decode cX2_sum 30 = .ok (.iadd, 1) := by decide +kernel
theorem dX2_sum_31 : decode cX2_sum 31 = .ok (.istore_n 2, 1) := by decide +kernel
theorem dX2_sum_32 : decode cX2_sum 32 = .ok (.iinc 3 1, 3) := by decide +kernel
theorem dX2_sum_35 : decode cX2_sum 35 = .ok (.goto (-31), 3) := by decide +kernel
theorem dX2_sum_38 : decode cX2_sum 38 = .ok (.iload_n 2, 1) := by decide +kernel
theorem dX2_sum_39 : decode cX2_sum 39 = .ok (.ireturn, 1) := by decide +kernel
abbrev cX2_total : ByteArray := prog_3_method_15_code
def yX2_total : MethodName := ⟨RX2, "total", "()I"⟩
theorem dX2_total_0 : decode cX2_total 0 = .ok (.aload_n 0, 1) := by decide +kernel
theorem dX2_total_1 : decode cX2_total 1 = .ok (.invokevirtual 56, 3) := by decide +kernel
theorem dX2_total_4 : decode cX2_total 4 = .ok (.istore_n 1, 1) := by decide +kernel
theorem dX2_total_5 : decode cX2_total 5 = .ok (.aload_n 0, 1) := by decide +kernel
theorem dX2_total_6 : decode cX2_total 6 = .ok (.iload_n 1, 1) := by decide +kernel
theorem dX2_total_7 : decode cX2_total 7 = .ok (.invokevirtual 42, 3) := by decide +kernel
theorem dX2_total_10 : decode cX2_total 10 = .ok (.ireturn, 1) := by decide +kernel
abbrev cX2_fits : ByteArray := prog_3_method_16_code
def yX2_fits : MethodName := ⟨RX2, "fits", "(I)Z"⟩
theorem dX2_fits_0 : decode cX2_fits 0 = .ok (.aload_n 0, 1) := by decide +kernel
theorem dX2_fits_1 : decode cX2_fits 1 = .ok (.invokevirtual 50, 3) := by decide +kernel
theorem dX2_fits_4 : decode cX2_fits 4 = .ok (.iload_n 1, 1) := by decide +kernel
theorem dX2_fits_5 : decode cX2_fits 5 = .ok (.aload_n 0, 1) := by decide +kernel
theorem dX2_fits_6 : decode cX2_fits 6 = .ok (.invokevirtual 34, 3) := by decide +kernel
theorem dX2_fits_9 : decode cX2_fits 9 = .ok (.iconst (-1), 1) := by decide +kernel
theorem dX2_fits_10 : decode cX2_fits 10 = .ok (.ixor, 1) := by decide +kernel
theorem dX2_fits_11 : decode cX2_fits 11 = .ok (.iand, 1) := by decide +kernel
theorem dX2_fits_12 : decode cX2_fits 12 = .ok (.ifCond .ne 24, 3) := by decide +kernel
theorem dX2_fits_15 : decode cX2_fits 15 = .ok (.aload_n 0, 1) := by decide +kernel
theorem dX2_fits_16 : decode cX2_fits 16 = .ok (.getfield 23, 3) := by decide +kernel
theorem dX2_fits_19 : decode cX2_fits 19 = .ok (.iload_n 1, 1) := by decide +kernel
theorem dX2_fits_20 : decode cX2_fits 20 = .ok (.sipush 255, 3) := by decide +kernel
theorem dX2_fits_23 : decode cX2_fits 23 = .ok (.iand, 1) := by decide +kernel
theorem dX2_fits_24 : decode cX2_fits 24 = .ok (.iaload, 1) := by decide +kernel
theorem dX2_fits_25 : decode cX2_fits 25 = .ok (.aload_n 0, 1) := by decide +kernel
theorem dX2_fits_26 : decode cX2_fits 26 = .ok (.getfield 26, 3) := by decide +kernel
theorem dX2_fits_29 : decode cX2_fits 29 = .ok (.if_icmp .gt 7, 3) := by decide +kernel
theorem dX2_fits_32 : decode cX2_fits 32 = .ok (.iconst 1, 1) := by decide +kernel
theorem dX2_fits_33 : decode cX2_fits 33 = .ok (.goto 4, 3) := by decide +kernel
theorem dX2_fits_36 : decode cX2_fits 36 = .ok (.iconst 0, 1) := by decide +kernel
theorem dX2_fits_37 : decode cX2_fits 37 = .ok (.ireturn, 1) := by decide +kernel
abbrev cX2_tracksFor : ByteArray := prog_3_method_17_code
def yX2_tracksFor : MethodName := ⟨RX2, "tracksFor", "(I)I"⟩
theorem dX2_tracksFor_0 : decode cX2_tracksFor 0 = .ok (.aload_n 0, 1) := by decide +kernel
theorem dX2_tracksFor_1 : decode cX2_tracksFor 1 = .ok (.invokevirtual 50, 3) := by decide +kernel
theorem dX2_tracksFor_4 : decode cX2_tracksFor 4 = .ok (.aload_n 0, 1) := by decide +kernel
theorem dX2_tracksFor_5 : decode cX2_tracksFor 5 = .ok (.getfield 23, 3) := by decide +kernel
theorem dX2_tracksFor_8 : decode cX2_tracksFor 8 = .ok (.iload_n 1, 1) := by decide +kernel
theorem dX2_tracksFor_9 : decode cX2_tracksFor 9 = .ok (.aload_n 0, 1) := by decide +kernel
theorem dX2_tracksFor_10 : decode cX2_tracksFor 10 = .ok (.invokevirtual 34, 3) := by decide +kernel
theorem dX2_tracksFor_13 : decode cX2_tracksFor 13 = .ok (.iand, 1) := by decide +kernel
theorem dX2_tracksFor_14 : decode cX2_tracksFor 14 = .ok (.iaload, 1) := by decide +kernel
theorem dX2_tracksFor_15 : decode cX2_tracksFor 15 = .ok (.ireturn, 1) := by decide +kernel
abbrev cX2_price : ByteArray := prog_3_method_18_code
def yX2_price : MethodName := ⟨RX2, "price", "(I)I"⟩
theorem dX2_price_0 : decode cX2_price 0 = .ok (.aload_n 0, 1) := by decide +kernel
theorem dX2_price_1 : decode cX2_price 1 = .ok (.iload_n 1, 1) := by decide +kernel
theorem dX2_price_2 : decode cX2_price 2 = .ok (.invokevirtual 30, 3) := by decide +kernel
theorem dX2_price_5 : decode cX2_price 5 = .ok (.ifCond .ne 5, 3) := by decide +kernel
theorem dX2_price_8 : decode cX2_price 8 = .ok (.iconst (-1), 1) := by decide +kernel
theorem dX2_price_9 : decode cX2_price 9 = .ok (.ireturn, 1) := by decide +kernel
theorem dX2_price_10 : decode cX2_price 10 = .ok (.aload_n 0, 1) := by decide +kernel
theorem dX2_price_11 : decode cX2_price 11 = .ok (.invokevirtual 50, 3) := by decide +kernel
theorem dX2_price_14 : decode cX2_price 14 = .ok (.aload_n 0, 1) := by decide +kernel
theorem dX2_price_15 : decode cX2_price 15 = .ok (.getfield 20, 3) := by decide +kernel
theorem dX2_price_18 : decode cX2_price 18 = .ok (.iload_n 1, 1) := by decide +kernel
theorem dX2_price_19 : decode cX2_price 19 = .ok (.iaload, 1) := by decide +kernel
theorem dX2_price_20 : decode cX2_price 20 = .ok (.istore_n 2, 1) := by decide +kernel
theorem dX2_price_21 : decode cX2_price 21 = .ok (.bipush 21, 2) := by decide +kernel
theorem dX2_price_23 : decode cX2_price 23 = .ok (.istore_n 3, 1) := by decide +kernel
theorem dX2_price_24 : decode cX2_price 24 = .ok (.bipush 20, 2) := by decide +kernel
theorem dX2_price_26 : decode cX2_price 26 = .ok (.istore 4, 2) := by decide +kernel
theorem dX2_price_28 : decode cX2_price 28 = .ok (.iload 4, 2) := by decide +kernel
theorem dX2_price_30 : decode cX2_price 30 = .ok (.iconst 1, 1) := by decide +kernel
theorem dX2_price_31 : decode cX2_price 31 = .ok (.if_icmp .lt 40, 3) := by decide +kernel
theorem dX2_price_34 : decode cX2_price 34 = .ok (.aload_n 0, 1) := by decide +kernel
theorem dX2_price_35 : decode cX2_price 35 = .ok (.getfield 20, 3) := by decide +kernel
theorem dX2_price_38 : decode cX2_price 38 = .ok (.iload_n 1, 1) := by decide +kernel
theorem dX2_price_39 : decode cX2_price 39 = .ok (.iload 4, 2) := by decide +kernel
theorem dX2_price_41 : decode cX2_price 41 = .ok (.iastore, 1) := by decide +kernel
theorem dX2_price_42 : decode cX2_price 42 = .ok (.aload_n 0, 1) := by decide +kernel
theorem dX2_price_43 : decode cX2_price 43 = .ok (.aload_n 0, 1) := by decide +kernel
theorem dX2_price_44 : decode cX2_price 44 = .ok (.getfield 26, 3) := by decide +kernel
theorem dX2_price_47 : decode cX2_price 47 = .ok (.invokevirtual 53, 3) := by decide +kernel
theorem dX2_price_50 : decode cX2_price 50 = .ok (.iload_n 1, 1) := by decide +kernel
theorem dX2_price_51 : decode cX2_price 51 = .ok (.ishr, 1) := by decide +kernel
theorem dX2_price_52 : decode cX2_price 52 = .ok (.iconst 1, 1) := by decide +kernel
theorem dX2_price_53 : decode cX2_price 53 = .ok (.iand, 1) := by decide +kernel
theorem dX2_price_54 : decode cX2_price 54 = .ok (.iconst 1, 1) := by decide +kernel
theorem dX2_price_55 : decode cX2_price 55 = .ok (.if_icmp .ne 8, 3) := by decide +kernel
theorem dX2_price_58 : decode cX2_price 58 = .ok (.iload 4, 2) := by decide +kernel
theorem dX2_price_60 : decode cX2_price 60 = .ok (.goto 4, 3) := by decide +kernel
theorem dX2_price_63 : decode cX2_price 63 = .ok (.iload_n 3, 1) := by decide +kernel
theorem dX2_price_64 : decode cX2_price 64 = .ok (.istore_n 3, 1) := by decide +kernel
theorem dX2_price_65 : decode cX2_price 65 = .ok (.iinc 4 (-1), 3) := by decide +kernel
theorem dX2_price_68 : decode cX2_price 68 = .ok (.goto (-40), 3) := by decide +kernel
theorem dX2_price_71 : decode cX2_price 71 = .ok (.aload_n 0, 1) := by decide +kernel
theorem dX2_price_72 : decode cX2_price 72 = .ok (.getfield 20, 3) := by decide +kernel
theorem dX2_price_75 : decode cX2_price 75 = .ok (.iload_n 1, 1) := by decide +kernel
theorem dX2_price_76 : decode cX2_price 76 = .ok (.iload_n 2, 1) := by decide +kernel
theorem dX2_price_77 : decode cX2_price 77 = .ok (.iastore, 1) := by decide +kernel
theorem dX2_price_78 : decode cX2_price 78 = .ok (.iload_n 3, 1) := by decide +kernel
theorem dX2_price_79 : decode cX2_price 79 = .ok (.ireturn, 1) := by decide +kernel
abbrev cX2_totalWith : ByteArray := prog_3_method_19_code
def yX2_totalWith : MethodName := ⟨RX2, "totalWith", "(II)I"⟩
theorem dX2_totalWith_0 : decode cX2_totalWith 0 = .ok (.aload_n 0, 1) := by decide +kernel
theorem dX2_totalWith_1 : decode cX2_totalWith 1 = .ok (.invokevirtual 50, 3) := by decide +kernel
theorem dX2_totalWith_4 : decode cX2_totalWith 4 = .ok (.aload_n 0, 1) := by decide +kernel
theorem dX2_totalWith_5 : decode cX2_totalWith 5 = .ok (.invokevirtual 34, 3) := by decide +kernel
theorem dX2_totalWith_8 : decode cX2_totalWith 8 = .ok (.istore_n 3, 1) := by decide +kernel
theorem dX2_totalWith_9 : decode cX2_totalWith 9 = .ok (.iconst (-1), 1) := by decide +kernel
theorem dX2_totalWith_10 : decode cX2_totalWith 10 = .ok (.istore 4, 2) := by decide +kernel
theorem dX2_totalWith_12 : decode cX2_totalWith 12 = .ok (.iconst 0, 1) := by decide +kernel
theorem dX2_totalWith_13 : decode cX2_totalWith 13 = .ok (.istore 5, 2) := by decide +kernel
theorem dX2_totalWith_15 : decode cX2_totalWith 15 = .ok (.iload 5, 2) := by decide +kernel
theorem dX2_totalWith_17 : decode cX2_totalWith 17 = .ok (.sipush 256, 3) := by decide +kernel
theorem dX2_totalWith_20 : decode cX2_totalWith 20 = .ok (.if_icmp .ge 74, 3) := by decide +kernel
theorem dX2_totalWith_23 : decode cX2_totalWith 23 = .ok (.iload 5, 2) := by decide +kernel
theorem dX2_totalWith_25 : decode cX2_totalWith 25 = .ok (.iload_n 3, 1) := by decide +kernel
theorem dX2_totalWith_26 : decode cX2_totalWith 26 = .ok (.iconst (-1), 1) := by decide +kernel
theorem dX2_totalWith_27 : decode cX2_totalWith 27 = .ok (.ixor, 1) := by decide +kernel
theorem dX2_totalWith_28 : decode cX2_totalWith 28 = .ok (.iand, 1) := by decide +kernel
theorem dX2_totalWith_29 : decode cX2_totalWith 29 = .ok (.ifCond .ne 59, 3) := by decide +kernel
theorem dX2_totalWith_32 : decode cX2_totalWith 32 = .ok (.aload_n 0, 1) := by decide +kernel
theorem dX2_totalWith_33 : decode cX2_totalWith 33 = .ok (.getfield 23, 3) := by decide +kernel
theorem dX2_totalWith_36 : decode cX2_totalWith 36 = .ok (.iload 5, 2) := by decide +kernel
theorem dX2_totalWith_38 : decode cX2_totalWith 38 = .ok (.iaload, 1) := by decide +kernel
theorem dX2_totalWith_39 : decode cX2_totalWith 39 = .ok (.aload_n 0, 1) := by decide +kernel
theorem dX2_totalWith_40 : decode cX2_totalWith 40 = .ok (.getfield 26, 3) := by decide +kernel
theorem dX2_totalWith_43 : decode cX2_totalWith 43 = .ok (.if_icmp .gt 45, 3) := by decide +kernel
theorem dX2_totalWith_46 : decode cX2_totalWith 46 = .ok (.iload_n 1, 1) := by decide +kernel
theorem dX2_totalWith_47 : decode cX2_totalWith 47 = .ok (.iload_n 3, 1) := by decide +kernel
theorem dX2_totalWith_48 : decode cX2_totalWith 48 = .ok (.iand, 1) := by decide +kernel
theorem dX2_totalWith_49 : decode cX2_totalWith 49 = .ok (.iload 5, 2) := by decide +kernel
theorem dX2_totalWith_51 : decode cX2_totalWith 51 = .ok (.iconst (-1), 1) := by decide +kernel
theorem dX2_totalWith_52 : decode cX2_totalWith 52 = .ok (.ixor, 1) := by decide +kernel
theorem dX2_totalWith_53 : decode cX2_totalWith 53 = .ok (.iand, 1) := by decide +kernel
theorem dX2_totalWith_54 : decode cX2_totalWith 54 = .ok (.ifCond .ne 34, 3) := by decide +kernel
theorem dX2_totalWith_57 : decode cX2_totalWith 57 = .ok (.iload_n 2, 1) := by decide +kernel
theorem dX2_totalWith_58 : decode cX2_totalWith 58 = .ok (.iload 5, 2) := by decide +kernel
theorem dX2_totalWith_60 : decode cX2_totalWith 60 = .ok (.iand, 1) := by decide +kernel
theorem dX2_totalWith_61 : decode cX2_totalWith 61 = .ok (.ifCond .ne 27, 3) := by decide +kernel
theorem dX2_totalWith_64 : decode cX2_totalWith 64 = .ok (.aload_n 0, 1) := by decide +kernel
theorem dX2_totalWith_65 : decode cX2_totalWith 65 = .ok (.iload 5, 2) := by decide +kernel
theorem dX2_totalWith_67 : decode cX2_totalWith 67 = .ok (.invokevirtual 42, 3) := by decide +kernel
theorem dX2_totalWith_70 : decode cX2_totalWith 70 = .ok (.istore 6, 2) := by decide +kernel
theorem dX2_totalWith_72 : decode cX2_totalWith 72 = .ok (.iload 6, 2) := by decide +kernel
theorem dX2_totalWith_74 : decode cX2_totalWith 74 = .ok (.iload 4, 2) := by decide +kernel
theorem dX2_totalWith_76 : decode cX2_totalWith 76 = .ok (.if_icmp .le 8, 3) := by decide +kernel
theorem dX2_totalWith_79 : decode cX2_totalWith 79 = .ok (.iload 6, 2) := by decide +kernel
theorem dX2_totalWith_81 : decode cX2_totalWith 81 = .ok (.goto 5, 3) := by decide +kernel
theorem dX2_totalWith_84 : decode cX2_totalWith 84 = .ok (.iload 4, 2) := by decide +kernel
theorem dX2_totalWith_86 : decode cX2_totalWith 86 = .ok (.istore 4, 2) := by decide +kernel
theorem dX2_totalWith_88 : decode cX2_totalWith 88 = .ok (.iinc 5 1, 3) := by decide +kernel
theorem dX2_totalWith_91 : decode cX2_totalWith 91 = .ok (.goto (-76), 3) := by decide +kernel
theorem dX2_totalWith_94 : decode cX2_totalWith 94 = .ok (.iload 4, 2) := by decide +kernel
theorem dX2_totalWith_96 : decode cX2_totalWith 96 = .ok (.ireturn, 1) := by decide +kernel
abbrev cX2_gain : ByteArray := prog_3_method_20_code
def yX2_gain : MethodName := ⟨RX2, "gain", "()I"⟩
theorem dX2_gain_0 : decode cX2_gain 0 = .ok (.aload_n 0, 1) := by decide +kernel
theorem dX2_gain_1 : decode cX2_gain 1 = .ok (.invokevirtual 50, 3) := by decide +kernel
theorem dX2_gain_4 : decode cX2_gain 4 = .ok (.aload_n 0, 1) := by decide +kernel
theorem dX2_gain_5 : decode cX2_gain 5 = .ok (.aload_n 0, 1) := by decide +kernel
theorem dX2_gain_6 : decode cX2_gain 6 = .ok (.getfield 26, 3) := by decide +kernel
theorem dX2_gain_9 : decode cX2_gain 9 = .ok (.invokevirtual 53, 3) := by decide +kernel
theorem dX2_gain_12 : decode cX2_gain 12 = .ok (.istore_n 1, 1) := by decide +kernel
theorem dX2_gain_13 : decode cX2_gain 13 = .ok (.aload_n 0, 1) := by decide +kernel
theorem dX2_gain_14 : decode cX2_gain 14 = .ok (.aload_n 0, 1) := by decide +kernel
theorem dX2_gain_15 : decode cX2_gain 15 = .ok (.getfield 26, 3) := by decide +kernel
theorem dX2_gain_18 : decode cX2_gain 18 = .ok (.iconst 1, 1) := by decide +kernel
theorem dX2_gain_19 : decode cX2_gain 19 = .ok (.iadd, 1) := by decide +kernel
theorem dX2_gain_20 : decode cX2_gain 20 = .ok (.invokevirtual 53, 3) := by decide +kernel
theorem dX2_gain_23 : decode cX2_gain 23 = .ok (.istore_n 2, 1) := by decide +kernel
theorem dX2_gain_24 : decode cX2_gain 24 = .ok (.aload_n 0, 1) := by decide +kernel
theorem dX2_gain_25 : decode cX2_gain 25 = .ok (.iload_n 2, 1) := by decide +kernel
theorem dX2_gain_26 : decode cX2_gain 26 = .ok (.invokevirtual 42, 3) := by decide +kernel
theorem dX2_gain_29 : decode cX2_gain 29 = .ok (.aload_n 0, 1) := by decide +kernel
theorem dX2_gain_30 : decode cX2_gain 30 = .ok (.iload_n 1, 1) := by decide +kernel
theorem dX2_gain_31 : decode cX2_gain 31 = .ok (.invokevirtual 42, 3) := by decide +kernel
theorem dX2_gain_34 : decode cX2_gain 34 = .ok (.isub, 1) := by decide +kernel
theorem dX2_gain_35 : decode cX2_gain 35 = .ok (.ireturn, 1) := by decide +kernel
abbrev cX2_loss : ByteArray := prog_3_method_21_code
def yX2_loss : MethodName := ⟨RX2, "loss", "()I"⟩
theorem dX2_loss_0 : decode cX2_loss 0 = .ok (.aload_n 0, 1) := by decide +kernel
theorem dX2_loss_1 : decode cX2_loss 1 = .ok (.getfield 26, 3) := by decide +kernel
theorem dX2_loss_4 : decode cX2_loss 4 = .ok (.ifCond .ne 5, 3) := by decide +kernel
theorem dX2_loss_7 : decode cX2_loss 7 = .ok (.iconst (-1), 1) := by decide +kernel
theorem dX2_loss_8 : decode cX2_loss 8 = .ok (.ireturn, 1) := by decide +kernel
theorem dX2_loss_9 : decode cX2_loss 9 = .ok (.aload_n 0, 1) := by decide +kernel
theorem dX2_loss_10 : decode cX2_loss 10 = .ok (.invokevirtual 50, 3) := by decide +kernel
theorem dX2_loss_13 : decode cX2_loss 13 = .ok (.aload_n 0, 1) := by decide +kernel
theorem dX2_loss_14 : decode cX2_loss 14 = .ok (.aload_n 0, 1) := by decide +kernel
theorem dX2_loss_15 : decode cX2_loss 15 = .ok (.getfield 26, 3) := by decide +kernel
theorem dX2_loss_18 : decode cX2_loss 18 = .ok (.invokevirtual 53, 3) := by decide +kernel
theorem dX2_loss_21 : decode cX2_loss 21 = .ok (.istore_n 1, 1) := by decide +kernel
theorem dX2_loss_22 : decode cX2_loss 22 = .ok (.aload_n 0, 1) := by decide +kernel
theorem dX2_loss_23 : decode cX2_loss 23 = .ok (.aload_n 0, 1) := by decide +kernel
theorem dX2_loss_24 : decode cX2_loss 24 = .ok (.getfield 26, 3) := by decide +kernel
theorem dX2_loss_27 : decode cX2_loss 27 = .ok (.iconst 1, 1) := by decide +kernel
theorem dX2_loss_28 : decode cX2_loss 28 = .ok (.isub, 1) := by decide +kernel
theorem dX2_loss_29 : decode cX2_loss 29 = .ok (.invokevirtual 53, 3) := by decide +kernel
theorem dX2_loss_32 : decode cX2_loss 32 = .ok (.istore_n 2, 1) := by decide +kernel
theorem dX2_loss_33 : decode cX2_loss 33 = .ok (.aload_n 0, 1) := by decide +kernel
theorem dX2_loss_34 : decode cX2_loss 34 = .ok (.iload_n 1, 1) := by decide +kernel
theorem dX2_loss_35 : decode cX2_loss 35 = .ok (.invokevirtual 42, 3) := by decide +kernel
theorem dX2_loss_38 : decode cX2_loss 38 = .ok (.aload_n 0, 1) := by decide +kernel
theorem dX2_loss_39 : decode cX2_loss 39 = .ok (.iload_n 2, 1) := by decide +kernel
theorem dX2_loss_40 : decode cX2_loss 40 = .ok (.invokevirtual 42, 3) := by decide +kernel
theorem dX2_loss_43 : decode cX2_loss 43 = .ok (.isub, 1) := by decide +kernel
theorem dX2_loss_44 : decode cX2_loss 44 = .ok (.ireturn, 1) := by decide +kernel
abbrev cX2_busy : ByteArray := prog_3_method_22_code
def yX2_busy : MethodName := ⟨RX2, "busy", "(I)I"⟩
theorem dX2_busy_0 : decode cX2_busy 0 = .ok (.aload_n 0, 1) := by decide +kernel
theorem dX2_busy_1 : decode cX2_busy 1 = .ok (.invokevirtual 56, 3) := by decide +kernel
theorem dX2_busy_4 : decode cX2_busy 4 = .ok (.istore_n 2, 1) := by decide +kernel
theorem dX2_busy_5 : decode cX2_busy 5 = .ok (.iload_n 1, 1) := by decide +kernel
theorem dX2_busy_6 : decode cX2_busy 6 = .ok (.ifCond .lt 9, 3) := by decide +kernel
theorem dX2_busy_9 : decode cX2_busy 9 = .ok (.iload_n 1, 1) := by decide +kernel
theorem dX2_busy_10 : decode cX2_busy 10 = .ok (.bipush 15, 2) := by decide +kernel
theorem dX2_busy_12 : decode cX2_busy 12 = .ok (.if_icmp .le 7, 3) := by decide +kernel
theorem dX2_busy_15 : decode cX2_busy 15 = .ok (.iconst 0, 1) := by decide +kernel
theorem dX2_busy_16 : decode cX2_busy 16 = .ok (.goto 9, 3) := by decide +kernel
theorem dX2_busy_19 : decode cX2_busy 19 = .ok (.aload_n 0, 1) := by decide +kernel
theorem dX2_busy_20 : decode cX2_busy 20 = .ok (.iload_n 2, 1) := by decide +kernel
theorem dX2_busy_21 : decode cX2_busy 21 = .ok (.iload_n 1, 1) := by decide +kernel
theorem dX2_busy_22 : decode cX2_busy 22 = .ok (.invokevirtual 38, 3) := by decide +kernel
theorem dX2_busy_25 : decode cX2_busy 25 = .ok (.ireturn, 1) := by decide +kernel
theorem q22 : (Jvm.Cond.initialized "TrackMarketModel") ∈ lw_all := lw_g (lw_at lw_m1 2 rfl) rfl
theorem q199 : (Jvm.Cond.instantiable "TrackMarketModel" (6 : Nat)) ∈ lw_all := lw_g (lw_at lw_m1 179 rfl) rfl
theorem q201 : (Jvm.Cond.instanceMethod ({ cls := "TrackMarketModel", name := "<init>", desc := "(I)V" } : Jvm.MethodName)) ∈ lw_all := lw_g (lw_at lw_m1 181 rfl) rfl
theorem q202 : (Jvm.Cond.code ({ cls := "TrackMarketModel", name := "<init>", desc := "(I)V" } : Jvm.MethodName) prog_3_method_1_code (2 : Nat) (Option.none : Option Jvm.ClassFile.FieldType)) ∈ lw_all := lw_g (lw_at lw_m1 182 rfl) rfl
theorem q203 : (Jvm.Cond.methodLink "TrackMarketModel" (1 : Nat) ({ cls := "java/lang/Object", name := "<init>", desc := "()V" } : Jvm.MethodName)) ∈ lw_all := lw_g (lw_at lw_m1 183 rfl) rfl
theorem q204 : (Jvm.Cond.fieldLink "TrackMarketModel" (26 : Nat) "TrackMarketModel" "lanes" "I") ∈ lw_all := lw_g (lw_at lw_m1 184 rfl) rfl
theorem q205 : (Jvm.Cond.fieldLink "TrackMarketModel" (7 : Nat) "TrackMarketModel" "there" "[Z") ∈ lw_all := lw_g (lw_at lw_m1 185 rfl) rfl
theorem q206 : (Jvm.Cond.fieldLink "TrackMarketModel" (13 : Nat) "TrackMarketModel" "from" "[I") ∈ lw_all := lw_g (lw_at lw_m1 186 rfl) rfl
theorem q207 : (Jvm.Cond.fieldLink "TrackMarketModel" (17 : Nat) "TrackMarketModel" "to" "[I") ∈ lw_all := lw_g (lw_at lw_m1 187 rfl) rfl
theorem q208 : (Jvm.Cond.fieldLink "TrackMarketModel" (20 : Nat) "TrackMarketModel" "value" "[I") ∈ lw_all := lw_g (lw_at lw_m1 188 rfl) rfl
theorem q209 : (Jvm.Cond.fieldLink "TrackMarketModel" (23 : Nat) "TrackMarketModel" "load" "[I") ∈ lw_all := lw_g (lw_at lw_m1 189 rfl) rfl
theorem q210 : (Jvm.Cond.lays "TrackMarketModel" "TrackMarketModel" "lanes" "I") ∈ lw_all := lw_g (lw_at lw_m1 190 rfl) rfl
theorem q211 : (Jvm.Cond.soleField "TrackMarketModel" "lanes") ∈ lw_all := lw_g (lw_at lw_m1 191 rfl) rfl
theorem q212 : (Jvm.Cond.lays "TrackMarketModel" "TrackMarketModel" "there" "[Z") ∈ lw_all := lw_g (lw_at lw_m1 192 rfl) rfl
theorem q213 : (Jvm.Cond.soleField "TrackMarketModel" "there") ∈ lw_all := lw_g (lw_at lw_m1 193 rfl) rfl
theorem q214 : (Jvm.Cond.lays "TrackMarketModel" "TrackMarketModel" "from" "[I") ∈ lw_all := lw_g (lw_at lw_m1 194 rfl) rfl
theorem q215 : (Jvm.Cond.soleField "TrackMarketModel" "from") ∈ lw_all := lw_g (lw_at lw_m1 195 rfl) rfl
theorem q216 : (Jvm.Cond.lays "TrackMarketModel" "TrackMarketModel" "to" "[I") ∈ lw_all := lw_g (lw_at lw_m1 196 rfl) rfl
theorem q217 : (Jvm.Cond.soleField "TrackMarketModel" "to") ∈ lw_all := lw_g (lw_at lw_m1 197 rfl) rfl
theorem q218 : (Jvm.Cond.lays "TrackMarketModel" "TrackMarketModel" "value" "[I") ∈ lw_all := lw_g (lw_at lw_m1 198 rfl) rfl
theorem q219 : (Jvm.Cond.soleField "TrackMarketModel" "value") ∈ lw_all := lw_g (lw_at lw_m1 199 rfl) rfl
theorem q220 : (Jvm.Cond.lays "TrackMarketModel" "TrackMarketModel" "load" "[I") ∈ lw_all := lw_g (lw_at lw_m1 200 rfl) rfl
theorem q221 : (Jvm.Cond.soleField "TrackMarketModel" "load") ∈ lw_all := lw_g (lw_at lw_m1 201 rfl) rfl
theorem q222 : (Jvm.Cond.superclass "TrackMarketModel" "java/lang/Object") ∈ lw_all := lw_g (lw_at lw_m1 202 rfl) rfl
theorem q225 : (Jvm.Cond.instanceMethod ({ cls := "TrackMarketModel", name := "bring", desc := "(III)I" } : Jvm.MethodName)) ∈ lw_all := lw_g (lw_at lw_m1 205 rfl) rfl
theorem q226 : (Jvm.Cond.selects "TrackMarketModel" ({ cls := "TrackMarketModel", name := "bring", desc := "(III)I" } : Jvm.MethodName) ({ cls := "TrackMarketModel", name := "bring", desc := "(III)I" } : Jvm.MethodName)) ∈ lw_all := lw_g (lw_at lw_m1 206 rfl) rfl
theorem q227 : (Jvm.Cond.code ({ cls := "TrackMarketModel", name := "bring", desc := "(III)I" } : Jvm.MethodName) prog_3_method_3_code (5 : Nat) (Option.some Jvm.ClassFile.FieldType.int)) ∈ lw_all := lw_g (lw_at lw_m1 207 rfl) rfl
theorem q229 : (Jvm.Cond.instanceMethod ({ cls := "TrackMarketModel", name := "take", desc := "(I)Z" } : Jvm.MethodName)) ∈ lw_all := lw_g (lw_at lw_m1 209 rfl) rfl
theorem q230 : (Jvm.Cond.selects "TrackMarketModel" ({ cls := "TrackMarketModel", name := "take", desc := "(I)Z" } : Jvm.MethodName) ({ cls := "TrackMarketModel", name := "take", desc := "(I)Z" } : Jvm.MethodName)) ∈ lw_all := lw_g (lw_at lw_m1 210 rfl) rfl
theorem q231 : (Jvm.Cond.code ({ cls := "TrackMarketModel", name := "take", desc := "(I)Z" } : Jvm.MethodName) prog_3_method_4_code (2 : Nat) (Option.some Jvm.ClassFile.FieldType.boolean)) ∈ lw_all := lw_g (lw_at lw_m1 211 rfl) rfl
theorem q232 : (Jvm.Cond.methodLink "TrackMarketModel" (30 : Nat) ({ cls := "TrackMarketModel", name := "is", desc := "(I)Z" } : Jvm.MethodName)) ∈ lw_all := lw_g (lw_at lw_m1 212 rfl) rfl
theorem q233 : (Jvm.Cond.privateMethod ({ cls := "TrackMarketModel", name := "is", desc := "(I)Z" } : Jvm.MethodName)) ∈ lw_tbl := lw_at lw_m1 213 rfl
theorem q234 : (Jvm.Cond.instanceMethod ({ cls := "TrackMarketModel", name := "is", desc := "(I)Z" } : Jvm.MethodName)) ∈ lw_all := lw_g (lw_at lw_m1 214 rfl) rfl
theorem q235 : (Jvm.Cond.code ({ cls := "TrackMarketModel", name := "is", desc := "(I)Z" } : Jvm.MethodName) prog_3_method_2_code (2 : Nat) (Option.some Jvm.ClassFile.FieldType.boolean)) ∈ lw_all := lw_g (lw_at lw_m1 215 rfl) rfl
theorem q237 : (Jvm.Cond.instanceMethod ({ cls := "TrackMarketModel", name := "revalue", desc := "(II)Z" } : Jvm.MethodName)) ∈ lw_all := lw_g (lw_at lw_m1 217 rfl) rfl
theorem q238 : (Jvm.Cond.selects "TrackMarketModel" ({ cls := "TrackMarketModel", name := "revalue", desc := "(II)Z" } : Jvm.MethodName) ({ cls := "TrackMarketModel", name := "revalue", desc := "(II)Z" } : Jvm.MethodName)) ∈ lw_all := lw_g (lw_at lw_m1 218 rfl) rfl
theorem q239 : (Jvm.Cond.code ({ cls := "TrackMarketModel", name := "revalue", desc := "(II)Z" } : Jvm.MethodName) prog_3_method_5_code (3 : Nat) (Option.some Jvm.ClassFile.FieldType.boolean)) ∈ lw_all := lw_g (lw_at lw_m1 219 rfl) rfl
theorem q241 : (Jvm.Cond.instanceMethod ({ cls := "TrackMarketModel", name := "setTracks", desc := "(I)Z" } : Jvm.MethodName)) ∈ lw_all := lw_g (lw_at lw_m1 221 rfl) rfl
theorem q242 : (Jvm.Cond.selects "TrackMarketModel" ({ cls := "TrackMarketModel", name := "setTracks", desc := "(I)Z" } : Jvm.MethodName) ({ cls := "TrackMarketModel", name := "setTracks", desc := "(I)Z" } : Jvm.MethodName)) ∈ lw_all := lw_g (lw_at lw_m1 222 rfl) rfl
theorem q243 : (Jvm.Cond.code ({ cls := "TrackMarketModel", name := "setTracks", desc := "(I)Z" } : Jvm.MethodName) prog_3_method_6_code (2 : Nat) (Option.some Jvm.ClassFile.FieldType.boolean)) ∈ lw_all := lw_g (lw_at lw_m1 223 rfl) rfl
theorem q245 : (Jvm.Cond.instanceMethod ({ cls := "TrackMarketModel", name := "tracks", desc := "()I" } : Jvm.MethodName)) ∈ lw_all := lw_g (lw_at lw_m1 225 rfl) rfl
theorem q246 : (Jvm.Cond.selects "TrackMarketModel" ({ cls := "TrackMarketModel", name := "tracks", desc := "()I" } : Jvm.MethodName) ({ cls := "TrackMarketModel", name := "tracks", desc := "()I" } : Jvm.MethodName)) ∈ lw_all := lw_g (lw_at lw_m1 226 rfl) rfl
theorem q247 : (Jvm.Cond.code ({ cls := "TrackMarketModel", name := "tracks", desc := "()I" } : Jvm.MethodName) prog_3_method_7_code (1 : Nat) (Option.some Jvm.ClassFile.FieldType.int)) ∈ lw_all := lw_g (lw_at lw_m1 227 rfl) rfl
theorem q249 : (Jvm.Cond.instanceMethod ({ cls := "TrackMarketModel", name := "jobs", desc := "()I" } : Jvm.MethodName)) ∈ lw_all := lw_g (lw_at lw_m1 229 rfl) rfl
theorem q250 : (Jvm.Cond.selects "TrackMarketModel" ({ cls := "TrackMarketModel", name := "jobs", desc := "()I" } : Jvm.MethodName) ({ cls := "TrackMarketModel", name := "jobs", desc := "()I" } : Jvm.MethodName)) ∈ lw_all := lw_g (lw_at lw_m1 230 rfl) rfl
theorem q251 : (Jvm.Cond.code ({ cls := "TrackMarketModel", name := "jobs", desc := "()I" } : Jvm.MethodName) prog_3_method_8_code (3 : Nat) (Option.some Jvm.ClassFile.FieldType.int)) ∈ lw_all := lw_g (lw_at lw_m1 231 rfl) rfl
theorem q253 : (Jvm.Cond.instanceMethod ({ cls := "TrackMarketModel", name := "chosen", desc := "()I" } : Jvm.MethodName)) ∈ lw_all := lw_g (lw_at lw_m1 233 rfl) rfl
theorem q254 : (Jvm.Cond.selects "TrackMarketModel" ({ cls := "TrackMarketModel", name := "chosen", desc := "()I" } : Jvm.MethodName) ({ cls := "TrackMarketModel", name := "chosen", desc := "()I" } : Jvm.MethodName)) ∈ lw_all := lw_g (lw_at lw_m1 234 rfl) rfl
theorem q255 : (Jvm.Cond.code ({ cls := "TrackMarketModel", name := "chosen", desc := "()I" } : Jvm.MethodName) prog_3_method_14_code (1 : Nat) (Option.some Jvm.ClassFile.FieldType.int)) ∈ lw_all := lw_g (lw_at lw_m1 235 rfl) rfl
theorem q256 : (Jvm.Cond.methodLink "TrackMarketModel" (50 : Nat) ({ cls := "TrackMarketModel", name := "work", desc := "()V" } : Jvm.MethodName)) ∈ lw_all := lw_g (lw_at lw_m1 236 rfl) rfl
theorem q257 : (Jvm.Cond.privateMethod ({ cls := "TrackMarketModel", name := "work", desc := "()V" } : Jvm.MethodName)) ∈ lw_tbl := lw_at lw_m1 237 rfl
theorem q258 : (Jvm.Cond.instanceMethod ({ cls := "TrackMarketModel", name := "work", desc := "()V" } : Jvm.MethodName)) ∈ lw_all := lw_g (lw_at lw_m1 238 rfl) rfl
theorem q259 : (Jvm.Cond.code ({ cls := "TrackMarketModel", name := "work", desc := "()V" } : Jvm.MethodName) prog_3_method_10_code (5 : Nat) (Option.none : Option Jvm.ClassFile.FieldType)) ∈ lw_all := lw_g (lw_at lw_m1 239 rfl) rfl
theorem q260 : (Jvm.Cond.methodLink "TrackMarketModel" (34 : Nat) ({ cls := "TrackMarketModel", name := "jobs", desc := "()I" } : Jvm.MethodName)) ∈ lw_all := lw_g (lw_at lw_m2 0 rfl) rfl
theorem q261 : (Jvm.Cond.methodLink "TrackMarketModel" (38 : Nat) ({ cls := "TrackMarketModel", name := "at", desc := "(II)I" } : Jvm.MethodName)) ∈ lw_all := lw_g (lw_at lw_m2 1 rfl) rfl
theorem q262 : (Jvm.Cond.privateMethod ({ cls := "TrackMarketModel", name := "at", desc := "(II)I" } : Jvm.MethodName)) ∈ lw_tbl := lw_at lw_m2 2 rfl
theorem q263 : (Jvm.Cond.instanceMethod ({ cls := "TrackMarketModel", name := "at", desc := "(II)I" } : Jvm.MethodName)) ∈ lw_all := lw_g (lw_at lw_m2 3 rfl) rfl
theorem q264 : (Jvm.Cond.code ({ cls := "TrackMarketModel", name := "at", desc := "(II)I" } : Jvm.MethodName) prog_3_method_9_code (5 : Nat) (Option.some Jvm.ClassFile.FieldType.int)) ∈ lw_all := lw_g (lw_at lw_m2 4 rfl) rfl
theorem q265 : (Jvm.Cond.methodLink "TrackMarketModel" (53 : Nat) ({ cls := "TrackMarketModel", name := "best", desc := "(I)I" } : Jvm.MethodName)) ∈ lw_all := lw_g (lw_at lw_m2 5 rfl) rfl
theorem q266 : (Jvm.Cond.privateMethod ({ cls := "TrackMarketModel", name := "best", desc := "(I)I" } : Jvm.MethodName)) ∈ lw_tbl := lw_at lw_m2 6 rfl
theorem q267 : (Jvm.Cond.instanceMethod ({ cls := "TrackMarketModel", name := "best", desc := "(I)I" } : Jvm.MethodName)) ∈ lw_all := lw_g (lw_at lw_m2 7 rfl) rfl
theorem q268 : (Jvm.Cond.code ({ cls := "TrackMarketModel", name := "best", desc := "(I)I" } : Jvm.MethodName) prog_3_method_13_code (5 : Nat) (Option.some Jvm.ClassFile.FieldType.int)) ∈ lw_all := lw_g (lw_at lw_m2 8 rfl) rfl
theorem q269 : (Jvm.Cond.methodLink "TrackMarketModel" (46 : Nat) ({ cls := "TrackMarketModel", name := "before", desc := "(II)Z" } : Jvm.MethodName)) ∈ lw_all := lw_g (lw_at lw_m2 9 rfl) rfl
theorem q270 : (Jvm.Cond.privateMethod ({ cls := "TrackMarketModel", name := "before", desc := "(II)Z" } : Jvm.MethodName)) ∈ lw_tbl := lw_at lw_m2 10 rfl
theorem q271 : (Jvm.Cond.instanceMethod ({ cls := "TrackMarketModel", name := "before", desc := "(II)Z" } : Jvm.MethodName)) ∈ lw_all := lw_g (lw_at lw_m2 11 rfl) rfl
theorem q272 : (Jvm.Cond.code ({ cls := "TrackMarketModel", name := "before", desc := "(II)Z" } : Jvm.MethodName) prog_3_method_12_code (6 : Nat) (Option.some Jvm.ClassFile.FieldType.boolean)) ∈ lw_all := lw_g (lw_at lw_m2 12 rfl) rfl
theorem q273 : (Jvm.Cond.methodLink "TrackMarketModel" (42 : Nat) ({ cls := "TrackMarketModel", name := "sum", desc := "(I)I" } : Jvm.MethodName)) ∈ lw_all := lw_g (lw_at lw_m2 13 rfl) rfl
theorem q274 : (Jvm.Cond.privateMethod ({ cls := "TrackMarketModel", name := "sum", desc := "(I)I" } : Jvm.MethodName)) ∈ lw_tbl := lw_at lw_m2 14 rfl
theorem q275 : (Jvm.Cond.instanceMethod ({ cls := "TrackMarketModel", name := "sum", desc := "(I)I" } : Jvm.MethodName)) ∈ lw_all := lw_g (lw_at lw_m2 15 rfl) rfl
theorem q276 : (Jvm.Cond.code ({ cls := "TrackMarketModel", name := "sum", desc := "(I)I" } : Jvm.MethodName) prog_3_method_11_code (4 : Nat) (Option.some Jvm.ClassFile.FieldType.int)) ∈ lw_all := lw_g (lw_at lw_m2 16 rfl) rfl
theorem q278 : (Jvm.Cond.instanceMethod ({ cls := "TrackMarketModel", name := "total", desc := "()I" } : Jvm.MethodName)) ∈ lw_all := lw_g (lw_at lw_m2 18 rfl) rfl
theorem q279 : (Jvm.Cond.selects "TrackMarketModel" ({ cls := "TrackMarketModel", name := "total", desc := "()I" } : Jvm.MethodName) ({ cls := "TrackMarketModel", name := "total", desc := "()I" } : Jvm.MethodName)) ∈ lw_all := lw_g (lw_at lw_m2 19 rfl) rfl
theorem q280 : (Jvm.Cond.code ({ cls := "TrackMarketModel", name := "total", desc := "()I" } : Jvm.MethodName) prog_3_method_15_code (2 : Nat) (Option.some Jvm.ClassFile.FieldType.int)) ∈ lw_all := lw_g (lw_at lw_m2 20 rfl) rfl
theorem q281 : (Jvm.Cond.methodLink "TrackMarketModel" (56 : Nat) ({ cls := "TrackMarketModel", name := "chosen", desc := "()I" } : Jvm.MethodName)) ∈ lw_all := lw_g (lw_at lw_m2 21 rfl) rfl
theorem q283 : (Jvm.Cond.instanceMethod ({ cls := "TrackMarketModel", name := "fits", desc := "(I)Z" } : Jvm.MethodName)) ∈ lw_all := lw_g (lw_at lw_m2 23 rfl) rfl
theorem q284 : (Jvm.Cond.selects "TrackMarketModel" ({ cls := "TrackMarketModel", name := "fits", desc := "(I)Z" } : Jvm.MethodName) ({ cls := "TrackMarketModel", name := "fits", desc := "(I)Z" } : Jvm.MethodName)) ∈ lw_all := lw_g (lw_at lw_m2 24 rfl) rfl
theorem q285 : (Jvm.Cond.code ({ cls := "TrackMarketModel", name := "fits", desc := "(I)Z" } : Jvm.MethodName) prog_3_method_16_code (2 : Nat) (Option.some Jvm.ClassFile.FieldType.boolean)) ∈ lw_all := lw_g (lw_at lw_m2 25 rfl) rfl
theorem q287 : (Jvm.Cond.instanceMethod ({ cls := "TrackMarketModel", name := "tracksFor", desc := "(I)I" } : Jvm.MethodName)) ∈ lw_all := lw_g (lw_at lw_m2 27 rfl) rfl
theorem q288 : (Jvm.Cond.selects "TrackMarketModel" ({ cls := "TrackMarketModel", name := "tracksFor", desc := "(I)I" } : Jvm.MethodName) ({ cls := "TrackMarketModel", name := "tracksFor", desc := "(I)I" } : Jvm.MethodName)) ∈ lw_all := lw_g (lw_at lw_m2 28 rfl) rfl
theorem q289 : (Jvm.Cond.code ({ cls := "TrackMarketModel", name := "tracksFor", desc := "(I)I" } : Jvm.MethodName) prog_3_method_17_code (2 : Nat) (Option.some Jvm.ClassFile.FieldType.int)) ∈ lw_all := lw_g (lw_at lw_m2 29 rfl) rfl
theorem q291 : (Jvm.Cond.instanceMethod ({ cls := "TrackMarketModel", name := "price", desc := "(I)I" } : Jvm.MethodName)) ∈ lw_all := lw_g (lw_at lw_m2 31 rfl) rfl
theorem q292 : (Jvm.Cond.selects "TrackMarketModel" ({ cls := "TrackMarketModel", name := "price", desc := "(I)I" } : Jvm.MethodName) ({ cls := "TrackMarketModel", name := "price", desc := "(I)I" } : Jvm.MethodName)) ∈ lw_all := lw_g (lw_at lw_m2 32 rfl) rfl
theorem q293 : (Jvm.Cond.code ({ cls := "TrackMarketModel", name := "price", desc := "(I)I" } : Jvm.MethodName) prog_3_method_18_code (5 : Nat) (Option.some Jvm.ClassFile.FieldType.int)) ∈ lw_all := lw_g (lw_at lw_m2 33 rfl) rfl
theorem q295 : (Jvm.Cond.instanceMethod ({ cls := "TrackMarketModel", name := "totalWith", desc := "(II)I" } : Jvm.MethodName)) ∈ lw_all := lw_g (lw_at lw_m2 35 rfl) rfl
theorem q296 : (Jvm.Cond.selects "TrackMarketModel" ({ cls := "TrackMarketModel", name := "totalWith", desc := "(II)I" } : Jvm.MethodName) ({ cls := "TrackMarketModel", name := "totalWith", desc := "(II)I" } : Jvm.MethodName)) ∈ lw_all := lw_g (lw_at lw_m2 36 rfl) rfl
theorem q297 : (Jvm.Cond.code ({ cls := "TrackMarketModel", name := "totalWith", desc := "(II)I" } : Jvm.MethodName) prog_3_method_19_code (7 : Nat) (Option.some Jvm.ClassFile.FieldType.int)) ∈ lw_all := lw_g (lw_at lw_m2 37 rfl) rfl
theorem q299 : (Jvm.Cond.instanceMethod ({ cls := "TrackMarketModel", name := "gain", desc := "()I" } : Jvm.MethodName)) ∈ lw_all := lw_g (lw_at lw_m2 39 rfl) rfl
theorem q300 : (Jvm.Cond.selects "TrackMarketModel" ({ cls := "TrackMarketModel", name := "gain", desc := "()I" } : Jvm.MethodName) ({ cls := "TrackMarketModel", name := "gain", desc := "()I" } : Jvm.MethodName)) ∈ lw_all := lw_g (lw_at lw_m2 40 rfl) rfl
theorem q301 : (Jvm.Cond.code ({ cls := "TrackMarketModel", name := "gain", desc := "()I" } : Jvm.MethodName) prog_3_method_20_code (3 : Nat) (Option.some Jvm.ClassFile.FieldType.int)) ∈ lw_all := lw_g (lw_at lw_m2 41 rfl) rfl
theorem q303 : (Jvm.Cond.instanceMethod ({ cls := "TrackMarketModel", name := "loss", desc := "()I" } : Jvm.MethodName)) ∈ lw_all := lw_g (lw_at lw_m2 43 rfl) rfl
theorem q304 : (Jvm.Cond.selects "TrackMarketModel" ({ cls := "TrackMarketModel", name := "loss", desc := "()I" } : Jvm.MethodName) ({ cls := "TrackMarketModel", name := "loss", desc := "()I" } : Jvm.MethodName)) ∈ lw_all := lw_g (lw_at lw_m2 44 rfl) rfl
theorem q305 : (Jvm.Cond.code ({ cls := "TrackMarketModel", name := "loss", desc := "()I" } : Jvm.MethodName) prog_3_method_21_code (3 : Nat) (Option.some Jvm.ClassFile.FieldType.int)) ∈ lw_all := lw_g (lw_at lw_m2 45 rfl) rfl
theorem q307 : (Jvm.Cond.instanceMethod ({ cls := "TrackMarketModel", name := "busy", desc := "(I)I" } : Jvm.MethodName)) ∈ lw_all := lw_g (lw_at lw_m2 47 rfl) rfl
theorem q308 : (Jvm.Cond.selects "TrackMarketModel" ({ cls := "TrackMarketModel", name := "busy", desc := "(I)I" } : Jvm.MethodName) ({ cls := "TrackMarketModel", name := "busy", desc := "(I)I" } : Jvm.MethodName)) ∈ lw_all := lw_g (lw_at lw_m2 48 rfl) rfl
theorem q309 : (Jvm.Cond.code ({ cls := "TrackMarketModel", name := "busy", desc := "(I)I" } : Jvm.MethodName) prog_3_method_22_code (3 : Nat) (Option.some Jvm.ClassFile.FieldType.int)) ∈ lw_all := lw_g (lw_at lw_m2 49 rfl) rfl
theorem in_X2 : ∀ w ∈ wsX20, w ∈ lw_all := lw_in wsX20 [210, 212, 214, 216, 218, 220] (by decide +kernel) (by decide +kernel)
end
section
/-! TrackMarketLaw -/
set_option maxRecDepth 100000
def RX0 : String := "TrackMarketLaw"
abbrev cX0_cell : ByteArray := method_2_code
def yX0_cell : MethodName := ⟨RX0, "cell", "([II)I"⟩
theorem dX0_cell_0 : decode cX0_cell 0 = .ok (.iload_n 1, 1) := by decide +kernel
theorem dX0_cell_1 : decode cX0_cell 1 = .ok (.aload_n 0, 1) := by decide +kernel
theorem dX0_cell_2 : decode cX0_cell 2 = .ok (.arraylength, 1) := by decide +kernel
theorem dX0_cell_3 : decode cX0_cell 3 = .ok (.if_icmp .ge 9, 3) := by decide +kernel
theorem dX0_cell_6 : decode cX0_cell 6 = .ok (.aload_n 0, 1) := by decide +kernel
theorem dX0_cell_7 : decode cX0_cell 7 = .ok (.iload_n 1, 1) := by decide +kernel
theorem dX0_cell_8 : decode cX0_cell 8 = .ok (.iaload, 1) := by decide +kernel
theorem dX0_cell_9 : decode cX0_cell 9 = .ok (.goto 4, 3) := by decide +kernel
theorem dX0_cell_12 : decode cX0_cell 12 = .ok (.iconst 0, 1) := by decide +kernel
theorem dX0_cell_13 : decode cX0_cell 13 = .ok (.ireturn, 1) := by decide +kernel
theorem q20 : (Jvm.Cond.initialized "TrackMarketLaw") ∈ lw_all := lw_g (lw_at lw_m1 0 rfl) rfl
theorem q23 : (Jvm.Cond.classLink "TrackMarketLaw" (7 : Nat) "TrackMarket") ∈ lw_all := lw_g (lw_at lw_m1 3 rfl) rfl
theorem q25 : (Jvm.Cond.methodLink "TrackMarketLaw" (15 : Nat) ({ cls := "TrackMarket", name := "<init>", desc := "(I)V" } : Jvm.MethodName)) ∈ lw_all := lw_g (lw_at lw_m1 5 rfl) rfl
theorem q73 : (Jvm.Cond.methodLink "TrackMarketLaw" (21 : Nat) ({ cls := "TrackMarket", name := "bring", desc := "(III)I" } : Jvm.MethodName)) ∈ lw_all := lw_g (lw_at lw_m1 53 rfl) rfl
theorem q81 : (Jvm.Cond.methodLink "TrackMarketLaw" (26 : Nat) ({ cls := "TrackMarket", name := "take", desc := "(I)Z" } : Jvm.MethodName)) ∈ lw_all := lw_g (lw_at lw_m1 61 rfl) rfl
theorem q85 : (Jvm.Cond.methodLink "TrackMarketLaw" (31 : Nat) ({ cls := "TrackMarket", name := "revalue", desc := "(II)Z" } : Jvm.MethodName)) ∈ lw_all := lw_g (lw_at lw_m1 65 rfl) rfl
theorem q89 : (Jvm.Cond.methodLink "TrackMarketLaw" (36 : Nat) ({ cls := "TrackMarket", name := "setTracks", desc := "(I)Z" } : Jvm.MethodName)) ∈ lw_all := lw_g (lw_at lw_m1 69 rfl) rfl
theorem q93 : (Jvm.Cond.methodLink "TrackMarketLaw" (40 : Nat) ({ cls := "TrackMarket", name := "tracks", desc := "()I" } : Jvm.MethodName)) ∈ lw_all := lw_g (lw_at lw_m1 73 rfl) rfl
theorem q97 : (Jvm.Cond.methodLink "TrackMarketLaw" (45 : Nat) ({ cls := "TrackMarket", name := "jobs", desc := "()I" } : Jvm.MethodName)) ∈ lw_all := lw_g (lw_at lw_m1 77 rfl) rfl
theorem q101 : (Jvm.Cond.methodLink "TrackMarketLaw" (49 : Nat) ({ cls := "TrackMarket", name := "chosen", desc := "()I" } : Jvm.MethodName)) ∈ lw_all := lw_g (lw_at lw_m1 81 rfl) rfl
theorem q138 : (Jvm.Cond.methodLink "TrackMarketLaw" (53 : Nat) ({ cls := "TrackMarket", name := "total", desc := "()I" } : Jvm.MethodName)) ∈ lw_all := lw_g (lw_at lw_m1 118 rfl) rfl
theorem q149 : (Jvm.Cond.methodLink "TrackMarketLaw" (57 : Nat) ({ cls := "TrackMarket", name := "fits", desc := "(I)Z" } : Jvm.MethodName)) ∈ lw_all := lw_g (lw_at lw_m1 129 rfl) rfl
theorem q161 : (Jvm.Cond.methodLink "TrackMarketLaw" (61 : Nat) ({ cls := "TrackMarket", name := "tracksFor", desc := "(I)I" } : Jvm.MethodName)) ∈ lw_all := lw_g (lw_at lw_m1 141 rfl) rfl
theorem q165 : (Jvm.Cond.methodLink "TrackMarketLaw" (66 : Nat) ({ cls := "TrackMarket", name := "price", desc := "(I)I" } : Jvm.MethodName)) ∈ lw_all := lw_g (lw_at lw_m1 145 rfl) rfl
theorem q174 : (Jvm.Cond.methodLink "TrackMarketLaw" (70 : Nat) ({ cls := "TrackMarket", name := "totalWith", desc := "(II)I" } : Jvm.MethodName)) ∈ lw_all := lw_g (lw_at lw_m1 154 rfl) rfl
theorem q178 : (Jvm.Cond.methodLink "TrackMarketLaw" (75 : Nat) ({ cls := "TrackMarket", name := "gain", desc := "()I" } : Jvm.MethodName)) ∈ lw_all := lw_g (lw_at lw_m1 158 rfl) rfl
theorem q187 : (Jvm.Cond.methodLink "TrackMarketLaw" (79 : Nat) ({ cls := "TrackMarket", name := "loss", desc := "()I" } : Jvm.MethodName)) ∈ lw_all := lw_g (lw_at lw_m1 167 rfl) rfl
theorem q191 : (Jvm.Cond.methodLink "TrackMarketLaw" (83 : Nat) ({ cls := "TrackMarket", name := "busy", desc := "(I)I" } : Jvm.MethodName)) ∈ lw_all := lw_g (lw_at lw_m1 171 rfl) rfl
theorem q195 : (Jvm.Cond.methodLink "TrackMarketLaw" (9 : Nat) ({ cls := "TrackMarketLaw", name := "cell", desc := "([II)I" } : Jvm.MethodName)) ∈ lw_all := lw_g (lw_at lw_m1 175 rfl) rfl
theorem q196 : (Jvm.Cond.static ({ cls := "TrackMarketLaw", name := "cell", desc := "([II)I" } : Jvm.MethodName)) ∈ lw_all := lw_g (lw_at lw_m1 176 rfl) rfl
theorem q197 : (Jvm.Cond.code ({ cls := "TrackMarketLaw", name := "cell", desc := "([II)I" } : Jvm.MethodName) method_2_code (2 : Nat) (Option.some Jvm.ClassFile.FieldType.int)) ∈ lw_all := lw_g (lw_at lw_m1 177 rfl) rfl
theorem q198 : (Jvm.Cond.classLink "TrackMarketLaw" (18 : Nat) "TrackMarketModel") ∈ lw_all := lw_g (lw_at lw_m1 178 rfl) rfl
theorem q200 : (Jvm.Cond.methodLink "TrackMarketLaw" (20 : Nat) ({ cls := "TrackMarketModel", name := "<init>", desc := "(I)V" } : Jvm.MethodName)) ∈ lw_all := lw_g (lw_at lw_m1 180 rfl) rfl
theorem q224 : (Jvm.Cond.methodLink "TrackMarketLaw" (25 : Nat) ({ cls := "TrackMarketModel", name := "bring", desc := "(III)I" } : Jvm.MethodName)) ∈ lw_all := lw_g (lw_at lw_m1 204 rfl) rfl
theorem q228 : (Jvm.Cond.methodLink "TrackMarketLaw" (30 : Nat) ({ cls := "TrackMarketModel", name := "take", desc := "(I)Z" } : Jvm.MethodName)) ∈ lw_all := lw_g (lw_at lw_m1 208 rfl) rfl
theorem q236 : (Jvm.Cond.methodLink "TrackMarketLaw" (35 : Nat) ({ cls := "TrackMarketModel", name := "revalue", desc := "(II)Z" } : Jvm.MethodName)) ∈ lw_all := lw_g (lw_at lw_m1 216 rfl) rfl
theorem q240 : (Jvm.Cond.methodLink "TrackMarketLaw" (39 : Nat) ({ cls := "TrackMarketModel", name := "setTracks", desc := "(I)Z" } : Jvm.MethodName)) ∈ lw_all := lw_g (lw_at lw_m1 220 rfl) rfl
theorem q244 : (Jvm.Cond.methodLink "TrackMarketLaw" (44 : Nat) ({ cls := "TrackMarketModel", name := "tracks", desc := "()I" } : Jvm.MethodName)) ∈ lw_all := lw_g (lw_at lw_m1 224 rfl) rfl
theorem q248 : (Jvm.Cond.methodLink "TrackMarketLaw" (48 : Nat) ({ cls := "TrackMarketModel", name := "jobs", desc := "()I" } : Jvm.MethodName)) ∈ lw_all := lw_g (lw_at lw_m1 228 rfl) rfl
theorem q252 : (Jvm.Cond.methodLink "TrackMarketLaw" (52 : Nat) ({ cls := "TrackMarketModel", name := "chosen", desc := "()I" } : Jvm.MethodName)) ∈ lw_all := lw_g (lw_at lw_m1 232 rfl) rfl
theorem q277 : (Jvm.Cond.methodLink "TrackMarketLaw" (56 : Nat) ({ cls := "TrackMarketModel", name := "total", desc := "()I" } : Jvm.MethodName)) ∈ lw_all := lw_g (lw_at lw_m2 17 rfl) rfl
theorem q282 : (Jvm.Cond.methodLink "TrackMarketLaw" (60 : Nat) ({ cls := "TrackMarketModel", name := "fits", desc := "(I)Z" } : Jvm.MethodName)) ∈ lw_all := lw_g (lw_at lw_m2 22 rfl) rfl
theorem q286 : (Jvm.Cond.methodLink "TrackMarketLaw" (65 : Nat) ({ cls := "TrackMarketModel", name := "tracksFor", desc := "(I)I" } : Jvm.MethodName)) ∈ lw_all := lw_g (lw_at lw_m2 26 rfl) rfl
theorem q290 : (Jvm.Cond.methodLink "TrackMarketLaw" (69 : Nat) ({ cls := "TrackMarketModel", name := "price", desc := "(I)I" } : Jvm.MethodName)) ∈ lw_all := lw_g (lw_at lw_m2 30 rfl) rfl
theorem q294 : (Jvm.Cond.methodLink "TrackMarketLaw" (74 : Nat) ({ cls := "TrackMarketModel", name := "totalWith", desc := "(II)I" } : Jvm.MethodName)) ∈ lw_all := lw_g (lw_at lw_m2 34 rfl) rfl
theorem q298 : (Jvm.Cond.methodLink "TrackMarketLaw" (78 : Nat) ({ cls := "TrackMarketModel", name := "gain", desc := "()I" } : Jvm.MethodName)) ∈ lw_all := lw_g (lw_at lw_m2 38 rfl) rfl
theorem q302 : (Jvm.Cond.methodLink "TrackMarketLaw" (82 : Nat) ({ cls := "TrackMarketModel", name := "loss", desc := "()I" } : Jvm.MethodName)) ∈ lw_all := lw_g (lw_at lw_m2 42 rfl) rfl
theorem q306 : (Jvm.Cond.methodLink "TrackMarketLaw" (86 : Nat) ({ cls := "TrackMarketModel", name := "busy", desc := "(I)I" } : Jvm.MethodName)) ∈ lw_all := lw_g (lw_at lw_m2 46 rfl) rfl
/-! the law's own entry -/
set_option maxRecDepth 100000
abbrev cL_law : ByteArray := code
theorem dL_law_0 : decode cL_law 0 = .ok (.new 7, 3) := by decide +kernel
theorem dL_law_3 : decode cL_law 3 = .ok (.dup, 1) := by decide +kernel
theorem dL_law_4 : decode cL_law 4 = .ok (.aload_n 0, 1) := by decide +kernel
theorem dL_law_5 : decode cL_law 5 = .ok (.iconst 0, 1) := by decide +kernel
theorem dL_law_6 : decode cL_law 6 = .ok (.invokestatic 9, 3) := by decide +kernel
theorem dL_law_9 : decode cL_law 9 = .ok (.invokespecial 15, 3) := by decide +kernel
theorem dL_law_12 : decode cL_law 12 = .ok (.astore_n 1, 1) := by decide +kernel
theorem dL_law_13 : decode cL_law 13 = .ok (.new 18, 3) := by decide +kernel
theorem dL_law_16 : decode cL_law 16 = .ok (.dup, 1) := by decide +kernel
theorem dL_law_17 : decode cL_law 17 = .ok (.aload_n 0, 1) := by decide +kernel
theorem dL_law_18 : decode cL_law 18 = .ok (.iconst 0, 1) := by decide +kernel
theorem dL_law_19 : decode cL_law 19 = .ok (.invokestatic 9, 3) := by decide +kernel
theorem dL_law_22 : decode cL_law 22 = .ok (.invokespecial 20, 3) := by decide +kernel
theorem dL_law_25 : decode cL_law 25 = .ok (.astore_n 2, 1) := by decide +kernel
theorem dL_law_26 : decode cL_law 26 = .ok (.iconst 1, 1) := by decide +kernel
theorem dL_law_27 : decode cL_law 27 = .ok (.istore_n 3, 1) := by decide +kernel
theorem dL_law_28 : decode cL_law 28 = .ok (.iload_n 3, 1) := by decide +kernel
theorem dL_law_29 : decode cL_law 29 = .ok (.aload_n 0, 1) := by decide +kernel
theorem dL_law_30 : decode cL_law 30 = .ok (.arraylength, 1) := by decide +kernel
theorem dL_law_31 : decode cL_law 31 = .ok (.iconst 4, 1) := by decide +kernel
theorem dL_law_32 : decode cL_law 32 = .ok (.isub, 1) := by decide +kernel
theorem dL_law_33 : decode cL_law 33 = .ok (.if_icmp .gt 414, 3) := by decide +kernel
theorem dL_law_36 : decode cL_law 36 = .ok (.aload_n 0, 1) := by decide +kernel
theorem dL_law_37 : decode cL_law 37 = .ok (.iload_n 3, 1) := by decide +kernel
theorem dL_law_38 : decode cL_law 38 = .ok (.iaload, 1) := by decide +kernel
theorem dL_law_39 : decode cL_law 39 = .ok (.bipush 15, 2) := by decide +kernel
theorem dL_law_41 : decode cL_law 41 = .ok (.iand, 1) := by decide +kernel
theorem dL_law_42 : decode cL_law 42 = .ok (.tableswitch 399 0 14 #[74, 117, 140, 173, 196, 209, 222, 235, 248, 271, 294, 317, 350, 363, 376], 74) := by decide +kernel
theorem dL_law_116 : decode cL_law 116 = .ok (.aload_n 1, 1) := by decide +kernel
theorem dL_law_117 : decode cL_law 117 = .ok (.aload_n 0, 1) := by decide +kernel
theorem dL_law_118 : decode cL_law 118 = .ok (.iload_n 3, 1) := by decide +kernel
theorem dL_law_119 : decode cL_law 119 = .ok (.iconst 1, 1) := by decide +kernel
theorem dL_law_120 : decode cL_law 120 = .ok (.iadd, 1) := by decide +kernel
theorem dL_law_121 : decode cL_law 121 = .ok (.iaload, 1) := by decide +kernel
theorem dL_law_122 : decode cL_law 122 = .ok (.aload_n 0, 1) := by decide +kernel
theorem dL_law_123 : decode cL_law 123 = .ok (.iload_n 3, 1) := by decide +kernel
theorem dL_law_124 : decode cL_law 124 = .ok (.iconst 2, 1) := by decide +kernel
theorem dL_law_125 : decode cL_law 125 = .ok (.iadd, 1) := by decide +kernel
theorem dL_law_126 : decode cL_law 126 = .ok (.iaload, 1) := by decide +kernel
theorem dL_law_127 : decode cL_law 127 = .ok (.aload_n 0, 1) := by decide +kernel
theorem dL_law_128 : decode cL_law 128 = .ok (.iload_n 3, 1) := by decide +kernel
theorem dL_law_129 : decode cL_law 129 = .ok (.iconst 3, 1) := by decide +kernel
theorem dL_law_130 : decode cL_law 130 = .ok (.iadd, 1) := by decide +kernel
theorem dL_law_131 : decode cL_law 131 = .ok (.iaload, 1) := by decide +kernel
theorem dL_law_132 : decode cL_law 132 = .ok (.invokevirtual 21, 3) := by decide +kernel
theorem dL_law_135 : decode cL_law 135 = .ok (.aload_n 2, 1) := by decide +kernel
theorem dL_law_136 : decode cL_law 136 = .ok (.aload_n 0, 1) := by decide +kernel
theorem dL_law_137 : decode cL_law 137 = .ok (.iload_n 3, 1) := by decide +kernel
theorem dL_law_138 : decode cL_law 138 = .ok (.iconst 1, 1) := by decide +kernel
theorem dL_law_139 : decode cL_law 139 = .ok (.iadd, 1) := by decide +kernel
theorem dL_law_140 : decode cL_law 140 = .ok (.iaload, 1) := by decide +kernel
theorem dL_law_141 : decode cL_law 141 = .ok (.aload_n 0, 1) := by decide +kernel
theorem dL_law_142 : decode cL_law 142 = .ok (.iload_n 3, 1) := by decide +kernel
theorem dL_law_143 : decode cL_law 143 = .ok (.iconst 2, 1) := by decide +kernel
theorem dL_law_144 : decode cL_law 144 = .ok (.iadd, 1) := by decide +kernel
theorem dL_law_145 : decode cL_law 145 = .ok (.iaload, 1) := by decide +kernel
theorem dL_law_146 : decode cL_law 146 = .ok (.aload_n 0, 1) := by decide +kernel
theorem dL_law_147 : decode cL_law 147 = .ok (.iload_n 3, 1) := by decide +kernel
theorem dL_law_148 : decode cL_law 148 = .ok (.iconst 3, 1) := by decide +kernel
theorem dL_law_149 : decode cL_law 149 = .ok (.iadd, 1) := by decide +kernel
theorem dL_law_150 : decode cL_law 150 = .ok (.iaload, 1) := by decide +kernel
theorem dL_law_151 : decode cL_law 151 = .ok (.invokevirtual 25, 3) := by decide +kernel
theorem dL_law_154 : decode cL_law 154 = .ok (.if_icmp .eq 287, 3) := by decide +kernel
theorem dL_law_157 : decode cL_law 157 = .ok (.iconst 0, 1) := by decide +kernel
theorem dL_law_158 : decode cL_law 158 = .ok (.ireturn, 1) := by decide +kernel
theorem dL_law_159 : decode cL_law 159 = .ok (.aload_n 1, 1) := by decide +kernel
theorem dL_law_160 : decode cL_law 160 = .ok (.aload_n 0, 1) := by decide +kernel
theorem dL_law_161 : decode cL_law 161 = .ok (.iload_n 3, 1) := by decide +kernel
theorem dL_law_162 : decode cL_law 162 = .ok (.iconst 1, 1) := by decide +kernel
theorem dL_law_163 : decode cL_law 163 = .ok (.iadd, 1) := by decide +kernel
theorem dL_law_164 : decode cL_law 164 = .ok (.iaload, 1) := by decide +kernel
theorem dL_law_165 : decode cL_law 165 = .ok (.invokevirtual 26, 3) := by decide +kernel
theorem dL_law_168 : decode cL_law 168 = .ok (.aload_n 2, 1) := by decide +kernel
theorem dL_law_169 : decode cL_law 169 = .ok (.aload_n 0, 1) := by decide +kernel
theorem dL_law_170 : decode cL_law 170 = .ok (.iload_n 3, 1) := by decide +kernel
theorem dL_law_171 : decode cL_law 171 = .ok (.iconst 1, 1) := by decide +kernel
theorem dL_law_172 : decode cL_law 172 = .ok (.iadd, 1) := by decide +kernel
theorem dL_law_173 : decode cL_law 173 = .ok (.iaload, 1) := by decide +kernel
theorem dL_law_174 : decode cL_law 174 = .ok (.invokevirtual 30, 3) := by decide +kernel
theorem dL_law_177 : decode cL_law 177 = .ok (.if_icmp .eq 264, 3) := by decide +kernel
theorem dL_law_180 : decode cL_law 180 = .ok (.iconst 0, 1) := by decide +kernel
theorem dL_law_181 : decode cL_law 181 = .ok (.ireturn, 1) := by decide +kernel
theorem dL_law_182 : decode cL_law 182 = .ok (.aload_n 1, 1) := by decide +kernel
theorem dL_law_183 : decode cL_law 183 = .ok (.aload_n 0, 1) := by decide +kernel
theorem dL_law_184 : decode cL_law 184 = .ok (.iload_n 3, 1) := by decide +kernel
theorem dL_law_185 : decode cL_law 185 = .ok (.iconst 1, 1) := by decide +kernel
theorem dL_law_186 : decode cL_law 186 = .ok (.iadd, 1) := by decide +kernel
theorem dL_law_187 : decode cL_law 187 = .ok (.iaload, 1) := by decide +kernel
theorem dL_law_188 : decode cL_law 188 = .ok (.aload_n 0, 1) := by decide +kernel
theorem dL_law_189 : decode cL_law 189 = .ok (.iload_n 3, 1) := by decide +kernel
theorem dL_law_190 : decode cL_law 190 = .ok (.iconst 2, 1) := by decide +kernel
theorem dL_law_191 : decode cL_law 191 = .ok (.iadd, 1) := by decide +kernel
theorem dL_law_192 : decode cL_law 192 = .ok (.iaload, 1) := by decide +kernel
theorem dL_law_193 : decode cL_law 193 = .ok (.invokevirtual 31, 3) := by decide +kernel
theorem dL_law_196 : decode cL_law 196 = .ok (.aload_n 2, 1) := by decide +kernel
theorem dL_law_197 : decode cL_law 197 = .ok (.aload_n 0, 1) := by decide +kernel
theorem dL_law_198 : decode cL_law 198 = .ok (.iload_n 3, 1) := by decide +kernel
theorem dL_law_199 : decode cL_law 199 = .ok (.iconst 1, 1) := by decide +kernel
theorem dL_law_200 : decode cL_law 200 = .ok (.iadd, 1) := by decide +kernel
theorem dL_law_201 : decode cL_law 201 = .ok (.iaload, 1) := by decide +kernel
theorem dL_law_202 : decode cL_law 202 = .ok (.aload_n 0, 1) := by decide +kernel
theorem dL_law_203 : decode cL_law 203 = .ok (.iload_n 3, 1) := by decide +kernel
theorem dL_law_204 : decode cL_law 204 = .ok (.iconst 2, 1) := by decide +kernel
theorem dL_law_205 : decode cL_law 205 = .ok (.iadd, 1) := by decide +kernel
theorem dL_law_206 : decode cL_law 206 = .ok (.iaload, 1) := by decide +kernel
theorem dL_law_207 : decode cL_law 207 = .ok (.invokevirtual 35, 3) := by decide +kernel
theorem dL_law_210 : decode cL_law 210 = .ok (.if_icmp .eq 231, 3) := by decide +kernel
theorem dL_law_213 : decode cL_law 213 = .ok (.iconst 0, 1) := by decide +kernel
theorem dL_law_214 : decode cL_law 214 = .ok (.ireturn, 1) := by decide +kernel
theorem dL_law_215 : decode cL_law 215 = .ok (.aload_n 1, 1) := by decide +kernel
theorem dL_law_216 : decode cL_law 216 = .ok (.aload_n 0, 1) := by decide +kernel
theorem dL_law_217 : decode cL_law 217 = .ok (.iload_n 3, 1) := by decide +kernel
theorem dL_law_218 : decode cL_law 218 = .ok (.iconst 1, 1) := by decide +kernel
theorem dL_law_219 : decode cL_law 219 = .ok (.iadd, 1) := by decide +kernel
theorem dL_law_220 : decode cL_law 220 = .ok (.iaload, 1) := by decide +kernel
theorem dL_law_221 : decode cL_law 221 = .ok (.invokevirtual 36, 3) := by decide +kernel
theorem dL_law_224 : decode cL_law 224 = .ok (.aload_n 2, 1) := by decide +kernel
theorem dL_law_225 : decode cL_law 225 = .ok (.aload_n 0, 1) := by decide +kernel
theorem dL_law_226 : decode cL_law 226 = .ok (.iload_n 3, 1) := by decide +kernel
theorem dL_law_227 : decode cL_law 227 = .ok (.iconst 1, 1) := by decide +kernel
theorem dL_law_228 : decode cL_law 228 = .ok (.iadd, 1) := by decide +kernel
theorem dL_law_229 : decode cL_law 229 = .ok (.iaload, 1) := by decide +kernel
theorem dL_law_230 : decode cL_law 230 = .ok (.invokevirtual 39, 3) := by decide +kernel
theorem dL_law_233 : decode cL_law 233 = .ok (.if_icmp .eq 208, 3) := by decide +kernel
theorem dL_law_236 : decode cL_law 236 = .ok (.iconst 0, 1) := by decide +kernel
theorem dL_law_237 : decode cL_law 237 = .ok (.ireturn, 1) := by decide +kernel
theorem dL_law_238 : decode cL_law 238 = .ok (.aload_n 1, 1) := by decide +kernel
theorem dL_law_239 : decode cL_law 239 = .ok (.invokevirtual 40, 3) := by decide +kernel
theorem dL_law_242 : decode cL_law 242 = .ok (.aload_n 2, 1) := by decide +kernel
theorem dL_law_243 : decode cL_law 243 = .ok (.invokevirtual 44, 3) := by decide +kernel
theorem dL_law_246 : decode cL_law 246 = .ok (.if_icmp .eq 195, 3) := by decide +kernel
theorem dL_law_249 : decode cL_law 249 = .ok (.iconst 0, 1) := by decide +kernel
theorem dL_law_250 : decode cL_law 250 = .ok (.ireturn, 1) := by decide +kernel
theorem dL_law_251 : decode cL_law 251 = .ok (.aload_n 1, 1) := by decide +kernel
theorem dL_law_252 : decode cL_law 252 = .ok (.invokevirtual 45, 3) := by decide +kernel
theorem dL_law_255 : decode cL_law 255 = .ok (.aload_n 2, 1) := by decide +kernel
theorem dL_law_256 : decode cL_law 256 = .ok (.invokevirtual 48, 3) := by decide +kernel
theorem dL_law_259 : decode cL_law 259 = .ok (.if_icmp .eq 182, 3) := by decide +kernel
theorem dL_law_262 : decode cL_law 262 = .ok (.iconst 0, 1) := by decide +kernel
theorem dL_law_263 : decode cL_law 263 = .ok (.ireturn, 1) := by decide +kernel
theorem dL_law_264 : decode cL_law 264 = .ok (.aload_n 1, 1) := by decide +kernel
theorem dL_law_265 : decode cL_law 265 = .ok (.invokevirtual 49, 3) := by decide +kernel
theorem dL_law_268 : decode cL_law 268 = .ok (.aload_n 2, 1) := by decide +kernel
theorem dL_law_269 : decode cL_law 269 = .ok (.invokevirtual 52, 3) := by decide +kernel
theorem dL_law_272 : decode cL_law 272 = .ok (.if_icmp .eq 169, 3) := by decide +kernel
theorem dL_law_275 : decode cL_law 275 = .ok (.iconst 0, 1) := by decide +kernel
theorem dL_law_276 : decode cL_law 276 = .ok (.ireturn, 1) := by decide +kernel
theorem dL_law_277 : decode cL_law 277 = .ok (.aload_n 1, 1) := by decide +kernel
theorem dL_law_278 : decode cL_law 278 = .ok (.invokevirtual 53, 3) := by decide +kernel
theorem dL_law_281 : decode cL_law 281 = .ok (.aload_n 2, 1) := by decide +kernel
theorem dL_law_282 : decode cL_law 282 = .ok (.invokevirtual 56, 3) := by decide +kernel
theorem dL_law_285 : decode cL_law 285 = .ok (.if_icmp .eq 156, 3) := by decide +kernel
theorem dL_law_288 : decode cL_law 288 = .ok (.iconst 0, 1) := by decide +kernel
theorem dL_law_289 : decode cL_law 289 = .ok (.ireturn, 1) := by decide +kernel
theorem dL_law_290 : decode cL_law 290 = .ok (.aload_n 1, 1) := by decide +kernel
theorem dL_law_291 : decode cL_law 291 = .ok (.aload_n 0, 1) := by decide +kernel
theorem dL_law_292 : decode cL_law 292 = .ok (.iload_n 3, 1) := by decide +kernel
theorem dL_law_293 : decode cL_law 293 = .ok (.iconst 1, 1) := by decide +kernel
theorem dL_law_294 : decode cL_law 294 = .ok (.iadd, 1) := by decide +kernel
theorem dL_law_295 : decode cL_law 295 = .ok (.iaload, 1) := by decide +kernel
theorem dL_law_296 : decode cL_law 296 = .ok (.invokevirtual 57, 3) := by decide +kernel
theorem dL_law_299 : decode cL_law 299 = .ok (.aload_n 2, 1) := by decide +kernel
theorem dL_law_300 : decode cL_law 300 = .ok (.aload_n 0, 1) := by decide +kernel
theorem dL_law_301 : decode cL_law 301 = .ok (.iload_n 3, 1) := by decide +kernel
theorem dL_law_302 : decode cL_law 302 = .ok (.iconst 1, 1) := by decide +kernel
theorem dL_law_303 : decode cL_law 303 = .ok (.iadd, 1) := by decide +kernel
theorem dL_law_304 : decode cL_law 304 = .ok (.iaload, 1) := by decide +kernel
theorem dL_law_305 : decode cL_law 305 = .ok (.invokevirtual 60, 3) := by decide +kernel
theorem dL_law_308 : decode cL_law 308 = .ok (.if_icmp .eq 133, 3) := by decide +kernel
theorem dL_law_311 : decode cL_law 311 = .ok (.iconst 0, 1) := by decide +kernel
theorem dL_law_312 : decode cL_law 312 = .ok (.ireturn, 1) := by decide +kernel
theorem dL_law_313 : decode cL_law 313 = .ok (.aload_n 1, 1) := by decide +kernel
theorem dL_law_314 : decode cL_law 314 = .ok (.aload_n 0, 1) := by decide +kernel
theorem dL_law_315 : decode cL_law 315 = .ok (.iload_n 3, 1) := by decide +kernel
theorem dL_law_316 : decode cL_law 316 = .ok (.iconst 1, 1) := by decide +kernel
theorem dL_law_317 : decode cL_law 317 = .ok (.iadd, 1) := by decide +kernel
theorem dL_law_318 : decode cL_law 318 = .ok (.iaload, 1) := by decide +kernel
theorem dL_law_319 : decode cL_law 319 = .ok (.invokevirtual 61, 3) := by decide +kernel
theorem dL_law_322 : decode cL_law 322 = .ok (.aload_n 2, 1) := by decide +kernel
theorem dL_law_323 : decode cL_law 323 = .ok (.aload_n 0, 1) := by decide +kernel
theorem dL_law_324 : decode cL_law 324 = .ok (.iload_n 3, 1) := by decide +kernel
theorem dL_law_325 : decode cL_law 325 = .ok (.iconst 1, 1) := by decide +kernel
theorem dL_law_326 : decode cL_law 326 = .ok (.iadd, 1) := by decide +kernel
theorem dL_law_327 : decode cL_law 327 = .ok (.iaload, 1) := by decide +kernel
theorem dL_law_328 : decode cL_law 328 = .ok (.invokevirtual 65, 3) := by decide +kernel
theorem dL_law_331 : decode cL_law 331 = .ok (.if_icmp .eq 110, 3) := by decide +kernel
theorem dL_law_334 : decode cL_law 334 = .ok (.iconst 0, 1) := by decide +kernel
theorem dL_law_335 : decode cL_law 335 = .ok (.ireturn, 1) := by decide +kernel
theorem dL_law_336 : decode cL_law 336 = .ok (.aload_n 1, 1) := by decide +kernel
theorem dL_law_337 : decode cL_law 337 = .ok (.aload_n 0, 1) := by decide +kernel
theorem dL_law_338 : decode cL_law 338 = .ok (.iload_n 3, 1) := by decide +kernel
theorem dL_law_339 : decode cL_law 339 = .ok (.iconst 1, 1) := by decide +kernel
theorem dL_law_340 : decode cL_law 340 = .ok (.iadd, 1) := by decide +kernel
theorem dL_law_341 : decode cL_law 341 = .ok (.iaload, 1) := by decide +kernel
theorem dL_law_342 : decode cL_law 342 = .ok (.invokevirtual 66, 3) := by decide +kernel
theorem dL_law_345 : decode cL_law 345 = .ok (.aload_n 2, 1) := by decide +kernel
theorem dL_law_346 : decode cL_law 346 = .ok (.aload_n 0, 1) := by decide +kernel
theorem dL_law_347 : decode cL_law 347 = .ok (.iload_n 3, 1) := by decide +kernel
theorem dL_law_348 : decode cL_law 348 = .ok (.iconst 1, 1) := by decide +kernel
theorem dL_law_349 : decode cL_law 349 = .ok (.iadd, 1) := by decide +kernel
theorem dL_law_350 : decode cL_law 350 = .ok (.iaload, 1) := by decide +kernel
theorem dL_law_351 : decode cL_law 351 = .ok (.invokevirtual 69, 3) := by decide +kernel
theorem dL_law_354 : decode cL_law 354 = .ok (.if_icmp .eq 87, 3) := by decide +kernel
theorem dL_law_357 : decode cL_law 357 = .ok (.iconst 0, 1) := by decide +kernel
theorem dL_law_358 : decode cL_law 358 = .ok (.ireturn, 1) := by decide +kernel
theorem dL_law_359 : decode cL_law 359 = .ok (.aload_n 1, 1) := by decide +kernel
theorem dL_law_360 : decode cL_law 360 = .ok (.aload_n 0, 1) := by decide +kernel
theorem dL_law_361 : decode cL_law 361 = .ok (.iload_n 3, 1) := by decide +kernel
theorem dL_law_362 : decode cL_law 362 = .ok (.iconst 1, 1) := by decide +kernel
theorem dL_law_363 : decode cL_law 363 = .ok (.iadd, 1) := by decide +kernel
theorem dL_law_364 : decode cL_law 364 = .ok (.iaload, 1) := by decide +kernel
theorem dL_law_365 : decode cL_law 365 = .ok (.aload_n 0, 1) := by decide +kernel
theorem dL_law_366 : decode cL_law 366 = .ok (.iload_n 3, 1) := by decide +kernel
theorem dL_law_367 : decode cL_law 367 = .ok (.iconst 2, 1) := by decide +kernel
theorem dL_law_368 : decode cL_law 368 = .ok (.iadd, 1) := by decide +kernel
theorem dL_law_369 : decode cL_law 369 = .ok (.iaload, 1) := by decide +kernel
theorem dL_law_370 : decode cL_law 370 = .ok (.invokevirtual 70, 3) := by decide +kernel
theorem dL_law_373 : decode cL_law 373 = .ok (.aload_n 2, 1) := by decide +kernel
theorem dL_law_374 : decode cL_law 374 = .ok (.aload_n 0, 1) := by decide +kernel
theorem dL_law_375 : decode cL_law 375 = .ok (.iload_n 3, 1) := by decide +kernel
theorem dL_law_376 : decode cL_law 376 = .ok (.iconst 1, 1) := by decide +kernel
theorem dL_law_377 : decode cL_law 377 = .ok (.iadd, 1) := by decide +kernel
theorem dL_law_378 : decode cL_law 378 = .ok (.iaload, 1) := by decide +kernel
theorem dL_law_379 : decode cL_law 379 = .ok (.aload_n 0, 1) := by decide +kernel
theorem dL_law_380 : decode cL_law 380 = .ok (.iload_n 3, 1) := by decide +kernel
theorem dL_law_381 : decode cL_law 381 = .ok (.iconst 2, 1) := by decide +kernel
theorem dL_law_382 : decode cL_law 382 = .ok (.iadd, 1) := by decide +kernel
theorem dL_law_383 : decode cL_law 383 = .ok (.iaload, 1) := by decide +kernel
theorem dL_law_384 : decode cL_law 384 = .ok (.invokevirtual 74, 3) := by decide +kernel
theorem dL_law_387 : decode cL_law 387 = .ok (.if_icmp .eq 54, 3) := by decide +kernel
theorem dL_law_390 : decode cL_law 390 = .ok (.iconst 0, 1) := by decide +kernel
theorem dL_law_391 : decode cL_law 391 = .ok (.ireturn, 1) := by decide +kernel
theorem dL_law_392 : decode cL_law 392 = .ok (.aload_n 1, 1) := by decide +kernel
theorem dL_law_393 : decode cL_law 393 = .ok (.invokevirtual 75, 3) := by decide +kernel
theorem dL_law_396 : decode cL_law 396 = .ok (.aload_n 2, 1) := by decide +kernel
theorem dL_law_397 : decode cL_law 397 = .ok (.invokevirtual 78, 3) := by decide +kernel
theorem dL_law_400 : decode cL_law 400 = .ok (.if_icmp .eq 41, 3) := by decide +kernel
theorem dL_law_403 : decode cL_law 403 = .ok (.iconst 0, 1) := by decide +kernel
theorem dL_law_404 : decode cL_law 404 = .ok (.ireturn, 1) := by decide +kernel
theorem dL_law_405 : decode cL_law 405 = .ok (.aload_n 1, 1) := by decide +kernel
theorem dL_law_406 : decode cL_law 406 = .ok (.invokevirtual 79, 3) := by decide +kernel
theorem dL_law_409 : decode cL_law 409 = .ok (.aload_n 2, 1) := by decide +kernel
theorem dL_law_410 : decode cL_law 410 = .ok (.invokevirtual 82, 3) := by decide +kernel
theorem dL_law_413 : decode cL_law 413 = .ok (.if_icmp .eq 28, 3) := by decide +kernel
theorem dL_law_416 : decode cL_law 416 = .ok (.iconst 0, 1) := by decide +kernel
theorem dL_law_417 : decode cL_law 417 = .ok (.ireturn, 1) := by decide +kernel
theorem dL_law_418 : decode cL_law 418 = .ok (.aload_n 1, 1) := by decide +kernel
theorem dL_law_419 : decode cL_law 419 = .ok (.aload_n 0, 1) := by decide +kernel
theorem dL_law_420 : decode cL_law 420 = .ok (.iload_n 3, 1) := by decide +kernel
theorem dL_law_421 : decode cL_law 421 = .ok (.iconst 1, 1) := by decide +kernel
theorem dL_law_422 : decode cL_law 422 = .ok (.iadd, 1) := by decide +kernel
theorem dL_law_423 : decode cL_law 423 = .ok (.iaload, 1) := by decide +kernel
theorem dL_law_424 : decode cL_law 424 = .ok (.invokevirtual 83, 3) := by decide +kernel
theorem dL_law_427 : decode cL_law 427 = .ok (.aload_n 2, 1) := by decide +kernel
theorem dL_law_428 : decode cL_law 428 = .ok (.aload_n 0, 1) := by decide +kernel
theorem dL_law_429 : decode cL_law 429 = .ok (.iload_n 3, 1) := by decide +kernel
theorem dL_law_430 : decode cL_law 430 = .ok (.iconst 1, 1) := by decide +kernel
theorem dL_law_431 : decode cL_law 431 = .ok (.iadd, 1) := by decide +kernel
theorem dL_law_432 : decode cL_law 432 = .ok (.iaload, 1) := by decide +kernel
theorem dL_law_433 : decode cL_law 433 = .ok (.invokevirtual 86, 3) := by decide +kernel
theorem dL_law_436 : decode cL_law 436 = .ok (.if_icmp .eq 5, 3) := by decide +kernel
theorem dL_law_439 : decode cL_law 439 = .ok (.iconst 0, 1) := by decide +kernel
theorem dL_law_440 : decode cL_law 440 = .ok (.ireturn, 1) := by decide +kernel
theorem dL_law_441 : decode cL_law 441 = .ok (.iinc 3 4, 3) := by decide +kernel
theorem dL_law_444 : decode cL_law 444 = .ok (.goto (-416), 3) := by decide +kernel
theorem dL_law_447 : decode cL_law 447 = .ok (.iconst 1, 1) := by decide +kernel
theorem dL_law_448 : decode cL_law 448 = .ok (.ireturn, 1) := by decide +kernel
end
section
/-! PURE 1: finite sums, crowds, LP duality -/
def pz_sm (f : Nat → Int) : Nat → Int
  | 0 => 0
  | n + 1 => pz_sm f n + f n
theorem pz_sm_congr {f g : Nat → Int} : ∀ {n : Nat}, (∀ i, i < n → f i = g i) → pz_sm f n = pz_sm g n
  | 0, _ => rfl
  | n + 1, h => by
    show pz_sm f n + f n = pz_sm g n + g n
    rw [pz_sm_congr (f := f) (g := g) (n := n) (fun i hi => h i (Nat.lt_succ_of_lt hi)), h n (Nat.lt_succ_self n)]
theorem pz_sm_le {f g : Nat → Int} : ∀ {n : Nat}, (∀ i, i < n → f i ≤ g i) → pz_sm f n ≤ pz_sm g n
  | 0, _ => Int.le_refl _
  | n + 1, h => by
    have h1 := pz_sm_le (f := f) (g := g) (n := n) (fun i hi => h i (Nat.lt_succ_of_lt hi))
    have h2 := h n (Nat.lt_succ_self n)
    show pz_sm f n + f n ≤ pz_sm g n + g n
    omega
theorem pz_sm_add (f g : Nat → Int) : ∀ n, pz_sm (fun i => f i + g i) n = pz_sm f n + pz_sm g n
  | 0 => rfl
  | n + 1 => by
    show pz_sm (fun i => f i + g i) n + (f n + g n) = (pz_sm f n + f n) + (pz_sm g n + g n)
    rw [pz_sm_add f g n]
    omega
theorem pz_sm_mul (f : Nat → Int) (c : Int) : ∀ n, pz_sm (fun i => f i * c) n = pz_sm f n * c
  | 0 => (Int.zero_mul c).symm
  | n + 1 => by
    show pz_sm (fun i => f i * c) n + f n * c = (pz_sm f n + f n) * c
    rw [pz_sm_mul f c n, Int.add_mul]
theorem pz_sm_zero : ∀ n, pz_sm (fun _ => 0) n = 0
  | 0 => rfl
  | n + 1 => by
    show pz_sm (fun _ => 0) n + 0 = 0
    rw [pz_sm_zero n]
    rfl
theorem pz_sm_0 {f : Nat → Int} {n : Nat} (h : ∀ i, i < n → f i = 0) : pz_sm f n = 0 := (pz_sm_congr h).trans (pz_sm_zero n)
theorem pz_sm_swap (F : Nat → Nat → Int) (m : Nat) : ∀ n, pz_sm (fun i => pz_sm (fun j => F i j) m) n = pz_sm (fun j => pz_sm (fun i => F i j) n) m
  | 0 => (pz_sm_zero m).symm
  | n + 1 => by
    have h := pz_sm_swap F m n
    have h2 := pz_sm_add (fun j => pz_sm (fun i => F i j) n) (fun j => F n j) m
    show pz_sm (fun i => pz_sm (fun j => F i j) m) n + pz_sm (fun j => F n j) m = pz_sm (fun j => pz_sm (fun i => F i j) n + F n j) m
    rw [h, h2]
theorem pz_tele (v : Nat → Int) (s e : Nat) (hse : s ≤ e) : ∀ N, pz_sm (fun t => if s ≤ t ∧ t < e then v (t + 1) - v t else 0) N = v (min (max N s) e) - v s
  | 0 => by
    have h : min (max 0 s) e = s := by omega
    rw [h]
    show (0 : Int) = v s - v s
    omega
  | N + 1 => by
    have ih := pz_tele v s e hse N
    show pz_sm (fun t => if s ≤ t ∧ t < e then v (t + 1) - v t else 0) N + (if s ≤ N ∧ N < e then v (N + 1) - v N else 0) = v (min (max (N + 1) s) e) - v s
    rw [ih]
    by_cases hc : s ≤ N ∧ N < e
    · have h1 : min (max N s) e = N := by omega
      have h2 : min (max (N + 1) s) e = N + 1 := by omega
      rw [if_pos hc, h1, h2]
      omega
    · have h1 : min (max (N + 1) s) e = min (max N s) e := by omega
      rw [if_neg hc, h1]
      omega
/-- how many jobs of the set S (the first n of them) hold the time t -/
def pz_cw (s e : Nat → Nat) (S t : Nat) : Nat → Nat
  | 0 => 0
  | j + 1 => pz_cw s e S t j + (if S.testBit j = true ∧ s j ≤ t ∧ t < e j then 1 else 0)
theorem pz_cw_cast (s e : Nat → Nat) (S t : Nat) : ∀ n, ((pz_cw s e S t n : Nat) : Int) = pz_sm (fun j => if S.testBit j = true ∧ s j ≤ t ∧ t < e j then 1 else 0) n
  | 0 => rfl
  | n + 1 => by
    have ih := pz_cw_cast s e S t n
    show ((pz_cw s e S t n + (if S.testBit n = true ∧ s n ≤ t ∧ t < e n then 1 else 0) : Nat) : Int) = pz_sm (fun j => if S.testBit j = true ∧ s j ≤ t ∧ t < e j then 1 else 0) n + (if S.testBit n = true ∧ s n ≤ t ∧ t < e n then 1 else 0)
    rw [← ih]
    by_cases hc : S.testBit n = true ∧ s n ≤ t ∧ t < e n
    · rw [if_pos hc, if_pos hc]
      omega
    · rw [if_neg hc, if_neg hc]
      omega
theorem pz_cw_le (s e : Nat → Nat) (S t : Nat) : ∀ n, pz_cw s e S t n ≤ n
  | 0 => Nat.le_refl _
  | n + 1 => by
    have ih := pz_cw_le s e S t n
    show pz_cw s e S t n + (if S.testBit n = true ∧ s n ≤ t ∧ t < e n then 1 else 0) ≤ n + 1
    split <;> omega
theorem pz_cw_congr {s e : Nat → Nat} {S S' t : Nat} : ∀ {n : Nat}, (∀ j, j < n → S.testBit j = S'.testBit j) → pz_cw s e S t n = pz_cw s e S' t n
  | 0, _ => rfl
  | n + 1, h => by
    show pz_cw s e S t n + (if S.testBit n = true ∧ s n ≤ t ∧ t < e n then 1 else 0) = pz_cw s e S' t n + (if S'.testBit n = true ∧ s n ≤ t ∧ t < e n then 1 else 0)
    rw [pz_cw_congr (n := n) (fun j hj => h j (Nat.lt_succ_of_lt hj)), h n (Nat.lt_succ_self n)]
/-- one job more -/
theorem pz_cw_set {s e : Nat → Nat} {S S' t j : Nat} (hj : S.testBit j = false) (hj' : S'.testBit j = true) (ho : ∀ i, i ≠ j → S'.testBit i = S.testBit i) : ∀ n, j < n → pz_cw s e S' t n = pz_cw s e S t n + (if s j ≤ t ∧ t < e j then 1 else 0)
  | 0, h => by omega
  | n + 1, h => by
    show pz_cw s e S' t n + (if S'.testBit n = true ∧ s n ≤ t ∧ t < e n then 1 else 0) = pz_cw s e S t n + (if S.testBit n = true ∧ s n ≤ t ∧ t < e n then 1 else 0) + (if s j ≤ t ∧ t < e j then 1 else 0)
    by_cases hjn : j = n
    · subst hjn
      rw [pz_cw_congr (S := S') (S' := S) (n := j) (fun i hi => ho i (by omega))]
      rw [hj, hj']
      by_cases hc : s j ≤ t ∧ t < e j
      · rw [if_pos ⟨rfl, hc⟩, if_neg (fun q => by cases q.1), if_pos hc]
      · rw [if_neg (fun q => hc q.2), if_neg (fun q => by cases q.1), if_neg hc]
    · rw [pz_cw_set hj hj' ho n (by omega), ho n (fun q => hjn q.symm)]
      omega
/-- the sum of a set's gains -/
def pz_sg (g : Nat → Int) (S : Nat) : Int := pz_sm (fun j => if S.testBit j = true then g j else 0) 8
theorem pz_L (s e : Nat → Nat) (v : Nat → Int) (T : Nat) (h : ∀ j, j < 8 → T.testBit j = true → s j ≤ e j ∧ e j ≤ 16) :
    pz_sm (fun j => if T.testBit j = true then v (e j) - v (s j) else 0) 8 = pz_sm (fun t => ((pz_cw s e T t 8 : Nat) : Int) * (v (t + 1) - v t)) 16 := by
  have h1 : pz_sm (fun j => if T.testBit j = true then v (e j) - v (s j) else 0) 8 = pz_sm (fun j => pz_sm (fun t => (if T.testBit j = true ∧ s j ≤ t ∧ t < e j then (1 : Int) else 0) * (v (t + 1) - v t)) 16) 8 := by
    apply pz_sm_congr
    intro j hj
    by_cases hb : T.testBit j = true
    · have h0 := h j hj hb
      have h2 := pz_tele v (s j) (e j) h0.1 16
      have h3 : min (max 16 (s j)) (e j) = e j := by omega
      rw [h3] at h2
      rw [if_pos hb, ← h2]
      apply pz_sm_congr
      intro t _
      by_cases hc : s j ≤ t ∧ t < e j
      · rw [if_pos hc, if_pos ⟨hb, hc⟩, Int.one_mul]
      · rw [if_neg hc, if_neg (fun q => hc q.2), Int.zero_mul]
    · rw [if_neg hb]
      refine (pz_sm_0 (fun t _ => ?_)).symm
      rw [if_neg (fun q => hb q.1), Int.zero_mul]
  have h2 := pz_sm_swap (fun j t => (if T.testBit j = true ∧ s j ≤ t ∧ t < e j then (1 : Int) else 0) * (v (t + 1) - v t)) 16 8
  refine h1.trans (h2.trans (pz_sm_congr (fun t _ => ?_)))
  rw [pz_cw_cast]
  exact pz_sm_mul (fun j => if T.testBit j = true ∧ s j ≤ t ∧ t < e j then (1 : Int) else 0) (v (t + 1) - v t) 8
/-- a flow with a potential that is tight on it is the best -/
theorem pz_dual (s e : Nat → Nat) (g v : Nat → Int) (U S S' : Nat) (wt : Nat → Nat) (k : Nat)
    (hse : ∀ j, j < 8 → U.testBit j = true → s j ≤ e j ∧ e j ≤ 16)
    (hv : ∀ t, t < 16 → v t ≤ v (t + 1)) (hw : ∀ t, t < 16 → 0 < wt t → v (t + 1) ≤ v t)
    (hc : ∀ t, t < 16 → pz_cw s e S t 8 + wt t = k)
    (hSU : ∀ j, j < 8 → S.testBit j = true → U.testBit j = true)
    (hin : ∀ j, j < 8 → S.testBit j = true → v (e j) - v (s j) ≤ g j)
    (hout : ∀ j, j < 8 → U.testBit j = true → S.testBit j = false → g j ≤ v (e j) - v (s j))
    (hSU' : ∀ j, j < 8 → S'.testBit j = true → U.testBit j = true)
    (hk : ∀ t, t < 16 → pz_cw s e S' t 8 ≤ k) : pz_sg g S' ≤ pz_sg g S := by
  have e1 : ∀ T : Nat, pz_sg g T = pz_sm (fun j => if T.testBit j = true then g j - (v (e j) - v (s j)) else 0) 8 + pz_sm (fun j => if T.testBit j = true then v (e j) - v (s j) else 0) 8 := by
    intro T
    rw [← pz_sm_add]
    apply pz_sm_congr
    intro j _
    by_cases hb : T.testBit j = true
    · simp only [if_pos hb]
      omega
    · simp only [if_neg hb]
      rfl
  have l1 := pz_L s e v S (fun j hj hb => hse j hj (hSU j hj hb))
  have l2 := pz_L s e v S' (fun j hj hb => hse j hj (hSU' j hj hb))
  have a1 : pz_sm (fun j => if S'.testBit j = true then g j - (v (e j) - v (s j)) else 0) 8 ≤ pz_sm (fun j => if S.testBit j = true then g j - (v (e j) - v (s j)) else 0) 8 := by
    apply pz_sm_le
    intro j hj
    by_cases hb' : S'.testBit j = true
    · by_cases hb : S.testBit j = true
      · simp only [if_pos hb', if_pos hb]
        exact Int.le_refl _
      · have := hout j hj (hSU' j hj hb') (by simpa using hb)
        simp only [if_pos hb', if_neg hb]
        omega
    · by_cases hb : S.testBit j = true
      · have := hin j hj hb
        simp only [if_neg hb', if_pos hb]
        omega
      · simp only [if_neg hb', if_neg hb]
        exact Int.le_refl _
  have a2 : pz_sm (fun t => ((pz_cw s e S' t 8 : Nat) : Int) * (v (t + 1) - v t)) 16 ≤ pz_sm (fun t => ((pz_cw s e S t 8 : Nat) : Int) * (v (t + 1) - v t)) 16 := by
    apply pz_sm_le
    intro t ht
    have d0 : 0 ≤ v (t + 1) - v t := by have := hv t ht; omega
    have h1 := hk t ht
    have h2 := hc t ht
    by_cases hz : 0 < wt t
    · have h3 : v (t + 1) - v t = 0 := by have := hw t ht hz; omega
      show ((pz_cw s e S' t 8 : Nat) : Int) * (v (t + 1) - v t) ≤ ((pz_cw s e S t 8 : Nat) : Int) * (v (t + 1) - v t)
      rw [h3, Int.mul_zero, Int.mul_zero]
      exact Int.le_refl _
    · exact Int.mul_le_mul_of_nonneg_right (by omega) d0
  rw [e1 S', e1 S, l1, l2]
  omega
end
section
/-! PURE 2: what the flow methods of TrackMarket compute, as functions (mirrors of the code) -/
abbrev pz_F : Type := Nat → Int32
abbrev pz_RS : Type := (Nat → Int32) × (Nat → Int32)
abbrev pz_Ar : Type := Nat × Nat × Int32 × Int32
def pz_FAR : Int32 := -268435456
/-- improve: reach and step behind it -/
def pz_imp (x : pz_RS) (u v : Nat) (g b : Int32) : pz_RS :=
  if x.1 u ≤ pz_FAR ∨ x.1 u + g ≤ x.1 v then x else (upd x.1 v (x.1 u + g), upd x.2 v b)
def pz_iw (wa : pz_F) (x : pz_RS) (t : Nat) : pz_RS :=
  if wa t ≤ 0 then pz_imp x t (t + 1) 0 16 else pz_imp (pz_imp x t (t + 1) 0 16) (t + 1) t 0 17
def pz_ij (s e : Nat → Nat) (ga : pz_F) (us ud : Int32) (x : pz_RS) (j : Nat) : pz_RS :=
  if (ud >>> (nI j &&& 31)) &&& 1 = 0 then (if (us >>> (nI j &&& 31)) &&& 1 = 0 then x else pz_imp x (s j) (e j) (ga j) (nI j)) else pz_imp x (e j) (s j) (-(ga j)) (8 + nI j)
def pz_fwW (wa : pz_F) (x : pz_RS) : Nat → pz_RS
  | 0 => x
  | t + 1 => pz_iw wa (pz_fwW wa x t) t
def pz_fwJ (s e : Nat → Nat) (ga : pz_F) (us ud : Int32) (x : pz_RS) : Nat → pz_RS
  | 0 => x
  | j + 1 => pz_ij s e ga us ud (pz_fwJ s e ga us ud x j) j
def pz_rd (s e : Nat → Nat) (ga : pz_F) (us ud : Int32) (wa : pz_F) (x : pz_RS) : pz_RS := pz_fwJ s e ga us ud (pz_fwW wa x 16) 8
def pz_fwR (s e : Nat → Nat) (ga : pz_F) (us ud : Int32) (wa : pz_F) (x : pz_RS) : Nat → pz_RS
  | 0 => x
  | k + 1 => pz_rd s e ga us ud wa (pz_fwR s e ga us ud wa x k)
def pz_fwI (x : pz_RS) : Nat → pz_RS
  | 0 => x
  | t + 1 => (upd (pz_fwI x t).1 t pz_FAR, upd (pz_fwI x t).2 t (-1))
def pz_fw0 (x : pz_RS) : pz_RS := (upd (pz_fwI x 17).1 0 0, (pz_fwI x 17).2)
/-- findWays -/
def pz_FW (s e : Nat → Nat) (ga : pz_F) (us ud : Int32) (wa : pz_F) (x : pz_RS) : pz_RS := pz_fwR s e ga us ud wa (pz_fw0 x) 17
/-- follow, one turn: time, used, waiting -/
def pz_fo1 (s e : Nat → Nat) (sp : pz_F) (y : Nat × Int32 × pz_F) : Nat × Int32 × pz_F :=
  if sp y.1 = 16 then (y.1 - 1, y.2.1, upd y.2.2 (y.1 - 1) ((y.2.2 (y.1 - 1) + 1).toInt8.toInt32))
  else if sp y.1 = 17 then (y.1 + 1, y.2.1, upd y.2.2 y.1 ((y.2.2 y.1 - 1).toInt8.toInt32))
  else if sp y.1 < 8 then (if sp y.1 < 0 then y else (s (sp y.1).toNatClampNeg, y.2.1 ||| ((1 : Int32) <<< (sp y.1 &&& 31)), y.2.2))
  else (e (sp y.1 - 8).toNatClampNeg, y.2.1 &&& (((1 : Int32) <<< ((sp y.1 - 8) &&& 31)) ^^^ (-1)), y.2.2)
def pz_fo (s e : Nat → Nat) (sp : pz_F) (y : Nat × Int32 × pz_F) : Nat → Nat × Int32 × pz_F
  | 0 => y
  | k + 1 => if (pz_fo s e sp y k).1 = 0 then pz_fo s e sp y k else pz_fo1 s e sp (pz_fo s e sp y k)
/-- one unit: used, waiting, (reach, step) -/
def pz_un (s e : Nat → Nat) (ga : pz_F) (us : Int32) (z : Int32 × pz_F × pz_RS) : Int32 × pz_F × pz_RS :=
  ((pz_fo s e (pz_FW s e ga us z.1 z.2.1 z.2.2).2 (16, z.1, z.2.1) 64).2.1, (pz_fo s e (pz_FW s e ga us z.1 z.2.1 z.2.2).2 (16, z.1, z.2.1) 64).2.2, pz_FW s e ga us z.1 z.2.1 z.2.2)
/-- send -/
def pz_sd (s e : Nat → Nat) (ga : pz_F) (us : Int32) (z : Int32 × pz_F × pz_RS) : Nat → Int32 × pz_F × pz_RS
  | 0 => z
  | n + 1 => pz_un s e ga us (pz_sd s e ga us z n)
/-- once it stands, it stands -/
theorem pz_fo_stay (s e : Nat → Nat) (sp : pz_F) (y : Nat × Int32 × pz_F) (k : Nat) (h : (pz_fo s e sp y k).1 = 0 ∨ pz_fo1 s e sp (pz_fo s e sp y k) = pz_fo s e sp y k) : ∀ n, pz_fo s e sp y (k + n) = pz_fo s e sp y k
  | 0 => rfl
  | n + 1 => by
    have ih := pz_fo_stay s e sp y k h n
    show (if (pz_fo s e sp y (k + n)).1 = 0 then pz_fo s e sp y (k + n) else pz_fo1 s e sp (pz_fo s e sp y (k + n))) = pz_fo s e sp y k
    rw [ih]
    rcases h with h | h
    · rw [if_pos h]
    · rw [h]
      split <;> rfl
/-- the step array's values that follow can read -/
def pz_StOk (sp : pz_F) : Prop := ∀ t, t < 17 → (-1 ≤ (sp t).toInt ∧ (sp t).toInt ≤ 17) ∧ (t = 16 → ¬ sp t = 17)
theorem pz_imp_st {x : pz_RS} {u v : Nat} {g b : Int32} (h : pz_StOk x.2) (hb : -1 ≤ b.toInt ∧ b.toInt ≤ 17) (h7 : v = 16 → ¬ b = 17) : pz_StOk (pz_imp x u v g b).2 := by
  unfold pz_imp
  split
  · exact h
  · intro t ht
    show (-1 ≤ (upd x.2 v b t).toInt ∧ (upd x.2 v b t).toInt ≤ 17) ∧ (t = 16 → ¬ upd x.2 v b t = 17)
    by_cases hv : t = v
    · subst hv
      rw [pk_us]
      exact ⟨hb, h7⟩
    · rw [pk_un hv]
      exact h t ht
theorem pz_nI17 : ∀ j, j < 8 → (-1 ≤ (nI j).toInt ∧ (nI j).toInt ≤ 17 ∧ ¬ nI j = 17) ∧ (-1 ≤ (8 + nI j).toInt ∧ (8 + nI j).toInt ≤ 17 ∧ ¬ 8 + nI j = 17) := by decide +kernel
theorem pz_iw_st {wa : pz_F} {x : pz_RS} {t : Nat} (ht : t < 16) (h : pz_StOk x.2) : pz_StOk (pz_iw wa x t).2 := by
  have h1 : pz_StOk (pz_imp x t (t + 1) 0 16).2 := pz_imp_st h (by decide) (fun _ => by decide)
  unfold pz_iw
  split
  · exact h1
  · exact pz_imp_st h1 (by decide) (fun q => by omega)
theorem pz_ij_st {s e : Nat → Nat} {ga : pz_F} {us ud : Int32} {x : pz_RS} {j : Nat} (hj : j < 8) (h : pz_StOk x.2) : pz_StOk (pz_ij s e ga us ud x j).2 := by
  have hn := pz_nI17 j hj
  unfold pz_ij
  split
  · split
    · exact h
    · exact pz_imp_st h ⟨hn.1.1, hn.1.2.1⟩ (fun _ => hn.1.2.2)
  · exact pz_imp_st h ⟨hn.2.1, hn.2.2.1⟩ (fun _ => hn.2.2.2)
theorem pz_fwW_st {wa : pz_F} {x : pz_RS} (h : pz_StOk x.2) : ∀ t, t ≤ 16 → pz_StOk (pz_fwW wa x t).2
  | 0, _ => h
  | t + 1, ht => pz_iw_st (by omega) (pz_fwW_st h t (by omega))
theorem pz_fwJ_st {s e : Nat → Nat} {ga : pz_F} {us ud : Int32} {x : pz_RS} (h : pz_StOk x.2) : ∀ j, j ≤ 8 → pz_StOk (pz_fwJ s e ga us ud x j).2
  | 0, _ => h
  | j + 1, hj => pz_ij_st (by omega) (pz_fwJ_st h j (by omega))
theorem pz_rd_st {s e : Nat → Nat} {ga : pz_F} {us ud : Int32} {wa : pz_F} {x : pz_RS} (h : pz_StOk x.2) : pz_StOk (pz_rd s e ga us ud wa x).2 := pz_fwJ_st (pz_fwW_st h 16 (Nat.le_refl _)) 8 (Nat.le_refl _)
theorem pz_fwR_st {s e : Nat → Nat} {ga : pz_F} {us ud : Int32} {wa : pz_F} {x : pz_RS} (h : pz_StOk x.2) : ∀ k, pz_StOk (pz_fwR s e ga us ud wa x k).2
  | 0 => h
  | k + 1 => pz_rd_st (pz_fwR_st h k)
theorem pz_fwI_1 (x : pz_RS) : ∀ n t, t < n → (pz_fwI x n).1 t = pz_FAR ∧ (pz_fwI x n).2 t = -1
  | 0, t, h => by omega
  | n + 1, t, h => by
    show upd (pz_fwI x n).1 n pz_FAR t = pz_FAR ∧ upd (pz_fwI x n).2 n (-1) t = -1
    by_cases hn : t = n
    · subst hn
      rw [pk_us, pk_us]
      exact ⟨rfl, rfl⟩
    · rw [pk_un hn, pk_un hn]
      exact pz_fwI_1 x n t (by omega)
theorem pz_fw0_st (x : pz_RS) : pz_StOk (pz_fw0 x).2 := by
  intro t ht
  show (-1 ≤ ((pz_fwI x 17).2 t).toInt ∧ ((pz_fwI x 17).2 t).toInt ≤ 17) ∧ (t = 16 → ¬ (pz_fwI x 17).2 t = 17)
  rw [(pz_fwI_1 x 17 t ht).2]
  exact ⟨by decide, fun _ => by decide⟩
theorem pz_FW_st (s e : Nat → Nat) (ga : pz_F) (us ud : Int32) (wa : pz_F) (x : pz_RS) : pz_StOk (pz_FW s e ga us ud wa x).2 := pz_fwR_st (pz_fw0_st x) 17
end
section
/-! PURE 3: Bellman-Ford as the code runs it: 17 rounds reach the best ways, the steps form a tree of tight arcs -/
theorem pz_ti_add {a b : Int32} (h1 : -2147483648 ≤ a.toInt + b.toInt) (h2 : a.toInt + b.toInt < 2147483648) : (a + b).toInt = a.toInt + b.toInt := by
  rw [Int32.toInt_add]
  exact Int.bmod_eq_of_le_mul_two (by rw [show ((2 ^ 32 : Nat) : Int) = 4294967296 from rfl]; omega) (by rw [show ((2 ^ 32 : Nat) : Int) = 4294967296 from rfl]; omega)
theorem pz_FAR_i : pz_FAR.toInt = -268435456 := by decide
def pz_ia (x : pz_RS) (a : pz_Ar) : pz_RS := pz_imp x a.1 a.2.1 a.2.2.1 a.2.2.2
def pz_Ph (f : Nat → Int) : Prop := f 0 = 0 ∧ ∀ v, v < 17 → 0 ≤ f v ∧ f v ≤ 67108864
def pz_Ok (f : Nat → Int) (a : pz_Ar) : Prop := a.1 < 17 ∧ a.2.1 < 17 ∧ (-2097152 ≤ a.2.2.1.toInt ∧ a.2.2.1.toInt ≤ 2097152) ∧ f a.1 + a.2.2.1.toInt ≤ f a.2.1
/-- a node's step comes from u: u stands nearer to its bound, or as near and since longer -/
def pz_Lt (f : Nat → Int) (r : pz_F) (T : Nat → Nat) (u v : Nat) : Prop := (r v).toInt - f v < (r u).toInt - f u ∨ ((r v).toInt - f v = (r u).toInt - f u ∧ T u < T v)
def pz_Bd (f : Nat → Int) (x : pz_RS) : Prop := ∀ v, v < 17 → -268435456 ≤ (x.1 v).toInt ∧ (x.1 v).toInt ≤ f v
def pz_Inv (f : Nat → Int) (L : List pz_Ar) (x : pz_RS) : Prop := ∃ (T : Nat → Nat) (K : Nat), (∀ v, v < 17 → T v < K) ∧ (x.1 0).toInt = 0 ∧ pz_Bd f x ∧
  ∀ v, v < 17 → v ≠ 0 → -268435456 < (x.1 v).toInt → ∃ a, a ∈ L ∧ a.2.1 = v ∧ x.2 v = a.2.2.2 ∧ -268435456 < (x.1 a.1).toInt ∧ (x.1 v).toInt ≤ (x.1 a.1).toInt + a.2.2.1.toInt ∧ pz_Lt f x.1 T a.1 v
theorem pz_ia_cases {f : Nat → Int} {x : pz_RS} {a : pz_Ar} (hb : pz_Bd f x) (hf : pz_Ph f) (ha : pz_Ok f a) :
    (pz_ia x a = x ∧ (-268435456 < (x.1 a.1).toInt → (x.1 a.1).toInt + a.2.2.1.toInt ≤ (x.1 a.2.1).toInt)) ∨
    (pz_ia x a = (upd x.1 a.2.1 (x.1 a.1 + a.2.2.1), upd x.2 a.2.1 a.2.2.2) ∧ -268435456 < (x.1 a.1).toInt ∧ (x.1 a.2.1).toInt < (x.1 a.1).toInt + a.2.2.1.toInt ∧ (x.1 a.1 + a.2.2.1).toInt = (x.1 a.1).toInt + a.2.2.1.toInt) := by
  obtain ⟨hu, hv, hg, hfe⟩ := ha
  have h1 := hb a.1 hu
  have h2 := hf.2 a.1 hu
  have hs : (x.1 a.1 + a.2.2.1).toInt = (x.1 a.1).toInt + a.2.2.1.toInt := pz_ti_add (by omega) (by omega)
  have hfar := pz_FAR_i
  by_cases hc : x.1 a.1 ≤ pz_FAR ∨ x.1 a.1 + a.2.2.1 ≤ x.1 a.2.1
  · left
    refine ⟨?_, fun h => ?_⟩
    · unfold pz_ia pz_imp
      rw [if_pos hc]
    · rcases hc with hc | hc
      · rw [Int32.le_iff_toInt_le, pz_FAR_i] at hc
        omega
      · rw [Int32.le_iff_toInt_le, hs] at hc
        exact hc
  · right
    have c1 : ¬ x.1 a.1 ≤ pz_FAR := fun q => hc (Or.inl q)
    have c2 : ¬ x.1 a.1 + a.2.2.1 ≤ x.1 a.2.1 := fun q => hc (Or.inr q)
    rw [Int32.le_iff_toInt_le, pz_FAR_i] at c1
    rw [Int32.le_iff_toInt_le, hs] at c2
    refine ⟨?_, by omega, by omega, hs⟩
    unfold pz_ia pz_imp
    rw [if_neg hc]
theorem pz_inv_ia {f : Nat → Int} {L : List pz_Ar} {x : pz_RS} {a : pz_Ar} (hf : pz_Ph f) (hL : ∀ a, a ∈ L → pz_Ok f a) (ha : a ∈ L) (h : pz_Inv f L x) : pz_Inv f L (pz_ia x a) := by
  obtain ⟨T, K, hT, h0, hb, ht⟩ := h
  rcases pz_ia_cases hb hf (hL a ha) with ⟨e1, -⟩ | ⟨e1, c1, c2, hs⟩
  · rw [e1]
    exact ⟨T, K, hT, h0, hb, ht⟩
  · obtain ⟨hu, hv, hg, hfe⟩ := hL a ha
    have hbu := hb a.1 hu
    have hbv := hb a.2.1 hv
    have hf0 := hf.1
    have hv0 : a.2.1 ≠ 0 := by
      intro q
      rw [q] at hfe c2
      omega
    have huv : a.1 ≠ a.2.1 := by
      intro q
      rw [q] at hfe c2
      omega
    rw [e1]
    refine ⟨fun w => if w = a.2.1 then K else T w, K + 1, ?_, ?_, ?_, ?_⟩
    · intro w hw
      show (if w = a.2.1 then K else T w) < K + 1
      have := hT w hw
      split <;> omega
    · show (upd x.1 a.2.1 (x.1 a.1 + a.2.2.1) 0).toInt = 0
      rw [pk_un (fun q => hv0 q.symm)]
      exact h0
    · intro w hw
      show -268435456 ≤ (upd x.1 a.2.1 (x.1 a.1 + a.2.2.1) w).toInt ∧ (upd x.1 a.2.1 (x.1 a.1 + a.2.2.1) w).toInt ≤ f w
      by_cases hwv : w = a.2.1
      · rw [hwv, pk_us, hs]
        omega
      · rw [pk_un hwv]
        exact hb w hw
    · intro w hw hw0 hr
      have hr2 : -268435456 < (upd x.1 a.2.1 (x.1 a.1 + a.2.2.1) w).toInt := hr
      by_cases hwv : w = a.2.1
      · refine ⟨a, ha, hwv.symm, ?_, ?_, ?_, ?_⟩
        · show upd x.2 a.2.1 a.2.2.2 w = a.2.2.2
          rw [hwv]
          exact pk_us
        · show -268435456 < (upd x.1 a.2.1 (x.1 a.1 + a.2.2.1) a.1).toInt
          rw [pk_un huv]
          exact c1
        · show (upd x.1 a.2.1 (x.1 a.1 + a.2.2.1) w).toInt ≤ (upd x.1 a.2.1 (x.1 a.1 + a.2.2.1) a.1).toInt + a.2.2.1.toInt
          rw [hwv, pk_us, pk_un huv, hs]
          exact Int.le_refl _
        · show pz_Lt f (upd x.1 a.2.1 (x.1 a.1 + a.2.2.1)) (fun w => if w = a.2.1 then K else T w) a.1 w
          have hTu := hT a.1 hu
          unfold pz_Lt
          rw [hwv, pk_us, pk_un huv, hs]
          by_cases hq : (x.1 a.1).toInt + a.2.2.1.toInt - f a.2.1 < (x.1 a.1).toInt - f a.1
          · exact Or.inl hq
          · refine Or.inr ⟨by omega, ?_⟩
            show (if a.1 = a.2.1 then K else T a.1) < (if a.2.1 = a.2.1 then K else T a.2.1)
            rw [if_neg huv, if_pos rfl]
            exact hTu
      · rw [pk_un hwv] at hr2
        obtain ⟨a', ha', e', p', r', l', o'⟩ := ht w hw hw0 hr2
        refine ⟨a', ha', e', ?_, ?_, ?_, ?_⟩
        · show upd x.2 a.2.1 a.2.2.2 w = a'.2.2.2
          rw [pk_un hwv]
          exact p'
        · show -268435456 < (upd x.1 a.2.1 (x.1 a.1 + a.2.2.1) a'.1).toInt
          by_cases h' : a'.1 = a.2.1
          · rw [h', pk_us, hs]
            omega
          · rw [pk_un h']
            exact r'
        · show (upd x.1 a.2.1 (x.1 a.1 + a.2.2.1) w).toInt ≤ (upd x.1 a.2.1 (x.1 a.1 + a.2.2.1) a'.1).toInt + a'.2.2.1.toInt
          rw [pk_un hwv]
          by_cases h' : a'.1 = a.2.1
          · rw [h'] at l'
            rw [h', pk_us, hs]
            omega
          · rw [pk_un h']
            exact l'
        · show pz_Lt f (upd x.1 a.2.1 (x.1 a.1 + a.2.2.1)) (fun w => if w = a.2.1 then K else T w) a'.1 w
          unfold pz_Lt at o' ⊢
          rw [pk_un hwv]
          by_cases h' : a'.1 = a.2.1
          · rw [h'] at o'
            rw [h', pk_us, hs]
            left
            omega
          · rw [pk_un h']
            show _ ∨ (_ ∧ (if a'.1 = a.2.1 then K else T a'.1) < (if w = a.2.1 then K else T w))
            rw [if_neg h', if_neg hwv]
            exact o'
theorem pz_Bd_of {f : Nat → Int} {L : List pz_Ar} {x : pz_RS} (h : pz_Inv f L x) : pz_Bd f x := by
  obtain ⟨T, K, hT, h0, hb, ht⟩ := h
  exact hb
theorem pz_inv_fold {f : Nat → Int} {L : List pz_Ar} (hf : pz_Ph f) (hL : ∀ a, a ∈ L → pz_Ok f a) : ∀ (M : List pz_Ar) (x : pz_RS), (∀ a, a ∈ M → a ∈ L) → pz_Inv f L x → pz_Inv f L (M.foldl pz_ia x)
  | [], _, _, h => h
  | a :: M, x, hm, h => pz_inv_fold hf hL M (pz_ia x a) (fun b hb => hm b (List.mem_cons_of_mem _ hb)) (pz_inv_ia hf hL (hm a List.mem_cons_self) h)
theorem pz_mono_ia {f : Nat → Int} {L : List pz_Ar} {x : pz_RS} {a : pz_Ar} (hf : pz_Ph f) (hL : ∀ a, a ∈ L → pz_Ok f a) (ha : a ∈ L) (h : pz_Inv f L x) (w : Nat) : (x.1 w).toInt ≤ ((pz_ia x a).1 w).toInt := by
  rcases pz_ia_cases (pz_Bd_of h) hf (hL a ha) with ⟨e1, -⟩ | ⟨e1, c1, c2, hs⟩
  · rw [e1]
    exact Int.le_refl _
  · rw [e1]
    show (x.1 w).toInt ≤ (upd x.1 a.2.1 (x.1 a.1 + a.2.2.1) w).toInt
    by_cases hw : w = a.2.1
    · rw [hw, pk_us, hs]
      omega
    · rw [pk_un hw]
      exact Int.le_refl _
theorem pz_mono_fold {f : Nat → Int} {L : List pz_Ar} (hf : pz_Ph f) (hL : ∀ a, a ∈ L → pz_Ok f a) : ∀ (M : List pz_Ar) (x : pz_RS), (∀ a, a ∈ M → a ∈ L) → pz_Inv f L x → ∀ w, (x.1 w).toInt ≤ ((M.foldl pz_ia x).1 w).toInt
  | [], _, _, _, _ => Int.le_refl _
  | a :: M, x, hm, h, w => Int.le_trans (pz_mono_ia hf hL (hm a List.mem_cons_self) h w) (pz_mono_fold hf hL M (pz_ia x a) (fun b hb => hm b (List.mem_cons_of_mem _ hb)) (pz_inv_ia hf hL (hm a List.mem_cons_self) h) w)
theorem pz_relax_ia {f : Nat → Int} {L : List pz_Ar} {x : pz_RS} {a : pz_Ar} (hf : pz_Ph f) (hL : ∀ a, a ∈ L → pz_Ok f a) (ha : a ∈ L) (h : pz_Inv f L x) (hr : -268435456 < (x.1 a.1).toInt) : (x.1 a.1).toInt + a.2.2.1.toInt ≤ ((pz_ia x a).1 a.2.1).toInt := by
  rcases pz_ia_cases (pz_Bd_of h) hf (hL a ha) with ⟨e1, q⟩ | ⟨e1, c1, c2, hs⟩
  · rw [e1]
    exact q hr
  · rw [e1]
    show _ ≤ (upd x.1 a.2.1 (x.1 a.1 + a.2.2.1) a.2.1).toInt
    rw [pk_us, hs]
    exact Int.le_refl _
theorem pz_relax_fold {f : Nat → Int} {L : List pz_Ar} (hf : pz_Ph f) (hL : ∀ a, a ∈ L → pz_Ok f a) : ∀ (M : List pz_Ar) (x : pz_RS), (∀ a, a ∈ M → a ∈ L) → pz_Inv f L x → ∀ a, a ∈ M → -268435456 < (x.1 a.1).toInt → (x.1 a.1).toInt + a.2.2.1.toInt ≤ ((M.foldl pz_ia x).1 a.2.1).toInt
  | [], _, _, _, a, ha, _ => by cases ha
  | b :: M, x, hm, h, a, ha, hr => by
    have hb := hm b List.mem_cons_self
    have hi := pz_inv_ia hf hL hb h
    have hm' : ∀ c, c ∈ M → c ∈ L := fun c hc => hm c (List.mem_cons_of_mem _ hc)
    show _ ≤ ((M.foldl pz_ia (pz_ia x b)).1 a.2.1).toInt
    rcases List.mem_cons.mp ha with e | e
    · subst e
      exact Int.le_trans (pz_relax_ia hf hL hb h hr) (pz_mono_fold hf hL M _ hm' hi _)
    · have h1 := pz_mono_ia hf hL hb h a.1
      have h2 := pz_relax_fold hf hL M (pz_ia x b) hm' hi a e (by omega)
      omega
theorem pz_sm_lt {f g : Nat → Int} {k : Nat} : ∀ {n : Nat}, (∀ i, i < n → f i ≤ g i) → k < n → f k < g k → pz_sm f n < pz_sm g n
  | 0, _, h, _ => by omega
  | n + 1, h, hk, hl => by
    show pz_sm f n + f n < pz_sm g n + g n
    have h2 := h n (Nat.lt_succ_self n)
    by_cases hkn : k = n
    · subst hkn
      have h1 := pz_sm_le (f := f) (g := g) (n := k) (fun i hi => h i (Nat.lt_succ_of_lt hi))
      omega
    · have h1 := pz_sm_lt (f := f) (g := g) (n := n) (fun i hi => h i (Nat.lt_succ_of_lt hi)) (by omega) hl
      omega
theorem pz_sm_nn {f : Nat → Int} {n : Nat} (h : ∀ i, i < n → 0 ≤ f i) : 0 ≤ pz_sm f n := by
  have := pz_sm_le (f := fun _ => 0) (g := f) (n := n) h
  rw [pz_sm_zero] at this
  exact this
def pz_mu (f : Nat → Int) (x : pz_RS) : Nat := (pz_sm (fun v => f v - (x.1 v).toInt) 17).toNat
theorem pz_stat {f : Nat → Int} {L : List pz_Ar} (hf : pz_Ph f) (hL : ∀ a, a ∈ L → pz_Ok f a) : ∀ (n : Nat) (x : pz_RS), pz_Inv f L x → pz_mu f x ≤ n →
    ∃ x', pz_Inv f L x' ∧ ∀ a, a ∈ L → -268435456 < (x'.1 a.1).toInt → (x'.1 a.1).toInt + a.2.2.1.toInt ≤ (x'.1 a.2.1).toInt := by
  intro n
  induction n with
  | zero =>
    intro x hI hm
    refine ⟨x, hI, fun a ha hr => ?_⟩
    rcases pz_ia_cases (pz_Bd_of hI) hf (hL a ha) with ⟨e1, q⟩ | ⟨e1, c1, c2, hs⟩
    · exact q hr
    · exfalso
      have hI' := pz_inv_ia hf hL ha hI
      have hbd := pz_Bd_of hI'
      have h1 : 0 ≤ pz_sm (fun v => f v - ((pz_ia x a).1 v).toInt) 17 := pz_sm_nn (fun i hi => by have := hbd i hi; show 0 ≤ f i - ((pz_ia x a).1 i).toInt; omega)
      have h2 : pz_sm (fun v => f v - ((pz_ia x a).1 v).toInt) 17 < pz_sm (fun v => f v - (x.1 v).toInt) 17 := by
        refine pz_sm_lt (k := a.2.1) (fun i hi => ?_) (hL a ha).2.1 ?_
        · have := pz_mono_ia hf hL ha hI i
          show f i - ((pz_ia x a).1 i).toInt ≤ f i - (x.1 i).toInt
          omega
        · have := pz_relax_ia hf hL ha hI c1
          show f a.2.1 - ((pz_ia x a).1 a.2.1).toInt < f a.2.1 - (x.1 a.2.1).toInt
          omega
      unfold pz_mu at hm
      omega
  | succ n ih =>
    intro x hI hm
    by_cases hall : ∀ a, a ∈ L → -268435456 < (x.1 a.1).toInt → (x.1 a.1).toInt + a.2.2.1.toInt ≤ (x.1 a.2.1).toInt
    · exact ⟨x, hI, hall⟩
    · have hex : ∃ a, a ∈ L ∧ -268435456 < (x.1 a.1).toInt ∧ ¬ (x.1 a.1).toInt + a.2.2.1.toInt ≤ (x.1 a.2.1).toInt := by
        apply Classical.byContradiction
        intro hno
        refine hall (fun a ha hr => ?_)
        apply Classical.byContradiction
        intro hnn
        exact hno ⟨a, ha, hr, hnn⟩
      obtain ⟨a, ha, hr, hnn⟩ := hex
      have hI' := pz_inv_ia hf hL ha hI
      have hbd := pz_Bd_of hI'
      refine ih (pz_ia x a) hI' ?_
      have h1 : 0 ≤ pz_sm (fun v => f v - ((pz_ia x a).1 v).toInt) 17 := pz_sm_nn (fun i hi => by have := hbd i hi; show 0 ≤ f i - ((pz_ia x a).1 i).toInt; omega)
      have h2 : pz_sm (fun v => f v - ((pz_ia x a).1 v).toInt) 17 < pz_sm (fun v => f v - (x.1 v).toInt) 17 := by
        refine pz_sm_lt (k := a.2.1) (fun i hi => ?_) (hL a ha).2.1 ?_
        · have := pz_mono_ia hf hL ha hI i
          show f i - ((pz_ia x a).1 i).toInt ≤ f i - (x.1 i).toInt
          omega
        · have := pz_relax_ia hf hL ha hI hr
          show f a.2.1 - ((pz_ia x a).1 a.2.1).toInt < f a.2.1 - (x.1 a.2.1).toInt
          omega
      unfold pz_mu at hm ⊢
      omega
/-- ranks pressed into 0 .. 16 -/
def pz_ct (rk : Nat → Nat) (c : Nat) : Nat → Nat
  | 0 => 0
  | n + 1 => pz_ct rk c n + (if rk n < c then 1 else 0)
theorem pz_ct_le (rk : Nat → Nat) (c : Nat) : ∀ n, pz_ct rk c n ≤ n
  | 0 => Nat.le_refl _
  | n + 1 => by
    have := pz_ct_le rk c n
    show pz_ct rk c n + (if rk n < c then 1 else 0) ≤ n + 1
    split <;> omega
theorem pz_ct_mono (rk : Nat → Nat) {c d : Nat} (h : c ≤ d) : ∀ n, pz_ct rk c n ≤ pz_ct rk d n
  | 0 => Nat.le_refl _
  | n + 1 => by
    have := pz_ct_mono rk h n
    show pz_ct rk c n + (if rk n < c then 1 else 0) ≤ pz_ct rk d n + (if rk n < d then 1 else 0)
    by_cases h1 : rk n < c
    · rw [if_pos h1, if_pos (by omega)]
      omega
    · rw [if_neg h1]
      split <;> omega
theorem pz_ct_lt (rk : Nat → Nat) {c d i : Nat} (h : c ≤ d) (h1 : ¬ rk i < c) (h2 : rk i < d) : ∀ n, i < n → pz_ct rk c n < pz_ct rk d n
  | 0, hi => by omega
  | n + 1, hi => by
    show pz_ct rk c n + (if rk n < c then 1 else 0) < pz_ct rk d n + (if rk n < d then 1 else 0)
    by_cases e : i = n
    · subst e
      have := pz_ct_mono rk h i
      rw [if_neg h1, if_pos h2]
      omega
    · have := pz_ct_lt rk h h1 h2 n (by omega)
      by_cases g1 : rk n < c
      · rw [if_pos g1, if_pos (by omega)]
        omega
      · rw [if_neg g1]
        split <;> omega
theorem pz_ct_self (rk : Nat → Nat) {c i : Nat} (h1 : ¬ rk i < c) : ∀ n, i < n → pz_ct rk c n < n
  | 0, hi => by omega
  | n + 1, hi => by
    show pz_ct rk c n + (if rk n < c then 1 else 0) < n + 1
    by_cases e : i = n
    · subst e
      have := pz_ct_le rk c i
      rw [if_neg h1]
      omega
    · have := pz_ct_self rk h1 n (by omega)
      split <;> omega
theorem pz_rank (rk : Nat → Nat) : ∃ ck : Nat → Nat, (∀ v, v < 17 → ck v ≤ 16) ∧ ∀ u v, u < 17 → v < 17 → rk u < rk v → ck u < ck v :=
  ⟨fun v => pz_ct rk (rk v) 17, fun v hv => Nat.le_of_lt_succ (pz_ct_self rk (Nat.lt_irrefl _) 17 hv), fun _ _ hu _ h => pz_ct_lt rk (Nat.le_of_lt h) (Nat.lt_irrefl _) h 17 hu⟩
theorem pz_rk_lt {f : Nat → Int} {r : pz_F} {T : Nat → Nat} {K u v : Nat} (hu : (r u).toInt ≤ f u) (hv : (r v).toInt ≤ f v) (hT : T u < K) (h : pz_Lt f r T u v) :
    K * (f u - (r u).toInt).toNat + T u < K * (f v - (r v).toInt).toNat + T v := by
  rcases h with h | ⟨h, h2⟩
  · have h1 : (f u - (r u).toInt).toNat + 1 ≤ (f v - (r v).toInt).toNat := by omega
    have h3 := Nat.mul_le_mul_left K h1
    rw [Nat.mul_add, Nat.mul_one] at h3
    omega
  · have h1 : (f u - (r u).toInt).toNat = (f v - (r v).toInt).toNat := by omega
    rw [h1]
    omega
/-- the whole of findWays -/
theorem pz_bf {f : Nat → Int} {L : List pz_Ar} {x0 : pz_RS} (hf : pz_Ph f) (hL : ∀ a, a ∈ L → pz_Ok f a) (hw : ∀ t, t < 16 → ((t, t + 1, 0, 16) : pz_Ar) ∈ L)
    (h0 : (x0.1 0).toInt = 0) (h1 : ∀ v, v < 17 → v ≠ 0 → (x0.1 v).toInt = -268435456) (R : Nat → pz_RS) (hR0 : R 0 = x0) (hR : ∀ k, R (k + 1) = L.foldl pz_ia (R k)) :
    ∃ T : Nat → Nat, (∀ v, v < 17 → T v ≤ 16) ∧ ((R 17).1 0).toInt = 0 ∧ (∀ v, v < 17 → 0 ≤ ((R 17).1 v).toInt ∧ ((R 17).1 v).toInt ≤ f v) ∧
      (∀ a, a ∈ L → ((R 17).1 a.1).toInt + a.2.2.1.toInt ≤ ((R 17).1 a.2.1).toInt) ∧
      ∀ v, v < 17 → v ≠ 0 → ∃ a, a ∈ L ∧ a.2.1 = v ∧ (R 17).2 v = a.2.2.2 ∧ ((R 17).1 v).toInt = ((R 17).1 a.1).toInt + a.2.2.1.toInt ∧ T a.1 < T v := by
  have i0 : ∀ d : Nat → Int, pz_Ph d → pz_Inv d L x0 := by
    intro d hd
    refine ⟨fun _ => 0, 1, fun _ _ => Nat.lt_succ_self 0, h0, fun v hv => ?_, fun v hv hv0 hr => ?_⟩
    · have hdv := hd.2 v hv
      by_cases e : v = 0
      · rw [e, h0]
        have := hd.1
        omega
      · rw [h1 v hv e]
        omega
    · rw [h1 v hv hv0] at hr
      omega
  obtain ⟨x', I', st⟩ := pz_stat hf hL (pz_mu f x0) x0 (i0 f hf) (Nat.le_refl _)
  obtain ⟨T, K, hT, h00, hb, ht⟩ := I'
  have hD : ∀ v, v < 17 → 0 ≤ (x'.1 v).toInt := by
    intro v
    induction v with
    | zero => intro _; rw [h00]; exact Int.le_refl _
    | succ v ih =>
      intro hv
      have h2 := ih (by omega)
      have h3 := st _ (hw v (by omega)) (by show -268435456 < (x'.1 v).toInt; omega)
      have h4 : (x'.1 v).toInt + (0 : Int32).toInt ≤ (x'.1 (v + 1)).toInt := h3
      rw [show (0 : Int32).toInt = 0 from rfl] at h4
      omega
  have hPh : pz_Ph (fun v => (x'.1 v).toInt) := ⟨h00, fun v hv => ⟨hD v hv, Int.le_trans (hb v hv).2 (hf.2 v hv).2⟩⟩
  have hOk : ∀ a, a ∈ L → pz_Ok (fun v => (x'.1 v).toInt) a := fun a ha => ⟨(hL a ha).1, (hL a ha).2.1, (hL a ha).2.2.1, st a ha (by have := hD a.1 (hL a ha).1; omega)⟩
  have IR : ∀ k, pz_Inv (fun v => (x'.1 v).toInt) L (R k) := by
    intro k
    induction k with
    | zero => rw [hR0]; exact i0 _ hPh
    | succ k ih => rw [hR k]; exact pz_inv_fold hPh hOk L _ (fun _ h => h) ih
  obtain ⟨ck, hck, hlt⟩ := pz_rank (fun v => K * (f v - (x'.1 v).toInt).toNat + T v)
  have conv : ∀ k v, v < 17 → ck v ≤ k → (x'.1 v).toInt ≤ ((R k).1 v).toInt := by
    intro k
    induction k with
    | zero =>
      intro v hv hc
      by_cases e : v = 0
      · obtain ⟨-, -, -, g0, -, -⟩ := IR 0
        rw [e, h00, g0]
        exact Int.le_refl _
      · exfalso
        obtain ⟨a, ha, e', -, r', l', o'⟩ := ht v hv e (by have := hD v hv; omega)
        have hu := (hL a ha).1
        have := hlt a.1 v hu hv (pz_rk_lt (hb a.1 hu).2 (hb v hv).2 (hT a.1 hu) o')
        omega
    | succ k ih =>
      intro v hv hc
      by_cases e : v = 0
      · obtain ⟨-, -, -, g0, -, -⟩ := IR (k + 1)
        rw [e, h00, g0]
        exact Int.le_refl _
      · obtain ⟨a, ha, e', -, r', l', o'⟩ := ht v hv e (by have := hD v hv; omega)
        have hu := (hL a ha).1
        have h2 := hlt a.1 v hu hv (pz_rk_lt (hb a.1 hu).2 (hb v hv).2 (hT a.1 hu) o')
        have h3 := ih a.1 hu (by omega)
        have h4 := hD a.1 hu
        have h5 := pz_relax_fold hPh hOk L (R k) (fun _ h => h) (IR k) a ha (by omega)
        rw [← hR k, e'] at h5
        omega
  have eqD : ∀ v, v < 17 → ((R 17).1 v).toInt = (x'.1 v).toInt := by
    intro v hv
    have h2 := conv 17 v hv (by have := hck v hv; omega)
    have h3 := (pz_Bd_of (IR 17) v hv).2
    exact Int.le_antisymm h3 h2
  obtain ⟨T2, K2, hT2, h02, hb2, ht2⟩ := IR 17
  obtain ⟨ck2, hck2, hlt2⟩ := pz_rank T2
  refine ⟨ck2, hck2, h02, fun v hv => ?_, fun a ha => ?_, fun v hv hv0 => ?_⟩
  · rw [eqD v hv]
    exact ⟨hD v hv, (hb v hv).2⟩
  · rw [eqD _ (hL a ha).1, eqD _ (hL a ha).2.1]
    exact (hOk a ha).2.2.2
  · obtain ⟨a, ha, e', p', r', l', o'⟩ := ht2 v hv hv0 (by rw [eqD v hv]; have := hD v hv; omega)
    have hu := (hL a ha).1
    have h5 := (hOk a ha).2.2.2
    have h6 : (x'.1 a.1).toInt + a.2.2.1.toInt ≤ (x'.1 v).toInt := by rw [← e']; exact h5
    refine ⟨a, ha, e', p', ?_, ?_⟩
    · rw [eqD v hv, eqD a.1 hu] at l' ⊢
      omega
    · refine hlt2 a.1 v hu hv ?_
      unfold pz_Lt at o'
      rw [eqD v hv, eqD a.1 hu] at o'
      rcases o' with o' | o'
      · exfalso
        have o2 : (x'.1 v).toInt - (x'.1 v).toInt < (x'.1 a.1).toInt - (x'.1 a.1).toInt := o'
        omega
      · exact o'.2
end
section
/-! PURE 4: bits of small sets; following the way back keeps the flow whole; send answers with an optimal set -/
theorem pz_bit : ∀ S, S < 256 → ∀ j, j < 8 → (((nI S >>> (nI j &&& 31)) &&& 1 = 0) ↔ S.testBit j = false) := by decide +kernel
theorem pz_or : ∀ S, S < 256 → ∀ j, j < 8 → nI S ||| ((1 : Int32) <<< (nI j &&& 31)) = nI (S ||| 2 ^ j) := by decide +kernel
theorem pz_clr : ∀ S, S < 256 → ∀ j, j < 8 → nI S &&& (((1 : Int32) <<< (nI j &&& 31)) ^^^ (-1)) = nI (S &&& (255 - 2 ^ j)) := by decide +kernel
theorem pz_msk : ∀ j, j < 8 → ∀ i, i < 8 → (255 - 2 ^ j).testBit i = decide (i ≠ j) := by decide +kernel
theorem pz_hi {S i : Nat} (h : S < 256) (hi : 8 ≤ i) : S.testBit i = false := Nat.testBit_lt_two_pow (Nat.lt_of_lt_of_le h (Nat.pow_le_pow_right (by decide) hi : 2 ^ 8 ≤ 2 ^ i))
theorem pz_set_lt {S j : Nat} (h : S < 256) (hj : j < 8) : S ||| 2 ^ j < 256 := Nat.or_lt_two_pow (n := 8) h (Nat.pow_lt_pow_right (by decide) hj : 2 ^ j < 2 ^ 8)
theorem pz_set_self {S j : Nat} : (S ||| 2 ^ j).testBit j = true := by
  rw [Nat.testBit_or, Nat.testBit_two_pow_self, Bool.or_true]
theorem pz_set_ne {S j i : Nat} (h : i ≠ j) : (S ||| 2 ^ j).testBit i = S.testBit i := by
  rw [Nat.testBit_or, Nat.testBit_two_pow_of_ne (fun q => h q.symm), Bool.or_false]
theorem pz_clr_lt {S j : Nat} (h : S < 256) : S &&& (255 - 2 ^ j) < 256 := Nat.lt_of_le_of_lt Nat.and_le_left h
theorem pz_clr_self {S j : Nat} (hj : j < 8) : (S &&& (255 - 2 ^ j)).testBit j = false := by
  rw [Nat.testBit_and, pz_msk j hj j hj]
  simp
theorem pz_clr_ne {S j i : Nat} (hS : S < 256) (hj : j < 8) (h : i ≠ j) : (S &&& (255 - 2 ^ j)).testBit i = S.testBit i := by
  rw [Nat.testBit_and]
  by_cases hi : i < 8
  · rw [pz_msk j hj i hi]
    simp [h]
  · rw [pz_hi hS (by omega)]
    rfl
theorem pz_codes : ∀ j, j < 8 → ∀ i, i < 8 → (nI j = nI i → j = i) ∧ (8 + nI j = 8 + nI i → j = i) ∧ ¬ nI j = 8 + nI i := by decide +kernel
theorem pz_code1 : ∀ j, j < 8 → (¬ nI j = 16 ∧ ¬ nI j = 17 ∧ nI j < 8 ∧ ¬ nI j < 0 ∧ (nI j).toNatClampNeg = j) ∧ (¬ 8 + nI j = 16 ∧ ¬ 8 + nI j = 17 ∧ ¬ 8 + nI j < 8 ∧ 8 + nI j - 8 = nI j) := by decide +kernel
theorem pz_inc : ∀ a, a < 100 → (nI a + 1).toInt8.toInt32 = nI (a + 1) := by decide +kernel
theorem pz_dec : ∀ a, a < 100 → (nI (a + 1) - 1).toInt8.toInt32 = nI a := by decide +kernel
theorem pz_le0 {a : Nat} (h : a < 2 ^ 31) : nI a ≤ 0 ↔ a = 0 := by
  have := nI_leI (a := a) (b := 0) h (by decide)
  rw [nI_0] at this
  rw [this]
  omega
/-- the arcs of one round, in order -/
def pz_lw (wa : pz_F) : Nat → List pz_Ar
  | 0 => []
  | t + 1 => pz_lw wa t ++ (if wa t ≤ 0 then [(t, t + 1, 0, 16)] else [(t, t + 1, 0, 16), (t + 1, t, 0, 17)])
def pz_lj (s e : Nat → Nat) (ga : pz_F) (us ud : Int32) : Nat → List pz_Ar
  | 0 => []
  | j + 1 => pz_lj s e ga us ud j ++ (if (ud >>> (nI j &&& 31)) &&& 1 = 0 then (if (us >>> (nI j &&& 31)) &&& 1 = 0 then [] else [(s j, e j, ga j, nI j)]) else [(e j, s j, -(ga j), 8 + nI j)])
theorem pz_fwW_eq (wa : pz_F) (x : pz_RS) : ∀ t, pz_fwW wa x t = (pz_lw wa t).foldl pz_ia x
  | 0 => rfl
  | t + 1 => by
    have ih := pz_fwW_eq wa x t
    show pz_iw wa (pz_fwW wa x t) t = (pz_lw wa t ++ (if wa t ≤ 0 then [(t, t + 1, 0, 16)] else [(t, t + 1, 0, 16), (t + 1, t, 0, 17)])).foldl pz_ia x
    rw [List.foldl_append, ← ih]
    unfold pz_iw
    split <;> rfl
theorem pz_fwJ_eq (s e : Nat → Nat) (ga : pz_F) (us ud : Int32) (x : pz_RS) : ∀ j, pz_fwJ s e ga us ud x j = (pz_lj s e ga us ud j).foldl pz_ia x
  | 0 => rfl
  | j + 1 => by
    have ih := pz_fwJ_eq s e ga us ud x j
    show pz_ij s e ga us ud (pz_fwJ s e ga us ud x j) j = (pz_lj s e ga us ud j ++ (if (ud >>> (nI j &&& 31)) &&& 1 = 0 then (if (us >>> (nI j &&& 31)) &&& 1 = 0 then [] else [(s j, e j, ga j, nI j)]) else [(e j, s j, -(ga j), 8 + nI j)])).foldl pz_ia x
    rw [List.foldl_append, ← ih]
    unfold pz_ij
    split
    · split <;> rfl
    · rfl
def pz_L8 (s e : Nat → Nat) (ga : pz_F) (us ud : Int32) (wa : pz_F) : List pz_Ar := pz_lw wa 16 ++ pz_lj s e ga us ud 8
theorem pz_rd_eq (s e : Nat → Nat) (ga : pz_F) (us ud : Int32) (wa : pz_F) (x : pz_RS) : pz_rd s e ga us ud wa x = (pz_L8 s e ga us ud wa).foldl pz_ia x := by
  unfold pz_rd pz_L8
  rw [pz_fwJ_eq, pz_fwW_eq, List.foldl_append]
theorem pz_lw_mem {wa : pz_F} {a : pz_Ar} : ∀ n, a ∈ pz_lw wa n → ∃ t, t < n ∧ (a = (t, t + 1, 0, 16) ∨ (¬ wa t ≤ 0 ∧ a = (t + 1, t, 0, 17)))
  | 0, h => by cases h
  | n + 1, h => by
    rcases List.mem_append.mp (show a ∈ pz_lw wa n ++ (if wa n ≤ 0 then [(n, n + 1, 0, 16)] else [(n, n + 1, 0, 16), (n + 1, n, 0, 17)]) from h) with h | h
    · obtain ⟨t, ht, q⟩ := pz_lw_mem n h
      exact ⟨t, by omega, q⟩
    · refine ⟨n, by omega, ?_⟩
      by_cases hc : wa n ≤ 0
      · rw [if_pos hc] at h
        exact Or.inl (List.mem_singleton.mp h)
      · rw [if_neg hc] at h
        rcases List.mem_cons.mp h with h | h
        · exact Or.inl h
        · exact Or.inr ⟨hc, List.mem_singleton.mp h⟩
theorem pz_lw_in {wa : pz_F} {t : Nat} : ∀ n, t < n → ((t, t + 1, 0, 16) : pz_Ar) ∈ pz_lw wa n
  | 0, h => by omega
  | n + 1, h => by
    show ((t, t + 1, 0, 16) : pz_Ar) ∈ pz_lw wa n ++ (if wa n ≤ 0 then [(n, n + 1, 0, 16)] else [(n, n + 1, 0, 16), (n + 1, n, 0, 17)])
    by_cases e : t = n
    · subst e
      refine List.mem_append_right _ ?_
      split
      · exact List.mem_cons_self
      · exact List.mem_cons_self
    · exact List.mem_append_left _ (pz_lw_in n (by omega))
theorem pz_lj_mem {s e : Nat → Nat} {ga : pz_F} {us ud : Int32} {a : pz_Ar} : ∀ n, a ∈ pz_lj s e ga us ud n → ∃ j, j < n ∧ ((¬ (ud >>> (nI j &&& 31)) &&& 1 = 0 ∧ a = (e j, s j, -(ga j), 8 + nI j)) ∨ ((ud >>> (nI j &&& 31)) &&& 1 = 0 ∧ ¬ (us >>> (nI j &&& 31)) &&& 1 = 0 ∧ a = (s j, e j, ga j, nI j)))
  | 0, h => by cases h
  | n + 1, h => by
    rcases List.mem_append.mp (show a ∈ pz_lj s e ga us ud n ++ (if (ud >>> (nI n &&& 31)) &&& 1 = 0 then (if (us >>> (nI n &&& 31)) &&& 1 = 0 then [] else [(s n, e n, ga n, nI n)]) else [(e n, s n, -(ga n), 8 + nI n)]) from h) with h | h
    · obtain ⟨t, ht, q⟩ := pz_lj_mem n h
      exact ⟨t, by omega, q⟩
    · refine ⟨n, by omega, ?_⟩
      by_cases hc : (ud >>> (nI n &&& 31)) &&& 1 = 0
      · rw [if_pos hc] at h
        by_cases hd : (us >>> (nI n &&& 31)) &&& 1 = 0
        · rw [if_pos hd] at h
          cases h
        · rw [if_neg hd] at h
          exact Or.inr ⟨hc, hd, List.mem_singleton.mp h⟩
      · rw [if_neg hc] at h
        exact Or.inl ⟨hc, List.mem_singleton.mp h⟩
/-- the flow with its potential -/
def pz_FI (s e g : Nat → Nat) (U n S : Nat) (wt : Nat → Nat) (f : Nat → Int) : Prop :=
  S < 256 ∧ (∀ j, j < 8 → S.testBit j = true → U.testBit j = true) ∧ (∀ t, t < 16 → pz_cw s e S t 8 + wt t = n) ∧ pz_Ph f ∧ (∀ t, t < 16 → f t ≤ f (t + 1)) ∧ (∀ t, t < 16 → 0 < wt t → f (t + 1) ≤ f t) ∧
  (∀ j, j < 8 → S.testBit j = true → f (e j) - f (s j) ≤ (g j : Int)) ∧ (∀ j, j < 8 → U.testBit j = true → S.testBit j = false → (g j : Int) ≤ f (e j) - f (s j))
/-- where the steps lead, once findWays is through -/
def pz_TR (s e g : Nat → Nat) (U : Nat) (D : Nat → Int) (sp : pz_F) (T : Nat → Nat) : Prop := ∀ v, v < 17 → v ≠ 0 →
  (sp v = 16 ∧ D v = D (v - 1) ∧ T (v - 1) < T v) ∨ (v < 16 ∧ sp v = 17 ∧ D v = D (v + 1) ∧ T (v + 1) < T v) ∨
  (∃ j, j < 8 ∧ sp v = 8 + nI j ∧ v = s j ∧ U.testBit j = true ∧ D v = D (e j) - (g j : Int) ∧ T (e j) < T v) ∨ (∃ j, j < 8 ∧ sp v = nI j ∧ v = e j ∧ U.testBit j = true ∧ D v = D (s j) + (g j : Int) ∧ T (s j) < T v)
def pz_FoI (s e g : Nat → Nat) (U n : Nat) (D : Nat → Int) (sp : pz_F) (T : Nat → Nat) (k t S : Nat) (wt : Nat → Nat) : Prop :=
  t ≤ 16 ∧ T t + k ≤ 16 ∧ S < 256 ∧ (∀ j, j < 8 → S.testBit j = true → U.testBit j = true) ∧ (∀ u, u < 16 → pz_cw s e S u 8 + wt u = n + (if t ≤ u then 1 else 0)) ∧ (∀ u, u < 16 → 0 < wt u → D (u + 1) ≤ D u) ∧
  (∀ j, j < 8 → S.testBit j = true → D (e j) - D (s j) ≤ (g j : Int)) ∧ (∀ j, j < 8 → U.testBit j = true → S.testBit j = false → (g j : Int) ≤ D (e j) - D (s j)) ∧
  ∀ v, v < 17 → v ≠ 0 → T v ≤ T t → (sp v = 17 → 0 < wt v) ∧ ∀ j, j < 8 → (sp v = 8 + nI j → S.testBit j = true) ∧ (sp v = nI j → S.testBit j = false)
theorem pz_fo_step {s e g : Nat → Nat} {U n : Nat} {D : Nat → Int} {sp : pz_F} {T : Nat → Nat} (hU : ∀ j, j < 8 → U.testBit j = true → s j < e j ∧ e j ≤ 16) (hn : n ≤ 10) (hTR : pz_TR s e g U D sp T)
    {k t S : Nat} {wt : Nat → Nat} {wa : pz_F} (h : pz_FoI s e g U n D sp T k t S wt) (ht : t ≠ 0) (hwa : ∀ u, u < 16 → wa u = nI (wt u)) :
    ∃ (t' S' : Nat) (wt' : Nat → Nat) (wa' : pz_F), pz_fo1 s e sp (t, nI S, wa) = (t', nI S', wa') ∧ (∀ u, u < 16 → wa' u = nI (wt' u)) ∧ pz_FoI s e g U n D sp T (k + 1) t' S' wt' := by
  obtain ⟨h1, h2, h3, h4, h5, h6, h7, h8, h9⟩ := h
  rcases hTR t (by omega) ht with ⟨c1, c2, c3⟩ | ⟨c0, c1, c2, c3⟩ | ⟨j, hj, c1, c2, c3, c4, c5⟩ | ⟨j, hj, c1, c2, c3, c4, c5⟩
  · -- a wait, taken
    refine ⟨t - 1, S, fun u => if u = t - 1 then wt u + 1 else wt u, upd wa (t - 1) ((wa (t - 1) + 1).toInt8.toInt32), ?_, ?_, ?_⟩
    · unfold pz_fo1
      rw [if_pos c1]
    · intro u hu
      show upd wa (t - 1) ((wa (t - 1) + 1).toInt8.toInt32) u = nI (if u = t - 1 then wt u + 1 else wt u)
      have := h5 (t - 1) (by omega)
      by_cases e1 : u = t - 1
      · subst e1
        rw [pk_us, if_pos rfl, hwa _ hu]
        refine pz_inc _ ?_
        have hif : (if t ≤ t - 1 then 1 else 0) = 0 := if_neg (by omega)
        rw [hif] at this
        omega
      · rw [pk_un e1, if_neg e1]
        exact hwa u hu
    · refine ⟨by omega, by omega, h3, h4, ?_, ?_, h7, h8, ?_⟩
      · intro u hu
        have := h5 u hu
        show pz_cw s e S u 8 + (if u = t - 1 then wt u + 1 else wt u) = n + (if t - 1 ≤ u then 1 else 0)
        rcases (by omega : u = t - 1 ∨ u < t - 1 ∨ t ≤ u) with q | q | q
        · rw [if_pos q, if_pos (by omega)]
          rw [if_neg (by omega)] at this
          omega
        · rw [if_neg (by omega), if_neg (by omega)]
          rw [if_neg (by omega)] at this
          omega
        · rw [if_neg (by omega), if_pos (by omega)]
          rw [if_pos q] at this
          omega
      · intro u hu hw
        have hw' : 0 < (if u = t - 1 then wt u + 1 else wt u) := hw
        by_cases e1 : u = t - 1
        · subst e1
          have e2 : t - 1 + 1 = t := by omega
          rw [e2, c2]
          exact Int.le_refl _
        · rw [if_neg e1] at hw'
          exact h6 u hu hw'
      · intro v hv hv0 hTv
        obtain ⟨g1, g2⟩ := h9 v hv hv0 (by omega)
        refine ⟨fun q => ?_, g2⟩
        show 0 < (if v = t - 1 then wt v + 1 else wt v)
        have := g1 q
        split <;> omega
  · -- a wait, taken back
    have hpos := (h9 t (by omega) ht (Nat.le_refl _)).1 c1
    refine ⟨t + 1, S, fun u => if u = t then wt u - 1 else wt u, upd wa t ((wa t - 1).toInt8.toInt32), ?_, ?_, ?_⟩
    · unfold pz_fo1
      rw [if_neg (by show ¬ sp t = 16; rw [c1]; decide), if_pos c1]
    · intro u hu
      show upd wa t ((wa t - 1).toInt8.toInt32) u = nI (if u = t then wt u - 1 else wt u)
      by_cases e1 : u = t
      · subst e1
        have := h5 u hu
        rw [if_pos (Nat.le_refl u)] at this
        rw [pk_us, if_pos rfl, hwa _ hu]
        have := pz_dec (wt u - 1) (by omega)
        rw [show wt u - 1 + 1 = wt u by omega] at this
        exact this
      · rw [pk_un e1, if_neg e1]
        exact hwa u hu
    · refine ⟨by omega, by omega, h3, h4, ?_, ?_, h7, h8, ?_⟩
      · intro u hu
        have := h5 u hu
        show pz_cw s e S u 8 + (if u = t then wt u - 1 else wt u) = n + (if t + 1 ≤ u then 1 else 0)
        rcases (by omega : u = t ∨ u < t ∨ t + 1 ≤ u) with q | q | q
        · subst q
          rw [if_pos rfl, if_neg (by omega)]
          rw [if_pos (Nat.le_refl u)] at this
          omega
        · rw [if_neg (by omega), if_neg (by omega)]
          rw [if_neg (by omega)] at this
          omega
        · rw [if_neg (by omega), if_pos q]
          rw [if_pos (by omega)] at this
          omega
      · intro u hu hw
        have hw' : 0 < (if u = t then wt u - 1 else wt u) := hw
        refine h6 u hu ?_
        split at hw' <;> omega
      · intro v hv hv0 hTv
        obtain ⟨g1, g2⟩ := h9 v hv hv0 (by omega)
        refine ⟨fun q => ?_, g2⟩
        show 0 < (if v = t then wt v - 1 else wt v)
        have hvt : v ≠ t := by
          intro e1
          subst e1
          omega
        rw [if_neg hvt]
        exact g1 q
  · -- a job, taken back
    have hb : S.testBit j = true := ((h9 t (by omega) ht (Nat.le_refl _)).2 j hj).1 c1
    have hc := pz_code1 j hj
    have hse := hU j hj c3
    refine ⟨e j, S &&& (255 - 2 ^ j), wt, wa, ?_, hwa, ?_⟩
    · unfold pz_fo1
      rw [if_neg (by show ¬ sp t = 16; rw [c1]; exact hc.2.1), if_neg (by show ¬ sp t = 17; rw [c1]; exact hc.2.2.1), if_neg (by show ¬ sp t < 8; rw [c1]; exact hc.2.2.2.1)]
      show (e (sp t - 8).toNatClampNeg, nI S &&& (((1 : Int32) <<< ((sp t - 8) &&& 31)) ^^^ (-1)), wa) = _
      rw [c1, hc.2.2.2.2, hc.1.2.2.2.2, pz_clr S h3 j hj]
    · refine ⟨hse.2, by omega, pz_clr_lt h3, ?_, ?_, h6, ?_, ?_, ?_⟩
      · intro i hi hbi
        by_cases e1 : i = j
        · rw [e1]
          exact c3
        · rw [pz_clr_ne h3 hj e1] at hbi
          exact h4 i hi hbi
      · intro u hu
        have h5u := h5 u hu
        have hset := pz_cw_set (s := s) (e := e) (t := u) (pz_clr_self (S := S) hj) hb (fun i hi => (pz_clr_ne h3 hj hi).symm) 8 hj
        rw [← c2] at hset
        rcases (by omega : u < t ∨ (t ≤ u ∧ u < e j) ∨ e j ≤ u) with q | q | q
        · rw [if_neg (by omega)] at hset h5u
          rw [if_neg (by omega)]
          omega
        · rw [if_pos q] at hset
          rw [if_pos q.1] at h5u
          rw [if_neg (by omega)]
          omega
        · rw [if_neg (by omega)] at hset
          rw [if_pos (by omega)] at h5u
          rw [if_pos q]
          omega
      · intro i hi hbi
        by_cases e1 : i = j
        · rw [e1, pz_clr_self hj] at hbi
          cases hbi
        · rw [pz_clr_ne h3 hj e1] at hbi
          exact h7 i hi hbi
      · intro i hi hui hbi
        by_cases e1 : i = j
        · rw [e1]
          rw [c2] at c4
          omega
        · rw [pz_clr_ne h3 hj e1] at hbi
          exact h8 i hi hui hbi
      · intro v hv hv0 hTv
        obtain ⟨g1, g2⟩ := h9 v hv hv0 (by omega)
        refine ⟨g1, fun i hi => ⟨fun q => ?_, fun q => ?_⟩⟩
        · by_cases e1 : i = j
          · exfalso
            subst e1
            rcases hTR v hv hv0 with ⟨d1, -⟩ | ⟨-, d1, -⟩ | ⟨i', hi', d1, d2, -, -, -⟩ | ⟨i', hi', d1, -⟩
            · exact hc.2.1 (q.symm.trans d1)
            · exact hc.2.2.1 (q.symm.trans d1)
            · have := (pz_codes i hi i' hi').2.1 (q.symm.trans d1)
              subst this
              rw [d2, ← c2] at hTv
              omega
            · exact (pz_codes i' hi' i hi).2.2 (d1.symm.trans q)
          · rw [pz_clr_ne h3 hj e1]
            exact (g2 i hi).1 q
        · by_cases e1 : i = j
          · rw [e1]
            exact pz_clr_self hj
          · rw [pz_clr_ne h3 hj e1]
            exact (g2 i hi).2 q
  · -- a job, taken
    have hb : S.testBit j = false := ((h9 t (by omega) ht (Nat.le_refl _)).2 j hj).2 c1
    have hc := pz_code1 j hj
    have hse := hU j hj c3
    refine ⟨s j, S ||| 2 ^ j, wt, wa, ?_, hwa, ?_⟩
    · unfold pz_fo1
      rw [if_neg (by show ¬ sp t = 16; rw [c1]; exact hc.1.1), if_neg (by show ¬ sp t = 17; rw [c1]; exact hc.1.2.1), if_pos (by show sp t < 8; rw [c1]; exact hc.1.2.2.1), if_neg (by show ¬ sp t < 0; rw [c1]; exact hc.1.2.2.2.1)]
      show (s (sp t).toNatClampNeg, nI S ||| ((1 : Int32) <<< (sp t &&& 31)), wa) = _
      rw [c1, hc.1.2.2.2.2, pz_or S h3 j hj]
    · refine ⟨by omega, by omega, pz_set_lt h3 hj, ?_, ?_, h6, ?_, ?_, ?_⟩
      · intro i hi hbi
        by_cases e1 : i = j
        · rw [e1]
          exact c3
        · rw [pz_set_ne e1] at hbi
          exact h4 i hi hbi
      · intro u hu
        have h5u := h5 u hu
        have hset := pz_cw_set (s := s) (e := e) (t := u) hb (pz_set_self (S := S) (j := j)) (fun i hi => pz_set_ne hi) 8 hj
        rw [← c2] at hset
        rcases (by omega : u < s j ∨ (s j ≤ u ∧ u < t) ∨ t ≤ u) with q | q | q
        · rw [if_neg (by omega)] at hset h5u
          rw [if_neg (by omega)]
          omega
        · rw [if_pos q] at hset
          rw [if_neg (by omega)] at h5u
          rw [if_pos q.1]
          omega
        · rw [if_neg (by omega)] at hset
          rw [if_pos q] at h5u
          rw [if_pos (by omega)]
          omega
      · intro i hi hbi
        by_cases e1 : i = j
        · rw [e1]
          rw [c2] at c4
          omega
        · rw [pz_set_ne e1] at hbi
          exact h7 i hi hbi
      · intro i hi hui hbi
        by_cases e1 : i = j
        · rw [e1, pz_set_self] at hbi
          cases hbi
        · rw [pz_set_ne e1] at hbi
          exact h8 i hi hui hbi
      · intro v hv hv0 hTv
        obtain ⟨g1, g2⟩ := h9 v hv hv0 (by omega)
        refine ⟨g1, fun i hi => ⟨fun q => ?_, fun q => ?_⟩⟩
        · by_cases e1 : i = j
          · rw [e1]
            exact pz_set_self
          · rw [pz_set_ne e1]
            exact (g2 i hi).1 q
        · by_cases e1 : i = j
          · exfalso
            subst e1
            rcases hTR v hv hv0 with ⟨d1, -⟩ | ⟨-, d1, -⟩ | ⟨i', hi', d1, -⟩ | ⟨i', hi', d1, d2, -, -, -⟩
            · exact hc.1.1 (q.symm.trans d1)
            · exact hc.1.2.1 (q.symm.trans d1)
            · exact (pz_codes i hi i' hi').2.2 (q.symm.trans d1)
            · have := (pz_codes i hi i' hi').1 (q.symm.trans d1)
              subst this
              rw [d2, ← c2] at hTv
              omega
          · rw [pz_set_ne e1]
            exact (g2 i hi).2 q
theorem pz_fo_run {s e g : Nat → Nat} {U n : Nat} {D : Nat → Int} {sp : pz_F} {T : Nat → Nat} (hU : ∀ j, j < 8 → U.testBit j = true → s j < e j ∧ e j ≤ 16) (hn : n ≤ 10) (hTR : pz_TR s e g U D sp T)
    {S : Nat} {wt : Nat → Nat} {wa : pz_F} (h : pz_FoI s e g U n D sp T 0 16 S wt) (hwa : ∀ u, u < 16 → wa u = nI (wt u)) :
    ∀ k, ∃ (k' t S' : Nat) (wt' : Nat → Nat) (wa' : pz_F), pz_fo s e sp (16, nI S, wa) k = (t, nI S', wa') ∧ (∀ u, u < 16 → wa' u = nI (wt' u)) ∧ pz_FoI s e g U n D sp T k' t S' wt' ∧ (t = 0 ∨ k' = k)
  | 0 => ⟨0, 16, S, wt, wa, rfl, hwa, h, Or.inr rfl⟩
  | k + 1 => by
    obtain ⟨k', t, S', wt', wa', h1, h2, h3, h4⟩ := pz_fo_run hU hn hTR h hwa k
    by_cases ht : t = 0
    · refine ⟨k', t, S', wt', wa', ?_, h2, h3, Or.inl ht⟩
      show (if (pz_fo s e sp (16, nI S, wa) k).1 = 0 then pz_fo s e sp (16, nI S, wa) k else pz_fo1 s e sp (pz_fo s e sp (16, nI S, wa) k)) = _
      rw [h1, if_pos ht]
    · obtain ⟨t2, S2, wt2, wa2, g1, g2, g3⟩ := pz_fo_step hU hn hTR h3 ht h2
      have hk : k' = k := by
        rcases h4 with q | q
        · exact absurd q ht
        · exact q
      subst hk
      refine ⟨k' + 1, t2, S2, wt2, wa2, ?_, g2, g3, Or.inr rfl⟩
      show (if (pz_fo s e sp (16, nI S, wa) k').1 = 0 then pz_fo s e sp (16, nI S, wa) k' else pz_fo1 s e sp (pz_fo s e sp (16, nI S, wa) k')) = _
      rw [h1, if_neg ht, g1]
end
section
/-! PURE 5: one unit, and send: the used jobs are a best set -/
theorem pz_lw_in2 {wa : pz_F} {t : Nat} (hw : ¬ wa t ≤ 0) : ∀ n, t < n → ((t + 1, t, 0, 17) : pz_Ar) ∈ pz_lw wa n
  | 0, h => by omega
  | n + 1, h => by
    show ((t + 1, t, 0, 17) : pz_Ar) ∈ pz_lw wa n ++ (if wa n ≤ 0 then [(n, n + 1, 0, 16)] else [(n, n + 1, 0, 16), (n + 1, n, 0, 17)])
    by_cases e : t = n
    · subst e
      refine List.mem_append_right _ ?_
      rw [if_neg hw]
      exact List.mem_cons_of_mem _ List.mem_cons_self
    · exact List.mem_append_left _ (pz_lw_in2 hw n (by omega))
theorem pz_lj_in1 {s e : Nat → Nat} {ga : pz_F} {us ud : Int32} {j : Nat} (hd : ¬ (ud >>> (nI j &&& 31)) &&& 1 = 0) : ∀ n, j < n → ((e j, s j, -(ga j), 8 + nI j) : pz_Ar) ∈ pz_lj s e ga us ud n
  | 0, h => by omega
  | n + 1, h => by
    show ((e j, s j, -(ga j), 8 + nI j) : pz_Ar) ∈ pz_lj s e ga us ud n ++ (if (ud >>> (nI n &&& 31)) &&& 1 = 0 then (if (us >>> (nI n &&& 31)) &&& 1 = 0 then [] else [(s n, e n, ga n, nI n)]) else [(e n, s n, -(ga n), 8 + nI n)])
    by_cases q : j = n
    · subst q
      refine List.mem_append_right _ ?_
      rw [if_neg hd]
      exact List.mem_cons_self
    · exact List.mem_append_left _ (pz_lj_in1 hd n (by omega))
theorem pz_lj_in2 {s e : Nat → Nat} {ga : pz_F} {us ud : Int32} {j : Nat} (hd : (ud >>> (nI j &&& 31)) &&& 1 = 0) (hs : ¬ (us >>> (nI j &&& 31)) &&& 1 = 0) : ∀ n, j < n → ((s j, e j, ga j, nI j) : pz_Ar) ∈ pz_lj s e ga us ud n
  | 0, h => by omega
  | n + 1, h => by
    show ((s j, e j, ga j, nI j) : pz_Ar) ∈ pz_lj s e ga us ud n ++ (if (ud >>> (nI n &&& 31)) &&& 1 = 0 then (if (us >>> (nI n &&& 31)) &&& 1 = 0 then [] else [(s n, e n, ga n, nI n)]) else [(e n, s n, -(ga n), 8 + nI n)])
    by_cases q : j = n
    · subst q
      refine List.mem_append_right _ ?_
      rw [if_pos hd, if_neg hs]
      exact List.mem_cons_self
    · exact List.mem_append_left _ (pz_lj_in2 hd hs n (by omega))
theorem pz_z0 : (0 : Int32).toInt = 0 := rfl
/-- the four kinds of arcs of a round -/
theorem pz_arc {s e g : Nat → Nat} {ga : pz_F} {U S n : Nat} {wt : Nat → Nat} {wa : pz_F} (hU8 : U < 256) (hS8 : S < 256) (hn : n ≤ 10) (hc : ∀ t, t < 16 → pz_cw s e S t 8 + wt t = n) (hwa : ∀ t, t < 16 → wa t = nI (wt t)) {a : pz_Ar}
    (ha : a ∈ pz_L8 s e ga (nI U) (nI S) wa) :
    (∃ t, t < 16 ∧ a = (t, t + 1, 0, 16)) ∨ (∃ t, t < 16 ∧ 0 < wt t ∧ a = (t + 1, t, 0, 17)) ∨ (∃ j, j < 8 ∧ S.testBit j = true ∧ a = (e j, s j, -(ga j), 8 + nI j)) ∨ (∃ j, j < 8 ∧ S.testBit j = false ∧ U.testBit j = true ∧ a = (s j, e j, ga j, nI j)) := by
  rcases List.mem_append.mp ha with h | h
  · obtain ⟨t, ht, q | ⟨q, q2⟩⟩ := pz_lw_mem 16 h
    · exact Or.inl ⟨t, ht, q⟩
    · refine Or.inr (Or.inl ⟨t, ht, ?_, q2⟩)
      have := hc t ht
      rw [hwa t ht, pz_le0 (by omega)] at q
      omega
  · obtain ⟨j, hj, ⟨q, q2⟩ | ⟨q, q2, q3⟩⟩ := pz_lj_mem 8 h
    · refine Or.inr (Or.inr (Or.inl ⟨j, hj, ?_, q2⟩))
      rw [pz_bit S hS8 j hj] at q
      simpa using q
    · refine Or.inr (Or.inr (Or.inr ⟨j, hj, (pz_bit S hS8 j hj).mp q, ?_, q3⟩))
      rw [pz_bit U hU8 j hj] at q2
      simpa using q2
theorem pz_unit {s e g : Nat → Nat} {ga : pz_F} {U S n : Nat} {wt : Nat → Nat} {wa : pz_F} {f : Nat → Int} (hU8 : U < 256) (hU : ∀ j, j < 8 → U.testBit j = true → s j < e j ∧ e j ≤ 16) (hn : n ≤ 9) (hg : ∀ j, j < 8 → g j ≤ 2097152) (hga : ∀ j, j < 8 → ga j = nI (g j))
    (h : pz_FI s e g U n S wt f) (hwa : ∀ t, t < 16 → wa t = nI (wt t)) (x : pz_RS) :
    ∃ (S' : Nat) (wt' : Nat → Nat) (f' : Nat → Int), (pz_un s e ga (nI U) (nI S, wa, x)).1 = nI S' ∧ (∀ t, t < 16 → (pz_un s e ga (nI U) (nI S, wa, x)).2.1 t = nI (wt' t)) ∧ pz_FI s e g U (n + 1) S' wt' f' := by
  obtain ⟨i1, i2, i3, i4, i5, i6, i7, i8⟩ := h
  have hwt : ∀ t, t < 16 → wt t < 2 ^ 31 := fun t ht => by have := i3 t ht; omega
  have hgi : ∀ j, j < 8 → (ga j).toInt = (g j : Int) ∧ (-(ga j)).toInt = -(g j : Int) := fun j hj => by
    have h1 := hg j hj
    rw [hga j hj]
    exact ⟨nI_toInt (by omega), sb_negT (by omega)⟩
  have kinds : ∀ a, a ∈ pz_L8 s e ga (nI U) (nI S) wa → _ := fun a ha => pz_arc (g := g) hU8 i1 (by omega) i3 hwa ha
  have hL : ∀ a, a ∈ pz_L8 s e ga (nI U) (nI S) wa → pz_Ok f a := by
    intro a ha
    rcases kinds a ha with ⟨t, ht, rfl⟩ | ⟨t, ht, hp, rfl⟩ | ⟨j, hj, hb, rfl⟩ | ⟨j, hj, hb, hu, rfl⟩
    · refine ⟨by show t < 17; omega, by show t + 1 < 17; omega, by show -2097152 ≤ (0 : Int32).toInt ∧ (0 : Int32).toInt ≤ 2097152; decide, ?_⟩
      have := i5 t ht
      show f t + (0 : Int32).toInt ≤ f (t + 1)
      rw [pz_z0]
      omega
    · refine ⟨by show t + 1 < 17; omega, by show t < 17; omega, by show -2097152 ≤ (0 : Int32).toInt ∧ (0 : Int32).toInt ≤ 2097152; decide, ?_⟩
      have := i6 t ht hp
      show f (t + 1) + (0 : Int32).toInt ≤ f t
      rw [pz_z0]
      omega
    · have h1 := hU j hj (i2 j hj hb)
      have h2 := i7 j hj hb
      have h3 := hg j hj
      refine ⟨by show e j < 17; omega, by show s j < 17; omega, ?_, ?_⟩
      · show -2097152 ≤ (-(ga j)).toInt ∧ (-(ga j)).toInt ≤ 2097152
        rw [(hgi j hj).2]
        omega
      · show f (e j) + (-(ga j)).toInt ≤ f (s j)
        rw [(hgi j hj).2]
        omega
    · have h1 := hU j hj hu
      have h2 := i8 j hj hu hb
      have h3 := hg j hj
      refine ⟨by show s j < 17; omega, by show e j < 17; omega, ?_, ?_⟩
      · show -2097152 ≤ (ga j).toInt ∧ (ga j).toInt ≤ 2097152
        rw [(hgi j hj).1]
        omega
      · show f (s j) + (ga j).toInt ≤ f (e j)
        rw [(hgi j hj).1]
        omega
  have hx0 : ((pz_fw0 x).1 0).toInt = 0 := by
    show (upd (pz_fwI x 17).1 0 0 0).toInt = 0
    rw [pk_us]
    rfl
  have hx1 : ∀ v, v < 17 → v ≠ 0 → ((pz_fw0 x).1 v).toInt = -268435456 := by
    intro v hv hv0
    show (upd (pz_fwI x 17).1 0 0 v).toInt = -268435456
    rw [pk_un hv0, (pz_fwI_1 x 17 v hv).1]
    exact pz_FAR_i
  obtain ⟨T, t1, t2, t3, t4, t5⟩ := pz_bf i4 hL (fun t ht => List.mem_append_left _ (pz_lw_in 16 ht)) hx0 hx1 (fun k => pz_fwR s e ga (nI U) (nI S) wa (pz_fw0 x) k) rfl (fun k => pz_rd_eq s e ga (nI U) (nI S) wa _)
  have eFW : pz_FW s e ga (nI U) (nI S) wa x = pz_fwR s e ga (nI U) (nI S) wa (pz_fw0 x) 17 := rfl
  generalize hX : pz_fwR s e ga (nI U) (nI S) wa (pz_fw0 x) 17 = X at t2 t3 t4 t5 eFW
  have j1 : ∀ t, t < 16 → (X.1 t).toInt ≤ (X.1 (t + 1)).toInt := by
    intro t ht
    have h1 : (X.1 t).toInt + (0 : Int32).toInt ≤ (X.1 (t + 1)).toInt := t4 _ (List.mem_append_left _ (pz_lw_in 16 ht))
    rw [pz_z0] at h1
    omega
  have j2 : ∀ t, t < 16 → 0 < wt t → (X.1 (t + 1)).toInt ≤ (X.1 t).toInt := by
    intro t ht hp
    have hq : ¬ wa t ≤ 0 := by
      rw [hwa t ht, pz_le0 (hwt t ht)]
      omega
    have h1 : (X.1 (t + 1)).toInt + (0 : Int32).toInt ≤ (X.1 t).toInt := t4 _ (List.mem_append_left _ (pz_lw_in2 hq 16 ht))
    rw [pz_z0] at h1
    omega
  have j3 : ∀ j, j < 8 → S.testBit j = true → (X.1 (e j)).toInt - (X.1 (s j)).toInt ≤ (g j : Int) := by
    intro j hj hb
    have hq : ¬ (nI S >>> (nI j &&& 31)) &&& 1 = 0 := by
      rw [pz_bit S i1 j hj, hb]
      decide
    have h1 : (X.1 (e j)).toInt + (-(ga j)).toInt ≤ (X.1 (s j)).toInt := t4 _ (List.mem_append_right _ (pz_lj_in1 hq 8 hj))
    rw [(hgi j hj).2] at h1
    omega
  have j4 : ∀ j, j < 8 → U.testBit j = true → S.testBit j = false → (g j : Int) ≤ (X.1 (e j)).toInt - (X.1 (s j)).toInt := by
    intro j hj hu hb
    have hq : ¬ (nI U >>> (nI j &&& 31)) &&& 1 = 0 := by
      rw [pz_bit U hU8 j hj, hu]
      decide
    have h1 : (X.1 (s j)).toInt + (ga j).toInt ≤ (X.1 (e j)).toInt := t4 _ (List.mem_append_right _ (pz_lj_in2 ((pz_bit S i1 j hj).mpr hb) hq 8 hj))
    rw [(hgi j hj).1] at h1
    omega
  have hTR : pz_TR s e g U (fun v => (X.1 v).toInt) X.2 T := by
    intro v hv hv0
    obtain ⟨a, ha, a1, a2, a3, a4⟩ := t5 v hv hv0
    rcases kinds a ha with ⟨t, ht, rfl⟩ | ⟨t, ht, hp, rfl⟩ | ⟨j, hj, hb, rfl⟩ | ⟨j, hj, hb, hu, rfl⟩
    · left
      have b1 : t + 1 = v := a1
      have b3 : (X.1 v).toInt = (X.1 t).toInt + (0 : Int32).toInt := a3
      have b4 : T t < T v := a4
      have e1 : v - 1 = t := by omega
      rw [pz_z0] at b3
      refine ⟨a2, ?_, by rw [e1]; exact b4⟩
      show (X.1 v).toInt = (X.1 (v - 1)).toInt
      rw [e1]
      omega
    · right
      left
      have b1 : t = v := a1
      subst b1
      have b3 : (X.1 t).toInt = (X.1 (t + 1)).toInt + (0 : Int32).toInt := a3
      rw [pz_z0] at b3
      refine ⟨ht, a2, ?_, a4⟩
      show (X.1 t).toInt = (X.1 (t + 1)).toInt
      omega
    · right
      right
      left
      have b1 : s j = v := a1
      have b3 : (X.1 v).toInt = (X.1 (e j)).toInt + (-(ga j)).toInt := a3
      rw [(hgi j hj).2] at b3
      refine ⟨j, hj, a2, b1.symm, i2 j hj hb, ?_, a4⟩
      show (X.1 v).toInt = (X.1 (e j)).toInt - (g j : Int)
      omega
    · right
      right
      right
      have b1 : e j = v := a1
      have b3 : (X.1 v).toInt = (X.1 (s j)).toInt + (ga j).toInt := a3
      rw [(hgi j hj).1] at b3
      refine ⟨j, hj, a2, b1.symm, hu, ?_, a4⟩
      show (X.1 v).toInt = (X.1 (s j)).toInt + (g j : Int)
      omega
  have hFo : pz_FoI s e g U n (fun v => (X.1 v).toInt) X.2 T 0 16 S wt := by
    refine ⟨Nat.le_refl _, by have := t1 16 (by decide); omega, i1, i2, ?_, j2, j3, j4, ?_⟩
    · intro u hu
      rw [if_neg (by omega)]
      exact i3 u hu
    · intro v hv hv0 _
      obtain ⟨a, ha, a1, a2, a3, a4⟩ := t5 v hv hv0
      rcases kinds a ha with ⟨t, ht, rfl⟩ | ⟨t, ht, hp, rfl⟩ | ⟨j, hj, hb, rfl⟩ | ⟨j, hj, hb, hu, rfl⟩
      · have b2 : X.2 v = 16 := a2
        refine ⟨fun q => ?_, fun i hi => ⟨fun q => ?_, fun q => ?_⟩⟩
        · rw [b2] at q
          exact absurd q (by decide)
        · exact absurd (q.symm.trans b2) (pz_code1 i hi).2.1
        · exact absurd (q.symm.trans b2) (pz_code1 i hi).1.1
      · have b2 : X.2 v = 17 := a2
        have b1 : t = v := a1
        refine ⟨fun _ => by rw [← b1]; exact hp, fun i hi => ⟨fun q => ?_, fun q => ?_⟩⟩
        · exact absurd (q.symm.trans b2) (pz_code1 i hi).2.2.1
        · exact absurd (q.symm.trans b2) (pz_code1 i hi).1.2.1
      · have b2 : X.2 v = 8 + nI j := a2
        refine ⟨fun q => absurd (b2.symm.trans q) (pz_code1 j hj).2.2.1, fun i hi => ⟨fun q => ?_, fun q => ?_⟩⟩
        · have := (pz_codes i hi j hj).2.1 (q.symm.trans b2)
          rw [this]
          exact hb
        · exact absurd (q.symm.trans b2) (pz_codes i hi j hj).2.2
      · have b2 : X.2 v = nI j := a2
        refine ⟨fun q => absurd (b2.symm.trans q) (pz_code1 j hj).1.2.1, fun i hi => ⟨fun q => ?_, fun q => ?_⟩⟩
        · exact absurd (b2.symm.trans q) (pz_codes j hj i hi).2.2
        · have := (pz_codes i hi j hj).1 (q.symm.trans b2)
          rw [this]
          exact hb
  obtain ⟨k', t, S', wt', wa', r1, r2, r3, r4⟩ := pz_fo_run hU (by omega) hTR hFo hwa 64
  have ht0 : t = 0 := by
    rcases r4 with q | q
    · exact q
    · exfalso
      have := r3.2.1
      omega
  subst ht0
  obtain ⟨-, -, o3, o4, o5, o6, o7, o8, -⟩ := r3
  refine ⟨S', wt', fun v => (X.1 v).toInt, ?_, ?_, ?_⟩
  · unfold pz_un
    dsimp only
    rw [eFW, r1]
  · intro u hu
    unfold pz_un
    dsimp only
    rw [eFW, r1]
    exact r2 u hu
  · refine ⟨o3, o4, fun u hu => ?_, ⟨t2, fun v hv => ⟨(t3 v hv).1, Int.le_trans (t3 v hv).2 (i4.2 v hv).2⟩⟩, j1, o6, o7, o8⟩
    have := o5 u hu
    rw [if_pos (Nat.zero_le u)] at this
    exact this
/-- S is a best set of jobs of U for k tracks, by the gains g -/
def pz_Opt (s e g : Nat → Nat) (U k S : Nat) : Prop := S < 256 ∧ (∀ j, j < 8 → S.testBit j = true → U.testBit j = true) ∧ (∀ t, t < 16 → pz_cw s e S t 8 ≤ k) ∧
  ∀ S', (∀ j, j < 8 → S'.testBit j = true → U.testBit j = true) → (∀ t, t < 16 → pz_cw s e S' t 8 ≤ k) → pz_sg (fun j => (g j : Int)) S' ≤ pz_sg (fun j => (g j : Int)) S
theorem pz_cw_0 (s e : Nat → Nat) (t : Nat) : ∀ n, pz_cw s e 0 t n = 0
  | 0 => rfl
  | n + 1 => by
    show pz_cw s e 0 t n + (if (0 : Nat).testBit n = true ∧ s n ≤ t ∧ t < e n then 1 else 0) = 0
    rw [pz_cw_0 s e t n, if_neg (fun q => by rw [Nat.zero_testBit] at q; cases q.1)]
theorem pz_send {s e g : Nat → Nat} {ga : pz_F} {U : Nat} {wa : pz_F} (hU8 : U < 256) (hU : ∀ j, j < 8 → U.testBit j = true → s j < e j ∧ e j ≤ 16) (hg : ∀ j, j < 8 → g j ≤ 2097152) (hga : ∀ j, j < 8 → ga j = nI (g j)) (hwa : ∀ t, t < 16 → wa t = 0) (x : pz_RS) (k : Nat) (hk : k ≤ 10) :
    ∃ S, (pz_sd s e ga (nI U) (0, wa, x) k).1 = nI S ∧ pz_Opt s e g U k S := by
  have key : ∀ k, k ≤ 10 → ∃ (S : Nat) (wt : Nat → Nat) (f : Nat → Int), (pz_sd s e ga (nI U) (0, wa, x) k).1 = nI S ∧ (∀ t, t < 16 → (pz_sd s e ga (nI U) (0, wa, x) k).2.1 t = nI (wt t)) ∧ pz_FI s e g U k S wt f := by
    intro k
    induction k with
    | zero =>
      intro _
      refine ⟨0, fun _ => 0, fun t => 2097152 * (t : Int), rfl, fun t ht => ?_, ?_⟩
      · show wa t = nI 0
        rw [hwa t ht]
        rfl
      · refine ⟨by decide, fun j _ h => (by rw [Nat.zero_testBit] at h; cases h), fun t _ => ?_, ⟨rfl, fun v hv => ?_⟩, fun t _ => ?_, fun t _ h => absurd h (Nat.lt_irrefl 0), fun j _ h => (by rw [Nat.zero_testBit] at h; cases h), fun j hj hu _ => ?_⟩
        · show pz_cw s e 0 t 8 + 0 = 0
          rw [pz_cw_0]
        · show 0 ≤ 2097152 * (v : Int) ∧ 2097152 * (v : Int) ≤ 67108864
          omega
        · show 2097152 * (t : Int) ≤ 2097152 * ((t + 1 : Nat) : Int)
          omega
        · have h1 := hU j hj hu
          have h2 := hg j hj
          show (g j : Int) ≤ 2097152 * (e j : Int) - 2097152 * (s j : Int)
          omega
    | succ k ih =>
      intro hk1
      obtain ⟨S, wt, f, h1, h2, h3⟩ := ih (by omega)
      have hz : pz_sd s e ga (nI U) (0, wa, x) k = (nI S, (pz_sd s e ga (nI U) (0, wa, x) k).2.1, (pz_sd s e ga (nI U) (0, wa, x) k).2.2) := by
        rw [← h1]
      have := pz_unit hU8 hU (by omega) hg hga h3 h2 (pz_sd s e ga (nI U) (0, wa, x) k).2.2
      rw [← hz] at this
      exact this
  obtain ⟨S, wt, f, h1, h2, h3⟩ := key k hk
  obtain ⟨i1, i2, i3, i4, i5, i6, i7, i8⟩ := h3
  refine ⟨S, h1, i1, i2, fun t ht => by have := i3 t ht; omega, fun S' hs hc => ?_⟩
  exact pz_dual s e (fun j => (g j : Int)) f U S S' wt k (fun j hj hu => by have := hU j hj hu; omega) i5 i6 i3 i2 i7 i8 hs hc
end
section
/-! OWN ROWS: the world in one word, contracts' forms, calls, loops -/
abbrev y_cl : List vw_C := [(RX1, TX1, 13), (RX2, TX2, 6)]
def y_W (D : va_G) (A : Nat → Prop) (H0 : Heap) (ws : va_W) (H : Heap) (locs : List Loc) : Prop := va_P D y_cl ws H ∧ va_D A ws ∧ va_S A H0 H locs
def y_Pre (D : va_G) (tys : List (ClassId × FieldType)) (ws : va_W) (sz : Nat) (U : State) : Prop := U.heap.size = sz ∧ va_P D y_cl ws U.heap ∧ va_K D y_cl tys U ∧ va_D (fun _ => True) ws
def y_B (D : va_G) (tys : List (ClassId × FieldType)) (A : Nat → Prop) (u : va_W) (t : State) : Prop := va_P D y_cl u t.heap ∧ va_K D y_cl tys t ∧ va_D A u
abbrev y_rm (f lc : Nat) : Room := { frames := f, cells := 0, slots := 0, locals := lc }
/-- the contract of a method that answers an int (or a boolean) -/
def y_MI (l : Launch) (y : MethodName) (cc : ByteArray) (nL : Nat) (ty : FieldType) (rm : Room) (D : va_G) (tys : List (ClassId × FieldType)) (av : List Value) (ws : va_W) (post : Int32 → va_W → Prop) : Prop :=
  ∀ sz : Nat, Met l y (ws_ y cc nL (some ty)) rm (va_Pc av (y_Pre D tys ws sz)) (va_Qi post (y_B D tys (va_A ws sz)) (va_A ws sz)) 0 0 (va_A ws sz)
/-- the contract of a void method -/
def y_MV (l : Launch) (y : MethodName) (cc : ByteArray) (nL : Nat) (rm : Room) (D : va_G) (tys : List (ClassId × FieldType)) (av : List Value) (ws : va_W) (post : va_W → Prop) : Prop :=
  ∀ sz : Nat, Met l y (ws_ y cc nL none) rm (va_Pc av (y_Pre D tys ws sz)) (va_Qv post (y_B D tys (va_A ws sz)) (va_A ws sz)) 0 0 (va_A ws sz)
theorem y_blind {D : va_G} {tys : List (ClassId × FieldType)} {av : List Value} {ws : va_W} {sz : Nat} : FrameBlind (va_Pc av (y_Pre D tys ws sz)) := fun a U g mk q => by
  obtain ⟨q0, q1, qP, qK, qD⟩ := q
  exact ⟨q0, q1, qP, va_K.moved (u := U) (U := U.calling g mk a) (Vm.Alike.refl U.vm) qK, qD⟩
theorem y_startI {l : Launch} {y : MethodName} {cc : ByteArray} {nL : Nat} {ty : FieldType} {f lc : Nat} {D : va_G} {tys : List (ClassId × FieldType)} {av : List Value} {ws : va_W} {post : Int32 → va_W → Prop} (hy : plainName y.cls = true) (hlen : (lg_sl av).length ≤ nL)
    (body : ∀ (p : Program) (e : Env) (s : State) (m : MethodId) (below : List Frame) (meth : Method) (c : Code) (A : Nat → Prop) (ls : Array Slot), p.tables.exec = Jvm.exec → c.code = cc → meth.sig.returnType = some ty → c.maxLocals = nL → s.vm.findClass y.cls = some m.cls → (∀ w ∈ lw_all, w.before av.toArray s = true) → meth.locks = false → va_K D y_cl tys s → (∀ q : Nat, s.heap.size ≤ q → A q) → y_W D A s.heap ws s.heap [] → lv_has ls nL (lv_args 0 av) →
      W p l e (y_rm f lc) s m av.toArray below meth c s.heap [] 0 0 (MQ below (va_Qi post (y_B D tys A) A) av.toArray s 0 0 A) (F0 m 0 ls [])) : y_MI l y cc nL ty (y_rm f lc) D tys av ws post := by
  intro sz
  refine Met.ofW (cc := cc) (maxL := nL) (ret := some ty) hy rfl ?_
  intro p e s m args below meth c s₁ B hml hv
  obtain ⟨rfl, hsz, hP, hK, hD0⟩ := hv
  subst hsz
  have hts := atoms_spec (ws := ws_ y cc nL (some ty)) B.pre
  rw [lg_entry_eq]
  exact body p e s m below meth c (va_A ws s.heap.size) _ B.exec B.bytes B.returns hml (findClass_of_methodNamed B.named) (fun w h => hts w (List.mem_cons_of_mem _ h)) B.notSynchronized hK (fun q h => Or.inr h) ⟨hP, hD0.self, va_S.rf⟩ (lv_entry av hlen)
theorem y_startV {l : Launch} {y : MethodName} {cc : ByteArray} {nL : Nat} {f lc : Nat} {D : va_G} {tys : List (ClassId × FieldType)} {av : List Value} {ws : va_W} {post : va_W → Prop} (hy : plainName y.cls = true) (hlen : (lg_sl av).length ≤ nL)
    (body : ∀ (p : Program) (e : Env) (s : State) (m : MethodId) (below : List Frame) (meth : Method) (c : Code) (A : Nat → Prop) (ls : Array Slot), p.tables.exec = Jvm.exec → c.code = cc → meth.sig.returnType = none → c.maxLocals = nL → s.vm.findClass y.cls = some m.cls → (∀ w ∈ lw_all, w.before av.toArray s = true) → meth.locks = false → va_K D y_cl tys s → (∀ q : Nat, s.heap.size ≤ q → A q) → y_W D A s.heap ws s.heap [] → lv_has ls nL (lv_args 0 av) →
      W p l e (y_rm f lc) s m av.toArray below meth c s.heap [] 0 0 (MQ below (va_Qv post (y_B D tys A) A) av.toArray s 0 0 A) (F0 m 0 ls [])) : y_MV l y cc nL (y_rm f lc) D tys av ws post := by
  intro sz
  refine Met.ofW (cc := cc) (maxL := nL) (ret := none) hy rfl ?_
  intro p e s m args below meth c s₁ B hml hv
  obtain ⟨rfl, hsz, hP, hK, hD0⟩ := hv
  subst hsz
  have hts := atoms_spec (ws := ws_ y cc nL none) B.pre
  rw [lg_entry_eq]
  exact body p e s m below meth c (va_A ws s.heap.size) _ B.exec B.bytes B.returns hml (findClass_of_methodNamed B.named) (fun w h => hts w (List.mem_cons_of_mem _ h)) B.notSynchronized hK (fun q h => Or.inr h) ⟨hP, hD0.self, va_S.rf⟩ (lv_entry av hlen)
theorem y_sub {D : va_G} {ws wc : va_W} {H : Heap} (h : va_P D y_cl ws H) (is : List Nat) (hC : is.map (fun i => ws[i]?) = wc.map some) : va_P D y_cl wc H := by
  intro k q hk
  have h1 : (is.map (fun i => ws[i]?))[k]? = some (some q) := by rw [hC, List.getElem?_map, hk]; rfl
  rw [List.getElem?_map] at h1
  cases hi : is[k]? with
  | none => rw [hi] at h1; cases h1
  | some i => rw [hi] at h1; exact h i q (Option.some.inj h1)
theorem y_rng (ws : va_W) : (List.range ws.length).map (fun i => ws[i]?) = ws.map some := by
  apply List.ext_getElem?
  intro i
  rw [List.getElem?_map, List.getElem?_map]
  by_cases h : i < ws.length
  · rw [List.getElem?_range h, List.getElem?_eq_getElem h]
    show some ws[i]? = some (some ws[i])
    rw [List.getElem?_eq_getElem h]
  · rw [List.getElem?_eq_none (by rw [List.length_range]; omega), List.getElem?_eq_none (by omega)]
    rfl
section YR
variable {p : Program} {l : Launch} {e : Env} {R : Room} {s : State} {m : MethodId} {args : Array Value} {below : List Frame} {meth : Method} {c : Code} {H : Heap} {locs : List Loc} {cells slots : Nat} {Q : State → Prop}
variable {cc : ByteArray} {pc nL : Nat} {ls : Array Slot} {rest : List Value} {D : va_G} {A : Nat → Prop} {a : Nat} {tys : List (ClassId × FieldType)} {ws : va_W} {H0 : Heap}
theorem y_iret {ty : FieldType} {v : Int32} {post : Int32 → va_W → Prop} (hx : p.tables.exec = Jvm.exec) (hb : c.code = cc) (hr : meth.sig.returnType = some ty) (hlocks : meth.locks = false) (hK : va_K D y_cl tys s) (hw : y_W D A s.heap ws H locs) (hn : narrow ty (.int v) = .int v) (hp : post v ws) (hdg : decode cc pc = .ok (.ireturn, 1)) :
    W p l e R s m args below meth c H locs cells slots (MQ below (va_Qi post (y_B D tys A) A) args s cells slots A) (F0 m pc ls [.int v]) :=
  W.zret hx hb hr hn (fun t ht hW => ⟨⟨v, ws, rfl, hp, by rw [ht]; exact hw.1, va_K.moved hW.alike hK, hw.2.1⟩, hw.2.2.F ht⟩) hw.2.2.2.2 hdg hlocks
theorem y_vret {post : va_W → Prop} (hx : p.tables.exec = Jvm.exec) (hb : c.code = cc) (hr : meth.sig.returnType = none) (hlocks : meth.locks = false) (hK : va_K D y_cl tys s) (hw : y_W D A s.heap ws H locs) (hp : post ws) (hdg : decode cc pc = .ok (.return_, 1)) :
    W p l e R s m args below meth c H locs cells slots (MQ below (va_Qv post (y_B D tys A) A) args s cells slots A) (F0 m pc ls []) :=
  W.vret hx hb hr (fun t ht hW => ⟨⟨ws, rfl, hp, by rw [ht]; exact hw.1, va_K.moved hW.alike hK, hw.2.1⟩, hw.2.2.F ht⟩) hw.2.2.2.2 hdg hlocks
/-- a name for what stands on top -/
theorem y_top {x x' : Int32} (h : x = x') (k : W p l e R s m args below meth c H locs cells slots Q (F0 m pc ls (.int x' :: rest))) : W p l e R s m args below meth c H locs cells slots Q (F0 m pc ls (.int x :: rest)) := h ▸ k
variable {own C : String} {y : MethodName} {bytes : ByteArray} {maxL n index ci : Nat} {ty : FieldType} {rm : Room} {b : Nat} {As st0 : List Value} {q : vw_C} {fs : List Value}
theorem y_callI {tysC : List (ClassId × FieldType)} {wc wr : va_W} {post : Int32 → va_W → Prop} (S : CallFix p m c cc nL s args lw_all own) (hM : y_MI l y bytes maxL ty rm D tysC (.ref b :: As) wc post) (cw : CallW R s args own q.1 index y bytes maxL (some ty) (ws_ y bytes maxL (some ty)) rm 0 0 n)
    (hK : va_K D y_cl tysC s) (hw : y_W D A H0 ws H locs) (hA : ∀ z : Nat, H0.size ≤ z → A z) (isC isR : List Nat) (hC : isC.map (fun i => ws[i]?) = wc.map some) (hR : isR.map (fun i => ws[i]?) = wr.map some) (hnC : va_nd isC = true) (hnR : va_nd isR = true) (hdis : ∀ i ∈ isR, i ∉ isC)
    (he : wc[0]? = some (b, .inr (ci, fs))) (hc : y_cl[ci]? = some q) (hn : As.length = n) (hsize : ls.size = nL) (hstack : st0 = As.reverse ++ .ref b :: rest) (hcat : (rest.map fun v => v.category).sum ≤ 8) (hdg : decode cc pc = .ok (.invokevirtual index, 3)) (hcs : cells ≤ R.cells ∧ slots ≤ R.slots)
    (kk : ∀ (r : Int32) (u : va_W) (H1 : Heap) (locs1 : List Loc), post r u → y_W D A H0 (wr ++ u) H1 locs1 → W p l e R s m args below meth c H1 locs1 cells slots Q (F0 m (pc + 3) ls (.int r :: rest))) :
    W p l e R s m args below meth c H locs cells slots Q (F0 m pc ls st0) := by
  obtain ⟨hP, hD, hS⟩ := hw
  have hPc := y_sub hP isC hC
  have hDc := hD.sub isC hnC hC
  have hFc := va_free (wc := wc) hD hS hA isC hC
  refine va_calli (va_runV (As := As) (rest := rest) S (hM H.size) cw ⟨y_blind, va_recv hK hPc hc he, fun U hU hW => ⟨rfl, by rw [hU], by rw [hU]; exact hPc, va_K.moved hW.alike hK, hDc.weaken (fun _ _ _ _ => trivial)⟩⟩ rfl hn hsize hstack (lv_room hcat) hdg hcs) hS (fun z _ h => hFc z h) hFc (fun r u t H1 locs1 ht hvm hp hB hz1 hk1 hS1 => ?_)
  obtain ⟨hP1, hK1, hD1⟩ := hB
  rw [ht] at hP1
  obtain ⟨hP2, hD2⟩ := va_join hP hD isC isR hC hR hnR hdis hk1 hFc hP1 hD1
  exact kk r u H1 locs1 hp ⟨hP2, hD2, hS1⟩
/-- a call on the object itself, with its whole world -/
theorem y_selfI {post : Int32 → va_W → Prop} (S : CallFix p m c cc nL s args lw_all own) (hM : y_MI l y bytes maxL ty rm D tys (.ref b :: As) ws post) (cw : CallW R s args own q.1 index y bytes maxL (some ty) (ws_ y bytes maxL (some ty)) rm 0 0 n)
    (hK : va_K D y_cl tys s) (hw : y_W D A H0 ws H locs) (hA : ∀ z : Nat, H0.size ≤ z → A z)
    (he : ws[0]? = some (b, .inr (ci, fs))) (hc : y_cl[ci]? = some q) (hn : As.length = n) (hsize : ls.size = nL) (hstack : st0 = As.reverse ++ .ref b :: rest) (hcat : (rest.map fun v => v.category).sum ≤ 8) (hdg : decode cc pc = .ok (.invokevirtual index, 3)) (hcs : cells ≤ R.cells ∧ slots ≤ R.slots)
    (kk : ∀ (r : Int32) (u : va_W) (H1 : Heap) (locs1 : List Loc), post r u → y_W D A H0 u H1 locs1 → W p l e R s m args below meth c H1 locs1 cells slots Q (F0 m (pc + 3) ls (.int r :: rest))) :
    W p l e R s m args below meth c H locs cells slots Q (F0 m pc ls st0) := by
  obtain ⟨hP, hD, hS⟩ := hw
  have hFc := va_free (wc := ws) hD hS hA (List.range ws.length) (y_rng ws)
  refine va_calli (va_runV (As := As) (rest := rest) S (hM H.size) cw ⟨y_blind, va_recv hK hP hc he, fun U hU hW => ⟨rfl, by rw [hU], by rw [hU]; exact hP, va_K.moved hW.alike hK, hD.weaken (fun _ _ _ _ => trivial)⟩⟩ rfl hn hsize hstack (lv_room hcat) hdg hcs) hS (fun z _ h => hFc z h) hFc (fun r u t H1 locs1 ht hvm hp hB hz1 hk1 hS1 => ?_)
  obtain ⟨hP1, hK1, hD1⟩ := hB
  rw [ht] at hP1
  exact kk r u H1 locs1 hp ⟨hP1, hD1.weaken (fun _ z _ h => hFc z.1 h), hS1⟩
theorem y_selfV {post : va_W → Prop} (S : CallFix p m c cc nL s args lw_all own) (hM : y_MV l y bytes maxL rm D tys (.ref b :: As) ws post) (cw : CallW R s args own q.1 index y bytes maxL none (ws_ y bytes maxL none) rm 0 0 n)
    (hK : va_K D y_cl tys s) (hw : y_W D A H0 ws H locs) (hA : ∀ z : Nat, H0.size ≤ z → A z)
    (he : ws[0]? = some (b, .inr (ci, fs))) (hc : y_cl[ci]? = some q) (hn : As.length = n) (hsize : ls.size = nL) (hstack : st0 = As.reverse ++ .ref b :: rest) (hcat : (rest.map fun v => v.category).sum ≤ 8) (hdg : decode cc pc = .ok (.invokevirtual index, 3)) (hcs : cells ≤ R.cells ∧ slots ≤ R.slots)
    (kk : ∀ (u : va_W) (H1 : Heap) (locs1 : List Loc), post u → y_W D A H0 u H1 locs1 → W p l e R s m args below meth c H1 locs1 cells slots Q (F0 m (pc + 3) ls rest)) :
    W p l e R s m args below meth c H locs cells slots Q (F0 m pc ls st0) := by
  obtain ⟨hP, hD, hS⟩ := hw
  have hFc := va_free (wc := ws) hD hS hA (List.range ws.length) (y_rng ws)
  refine va_callv (va_runV (As := As) (rest := rest) S (hM H.size) cw ⟨y_blind, va_recv hK hP hc he, fun U hU hW => ⟨rfl, by rw [hU], by rw [hU]; exact hP, va_K.moved hW.alike hK, hD.weaken (fun _ _ _ _ => trivial)⟩⟩ rfl hn hsize hstack (lv_room hcat) hdg hcs) hS (fun z _ h => hFc z h) hFc (fun u t H1 locs1 ht hvm hp hB hz1 hk1 hS1 => ?_)
  obtain ⟨hP1, hK1, hD1⟩ := hB
  rw [ht] at hP1
  exact kk u H1 locs1 hp ⟨hP1, hD1.weaken (fun _ z _ h => hFc z.1 h), hS1⟩
/-- a static call that touches no cell -/
theorem y_statI {post : Int32 → va_W → Prop} {tysC : List (ClassId × FieldType)} (S : CallFix p m c cc nL s args lw_all own) (hM : y_MI l y bytes maxL ty rm D tysC As [] post) (cw : CallB R s args own index y bytes maxL (some ty) (ws_ y bytes maxL (some ty)) rm 0 0 n ∧ (Cond.static y).before args s = true)
    (hK : va_K D y_cl tysC s) (hw : y_W D A H0 ws H locs) (hA : ∀ z : Nat, H0.size ≤ z → A z) (hn : As.length = n) (hsize : ls.size = nL) (hstack : st0 = As.reverse ++ rest) (hcat : (rest.map fun v => v.category).sum ≤ 8) (hdg : decode cc pc = .ok (.invokestatic index, 3)) (hcs : cells ≤ R.cells ∧ slots ≤ R.slots)
    (kk : ∀ (r : Int32) (u : va_W) (H1 : Heap) (locs1 : List Loc), post r u → y_W D A H0 ws H1 locs1 → W p l e R s m args below meth c H1 locs1 cells slots Q (F0 m (pc + 3) ls (.int r :: rest))) :
    W p l e R s m args below meth c H locs cells slots Q (F0 m pc ls st0) := by
  obtain ⟨hP, hD, hS⟩ := hw
  have hFc := va_free (wc := []) hD hS hA [] rfl
  have hP0 : va_P D y_cl [] H := fun k z hk => by cases hk
  have hD0 : va_D (fun _ => True) [] := ⟨fun _ _ _ _ h => (by cases h), fun _ _ h => (by cases h)⟩
  refine va_calli (va_runS (As := As) (rest := rest) S (hM H.size) cw ⟨y_blind, fun U hU hW => ⟨rfl, by rw [hU], by rw [hU]; exact hP0, va_K.moved hW.alike hK, hD0⟩⟩ rfl hn hsize hstack (lv_room hcat) hdg hcs) hS (fun z _ h => hFc z h) hFc (fun r u t H1 locs1 ht hvm hp hB hz1 hk1 hS1 => ?_)
  refine kk r u H1 locs1 hp ⟨hP.kept (fun k z hk => hk1 z.1 (hP k z hk).lt (fun h => ?_)), hD, hS1⟩
  rcases h with ⟨k2, e2, h⟩ | h
  · cases h
  · have := (hP k z hk).lt
    omega
/-- a loop that counts -/
theorem y_for (hd nL N j0 : Nat) (wsF : Nat → va_W) (lvF : Nat → List (Nat × Value)) (I : Nat → Prop) (hj : j0 ≤ N) (hI : I j0) (hw : y_W D A H0 (wsF j0) H locs) (hl : lv_has ls nL (lvF j0))
    (body : ∀ (j : Nat), j < N → I j → ∀ (H : Heap) (locs : List Loc) (ls : Array Slot), y_W D A H0 (wsF j) H locs → lv_has ls nL (lvF j) → (I (j + 1) → ∀ (H : Heap) (locs : List Loc) (ls : Array Slot), y_W D A H0 (wsF (j + 1)) H locs → lv_has ls nL (lvF (j + 1)) → W p l e R s m args below meth c H locs cells slots Q (F0 m hd ls [])) → W p l e R s m args below meth c H locs cells slots Q (F0 m hd ls []))
    (exit : I N → ∀ (H : Heap) (locs : List Loc) (ls : Array Slot), y_W D A H0 (wsF N) H locs → lv_has ls nL (lvF N) → W p l e R s m args below meth c H locs cells slots Q (F0 m hd ls [])) : W p l e R s m args below meth c H locs cells slots Q (F0 m hd ls []) := by
  have key : ∀ (k j : Nat), j + k = N → I j → ∀ (H : Heap) (locs : List Loc) (ls : Array Slot), y_W D A H0 (wsF j) H locs → lv_has ls nL (lvF j) → W p l e R s m args below meth c H locs cells slots Q (F0 m hd ls []) := by
    intro k
    induction k with
    | zero =>
      intro j hjk hI H locs ls hw hl
      have : j = N := by omega
      subst this
      exact exit hI H locs ls hw hl
    | succ k ih =>
      intro j hjk hI H locs ls hw hl
      exact body j (by omega) hI H locs ls hw hl (fun hI' H locs ls hw hl => ih (j + 1) (by omega) hI' H locs ls hw hl)
  exact key (N - j0) j0 (by omega) hI H locs ls hw hl
end YR
section YF
variable {p : Program} {l : Launch} {e : Env} {R : Room} {s : State} {m : MethodId} {args : Array Value} {below : List Frame} {meth : Method} {c : Code} {H : Heap} {locs : List Loc} {cells slots : Nat} {Q : State → Prop}
variable {cc : ByteArray} {pc : Nat} {ls : Array Slot} {rest : List Value} {D : va_G} {A : Nat → Prop} {a : Nat} {tys : List (ClassId × FieldType)} {ws ws' : va_W} {H0 : Heap} {index : Nat} {fs : List Value} {v : Value}
theorem x_get (hx : p.tables.exec = Jvm.exec) (hb : c.code = cc) (hts : ∀ w ∈ lw_all, w.before args s = true) (hown : s.vm.findClass RX1 = some m.cls) (hK : va_K D y_cl tys s) (hw : y_W D A H0 ws H locs) (he : ws[0]? = some (a, .inr (0, fs))) (k : Nat) (hk : k < 13) (hlink : Cond.fieldLink RX1 index (TX1 k).1 (TX1 k).2.1 (TX1 k).2.2.1 ∈ lw_all) (hv : fs[k]? = some v) (hdg : decode cc pc = .ok (.getfield index, 3))
    (kk : W p l e R s m args below meth c H locs cells slots Q (F0 m (pc + 3) ls (v :: rest))) : W p l e R s m args below meth c H locs cells slots Q (F0 m pc ls (.ref a :: rest)) :=
  va_get (D := D) (ci := 0) (C := RX1) (T := TX1) (N := 13) hx hb hts in_X1 hown hK hw.1 0 he rfl k hk (hts _ hlink) (fun _ h => h) hv hdg kk
theorem m_get (hx : p.tables.exec = Jvm.exec) (hb : c.code = cc) (hts : ∀ w ∈ lw_all, w.before args s = true) (hown : s.vm.findClass RX2 = some m.cls) (hK : va_K D y_cl tys s) (hw : y_W D A H0 ws H locs) (he : ws[0]? = some (a, .inr (1, fs))) (k : Nat) (hk : k < 6) (hlink : Cond.fieldLink RX2 index (TX2 k).1 (TX2 k).2.1 (TX2 k).2.2.1 ∈ lw_all) (hv : fs[k]? = some v) (hdg : decode cc pc = .ok (.getfield index, 3))
    (kk : W p l e R s m args below meth c H locs cells slots Q (F0 m (pc + 3) ls (v :: rest))) : W p l e R s m args below meth c H locs cells slots Q (F0 m pc ls (.ref a :: rest)) :=
  va_get (D := D) (ci := 1) (C := RX2) (T := TX2) (N := 6) hx hb hts in_X2 hown hK hw.1 0 he rfl k hk (hts _ hlink) (fun _ h => h) hv hdg kk
theorem x_put {ty : FieldType} (hx : p.tables.exec = Jvm.exec) (hb : c.code = cc) (hts : ∀ w ∈ lw_all, w.before args s = true) (hown : s.vm.findClass RX1 = some m.cls) (hK : va_K D y_cl tys s) (hw : y_W D A H0 ws H locs) (he : ws[0]? = some (a, .inr (0, fs))) (k : Nat) (hk : k < 13) (hlink : Cond.fieldLink RX1 index (TX1 k).1 (TX1 k).2.1 (TX1 k).2.2.1 ∈ lw_all) (hfin : (TX1 k).2.2.2 = false) (hd : parseFieldDescriptor (TX1 k).2.2.1 = some ty) (hn : narrow ty v = v) (hfit : fits ty v = true) (hl : k < fs.length) (hws : ws.set 0 (a, .inr (0, fs.set k v)) = ws') (hdg : decode cc pc = .ok (.putfield index, 3))
    (kk : ∀ (H1 : Heap) (locs1 : List Loc), y_W D A H0 ws' H1 locs1 → W p l e R s m args below meth c H1 locs1 cells slots Q (F0 m (pc + 3) ls rest)) : W p l e R s m args below meth c H locs cells slots Q (F0 m pc ls (v :: .ref a :: rest)) := by
  subst hws
  exact va_put (D := D) (ci := 0) (C := RX1) (T := TX1) (N := 13) hx hb hts in_X1 tyX1 tyX1_ok nmX1 hown hK hw.1 hw.2.1 hw.2.2 0 he rfl k hk (hts _ hlink) (fun _ h => h) hfin hd hn hfit hl hdg (fun H1 l1 h1 h2 h3 => kk H1 l1 ⟨h1, h2, h3⟩)
theorem m_put {ty : FieldType} (hx : p.tables.exec = Jvm.exec) (hb : c.code = cc) (hts : ∀ w ∈ lw_all, w.before args s = true) (hown : s.vm.findClass RX2 = some m.cls) (hK : va_K D y_cl tys s) (hw : y_W D A H0 ws H locs) (he : ws[0]? = some (a, .inr (1, fs))) (k : Nat) (hk : k < 6) (hlink : Cond.fieldLink RX2 index (TX2 k).1 (TX2 k).2.1 (TX2 k).2.2.1 ∈ lw_all) (hfin : (TX2 k).2.2.2 = false) (hd : parseFieldDescriptor (TX2 k).2.2.1 = some ty) (hn : narrow ty v = v) (hfit : fits ty v = true) (hl : k < fs.length) (hws : ws.set 0 (a, .inr (1, fs.set k v)) = ws') (hdg : decode cc pc = .ok (.putfield index, 3))
    (kk : ∀ (H1 : Heap) (locs1 : List Loc), y_W D A H0 ws' H1 locs1 → W p l e R s m args below meth c H1 locs1 cells slots Q (F0 m (pc + 3) ls rest)) : W p l e R s m args below meth c H locs cells slots Q (F0 m pc ls (v :: .ref a :: rest)) := by
  subst hws
  exact va_put (D := D) (ci := 1) (C := RX2) (T := TX2) (N := 6) hx hb hts in_X2 tyX2 tyX2_ok nmX2 hown hK hw.1 hw.2.1 hw.2.2 0 he rfl k hk (hts _ hlink) (fun _ h => h) hfin hd hn hfit hl hdg (fun H1 l1 h1 h2 h3 => kk H1 l1 ⟨h1, h2, h3⟩)
variable {cA : ClassId} {n : Nat} {f : Nat → Int32} {i x x' : Int32}
theorem y_iald (hx : p.tables.exec = Jvm.exec) (hb : c.code = cc) (hK : va_K D y_cl tys s) (hw : y_W D A H0 ws H locs) (q0 t0 k : Nat) (ha : ws[q0]? = some (a, .inl (cA, n, .inl f))) (ht : tys[t0]? = some (cA, .int)) (hi : i = nI k) (hk : k < n) (hn : n < 2 ^ 31) (hdg : decode cc pc = .ok (.iaload, 1))
    (kk : W p l e R s m args below meth c H locs cells slots Q (F0 m (pc + 1) ls (.int (f k) :: rest))) : W p l e R s m args below meth c H locs cells slots Q (F0 m pc ls (.int i :: .ref a :: rest)) := by
  subst hi
  refine va_iald hx hb hK hw.1 q0 t0 ha ht (vp_in_nI hk hn) hdg ?_
  rw [nI_clamp (by omega)]
  exact kk
theorem y_bald (hx : p.tables.exec = Jvm.exec) (hb : c.code = cc) (hK : va_K D y_cl tys s) (hw : y_W D A H0 ws H locs) (q0 t0 k : Nat) (ha : ws[q0]? = some (a, .inl (cA, n, .inl f))) (ht : tys[t0]? = some (cA, .byte)) (hi : i = nI k) (hk : k < n) (hn : n < 2 ^ 31) (hdg : decode cc pc = .ok (.baload, 1))
    (kk : W p l e R s m args below meth c H locs cells slots Q (F0 m (pc + 1) ls (.int (f k) :: rest))) : W p l e R s m args below meth c H locs cells slots Q (F0 m pc ls (.int i :: .ref a :: rest)) := by
  subst hi
  refine va_bald hx hb hK hw.1 q0 t0 ha ht (vp_in_nI hk hn) hdg ?_
  rw [nI_clamp (by omega)]
  exact kk
theorem y_zald (hx : p.tables.exec = Jvm.exec) (hb : c.code = cc) (hK : va_K D y_cl tys s) (hw : y_W D A H0 ws H locs) (q0 t0 k : Nat) (ha : ws[q0]? = some (a, .inl (cA, n, .inl f))) (ht : tys[t0]? = some (cA, .boolean)) (hi : i = nI k) (hk : k < n) (hn : n < 2 ^ 31) (hdg : decode cc pc = .ok (.baload, 1))
    (kk : W p l e R s m args below meth c H locs cells slots Q (F0 m (pc + 1) ls (.int (f k) :: rest))) : W p l e R s m args below meth c H locs cells slots Q (F0 m pc ls (.int i :: .ref a :: rest)) := by
  subst hi
  refine va_zald hx hb hK hw.1 q0 t0 ha ht (vp_in_nI hk hn) hdg ?_
  rw [nI_clamp (by omega)]
  exact kk
theorem y_iast (hx : p.tables.exec = Jvm.exec) (hb : c.code = cc) (hK : va_K D y_cl tys s) (hw : y_W D A H0 ws H locs) (q0 t0 k : Nat) (ha : ws[q0]? = some (a, .inl (cA, n, .inl f))) (ht : tys[t0]? = some (cA, .int)) (hi : i = nI k) (hk : k < n) (hn : n < 2 ^ 31) (hws : ws.set q0 (a, .inl (cA, n, .inl (upd f k x))) = ws') (hdg : decode cc pc = .ok (.iastore, 1))
    (kk : ∀ (H1 : Heap) (locs1 : List Loc), y_W D A H0 ws' H1 locs1 → W p l e R s m args below meth c H1 locs1 cells slots Q (F0 m (pc + 1) ls rest)) : W p l e R s m args below meth c H locs cells slots Q (F0 m pc ls (.int x :: .int i :: .ref a :: rest)) := by
  subst hi
  subst hws
  refine va_iast hx hb hK hw.1 hw.2.1 hw.2.2 q0 t0 ha ht (vp_in_nI hk hn) hdg ?_
  rw [nI_clamp (by omega)]
  exact fun H1 l1 h1 h2 h3 => kk H1 l1 ⟨h1, h2, h3⟩
theorem y_bast (hx : p.tables.exec = Jvm.exec) (hb : c.code = cc) (hK : va_K D y_cl tys s) (hw : y_W D A H0 ws H locs) (q0 t0 k : Nat) (ha : ws[q0]? = some (a, .inl (cA, n, .inl f))) (ht : tys[t0]? = some (cA, .byte)) (hi : i = nI k) (hk : k < n) (hn : n < 2 ^ 31) (hx8 : vp_nar .byte x = x') (hws : ws.set q0 (a, .inl (cA, n, .inl (upd f k x'))) = ws') (hdg : decode cc pc = .ok (.bastore, 1))
    (kk : ∀ (H1 : Heap) (locs1 : List Loc), y_W D A H0 ws' H1 locs1 → W p l e R s m args below meth c H1 locs1 cells slots Q (F0 m (pc + 1) ls rest)) : W p l e R s m args below meth c H locs cells slots Q (F0 m pc ls (.int x :: .int i :: .ref a :: rest)) := by
  subst hi
  subst hws
  subst hx8
  refine va_bast hx hb hK hw.1 hw.2.1 hw.2.2 q0 t0 ha ht (vp_in_nI hk hn) hdg ?_
  rw [nI_clamp (by omega)]
  exact fun H1 l1 h1 h2 h3 => kk H1 l1 ⟨h1, h2, h3⟩
theorem y_zast (hx : p.tables.exec = Jvm.exec) (hb : c.code = cc) (hK : va_K D y_cl tys s) (hw : y_W D A H0 ws H locs) (q0 t0 k : Nat) (ha : ws[q0]? = some (a, .inl (cA, n, .inl f))) (ht : tys[t0]? = some (cA, .boolean)) (hi : i = nI k) (hk : k < n) (hn : n < 2 ^ 31) (hx8 : vp_nar .boolean x = x') (hws : ws.set q0 (a, .inl (cA, n, .inl (upd f k x'))) = ws') (hdg : decode cc pc = .ok (.bastore, 1))
    (kk : ∀ (H1 : Heap) (locs1 : List Loc), y_W D A H0 ws' H1 locs1 → W p l e R s m args below meth c H1 locs1 cells slots Q (F0 m (pc + 1) ls rest)) : W p l e R s m args below meth c H locs cells slots Q (F0 m pc ls (.int x :: .int i :: .ref a :: rest)) := by
  subst hi
  subst hws
  subst hx8
  refine va_zast hx hb hK hw.1 hw.2.1 hw.2.2 q0 t0 ha ht (vp_in_nI hk hn) hdg ?_
  rw [nI_clamp (by omega)]
  exact fun H1 l1 h1 h2 h3 => kk H1 l1 ⟨h1, h2, h3⟩
end YF
/-- TrackMarket's world: the object (place 0) and its seven arrays -/
def xW (ad : Nat → Nat) (cd : Nat → ClassId) (tc pr us ud kn ch : Int32) (js je jw : Nat → Nat) (ga wa re sp : pz_F) : va_W :=
  [(ad 0, .inr (0, [.int tc, .int pr, .ref (ad 1), .ref (ad 2), .ref (ad 3), .ref (ad 4), .int us, .int ud, .ref (ad 5), .ref (ad 6), .ref (ad 7), .int kn, .int ch])),
   (ad 1, .inl (cd 1, 8, .inl (fun j => nI (js j)))), (ad 2, .inl (cd 2, 8, .inl (fun j => nI (je j)))), (ad 3, .inl (cd 3, 8, .inl (fun j => nI (jw j)))), (ad 4, .inl (cd 4, 8, .inl ga)),
   (ad 5, .inl (cd 5, 16, .inl wa)), (ad 6, .inl (cd 6, 17, .inl re)), (ad 7, .inl (cd 7, 17, .inl sp))]
def xT (cd : Nat → ClassId) : List (ClassId × FieldType) := [(cd 1, .byte), (cd 2, .byte), (cd 3, .byte), (cd 4, .int), (cd 5, .byte), (cd 6, .int), (cd 7, .byte)]
/-- TrackMarketModel's world -/
def mW (ad : Nat → Nat) (cd : Nat → ClassId) (ln : Int32) (th : pz_F) (js je jw : Nat → Nat) (ld : pz_F) : va_W :=
  [(ad 0, .inr (1, [.int ln, .ref (ad 1), .ref (ad 2), .ref (ad 3), .ref (ad 4), .ref (ad 5)])),
   (ad 1, .inl (cd 1, 8, .inl th)), (ad 2, .inl (cd 2, 8, .inl (fun j => nI (js j)))), (ad 3, .inl (cd 3, 8, .inl (fun j => nI (je j)))), (ad 4, .inl (cd 4, 8, .inl (fun j => nI (jw j)))), (ad 5, .inl (cd 5, 256, .inl ld))]
def mT (cd : Nat → ClassId) : List (ClassId × FieldType) := [(cd 1, .boolean), (cd 2, .int), (cd 3, .int), (cd 4, .int), (cd 5, .int)]
theorem y_upn (f : Nat → Nat) (k a : Nat) : upd (fun j => nI (f j)) k (nI a) = fun j => nI (va_up f k a j) := by
  funext j
  unfold upd va_up
  split <;> rfl
theorem y_ge {a b : Nat} (h : a < b) (hb : b < 2 ^ 31 := by decide) : ¬ nI b ≤ nI a := nI_ge h hb
theorem y_le {a : Nat} : nI a ≤ nI a := Int32.le_refl _
end
section
/-! small laws for the walks of TrackMarket's leaves -/
/-- every job's numbers are small -/
def pz_JB (js je jw : Nat → Nat) : Prop := ∀ j, j < 8 → js j ≤ 16 ∧ je j ≤ 16 ∧ jw j ≤ 20
def pz_has (P : Nat) (j : Int32) : Int32 := if 0 ≤ j ∧ j < 8 ∧ P.testBit j.toNatClampNeg = true then 1 else 0
theorem pz_ix8 {j : Int32} (h0 : ¬ j < 0) (h8 : ¬ 8 ≤ j) : ∃ k, k < 8 ∧ j = nI k := by
  rcases pk_ix j (n := 8) (by decide) with h | h | h
  · exact absurd h h0
  · exact absurd h h8
  · exact h
theorem pz_has_lt {P : Nat} {j : Int32} (h : j < 0) : 0 = pz_has P j := by
  unfold pz_has
  rw [if_neg]
  intro q
  exact absurd q.1 (Int32.not_le.mpr h)
theorem pz_has_ge {P : Nat} {j : Int32} (h : 8 ≤ j) : 0 = pz_has P j := by
  unfold pz_has
  rw [if_neg]
  intro q
  exact absurd q.2.1 (Int32.not_lt.mpr h)
theorem pz_has_nI {P k : Nat} (hk : k < 8) : pz_has P (nI k) = if P.testBit k = true then 1 else 0 := by
  unfold pz_has
  rw [nI_clamp (by omega)]
  have h1 : 0 ≤ nI k := nI_pos' (by omega)
  have h2 : nI k < 8 := nI_lt (b := 8) hk (by decide)
  by_cases h : P.testBit k = true
  · rw [if_pos ⟨h1, h2, h⟩, if_pos h]
  · rw [if_neg (fun q => h q.2.2), if_neg h]
theorem pz_bit1 {S j : Nat} (hS : S < 256) (hj : j < 8) (h : ¬ (nI S >>> (nI j &&& 31)) &&& 1 = 0) : S.testBit j = true := by
  rw [pz_bit S hS j hj] at h
  simpa using h
theorem pz_bit0 {S j : Nat} (hS : S < 256) (hj : j < 8) (h : (nI S >>> (nI j &&& 31)) &&& 1 = 0) : S.testBit j = false := (pz_bit S hS j hj).mp h
/-- a job's worth with its mark -/
def pz_mw (jw : Nat → Nat) (j : Nat) : Nat := jw j * 256 + 2 ^ (7 - j)
theorem pz_mw1 : ∀ j, j < 8 → (1 : Int32) <<< ((7 - nI j) &&& 31) = nI (2 ^ (7 - j)) := by decide +kernel
theorem pz_mw_eq {jw : Nat → Nat} {j : Nat} (hj : j < 8) : nI (jw j) * 256 + (1 : Int32) <<< ((7 - nI j) &&& 31) = nI (pz_mw jw j) := by
  rw [pz_mw1 j hj, show (256 : Int32) = nI 256 from rfl, pk_mul, nI_add]
  rfl
/-- the sum of the marked worths of a set's first n jobs -/
def pz_ms (jw : Nat → Nat) (S : Nat) : Nat → Nat
  | 0 => 0
  | j + 1 => pz_ms jw S j + (if S.testBit j = true then pz_mw jw j else 0)
theorem pz_ms_f {jw : Nat → Nat} {S j : Nat} (h : S.testBit j = false) : nI (pz_ms jw S j) = nI (pz_ms jw S (j + 1)) := by
  show nI (pz_ms jw S j) = nI (pz_ms jw S j + (if S.testBit j = true then pz_mw jw j else 0))
  rw [h, if_neg (by decide)]
  rfl
theorem pz_ms_t {jw : Nat → Nat} {S j : Nat} (h : S.testBit j = true) : nI (pz_ms jw S j) + nI (pz_mw jw j) = nI (pz_ms jw S (j + 1)) := by
  show nI (pz_ms jw S j) + nI (pz_mw jw j) = nI (pz_ms jw S j + (if S.testBit j = true then pz_mw jw j else 0))
  rw [h, if_pos rfl, nI_add]
theorem pz_cw_t {js je : Nat → Nat} {S T j : Nat} (hb : S.testBit j = true) (h1 : ¬ nI T < nI (js j)) (h2 : ¬ nI (je j) ≤ nI T) (hT : T < 2 ^ 31) (hs : js j < 2 ^ 31) (he : je j < 2 ^ 31) : nI (pz_cw js je S T j) + 1 = nI (pz_cw js je S T (j + 1)) := by
  show nI (pz_cw js je S T j) + 1 = nI (pz_cw js je S T j + (if S.testBit j = true ∧ js j ≤ T ∧ T < je j then 1 else 0))
  rw [nI_ltI hT hs] at h1
  rw [nI_leI he hT] at h2
  rw [if_pos ⟨hb, by omega, by omega⟩]
  exact nI_1 _
theorem pz_cw_f1 {js je : Nat → Nat} {S T j : Nat} (hb : S.testBit j = false) : nI (pz_cw js je S T j) = nI (pz_cw js je S T (j + 1)) := by
  show nI (pz_cw js je S T j) = nI (pz_cw js je S T j + (if S.testBit j = true ∧ js j ≤ T ∧ T < je j then 1 else 0))
  rw [if_neg (fun q => by rw [hb] at q; cases q.1)]
  rfl
theorem pz_cw_f2 {js je : Nat → Nat} {S T j : Nat} (h1 : nI T < nI (js j)) (hT : T < 2 ^ 31) (hs : js j < 2 ^ 31) : nI (pz_cw js je S T j) = nI (pz_cw js je S T (j + 1)) := by
  show nI (pz_cw js je S T j) = nI (pz_cw js je S T j + (if S.testBit j = true ∧ js j ≤ T ∧ T < je j then 1 else 0))
  rw [nI_ltI hT hs] at h1
  rw [if_neg (fun q => by omega)]
  rfl
theorem pz_cw_f3 {js je : Nat → Nat} {S T j : Nat} (h1 : nI (je j) ≤ nI T) (hT : T < 2 ^ 31) (hs : je j < 2 ^ 31) : nI (pz_cw js je S T j) = nI (pz_cw js je S T (j + 1)) := by
  show nI (pz_cw js je S T j) = nI (pz_cw js je S T j + (if S.testBit j = true ∧ js j ≤ T ∧ T < je j then 1 else 0))
  rw [nI_leI hs hT] at h1
  rw [if_neg (fun q => by omega)]
  rfl
/-- the greatest crowd of a set over the first n times -/
def pz_gc (js je : Nat → Nat) (S : Nat) : Nat → Nat
  | 0 => 0
  | t + 1 => if pz_cw js je S t 8 ≤ pz_gc js je S t then pz_gc js je S t else pz_cw js je S t 8
theorem pz_gc_le (js je : Nat → Nat) (S : Nat) : ∀ n, pz_gc js je S n ≤ 8
  | 0 => Nat.zero_le _
  | n + 1 => by
    show (if pz_cw js je S n 8 ≤ pz_gc js je S n then pz_gc js je S n else pz_cw js je S n 8) ≤ 8
    split
    · exact pz_gc_le js je S n
    · exact pz_cw_le js je S n 8
theorem pz_gc_t {js je : Nat → Nat} {S t : Nat} (h : nI (pz_cw js je S t 8) ≤ nI (pz_gc js je S t)) : nI (pz_gc js je S t) = nI (pz_gc js je S (t + 1)) := by
  have h1 := pz_cw_le js je S t 8
  have h2 := pz_gc_le js je S t
  rw [nI_leI (by omega) (by omega)] at h
  show _ = nI (if pz_cw js je S t 8 ≤ pz_gc js je S t then pz_gc js je S t else pz_cw js je S t 8)
  rw [if_pos h]
theorem pz_gc_f {js je : Nat → Nat} {S t : Nat} (h : ¬ nI (pz_cw js je S t 8) ≤ nI (pz_gc js je S t)) : nI (pz_cw js je S t 8) = nI (pz_gc js je S (t + 1)) := by
  have h1 := pz_cw_le js je S t 8
  have h2 := pz_gc_le js je S t
  rw [nI_leI (by omega) (by omega)] at h
  show _ = nI (if pz_cw js je S t 8 ≤ pz_gc js je S t then pz_gc js je S t else pz_cw js je S t 8)
  rw [if_neg h]
theorem pz_imp_no {x : pz_RS} {u v : Nat} {g b : Int32} (h : x.1 u ≤ pz_FAR ∨ x.1 u + g ≤ x.1 v) : pz_imp x u v g b = x := if_pos h
theorem pz_imp_yes {x : pz_RS} {u v : Nat} {g b : Int32} (h : ¬ x.1 u ≤ pz_FAR) (h2 : ¬ x.1 u + g ≤ x.1 v) : pz_imp x u v g b = (upd x.1 v (x.1 u + g), upd x.2 v b) := if_neg (fun q => q.elim h h2)
theorem pz_nb {b : Int32} (h : b.toInt8.toInt32 = b) : vp_nar .byte b = b := by
  rw [vp_nar_byte]
  exact h
theorem pz_ij_0 {s e : Nat → Nat} {ga : pz_F} {us ud : Int32} {x : pz_RS} {j : Nat} (h1 : (ud >>> (nI j &&& 31)) &&& 1 = 0) (h2 : (us >>> (nI j &&& 31)) &&& 1 = 0) : pz_ij s e ga us ud x j = x := by
  unfold pz_ij
  rw [if_pos h1, if_pos h2]
theorem pz_ij_1 {s e : Nat → Nat} {ga : pz_F} {us ud : Int32} {x : pz_RS} {j : Nat} (h1 : (ud >>> (nI j &&& 31)) &&& 1 = 0) (h2 : ¬ (us >>> (nI j &&& 31)) &&& 1 = 0) : pz_ij s e ga us ud x j = pz_imp x (s j) (e j) (ga j) (nI j) := by
  unfold pz_ij
  rw [if_pos h1, if_neg h2]
theorem pz_ij_2 {s e : Nat → Nat} {ga : pz_F} {us ud : Int32} {x : pz_RS} {j : Nat} (h1 : ¬ (ud >>> (nI j &&& 31)) &&& 1 = 0) : pz_ij s e ga us ud x j = pz_imp x (e j) (s j) (-(ga j)) (8 + nI j) := by
  unfold pz_ij
  rw [if_neg h1]
theorem pz_iw_0 {wa : pz_F} {x : pz_RS} {t : Nat} (h : wa t ≤ 0) : pz_imp x t (t + 1) 0 16 = pz_iw wa x t := by
  unfold pz_iw
  rw [if_pos h]
theorem pz_iw_1 {wa : pz_F} {x : pz_RS} {t : Nat} (h : ¬ wa t ≤ 0) : pz_imp (pz_imp x t (t + 1) 0 16) (t + 1) t 0 17 = pz_iw wa x t := by
  unfold pz_iw
  rw [if_neg h]
theorem pz_by8 : ∀ j, j < 8 → (nI j).toInt8.toInt32 = nI j ∧ (8 + nI j).toInt8.toInt32 = 8 + nI j := by decide +kernel
theorem pz_m1 {t : Nat} (h : t ≠ 0) : nI t - 1 = nI (t - 1) := by
  have := nI_pred (t - 1)
  rw [show t - 1 + 1 = t by omega] at this
  exact this
theorem pz_m1' {t : Nat} (h : t ≠ 0) : nI t + Int32.ofInt (-1) = nI (t - 1) := sb_m1 (by omega)
theorem pz_fo_fin {s e : Nat → Nat} {sp : pz_F} {y : Nat × Int32 × pz_F} {k : Nat} (hk : k < 64) (h : (pz_fo s e sp y k).1 = 0 ∨ pz_fo1 s e sp (pz_fo s e sp y k) = pz_fo s e sp y k) : pz_fo s e sp y 64 = pz_fo s e sp y k := by
  have := pz_fo_stay s e sp y k h (64 - k)
  rw [show k + (64 - k) = 64 by omega] at this
  exact this
theorem pz_fo_next {s e : Nat → Nat} {sp : pz_F} {y : Nat × Int32 × pz_F} {k t : Nat} {ud : Int32} {wa : pz_F} (hY : pz_fo s e sp y k = (t, ud, wa)) (h0 : t ≠ 0) : pz_fo s e sp y (k + 1) = pz_fo1 s e sp (t, ud, wa) := by
  show (if (pz_fo s e sp y k).1 = 0 then pz_fo s e sp y k else pz_fo1 s e sp (pz_fo s e sp y k)) = _
  rw [hY, if_neg h0]
theorem pz_fo1_16 {s e : Nat → Nat} {sp : pz_F} {t : Nat} {ud : Int32} {wa : pz_F} (h : sp t = 16) : pz_fo1 s e sp (t, ud, wa) = (t - 1, ud, upd wa (t - 1) ((wa (t - 1) + 1).toInt8.toInt32)) := by
  unfold pz_fo1
  rw [if_pos h]
theorem pz_fo1_17 {s e : Nat → Nat} {sp : pz_F} {t : Nat} {ud : Int32} {wa : pz_F} (h1 : ¬ sp t = 16) (h : sp t = 17) : pz_fo1 s e sp (t, ud, wa) = (t + 1, ud, upd wa t ((wa t - 1).toInt8.toInt32)) := by
  unfold pz_fo1
  rw [if_neg h1, if_pos h]
theorem pz_fo1_8 {s e : Nat → Nat} {sp : pz_F} {t q : Nat} {ud : Int32} {wa : pz_F} (h1 : ¬ sp t = 16) (h2 : ¬ sp t = 17) (h3 : ¬ sp t < 8) (hq : q < 8) (h : sp t - 8 = nI q) : pz_fo1 s e sp (t, ud, wa) = (e q, ud &&& (((1 : Int32) <<< ((sp t - 8) &&& 31)) ^^^ (-1)), wa) := by
  unfold pz_fo1
  rw [if_neg h1, if_neg h2, if_neg h3]
  show (e (sp t - 8).toNatClampNeg, _) = _
  rw [h, nI_clamp (by omega)]
theorem pz_fo1_0 {s e : Nat → Nat} {sp : pz_F} {t q : Nat} {ud : Int32} {wa : pz_F} (h1 : ¬ sp t = 16) (h2 : ¬ sp t = 17) (h3 : sp t < 8) (h4 : ¬ sp t < 0) (hq : q < 8) (h : sp t = nI q) : pz_fo1 s e sp (t, ud, wa) = (s q, ud ||| ((1 : Int32) <<< (sp t &&& 31)), wa) := by
  unfold pz_fo1
  rw [if_neg h1, if_neg h2, if_pos h3, if_neg h4]
  show (s (sp t).toNatClampNeg, _) = _
  rw [h, nI_clamp (by omega)]
theorem pz_fo1_n {s e : Nat → Nat} {sp : pz_F} {t : Nat} {ud : Int32} {wa : pz_F} (h1 : ¬ sp t = 16) (h2 : ¬ sp t = 17) (h3 : sp t < 8) (h4 : sp t < 0) : pz_fo1 s e sp (t, ud, wa) = (t, ud, wa) := by
  unfold pz_fo1
  rw [if_neg h1, if_neg h2, if_pos h3, if_pos h4]
theorem pz_sp8 {x : Int32} (h : -1 ≤ x.toInt ∧ x.toInt ≤ 17) (h1 : ¬ x = 16) (h2 : ¬ x = 17) (h3 : ¬ x < 8) : ∃ q, q < 8 ∧ x - 8 = nI q := by
  rw [← Int32.toInt_inj, show (16 : Int32).toInt = 16 from rfl] at h1
  rw [← Int32.toInt_inj, show (17 : Int32).toInt = 17 from rfl] at h2
  rw [Int32.lt_iff_toInt_lt, show (8 : Int32).toInt = 8 from rfl] at h3
  refine ⟨(x.toInt - 8).toNat, by omega, ?_⟩
  rw [← Int32.toInt_inj, nI_toInt (by omega), Int32.toInt_sub, show (8 : Int32).toInt = 8 from rfl]
  rw [Int.bmod_eq_of_le_mul_two (by rw [show ((2 ^ 32 : Nat) : Int) = 4294967296 from rfl]; omega) (by rw [show ((2 ^ 32 : Nat) : Int) = 4294967296 from rfl]; omega)]
  omega
theorem pz_sp0 {x : Int32} (h3 : x < 8) (h4 : ¬ x < 0) : ∃ q, q < 8 ∧ x = nI q := pz_ix8 h4 (fun q => absurd h3 (Int32.not_lt.mpr q))
end
section
/-! TrackMarket: leaves and flow (printed by gen/walks1.py) -/
set_option maxHeartbeats 4000000 in
/-- has(j) -/
theorem mX_has (l : Launch) (D : va_G) (ad : Nat → Nat) (cd : Nat → ClassId) (tc us ud kn ch : Int32) (js je jw : Nat → Nat) (ga wa re sp : pz_F) (P : Nat) (j : Int32) (hP : P < 256) : y_MI l yX1_has cX1_has 2 .boolean (y_rm 0 0) D (xT cd) [.ref (ad 0), .int j] (xW ad cd tc (nI P) us ud kn ch js je jw ga wa re sp)
    (fun r u => r = pz_has P j ∧ u = xW ad cd tc (nI P) us ud kn ch js je jw ga wa re sp) := by
  refine y_startI (by decide) (Nat.le_of_ble_eq_true rfl) ?_
  intro p e0 s0 m below meth c A ls hx hb hr hml hown hts hlocks hK hA hw hl
  have hw : y_W D A s0.heap (xW ad cd tc (nI P) us ud kn ch js je jw ga wa re sp) s0.heap [] := hw
  have hl : lv_has ls 2 [(0, .ref (ad 0)), (1, .int j)] := hl
  refine lv_iload_n hx hb dX1_has_0 rfl (lv_at hl 1 rfl) ?_
  refine lv_if_lt (tgt := 25) hx hb dX1_has_1 (by decide) (fun c1 => ?_) (fun c1 => ?_)
  · skip
    refine lv_iconst (v := 0) hx hb dX1_has_25 (by decide) ?_
    exact y_iret (v := 0) hx hb hr hlocks hK hw rfl (⟨pz_has_lt c1, rfl⟩) dX1_has_26
  · skip
    refine lv_iload_n hx hb dX1_has_4 rfl (lv_at hl 1 rfl) ?_
    refine lv_bipush (v := 8) hx hb dX1_has_5 (by decide) ?_
    refine lv_icmp_ge (tgt := 25) hx hb dX1_has_7 (by decide) (fun c7 => ?_) (fun c7 => ?_)
    · skip
      skip
      refine lv_iconst (v := 0) hx hb dX1_has_25 (by decide) ?_
      exact y_iret (v := 0) hx hb hr hlocks hK hw rfl (⟨pz_has_ge c7, rfl⟩) dX1_has_26
    · skip
      obtain ⟨k, hk, ek⟩ := pz_ix8 c1 c7
      refine lv_aload_n hx hb dX1_has_10 rfl (lv_at hl 0 rfl) ?_
      refine x_get hx hb hts hown hK hw rfl 1 (by decide) q32 rfl dX1_has_11 ?_
      refine lv_iload_n hx hb dX1_has_14 rfl (lv_at hl 1 rfl) ?_
      refine lv_ishr hx hb dX1_has_15 ?_
      refine lv_iconst (v := 1) hx hb dX1_has_16 (by decide) ?_
      refine lv_iand hx hb dX1_has_17 ?_
      refine lv_if_eq (tgt := 25) hx hb dX1_has_18 (by decide) (fun c18 => ?_) (fun c18 => ?_)
      · skip
        rw [ek] at c18
        have hbit := pz_bit0 hP hk c18
        refine lv_iconst (v := 0) hx hb dX1_has_25 (by decide) ?_
        exact y_iret (v := 0) hx hb hr hlocks hK hw rfl (⟨by rw [ek, pz_has_nI hk, hbit, if_neg (by decide)], rfl⟩) dX1_has_26
      · skip
        rw [ek] at c18
        have hbit := pz_bit1 hP hk c18
        refine lv_iconst (v := 1) hx hb dX1_has_21 (by decide) ?_
        refine lv_goto (tgt := 26) hx hb dX1_has_22 (by decide) ?_
        exact y_iret (v := 1) hx hb hr hlocks hK hw rfl (⟨by rw [ek, pz_has_nI hk, hbit, if_pos rfl], rfl⟩) dX1_has_26
set_option maxHeartbeats 4000000 in
/-- markedWorth(j) -/
theorem mX_markedWorth (l : Launch) (D : va_G) (ad : Nat → Nat) (cd : Nat → ClassId) (tc pr us ud kn ch : Int32) (js je jw : Nat → Nat) (ga wa re sp : pz_F) (j : Nat) (hj : j < 8) : y_MI l yX1_markedWorth cX1_markedWorth 2 .int (y_rm 0 0) D (xT cd) [.ref (ad 0), .int (nI j)] (xW ad cd tc pr us ud kn ch js je jw ga wa re sp)
    (fun r u => r = nI (pz_mw jw j) ∧ u = xW ad cd tc pr us ud kn ch js je jw ga wa re sp) := by
  refine y_startI (by decide) (Nat.le_of_ble_eq_true rfl) ?_
  intro p e0 s0 m below meth c A ls hx hb hr hml hown hts hlocks hK hA hw hl
  have hw : y_W D A s0.heap (xW ad cd tc pr us ud kn ch js je jw ga wa re sp) s0.heap [] := hw
  have hl : lv_has ls 2 [(0, .ref (ad 0)), (1, .int (nI j))] := hl
  refine lv_aload_n hx hb dX1_markedWorth_0 rfl (lv_at hl 0 rfl) ?_
  refine x_get hx hb hts hown hK hw rfl 4 (by decide) q35 rfl dX1_markedWorth_1 ?_
  refine lv_iload_n hx hb dX1_markedWorth_4 rfl (lv_at hl 1 rfl) ?_
  refine y_bald hx hb hK hw 3 2 j rfl rfl rfl hj (by decide) dX1_markedWorth_5 ?_
  refine lv_sipush (v := 256) hx hb dX1_markedWorth_6 (by decide) ?_
  refine lv_imul hx hb dX1_markedWorth_9 ?_
  refine lv_iconst (v := 1) hx hb dX1_markedWorth_10 (by decide) ?_
  refine lv_bipush (v := 7) hx hb dX1_markedWorth_11 (by decide) ?_
  refine lv_iload_n hx hb dX1_markedWorth_13 rfl (lv_at hl 1 rfl) ?_
  refine lv_isub hx hb dX1_markedWorth_14 ?_
  refine lv_ishl hx hb dX1_markedWorth_15 ?_
  refine lv_iadd hx hb dX1_markedWorth_16 ?_
  refine y_top (x' := nI (pz_mw jw j)) (pz_mw_eq hj) ?_
  exact y_iret (v := nI (pz_mw jw j)) hx hb hr hlocks hK hw rfl (⟨rfl, rfl⟩) dX1_markedWorth_17
set_option maxHeartbeats 4000000 in
/-- crowd(set, t) -/
theorem mX_crowd (l : Launch) (D : va_G) (ad : Nat → Nat) (cd : Nat → ClassId) (tc pr us ud kn ch : Int32) (js je jw : Nat → Nat) (ga wa re sp : pz_F) (S T : Nat) (hS : S < 256) (hT : T < 16) (hJ : pz_JB js je jw) : y_MI l yX1_crowd cX1_crowd 5 .int (y_rm 0 0) D (xT cd) [.ref (ad 0), .int (nI S), .int (nI T)] (xW ad cd tc pr us ud kn ch js je jw ga wa re sp)
    (fun r u => r = nI (pz_cw js je S T 8) ∧ u = xW ad cd tc pr us ud kn ch js je jw ga wa re sp) := by
  refine y_startI (by decide) (Nat.le_of_ble_eq_true rfl) ?_
  intro p e0 s0 m below meth c A ls hx hb hr hml hown hts hlocks hK hA hw hl
  have hw : y_W D A s0.heap (xW ad cd tc pr us ud kn ch js je jw ga wa re sp) s0.heap [] := hw
  have hl : lv_has ls 5 [(0, .ref (ad 0)), (1, .int (nI S)), (2, .int (nI T))] := hl
  refine lv_iconst (v := nI 0) hx hb dX1_crowd_0 (by decide) ?_
  refine lv_istore_n (lv' := [(3, .int (nI 0)), (0, .ref (ad 0)), (1, .int (nI S)), (2, .int (nI T))]) hx hb dX1_crowd_1 rfl hl (by decide) rfl (fun ls hl => ?_)
  refine lv_iconst (v := nI 0) hx hb dX1_crowd_2 (by decide) ?_
  refine lv_istore (lv' := [(4, .int (nI 0)), (3, .int (nI 0)), (0, .ref (ad 0)), (1, .int (nI S)), (2, .int (nI T))]) hx hb dX1_crowd_3 hl (by decide) rfl (fun ls hl => ?_)
  refine y_for 5 5 8 0 (fun j => xW ad cd tc pr us ud kn ch js je jw ga wa re sp) (fun j => [(0, .ref (ad 0)), (1, .int (nI S)), (2, .int (nI T)), (3, .int (nI (pz_cw js je S T j))), (4, .int (nI j))]) (fun j => True) (Nat.le_of_ble_eq_true rfl) trivial hw (lv_sub hl [2, 3, 4, 1, 0] rfl) ?_ ?_
  · intro j hj hI5 H locs ls hw hl ih5
    have hw : y_W D A s0.heap (xW ad cd tc pr us ud kn ch js je jw ga wa re sp) H locs := hw
    have hl : lv_has ls 5 [(0, .ref (ad 0)), (1, .int (nI S)), (2, .int (nI T)), (3, .int (nI (pz_cw js je S T j))), (4, .int (nI j))] := hl
    have hJj := hJ j hj
    refine lv_iload hx hb dX1_crowd_5 (lv_at hl 4 rfl) ?_
    refine lv_bipush (v := 8) hx hb dX1_crowd_7 (by decide) ?_
    refine lv_icmp_ge (tgt := 52) hx hb dX1_crowd_9 (by decide) (fun c9 => absurd c9 (y_ge hj)) (fun _ => ?_)
    refine lv_iload_n hx hb dX1_crowd_12 rfl (lv_at hl 1 rfl) ?_
    refine lv_iload hx hb dX1_crowd_13 (lv_at hl 4 rfl) ?_
    refine lv_ishr hx hb dX1_crowd_15 ?_
    refine lv_iconst (v := 1) hx hb dX1_crowd_16 (by decide) ?_
    refine lv_iand hx hb dX1_crowd_17 ?_
    refine lv_if_eq (tgt := 46) hx hb dX1_crowd_18 (by decide) (fun c18 => ?_) (fun c18 => ?_)
    · skip
      have hbit := pz_bit0 hS hj c18
      refine lv_iinc (v := nI (j + 1)) (lv' := [(4, .int (nI (j + 1))), (0, .ref (ad 0)), (1, .int (nI S)), (2, .int (nI T)), (3, .int (nI (pz_cw js je S T j)))]) hx hb dX1_crowd_46 hl (k := 4) rfl (nI_1 _) (by decide) rfl (fun ls hl => ?_)
      refine lv_goto (tgt := 5) hx hb dX1_crowd_49 (by decide) ?_
      rw [pz_cw_f1 hbit] at hl
      exact ih5 trivial _ _ _ hw (lv_sub hl [1, 2, 3, 4, 0] rfl)
    · skip
      have hbit := pz_bit1 hS hj c18
      refine lv_aload_n hx hb dX1_crowd_21 rfl (lv_at hl 0 rfl) ?_
      refine x_get hx hb hts hown hK hw rfl 2 (by decide) q33 rfl dX1_crowd_22 ?_
      refine lv_iload hx hb dX1_crowd_25 (lv_at hl 4 rfl) ?_
      refine y_bald hx hb hK hw 1 0 j rfl rfl rfl hj (by decide) dX1_crowd_27 ?_
      refine lv_iload_n hx hb dX1_crowd_28 rfl (lv_at hl 2 rfl) ?_
      refine lv_icmp_gt (tgt := 46) hx hb dX1_crowd_29 (by decide) (fun c29 => ?_) (fun c29 => ?_)
      · skip
        refine lv_iinc (v := nI (j + 1)) (lv' := [(4, .int (nI (j + 1))), (0, .ref (ad 0)), (1, .int (nI S)), (2, .int (nI T)), (3, .int (nI (pz_cw js je S T j)))]) hx hb dX1_crowd_46 hl (k := 4) rfl (nI_1 _) (by decide) rfl (fun ls hl => ?_)
        refine lv_goto (tgt := 5) hx hb dX1_crowd_49 (by decide) ?_
        rw [pz_cw_f2 c29 (by omega) (by omega)] at hl
        exact ih5 trivial _ _ _ hw (lv_sub hl [1, 2, 3, 4, 0] rfl)
      · skip
        refine lv_iload_n hx hb dX1_crowd_32 rfl (lv_at hl 2 rfl) ?_
        refine lv_aload_n hx hb dX1_crowd_33 rfl (lv_at hl 0 rfl) ?_
        refine x_get hx hb hts hown hK hw rfl 3 (by decide) q34 rfl dX1_crowd_34 ?_
        refine lv_iload hx hb dX1_crowd_37 (lv_at hl 4 rfl) ?_
        refine y_bald hx hb hK hw 2 1 j rfl rfl rfl hj (by decide) dX1_crowd_39 ?_
        refine lv_icmp_ge (tgt := 46) hx hb dX1_crowd_40 (by decide) (fun c40 => ?_) (fun c40 => ?_)
        · skip
          refine lv_iinc (v := nI (j + 1)) (lv' := [(4, .int (nI (j + 1))), (0, .ref (ad 0)), (1, .int (nI S)), (2, .int (nI T)), (3, .int (nI (pz_cw js je S T j)))]) hx hb dX1_crowd_46 hl (k := 4) rfl (nI_1 _) (by decide) rfl (fun ls hl => ?_)
          refine lv_goto (tgt := 5) hx hb dX1_crowd_49 (by decide) ?_
          rw [pz_cw_f3 c40 (by omega) (by omega)] at hl
          exact ih5 trivial _ _ _ hw (lv_sub hl [1, 2, 3, 4, 0] rfl)
        · skip
          refine lv_iinc (v := nI (pz_cw js je S T (j + 1))) (lv' := [(3, .int (nI (pz_cw js je S T (j + 1)))), (0, .ref (ad 0)), (1, .int (nI S)), (2, .int (nI T)), (4, .int (nI j))]) hx hb dX1_crowd_43 hl (k := 3) rfl (pz_cw_t hbit c29 c40 (by omega) (by omega) (by omega)) (by decide) rfl (fun ls hl => ?_)
          refine lv_iinc (v := nI (j + 1)) (lv' := [(4, .int (nI (j + 1))), (3, .int (nI (pz_cw js je S T (j + 1)))), (0, .ref (ad 0)), (1, .int (nI S)), (2, .int (nI T))]) hx hb dX1_crowd_46 hl (k := 4) rfl (nI_1 _) (by decide) rfl (fun ls hl => ?_)
          refine lv_goto (tgt := 5) hx hb dX1_crowd_49 (by decide) ?_
          exact ih5 trivial _ _ _ hw (lv_sub hl [2, 3, 4, 1, 0] rfl)
  · intro hI5 H locs ls hw hl
    have hw : y_W D A s0.heap (xW ad cd tc pr us ud kn ch js je jw ga wa re sp) H locs := hw
    have hl : lv_has ls 5 [(0, .ref (ad 0)), (1, .int (nI S)), (2, .int (nI T)), (3, .int (nI (pz_cw js je S T 8))), (4, .int (nI 8))] := hl
    refine lv_iload hx hb dX1_crowd_5 (lv_at hl 4 rfl) ?_
    refine lv_bipush (v := 8) hx hb dX1_crowd_7 (by decide) ?_
    refine lv_icmp_ge (tgt := 52) hx hb dX1_crowd_9 (by decide) (fun _ => ?_) (fun c9 => absurd (y_le (a := 8)) c9)
    refine lv_iload_n hx hb dX1_crowd_52 rfl (lv_at hl 3 rfl) ?_
    exact y_iret (v := nI (pz_cw js je S T 8)) hx hb hr hlocks hK hw rfl (⟨rfl, rfl⟩) dX1_crowd_53
set_option maxHeartbeats 4000000 in
/-- greatestCrowd(set) -/
theorem mX_greatestCrowd (l : Launch) (D : va_G) (ad : Nat → Nat) (cd : Nat → ClassId) (tc pr us ud kn ch : Int32) (js je jw : Nat → Nat) (ga wa re sp : pz_F) (S : Nat) (hS : S < 256) (hJ : pz_JB js je jw) : y_MI l yX1_greatestCrowd cX1_greatestCrowd 5 .int (y_rm 1 24) D (xT cd) [.ref (ad 0), .int (nI S)] (xW ad cd tc pr us ud kn ch js je jw ga wa re sp)
    (fun r u => r = nI (pz_gc js je S 16) ∧ u = xW ad cd tc pr us ud kn ch js je jw ga wa re sp) := by
  refine y_startI (by decide) (Nat.le_of_ble_eq_true rfl) ?_
  intro p e0 s0 m below meth c A ls hx hb hr hml hown hts hlocks hK hA hw hl
  have hw : y_W D A s0.heap (xW ad cd tc pr us ud kn ch js je jw ga wa re sp) s0.heap [] := hw
  have hl : lv_has ls 5 [(0, .ref (ad 0)), (1, .int (nI S))] := hl
  refine lv_iconst (v := nI 0) hx hb dX1_greatestCrowd_0 (by decide) ?_
  refine lv_istore_n (lv' := [(2, .int (nI 0)), (0, .ref (ad 0)), (1, .int (nI S))]) hx hb dX1_greatestCrowd_1 rfl hl (by decide) rfl (fun ls hl => ?_)
  refine lv_iconst (v := nI 0) hx hb dX1_greatestCrowd_2 (by decide) ?_
  refine lv_istore_n (lv' := [(3, .int (nI 0)), (2, .int (nI 0)), (0, .ref (ad 0)), (1, .int (nI S))]) hx hb dX1_greatestCrowd_3 rfl hl (by decide) rfl (fun ls hl => ?_)
  refine y_for 4 5 16 0 (fun t => xW ad cd tc pr us ud kn ch js je jw ga wa re sp) (fun t => [(0, .ref (ad 0)), (1, .int (nI S)), (2, .int (nI (pz_gc js je S t))), (3, .int (nI t))]) (fun t => True) (Nat.le_of_ble_eq_true rfl) trivial hw (lv_sub hl [2, 3, 1, 0] rfl) ?_ ?_
  · intro t ht hI4 H locs ls hw hl ih4
    have hw : y_W D A s0.heap (xW ad cd tc pr us ud kn ch js je jw ga wa re sp) H locs := hw
    have hl : lv_has ls 5 [(0, .ref (ad 0)), (1, .int (nI S)), (2, .int (nI (pz_gc js je S t))), (3, .int (nI t))] := hl
    refine lv_iload_n hx hb dX1_greatestCrowd_4 rfl (lv_at hl 3 rfl) ?_
    refine lv_bipush (v := 16) hx hb dX1_greatestCrowd_5 (by decide) ?_
    refine lv_icmp_ge (tgt := 37) hx hb dX1_greatestCrowd_7 (by decide) (fun c9 => absurd c9 (y_ge ht)) (fun _ => ?_)
    refine lv_aload_n hx hb dX1_greatestCrowd_10 rfl (lv_at hl 0 rfl) ?_
    refine lv_iload_n hx hb dX1_greatestCrowd_11 rfl (lv_at hl 1 rfl) ?_
    refine lv_iload_n hx hb dX1_greatestCrowd_12 rfl (lv_at hl 3 rfl) ?_
    refine y_selfI (q := (RX1, TX1, 13)) (ci := 0) (As := [.int (nI S), .int (nI t)]) (rest := []) ⟨hx, hb, hml, hown, hts⟩ (mX_crowd l D ad cd tc pr us ud kn ch js je jw ga wa re sp S t hS ht hJ) (cwV 2 hts (lw_V q157 q159 qs11 q21 q160) rfl rfl rfl (by decide +kernel) ⟨Nat.le_of_ble_eq_true rfl, Nat.le_of_ble_eq_true rfl⟩) hK hw hA rfl rfl rfl hl.1 rfl (Nat.le_of_ble_eq_true rfl) dX1_greatestCrowd_13 ⟨Nat.zero_le _, Nat.zero_le _⟩ (fun r u H locs hq hw => ?_)
    obtain ⟨rfl, rfl⟩ := hq
    have hw : y_W D A s0.heap (xW ad cd tc pr us ud kn ch js je jw ga wa re sp) H locs := hw
    refine lv_istore (lv' := [(4, .int (nI (pz_cw js je S t 8))), (0, .ref (ad 0)), (1, .int (nI S)), (2, .int (nI (pz_gc js je S t))), (3, .int (nI t))]) hx hb dX1_greatestCrowd_16 hl (by decide) rfl (fun ls hl => ?_)
    refine lv_iload hx hb dX1_greatestCrowd_18 (lv_at hl 0 rfl) ?_
    refine lv_iload_n hx hb dX1_greatestCrowd_20 rfl (lv_at hl 3 rfl) ?_
    refine lv_icmp_le (tgt := 29) hx hb dX1_greatestCrowd_21 (by decide) (fun c21 => ?_) (fun c21 => ?_)
    · skip
      refine lv_iload_n hx hb dX1_greatestCrowd_29 rfl (lv_at hl 3 rfl) ?_
      refine y_top (x' := nI (pz_gc js je S (t + 1))) (pz_gc_t c21) ?_
      refine lv_istore_n (lv' := [(2, .int (nI (pz_gc js je S (t + 1)))), (4, .int (nI (pz_cw js je S t 8))), (0, .ref (ad 0)), (1, .int (nI S)), (3, .int (nI t))]) hx hb dX1_greatestCrowd_30 rfl hl (by decide) rfl (fun ls hl => ?_)
      refine lv_iinc (v := nI (t + 1)) (lv' := [(3, .int (nI (t + 1))), (2, .int (nI (pz_gc js je S (t + 1)))), (4, .int (nI (pz_cw js je S t 8))), (0, .ref (ad 0)), (1, .int (nI S))]) hx hb dX1_greatestCrowd_31 hl (k := 4) rfl (nI_1 _) (by decide) rfl (fun ls hl => ?_)
      refine lv_goto (tgt := 4) hx hb dX1_greatestCrowd_34 (by decide) ?_
      exact ih4 trivial _ _ _ hw (lv_sub hl [3, 4, 1, 0] rfl)
    · skip
      refine lv_iload hx hb dX1_greatestCrowd_24 (lv_at hl 0 rfl) ?_
      refine y_top (x' := nI (pz_gc js je S (t + 1))) (pz_gc_f c21) ?_
      refine lv_goto (tgt := 30) hx hb dX1_greatestCrowd_26 (by decide) ?_
      refine lv_istore_n (lv' := [(2, .int (nI (pz_gc js je S (t + 1)))), (4, .int (nI (pz_cw js je S t 8))), (0, .ref (ad 0)), (1, .int (nI S)), (3, .int (nI t))]) hx hb dX1_greatestCrowd_30 rfl hl (by decide) rfl (fun ls hl => ?_)
      refine lv_iinc (v := nI (t + 1)) (lv' := [(3, .int (nI (t + 1))), (2, .int (nI (pz_gc js je S (t + 1)))), (4, .int (nI (pz_cw js je S t 8))), (0, .ref (ad 0)), (1, .int (nI S))]) hx hb dX1_greatestCrowd_31 hl (k := 4) rfl (nI_1 _) (by decide) rfl (fun ls hl => ?_)
      refine lv_goto (tgt := 4) hx hb dX1_greatestCrowd_34 (by decide) ?_
      exact ih4 trivial _ _ _ hw (lv_sub hl [3, 4, 1, 0] rfl)
  · intro hI4 H locs ls hw hl
    have hw : y_W D A s0.heap (xW ad cd tc pr us ud kn ch js je jw ga wa re sp) H locs := hw
    have hl : lv_has ls 5 [(0, .ref (ad 0)), (1, .int (nI S)), (2, .int (nI (pz_gc js je S 16))), (3, .int (nI 16))] := hl
    refine lv_iload_n hx hb dX1_greatestCrowd_4 rfl (lv_at hl 3 rfl) ?_
    refine lv_bipush (v := 16) hx hb dX1_greatestCrowd_5 (by decide) ?_
    refine lv_icmp_ge (tgt := 37) hx hb dX1_greatestCrowd_7 (by decide) (fun _ => ?_) (fun c9 => absurd (y_le (a := 16)) c9)
    refine lv_iload_n hx hb dX1_greatestCrowd_37 rfl (lv_at hl 2 rfl) ?_
    exact y_iret (v := nI (pz_gc js je S 16)) hx hb hr hlocks hK hw rfl (⟨rfl, rfl⟩) dX1_greatestCrowd_38
set_option maxHeartbeats 4000000 in
/-- markedSum(set) -/
theorem mX_markedSum (l : Launch) (D : va_G) (ad : Nat → Nat) (cd : Nat → ClassId) (tc pr us ud kn ch : Int32) (js je jw : Nat → Nat) (ga wa re sp : pz_F) (S : Nat) (hS : S < 256) : y_MI l yX1_markedSum cX1_markedSum 4 .int (y_rm 1 21) D (xT cd) [.ref (ad 0), .int (nI S)] (xW ad cd tc pr us ud kn ch js je jw ga wa re sp)
    (fun r u => r = nI (pz_ms jw S 8) ∧ u = xW ad cd tc pr us ud kn ch js je jw ga wa re sp) := by
  refine y_startI (by decide) (Nat.le_of_ble_eq_true rfl) ?_
  intro p e0 s0 m below meth c A ls hx hb hr hml hown hts hlocks hK hA hw hl
  have hw : y_W D A s0.heap (xW ad cd tc pr us ud kn ch js je jw ga wa re sp) s0.heap [] := hw
  have hl : lv_has ls 4 [(0, .ref (ad 0)), (1, .int (nI S))] := hl
  refine lv_iconst (v := nI 0) hx hb dX1_markedSum_0 (by decide) ?_
  refine lv_istore_n (lv' := [(2, .int (nI 0)), (0, .ref (ad 0)), (1, .int (nI S))]) hx hb dX1_markedSum_1 rfl hl (by decide) rfl (fun ls hl => ?_)
  refine lv_iconst (v := nI 0) hx hb dX1_markedSum_2 (by decide) ?_
  refine lv_istore_n (lv' := [(3, .int (nI 0)), (2, .int (nI 0)), (0, .ref (ad 0)), (1, .int (nI S))]) hx hb dX1_markedSum_3 rfl hl (by decide) rfl (fun ls hl => ?_)
  refine y_for 4 4 8 0 (fun j => xW ad cd tc pr us ud kn ch js je jw ga wa re sp) (fun j => [(0, .ref (ad 0)), (1, .int (nI S)), (2, .int (nI (pz_ms jw S j))), (3, .int (nI j))]) (fun j => True) (Nat.le_of_ble_eq_true rfl) trivial hw (lv_sub hl [2, 3, 1, 0] rfl) ?_ ?_
  · intro j hj hI4 H locs ls hw hl ih4
    have hw : y_W D A s0.heap (xW ad cd tc pr us ud kn ch js je jw ga wa re sp) H locs := hw
    have hl : lv_has ls 4 [(0, .ref (ad 0)), (1, .int (nI S)), (2, .int (nI (pz_ms jw S j))), (3, .int (nI j))] := hl
    refine lv_iload_n hx hb dX1_markedSum_4 rfl (lv_at hl 3 rfl) ?_
    refine lv_bipush (v := 8) hx hb dX1_markedSum_5 (by decide) ?_
    refine lv_icmp_ge (tgt := 32) hx hb dX1_markedSum_7 (by decide) (fun c9 => absurd c9 (y_ge hj)) (fun _ => ?_)
    refine lv_iload_n hx hb dX1_markedSum_10 rfl (lv_at hl 1 rfl) ?_
    refine lv_iload_n hx hb dX1_markedSum_11 rfl (lv_at hl 3 rfl) ?_
    refine lv_ishr hx hb dX1_markedSum_12 ?_
    refine lv_iconst (v := 1) hx hb dX1_markedSum_13 (by decide) ?_
    refine lv_iand hx hb dX1_markedSum_14 ?_
    refine lv_if_eq (tgt := 26) hx hb dX1_markedSum_15 (by decide) (fun c15 => ?_) (fun c15 => ?_)
    · skip
      have hbit := pz_bit0 hS hj c15
      refine lv_iinc (v := nI (j + 1)) (lv' := [(3, .int (nI (j + 1))), (0, .ref (ad 0)), (1, .int (nI S)), (2, .int (nI (pz_ms jw S j)))]) hx hb dX1_markedSum_26 hl (k := 3) rfl (nI_1 _) (by decide) rfl (fun ls hl => ?_)
      refine lv_goto (tgt := 4) hx hb dX1_markedSum_29 (by decide) ?_
      rw [pz_ms_f hbit] at hl
      exact ih4 trivial _ _ _ hw (lv_sub hl [1, 2, 3, 0] rfl)
    · skip
      have hbit := pz_bit1 hS hj c15
      refine lv_iload_n hx hb dX1_markedSum_18 rfl (lv_at hl 2 rfl) ?_
      refine lv_aload_n hx hb dX1_markedSum_19 rfl (lv_at hl 0 rfl) ?_
      refine lv_iload_n hx hb dX1_markedSum_20 rfl (lv_at hl 3 rfl) ?_
      refine y_selfI (q := (RX1, TX1, 13)) (ci := 0) (As := [.int (nI j)]) (rest := [.int (nI (pz_ms jw S j))]) ⟨hx, hb, hml, hown, hts⟩ (mX_markedWorth l D ad cd tc pr us ud kn ch js je jw ga wa re sp j hj) (cwV 1 hts (lw_V q113 q115 qs3 q21 q116) rfl rfl rfl (by decide +kernel) ⟨Nat.le_of_ble_eq_true rfl, Nat.le_of_ble_eq_true rfl⟩) hK hw hA rfl rfl rfl hl.1 rfl (Nat.le_of_ble_eq_true rfl) dX1_markedSum_21 ⟨Nat.zero_le _, Nat.zero_le _⟩ (fun r u H locs hq hw => ?_)
      obtain ⟨rfl, rfl⟩ := hq
      have hw : y_W D A s0.heap (xW ad cd tc pr us ud kn ch js je jw ga wa re sp) H locs := hw
      refine lv_iadd hx hb dX1_markedSum_24 ?_
      refine y_top (x' := nI (pz_ms jw S (j + 1))) (pz_ms_t hbit) ?_
      refine lv_istore_n (lv' := [(2, .int (nI (pz_ms jw S (j + 1)))), (0, .ref (ad 0)), (1, .int (nI S)), (3, .int (nI j))]) hx hb dX1_markedSum_25 rfl hl (by decide) rfl (fun ls hl => ?_)
      refine lv_iinc (v := nI (j + 1)) (lv' := [(3, .int (nI (j + 1))), (2, .int (nI (pz_ms jw S (j + 1)))), (0, .ref (ad 0)), (1, .int (nI S))]) hx hb dX1_markedSum_26 hl (k := 3) rfl (nI_1 _) (by decide) rfl (fun ls hl => ?_)
      refine lv_goto (tgt := 4) hx hb dX1_markedSum_29 (by decide) ?_
      exact ih4 trivial _ _ _ hw (lv_sub hl [2, 3, 1, 0] rfl)
  · intro hI4 H locs ls hw hl
    have hw : y_W D A s0.heap (xW ad cd tc pr us ud kn ch js je jw ga wa re sp) H locs := hw
    have hl : lv_has ls 4 [(0, .ref (ad 0)), (1, .int (nI S)), (2, .int (nI (pz_ms jw S 8))), (3, .int (nI 8))] := hl
    refine lv_iload_n hx hb dX1_markedSum_4 rfl (lv_at hl 3 rfl) ?_
    refine lv_bipush (v := 8) hx hb dX1_markedSum_5 (by decide) ?_
    refine lv_icmp_ge (tgt := 32) hx hb dX1_markedSum_7 (by decide) (fun _ => ?_) (fun c9 => absurd (y_le (a := 8)) c9)
    refine lv_iload_n hx hb dX1_markedSum_32 rfl (lv_at hl 2 rfl) ?_
    exact y_iret (v := nI (pz_ms jw S 8)) hx hb hr hlocks hK hw rfl (⟨rfl, rfl⟩) dX1_markedSum_33
set_option maxHeartbeats 4000000 in
/-- improve(from, to, gain, by) -/
theorem mX_improve (l : Launch) (D : va_G) (ad : Nat → Nat) (cd : Nat → ClassId) (tc pr us ud kn ch : Int32) (js je jw : Nat → Nat) (ga wa re sp : pz_F) (iu iv : Nat) (ig ib : Int32) (hu : iu < 17) (hv : iv < 17) (hb8 : ib.toInt8.toInt32 = ib) : y_MV l yX1_improve cX1_improve 5 (y_rm 0 0) D (xT cd) [.ref (ad 0), .int (nI iu), .int (nI iv), .int ig, .int ib] (xW ad cd tc pr us ud kn ch js je jw ga wa re sp)
    (fun u => u = xW ad cd tc pr us ud kn ch js je jw ga wa ((pz_imp (re, sp) iu iv ig ib).1) ((pz_imp (re, sp) iu iv ig ib).2)) := by
  refine y_startV (by decide) (Nat.le_of_ble_eq_true rfl) ?_
  intro p e0 s0 m below meth c A ls hx hb hr hml hown hts hlocks hK hA hw hl
  have hw : y_W D A s0.heap (xW ad cd tc pr us ud kn ch js je jw ga wa re sp) s0.heap [] := hw
  have hl : lv_has ls 5 [(0, .ref (ad 0)), (1, .int (nI iu)), (2, .int (nI iv)), (3, .int ig), (4, .int ib)] := hl
  refine lv_aload_n hx hb dX1_improve_0 rfl (lv_at hl 0 rfl) ?_
  refine x_get hx hb hts hown hK hw rfl 9 (by decide) q40 rfl dX1_improve_1 ?_
  refine lv_iload_n hx hb dX1_improve_4 rfl (lv_at hl 1 rfl) ?_
  refine y_iald hx hb hK hw 6 5 iu rfl rfl rfl hu (by decide) dX1_improve_5 ?_
  refine lv_ldc (v := pz_FAR) hx hb hown (hts _ q125) dX1_improve_6 ?_
  refine lv_icmp_le (tgt := 51) hx hb dX1_improve_8 (by decide) (fun c8 => ?_) (fun c8 => ?_)
  · skip
    exact y_vret hx hb hr hlocks hK hw (by show _ = _; rw [pz_imp_no (x := (re, sp)) (Or.inl c8)]) dX1_improve_51
  · skip
    refine lv_aload_n hx hb dX1_improve_11 rfl (lv_at hl 0 rfl) ?_
    refine x_get hx hb hts hown hK hw rfl 9 (by decide) q40 rfl dX1_improve_12 ?_
    refine lv_iload_n hx hb dX1_improve_15 rfl (lv_at hl 1 rfl) ?_
    refine y_iald hx hb hK hw 6 5 iu rfl rfl rfl hu (by decide) dX1_improve_16 ?_
    refine lv_iload_n hx hb dX1_improve_17 rfl (lv_at hl 3 rfl) ?_
    refine lv_iadd hx hb dX1_improve_18 ?_
    refine lv_aload_n hx hb dX1_improve_19 rfl (lv_at hl 0 rfl) ?_
    refine x_get hx hb hts hown hK hw rfl 9 (by decide) q40 rfl dX1_improve_20 ?_
    refine lv_iload_n hx hb dX1_improve_23 rfl (lv_at hl 2 rfl) ?_
    refine y_iald hx hb hK hw 6 5 iv rfl rfl rfl hv (by decide) dX1_improve_24 ?_
    refine lv_icmp_le (tgt := 51) hx hb dX1_improve_25 (by decide) (fun c25 => ?_) (fun c25 => ?_)
    · skip
      exact y_vret hx hb hr hlocks hK hw (by show _ = _; rw [pz_imp_no (x := (re, sp)) (Or.inr c25)]) dX1_improve_51
    · skip
      refine lv_aload_n hx hb dX1_improve_28 rfl (lv_at hl 0 rfl) ?_
      refine x_get hx hb hts hown hK hw rfl 9 (by decide) q40 rfl dX1_improve_29 ?_
      refine lv_iload_n hx hb dX1_improve_32 rfl (lv_at hl 2 rfl) ?_
      refine lv_aload_n hx hb dX1_improve_33 rfl (lv_at hl 0 rfl) ?_
      refine x_get hx hb hts hown hK hw rfl 9 (by decide) q40 rfl dX1_improve_34 ?_
      refine lv_iload_n hx hb dX1_improve_37 rfl (lv_at hl 1 rfl) ?_
      refine y_iald hx hb hK hw 6 5 iu rfl rfl rfl hu (by decide) dX1_improve_38 ?_
      refine lv_iload_n hx hb dX1_improve_39 rfl (lv_at hl 3 rfl) ?_
      refine lv_iadd hx hb dX1_improve_40 ?_
      refine y_iast (ws' := xW ad cd tc pr us ud kn ch js je jw ga wa (upd re iv ((re iu) + ig)) sp) hx hb hK hw 6 5 iv rfl rfl rfl hv (by decide) rfl dX1_improve_41 (fun H locs hw => ?_)
      refine lv_aload_n hx hb dX1_improve_42 rfl (lv_at hl 0 rfl) ?_
      refine x_get hx hb hts hown hK hw rfl 10 (by decide) q41 rfl dX1_improve_43 ?_
      refine lv_iload_n hx hb dX1_improve_46 rfl (lv_at hl 2 rfl) ?_
      refine lv_iload hx hb dX1_improve_47 (lv_at hl 4 rfl) ?_
      refine lv_i2b (v := ib) hx hb dX1_improve_49 hb8 ?_
      refine y_bast (x' := ib) (ws' := xW ad cd tc pr us ud kn ch js je jw ga wa (upd re iv ((re iu) + ig)) (upd sp iv ib)) hx hb hK hw 7 6 iv rfl rfl rfl hv (by decide) (pz_nb hb8) rfl dX1_improve_50 (fun H locs hw => ?_)
      exact y_vret hx hb hr hlocks hK hw (by show _ = _; rw [pz_imp_yes (x := (re, sp)) c8 c25]) dX1_improve_51
set_option maxHeartbeats 4000000 in
/-- improveByJob(j) -/
theorem mX_improveByJob (l : Launch) (D : va_G) (ad : Nat → Nat) (cd : Nat → ClassId) (tc pr us ud kn ch : Int32) (js je jw : Nat → Nat) (ga wa re sp : pz_F) (j : Nat) (hj : j < 8) (hJ : pz_JB js je jw) : y_MV l yX1_improveByJob cX1_improveByJob 2 (y_rm 1 24) D (xT cd) [.ref (ad 0), .int (nI j)] (xW ad cd tc pr us ud kn ch js je jw ga wa re sp)
    (fun u => u = xW ad cd tc pr us ud kn ch js je jw ga wa ((pz_ij js je ga us ud (re, sp) j).1) ((pz_ij js je ga us ud (re, sp) j).2)) := by
  refine y_startV (by decide) (Nat.le_of_ble_eq_true rfl) ?_
  intro p e0 s0 m below meth c A ls hx hb hr hml hown hts hlocks hK hA hw hl
  have hw : y_W D A s0.heap (xW ad cd tc pr us ud kn ch js je jw ga wa re sp) s0.heap [] := hw
  have hl : lv_has ls 2 [(0, .ref (ad 0)), (1, .int (nI j))] := hl
  have hJj := hJ j hj
  have h8 := pz_by8 j hj
  refine lv_aload_n hx hb dX1_improveByJob_0 rfl (lv_at hl 0 rfl) ?_
  refine x_get hx hb hts hown hK hw rfl 7 (by decide) q38 rfl dX1_improveByJob_1 ?_
  refine lv_iload_n hx hb dX1_improveByJob_4 rfl (lv_at hl 1 rfl) ?_
  refine lv_ishr hx hb dX1_improveByJob_5 ?_
  refine lv_iconst (v := 1) hx hb dX1_improveByJob_6 (by decide) ?_
  refine lv_iand hx hb dX1_improveByJob_7 ?_
  refine lv_if_eq (tgt := 41) hx hb dX1_improveByJob_8 (by decide) (fun c8 => ?_) (fun c8 => ?_)
  · skip
    refine lv_aload_n hx hb dX1_improveByJob_41 rfl (lv_at hl 0 rfl) ?_
    refine x_get hx hb hts hown hK hw rfl 6 (by decide) q37 rfl dX1_improveByJob_42 ?_
    refine lv_iload_n hx hb dX1_improveByJob_45 rfl (lv_at hl 1 rfl) ?_
    refine lv_ishr hx hb dX1_improveByJob_46 ?_
    refine lv_iconst (v := 1) hx hb dX1_improveByJob_47 (by decide) ?_
    refine lv_iand hx hb dX1_improveByJob_48 ?_
    refine lv_if_eq (tgt := 75) hx hb dX1_improveByJob_49 (by decide) (fun c49 => ?_) (fun c49 => ?_)
    · skip
      exact y_vret hx hb hr hlocks hK hw (by show _ = _; rw [pz_ij_0 c8 c49]) dX1_improveByJob_75
    · skip
      refine lv_aload_n hx hb dX1_improveByJob_52 rfl (lv_at hl 0 rfl) ?_
      refine lv_aload_n hx hb dX1_improveByJob_53 rfl (lv_at hl 0 rfl) ?_
      refine x_get hx hb hts hown hK hw rfl 2 (by decide) q33 rfl dX1_improveByJob_54 ?_
      refine lv_iload_n hx hb dX1_improveByJob_57 rfl (lv_at hl 1 rfl) ?_
      refine y_bald hx hb hK hw 1 0 j rfl rfl rfl hj (by decide) dX1_improveByJob_58 ?_
      refine lv_aload_n hx hb dX1_improveByJob_59 rfl (lv_at hl 0 rfl) ?_
      refine x_get hx hb hts hown hK hw rfl 3 (by decide) q34 rfl dX1_improveByJob_60 ?_
      refine lv_iload_n hx hb dX1_improveByJob_63 rfl (lv_at hl 1 rfl) ?_
      refine y_bald hx hb hK hw 2 1 j rfl rfl rfl hj (by decide) dX1_improveByJob_64 ?_
      refine lv_aload_n hx hb dX1_improveByJob_65 rfl (lv_at hl 0 rfl) ?_
      refine x_get hx hb hts hown hK hw rfl 5 (by decide) q36 rfl dX1_improveByJob_66 ?_
      refine lv_iload_n hx hb dX1_improveByJob_69 rfl (lv_at hl 1 rfl) ?_
      refine y_iald hx hb hK hw 4 3 j rfl rfl rfl hj (by decide) dX1_improveByJob_70 ?_
      refine lv_iload_n hx hb dX1_improveByJob_71 rfl (lv_at hl 1 rfl) ?_
      refine y_selfV (q := (RX1, TX1, 13)) (ci := 0) (As := [.int (nI (js j)), .int (nI (je j)), .int (ga j), .int (nI j)]) (rest := []) ⟨hx, hb, hml, hown, hts⟩ (mX_improve l D ad cd tc pr us ud kn ch js je jw ga wa re sp (js j) (je j) (ga j) (nI j) (by omega) (by omega) h8.1) (cwV 4 hts (lw_V q126 q128 qs6 q21 q129) rfl rfl rfl (by decide +kernel) ⟨Nat.le_of_ble_eq_true rfl, Nat.le_of_ble_eq_true rfl⟩) hK hw hA rfl rfl rfl hl.1 rfl (Nat.le_of_ble_eq_true rfl) dX1_improveByJob_72 ⟨Nat.zero_le _, Nat.zero_le _⟩ (fun u H locs hq hw => ?_)
      obtain rfl := hq
      have hw : y_W D A s0.heap (xW ad cd tc pr us ud kn ch js je jw ga wa ((pz_imp (re, sp) (js j) (je j) (ga j) (nI j)).1) ((pz_imp (re, sp) (js j) (je j) (ga j) (nI j)).2)) H locs := hw
      exact y_vret hx hb hr hlocks hK hw (by show _ = _; rw [pz_ij_1 c8 c49]) dX1_improveByJob_75
  · skip
    refine lv_aload_n hx hb dX1_improveByJob_11 rfl (lv_at hl 0 rfl) ?_
    refine lv_aload_n hx hb dX1_improveByJob_12 rfl (lv_at hl 0 rfl) ?_
    refine x_get hx hb hts hown hK hw rfl 3 (by decide) q34 rfl dX1_improveByJob_13 ?_
    refine lv_iload_n hx hb dX1_improveByJob_16 rfl (lv_at hl 1 rfl) ?_
    refine y_bald hx hb hK hw 2 1 j rfl rfl rfl hj (by decide) dX1_improveByJob_17 ?_
    refine lv_aload_n hx hb dX1_improveByJob_18 rfl (lv_at hl 0 rfl) ?_
    refine x_get hx hb hts hown hK hw rfl 2 (by decide) q33 rfl dX1_improveByJob_19 ?_
    refine lv_iload_n hx hb dX1_improveByJob_22 rfl (lv_at hl 1 rfl) ?_
    refine y_bald hx hb hK hw 1 0 j rfl rfl rfl hj (by decide) dX1_improveByJob_23 ?_
    refine lv_aload_n hx hb dX1_improveByJob_24 rfl (lv_at hl 0 rfl) ?_
    refine x_get hx hb hts hown hK hw rfl 5 (by decide) q36 rfl dX1_improveByJob_25 ?_
    refine lv_iload_n hx hb dX1_improveByJob_28 rfl (lv_at hl 1 rfl) ?_
    refine y_iald hx hb hK hw 4 3 j rfl rfl rfl hj (by decide) dX1_improveByJob_29 ?_
    refine lv_ineg hx hb dX1_improveByJob_30 ?_
    refine lv_bipush (v := 8) hx hb dX1_improveByJob_31 (by decide) ?_
    refine lv_iload_n hx hb dX1_improveByJob_33 rfl (lv_at hl 1 rfl) ?_
    refine lv_iadd hx hb dX1_improveByJob_34 ?_
    refine y_selfV (q := (RX1, TX1, 13)) (ci := 0) (As := [.int (nI (je j)), .int (nI (js j)), .int (-(ga j)), .int (8 + (nI j))]) (rest := []) ⟨hx, hb, hml, hown, hts⟩ (mX_improve l D ad cd tc pr us ud kn ch js je jw ga wa re sp (je j) (js j) (-(ga j)) (8 + nI j) (by omega) (by omega) h8.2) (cwV 4 hts (lw_V q126 q128 qs6 q21 q129) rfl rfl rfl (by decide +kernel) ⟨Nat.le_of_ble_eq_true rfl, Nat.le_of_ble_eq_true rfl⟩) hK hw hA rfl rfl rfl hl.1 rfl (Nat.le_of_ble_eq_true rfl) dX1_improveByJob_35 ⟨Nat.zero_le _, Nat.zero_le _⟩ (fun u H locs hq hw => ?_)
    obtain rfl := hq
    have hw : y_W D A s0.heap (xW ad cd tc pr us ud kn ch js je jw ga wa ((pz_imp (re, sp) (je j) (js j) (-(ga j)) (8 + nI j)).1) ((pz_imp (re, sp) (je j) (js j) (-(ga j)) (8 + nI j)).2)) H locs := hw
    refine lv_goto (tgt := 75) hx hb dX1_improveByJob_38 (by decide) ?_
    exact y_vret hx hb hr hlocks hK hw (by show _ = _; rw [pz_ij_2 c8]) dX1_improveByJob_75
set_option maxHeartbeats 4000000 in
/-- findWays() -/
theorem mX_findWays (l : Launch) (D : va_G) (ad : Nat → Nat) (cd : Nat → ClassId) (tc pr us ud kn ch : Int32) (js je jw : Nat → Nat) (ga wa re sp : pz_F)  (hJ : pz_JB js je jw) : y_MV l yX1_findWays cX1_findWays 3 (y_rm 2 45) D (xT cd) [.ref (ad 0)] (xW ad cd tc pr us ud kn ch js je jw ga wa re sp)
    (fun u => u = xW ad cd tc pr us ud kn ch js je jw ga wa ((pz_FW js je ga us ud wa (re, sp)).1) ((pz_FW js je ga us ud wa (re, sp)).2)) := by
  refine y_startV (by decide) (Nat.le_of_ble_eq_true rfl) ?_
  intro p e0 s0 m below meth c A ls hx hb hr hml hown hts hlocks hK hA hw hl
  have hw : y_W D A s0.heap (xW ad cd tc pr us ud kn ch js je jw ga wa re sp) s0.heap [] := hw
  have hl : lv_has ls 3 [(0, .ref (ad 0))] := hl
  refine lv_iconst (v := nI 0) hx hb dX1_findWays_0 (by decide) ?_
  refine lv_istore_n (lv' := [(1, .int (nI 0)), (0, .ref (ad 0))]) hx hb dX1_findWays_1 rfl hl (by decide) rfl (fun ls hl => ?_)
  refine y_for 2 3 17 0 (fun t => xW ad cd tc pr us ud kn ch js je jw ga wa ((pz_fwI (re, sp) t).1) ((pz_fwI (re, sp) t).2)) (fun t => [(0, .ref (ad 0)), (1, .int (nI t))]) (fun t => True) (Nat.le_of_ble_eq_true rfl) trivial hw (lv_sub hl [1, 0] rfl) ?_ ?_
  · intro t ht hI2 H locs ls hw hl ih2
    have hw : y_W D A s0.heap (xW ad cd tc pr us ud kn ch js je jw ga wa ((pz_fwI (re, sp) t).1) ((pz_fwI (re, sp) t).2)) H locs := hw
    have hl : lv_has ls 3 [(0, .ref (ad 0)), (1, .int (nI t))] := hl
    refine lv_iload_n hx hb dX1_findWays_2 rfl (lv_at hl 1 rfl) ?_
    refine lv_bipush (v := 16) hx hb dX1_findWays_3 (by decide) ?_
    refine lv_icmp_gt (tgt := 29) hx hb dX1_findWays_5 (by decide) (fun c9 => absurd c9 (nI_nlt (a := 16) (by omega) (by decide))) (fun _ => ?_)
    refine lv_aload_n hx hb dX1_findWays_8 rfl (lv_at hl 0 rfl) ?_
    refine x_get hx hb hts hown hK hw rfl 9 (by decide) q40 rfl dX1_findWays_9 ?_
    refine lv_iload_n hx hb dX1_findWays_12 rfl (lv_at hl 1 rfl) ?_
    refine lv_ldc (v := pz_FAR) hx hb hown (hts _ q125) dX1_findWays_13 ?_
    refine y_iast (ws' := xW ad cd tc pr us ud kn ch js je jw ga wa (upd ((pz_fwI (re, sp) t).1) t pz_FAR) ((pz_fwI (re, sp) t).2)) hx hb hK hw 6 5 t rfl rfl rfl ht (by decide) rfl dX1_findWays_15 (fun H locs hw => ?_)
    refine lv_aload_n hx hb dX1_findWays_16 rfl (lv_at hl 0 rfl) ?_
    refine x_get hx hb hts hown hK hw rfl 10 (by decide) q41 rfl dX1_findWays_17 ?_
    refine lv_iload_n hx hb dX1_findWays_20 rfl (lv_at hl 1 rfl) ?_
    refine lv_iconst (v := (-1)) hx hb dX1_findWays_21 (by decide) ?_
    refine y_bast (x' := (-1)) (ws' := xW ad cd tc pr us ud kn ch js je jw ga wa (upd ((pz_fwI (re, sp) t).1) t pz_FAR) (upd ((pz_fwI (re, sp) t).2) t (-1))) hx hb hK hw 7 6 t rfl rfl rfl ht (by decide) (by decide) rfl dX1_findWays_22 (fun H locs hw => ?_)
    refine lv_iinc (v := nI (t + 1)) (lv' := [(1, .int (nI (t + 1))), (0, .ref (ad 0))]) hx hb dX1_findWays_23 hl (k := 1) rfl (nI_1 _) (by decide) rfl (fun ls hl => ?_)
    refine lv_goto (tgt := 2) hx hb dX1_findWays_26 (by decide) ?_
    exact ih2 trivial _ _ _ hw (lv_sub hl [1, 0] rfl)
  · intro hI2 H locs ls hw hl
    have hw : y_W D A s0.heap (xW ad cd tc pr us ud kn ch js je jw ga wa ((pz_fwI (re, sp) 17).1) ((pz_fwI (re, sp) 17).2)) H locs := hw
    have hl : lv_has ls 3 [(0, .ref (ad 0)), (1, .int (nI 17))] := hl
    refine lv_iload_n hx hb dX1_findWays_2 rfl (lv_at hl 1 rfl) ?_
    refine lv_bipush (v := 16) hx hb dX1_findWays_3 (by decide) ?_
    refine lv_icmp_gt (tgt := 29) hx hb dX1_findWays_5 (by decide) (fun _ => ?_) (fun c9 => absurd (nI_lt (a := 16) (b := 17) (by decide) (by decide)) c9)
    refine lv_aload_n hx hb dX1_findWays_29 rfl (lv_at hl 0 rfl) ?_
    refine x_get hx hb hts hown hK hw rfl 9 (by decide) q40 rfl dX1_findWays_30 ?_
    refine lv_iconst (v := 0) hx hb dX1_findWays_33 (by decide) ?_
    refine lv_iconst (v := 0) hx hb dX1_findWays_34 (by decide) ?_
    refine y_iast (ws' := xW ad cd tc pr us ud kn ch js je jw ga wa (upd ((pz_fwI (re, sp) 17).1) 0 0) ((pz_fwI (re, sp) 17).2)) hx hb hK hw 6 5 0 rfl rfl rfl (by decide) (by decide) rfl dX1_findWays_35 (fun H locs hw => ?_)
    refine lv_iconst (v := nI 0) hx hb dX1_findWays_36 (by decide) ?_
    refine lv_istore_n (lv' := [(1, .int (nI 0)), (0, .ref (ad 0))]) hx hb dX1_findWays_37 rfl hl (by decide) rfl (fun ls hl => ?_)
    refine y_for 38 3 17 0 (fun r => xW ad cd tc pr us ud kn ch js je jw ga wa ((pz_fwR js je ga us ud wa (pz_fw0 (re, sp)) r).1) ((pz_fwR js je ga us ud wa (pz_fw0 (re, sp)) r).2)) (fun r => [(0, .ref (ad 0)), (1, .int (nI r))]) (fun r => True) (Nat.le_of_ble_eq_true rfl) trivial hw (lv_sub hl [1, 0] rfl) ?_ ?_
    · intro r hr hI38 H locs ls hw hl ih38
      have hw : y_W D A s0.heap (xW ad cd tc pr us ud kn ch js je jw ga wa ((pz_fwR js je ga us ud wa (pz_fw0 (re, sp)) r).1) ((pz_fwR js je ga us ud wa (pz_fw0 (re, sp)) r).2)) H locs := hw
      have hl : lv_has ls 3 [(0, .ref (ad 0)), (1, .int (nI r))] := hl
      refine lv_iload_n hx hb dX1_findWays_38 rfl (lv_at hl 1 rfl) ?_
      refine lv_bipush (v := 16) hx hb dX1_findWays_39 (by decide) ?_
      refine lv_icmp_gt (tgt := 114) hx hb dX1_findWays_41 (by decide) (fun c9 => absurd c9 (nI_nlt (a := 16) (by omega) (by decide))) (fun _ => ?_)
      refine lv_iconst (v := nI 0) hx hb dX1_findWays_44 (by decide) ?_
      refine lv_istore_n (lv' := [(2, .int (nI 0)), (0, .ref (ad 0)), (1, .int (nI r))]) hx hb dX1_findWays_45 rfl hl (by decide) rfl (fun ls hl => ?_)
      refine y_for 46 3 16 0 (fun t => xW ad cd tc pr us ud kn ch js je jw ga wa ((pz_fwW wa (pz_fwR js je ga us ud wa (pz_fw0 (re, sp)) r) t).1) ((pz_fwW wa (pz_fwR js je ga us ud wa (pz_fw0 (re, sp)) r) t).2)) (fun t => [(0, .ref (ad 0)), (1, .int (nI r)), (2, .int (nI t))]) (fun t => True) (Nat.le_of_ble_eq_true rfl) trivial hw (lv_sub hl [1, 2, 0] rfl) ?_ ?_
      · intro t ht hI46 H locs ls hw hl ih46
        have hw : y_W D A s0.heap (xW ad cd tc pr us ud kn ch js je jw ga wa ((pz_fwW wa (pz_fwR js je ga us ud wa (pz_fw0 (re, sp)) r) t).1) ((pz_fwW wa (pz_fwR js je ga us ud wa (pz_fw0 (re, sp)) r) t).2)) H locs := hw
        have hl : lv_has ls 3 [(0, .ref (ad 0)), (1, .int (nI r)), (2, .int (nI t))] := hl
        refine lv_iload_n hx hb dX1_findWays_46 rfl (lv_at hl 2 rfl) ?_
        refine lv_bipush (v := 16) hx hb dX1_findWays_47 (by decide) ?_
        refine lv_icmp_ge (tgt := 89) hx hb dX1_findWays_49 (by decide) (fun c9 => absurd c9 (y_ge ht)) (fun _ => ?_)
        refine lv_aload_n hx hb dX1_findWays_52 rfl (lv_at hl 0 rfl) ?_
        refine lv_iload_n hx hb dX1_findWays_53 rfl (lv_at hl 2 rfl) ?_
        refine lv_iload_n hx hb dX1_findWays_54 rfl (lv_at hl 2 rfl) ?_
        refine lv_iconst (v := 1) hx hb dX1_findWays_55 (by decide) ?_
        refine lv_iadd hx hb dX1_findWays_56 ?_
        refine y_top (x' := nI (t + 1)) (nI_1 t) ?_
        refine lv_iconst (v := 0) hx hb dX1_findWays_57 (by decide) ?_
        refine lv_bipush (v := 16) hx hb dX1_findWays_58 (by decide) ?_
        refine y_selfV (q := (RX1, TX1, 13)) (ci := 0) (As := [.int (nI t), .int (nI (t + 1)), .int 0, .int 16]) (rest := []) ⟨hx, hb, hml, hown, hts⟩ (mX_improve l D ad cd tc pr us ud kn ch js je jw ga wa ((pz_fwW wa (pz_fwR js je ga us ud wa (pz_fw0 (re, sp)) r) t).1) ((pz_fwW wa (pz_fwR js je ga us ud wa (pz_fw0 (re, sp)) r) t).2) t (t + 1) 0 16 (by omega) (by omega) (by decide)) (cwV 4 hts (lw_V q126 q128 qs6 q21 q129) rfl rfl rfl (by decide +kernel) ⟨Nat.le_of_ble_eq_true rfl, Nat.le_of_ble_eq_true rfl⟩) hK hw hA rfl rfl rfl hl.1 rfl (Nat.le_of_ble_eq_true rfl) dX1_findWays_60 ⟨Nat.zero_le _, Nat.zero_le _⟩ (fun u H locs hq hw => ?_)
        obtain rfl := hq
        have hw : y_W D A s0.heap (xW ad cd tc pr us ud kn ch js je jw ga wa ((pz_imp (pz_fwW wa (pz_fwR js je ga us ud wa (pz_fw0 (re, sp)) r) t) t (t + 1) 0 16).1) ((pz_imp (pz_fwW wa (pz_fwR js je ga us ud wa (pz_fw0 (re, sp)) r) t) t (t + 1) 0 16).2)) H locs := hw
        refine lv_aload_n hx hb dX1_findWays_63 rfl (lv_at hl 0 rfl) ?_
        refine x_get hx hb hts hown hK hw rfl 8 (by decide) q39 rfl dX1_findWays_64 ?_
        refine lv_iload_n hx hb dX1_findWays_67 rfl (lv_at hl 2 rfl) ?_
        refine y_bald hx hb hK hw 5 4 t rfl rfl rfl ht (by decide) dX1_findWays_68 ?_
        refine lv_if_le (tgt := 83) hx hb dX1_findWays_69 (by decide) (fun c69 => ?_) (fun c69 => ?_)
        · skip
          refine lv_iinc (v := nI (t + 1)) (lv' := [(2, .int (nI (t + 1))), (0, .ref (ad 0)), (1, .int (nI r))]) hx hb dX1_findWays_83 hl (k := 2) rfl (nI_1 _) (by decide) rfl (fun ls hl => ?_)
          refine lv_goto (tgt := 46) hx hb dX1_findWays_86 (by decide) ?_
          rw [pz_iw_0 c69] at hw
          exact ih46 trivial _ _ _ hw (lv_sub hl [1, 2, 0] rfl)
        · skip
          refine lv_aload_n hx hb dX1_findWays_72 rfl (lv_at hl 0 rfl) ?_
          refine lv_iload_n hx hb dX1_findWays_73 rfl (lv_at hl 2 rfl) ?_
          refine lv_iconst (v := 1) hx hb dX1_findWays_74 (by decide) ?_
          refine lv_iadd hx hb dX1_findWays_75 ?_
          refine y_top (x' := nI (t + 1)) (nI_1 t) ?_
          refine lv_iload_n hx hb dX1_findWays_76 rfl (lv_at hl 2 rfl) ?_
          refine lv_iconst (v := 0) hx hb dX1_findWays_77 (by decide) ?_
          refine lv_bipush (v := 17) hx hb dX1_findWays_78 (by decide) ?_
          refine y_selfV (q := (RX1, TX1, 13)) (ci := 0) (As := [.int (nI (t + 1)), .int (nI t), .int 0, .int 17]) (rest := []) ⟨hx, hb, hml, hown, hts⟩ (mX_improve l D ad cd tc pr us ud kn ch js je jw ga wa ((pz_imp (pz_fwW wa (pz_fwR js je ga us ud wa (pz_fw0 (re, sp)) r) t) t (t + 1) 0 16).1) ((pz_imp (pz_fwW wa (pz_fwR js je ga us ud wa (pz_fw0 (re, sp)) r) t) t (t + 1) 0 16).2) (t + 1) t 0 17 (by omega) (by omega) (by decide)) (cwV 4 hts (lw_V q126 q128 qs6 q21 q129) rfl rfl rfl (by decide +kernel) ⟨Nat.le_of_ble_eq_true rfl, Nat.le_of_ble_eq_true rfl⟩) hK hw hA rfl rfl rfl hl.1 rfl (Nat.le_of_ble_eq_true rfl) dX1_findWays_80 ⟨Nat.zero_le _, Nat.zero_le _⟩ (fun u H locs hq hw => ?_)
          obtain rfl := hq
          have hw : y_W D A s0.heap (xW ad cd tc pr us ud kn ch js je jw ga wa ((pz_imp (pz_imp (pz_fwW wa (pz_fwR js je ga us ud wa (pz_fw0 (re, sp)) r) t) t (t + 1) 0 16) (t + 1) t 0 17).1) ((pz_imp (pz_imp (pz_fwW wa (pz_fwR js je ga us ud wa (pz_fw0 (re, sp)) r) t) t (t + 1) 0 16) (t + 1) t 0 17).2)) H locs := hw
          refine lv_iinc (v := nI (t + 1)) (lv' := [(2, .int (nI (t + 1))), (0, .ref (ad 0)), (1, .int (nI r))]) hx hb dX1_findWays_83 hl (k := 2) rfl (nI_1 _) (by decide) rfl (fun ls hl => ?_)
          refine lv_goto (tgt := 46) hx hb dX1_findWays_86 (by decide) ?_
          rw [pz_iw_1 c69] at hw
          exact ih46 trivial _ _ _ hw (lv_sub hl [1, 2, 0] rfl)
      · intro hI46 H locs ls hw hl
        have hw : y_W D A s0.heap (xW ad cd tc pr us ud kn ch js je jw ga wa ((pz_fwW wa (pz_fwR js je ga us ud wa (pz_fw0 (re, sp)) r) 16).1) ((pz_fwW wa (pz_fwR js je ga us ud wa (pz_fw0 (re, sp)) r) 16).2)) H locs := hw
        have hl : lv_has ls 3 [(0, .ref (ad 0)), (1, .int (nI r)), (2, .int (nI 16))] := hl
        refine lv_iload_n hx hb dX1_findWays_46 rfl (lv_at hl 2 rfl) ?_
        refine lv_bipush (v := 16) hx hb dX1_findWays_47 (by decide) ?_
        refine lv_icmp_ge (tgt := 89) hx hb dX1_findWays_49 (by decide) (fun _ => ?_) (fun c9 => absurd (y_le (a := 16)) c9)
        refine lv_iconst (v := nI 0) hx hb dX1_findWays_89 (by decide) ?_
        refine lv_istore_n (lv' := [(2, .int (nI 0)), (0, .ref (ad 0)), (1, .int (nI r))]) hx hb dX1_findWays_90 rfl hl (by decide) rfl (fun ls hl => ?_)
        refine y_for 91 3 8 0 (fun j => xW ad cd tc pr us ud kn ch js je jw ga wa ((pz_fwJ js je ga us ud (pz_fwW wa (pz_fwR js je ga us ud wa (pz_fw0 (re, sp)) r) 16) j).1) ((pz_fwJ js je ga us ud (pz_fwW wa (pz_fwR js je ga us ud wa (pz_fw0 (re, sp)) r) 16) j).2)) (fun j => [(0, .ref (ad 0)), (1, .int (nI r)), (2, .int (nI j))]) (fun j => True) (Nat.le_of_ble_eq_true rfl) trivial hw (lv_sub hl [1, 2, 0] rfl) ?_ ?_
        · intro j hj hI91 H locs ls hw hl ih91
          have hw : y_W D A s0.heap (xW ad cd tc pr us ud kn ch js je jw ga wa ((pz_fwJ js je ga us ud (pz_fwW wa (pz_fwR js je ga us ud wa (pz_fw0 (re, sp)) r) 16) j).1) ((pz_fwJ js je ga us ud (pz_fwW wa (pz_fwR js je ga us ud wa (pz_fw0 (re, sp)) r) 16) j).2)) H locs := hw
          have hl : lv_has ls 3 [(0, .ref (ad 0)), (1, .int (nI r)), (2, .int (nI j))] := hl
          refine lv_iload_n hx hb dX1_findWays_91 rfl (lv_at hl 2 rfl) ?_
          refine lv_bipush (v := 8) hx hb dX1_findWays_92 (by decide) ?_
          refine lv_icmp_ge (tgt := 108) hx hb dX1_findWays_94 (by decide) (fun c9 => absurd c9 (y_ge hj)) (fun _ => ?_)
          refine lv_aload_n hx hb dX1_findWays_97 rfl (lv_at hl 0 rfl) ?_
          refine lv_iload_n hx hb dX1_findWays_98 rfl (lv_at hl 2 rfl) ?_
          refine y_selfV (q := (RX1, TX1, 13)) (ci := 0) (As := [.int (nI j)]) (rest := []) ⟨hx, hb, hml, hown, hts⟩ (mX_improveByJob l D ad cd tc pr us ud kn ch js je jw ga wa ((pz_fwJ js je ga us ud (pz_fwW wa (pz_fwR js je ga us ud wa (pz_fw0 (re, sp)) r) 16) j).1) ((pz_fwJ js je ga us ud (pz_fwW wa (pz_fwR js je ga us ud wa (pz_fw0 (re, sp)) r) 16) j).2) j hj hJ) (cwV 1 hts (lw_V q130 q132 qs7 q21 q133) rfl rfl rfl (by decide +kernel) ⟨Nat.le_of_ble_eq_true rfl, Nat.le_of_ble_eq_true rfl⟩) hK hw hA rfl rfl rfl hl.1 rfl (Nat.le_of_ble_eq_true rfl) dX1_findWays_99 ⟨Nat.zero_le _, Nat.zero_le _⟩ (fun u H locs hq hw => ?_)
          obtain rfl := hq
          have hw : y_W D A s0.heap (xW ad cd tc pr us ud kn ch js je jw ga wa ((pz_ij js je ga us ud (pz_fwJ js je ga us ud (pz_fwW wa (pz_fwR js je ga us ud wa (pz_fw0 (re, sp)) r) 16) j) j).1) ((pz_ij js je ga us ud (pz_fwJ js je ga us ud (pz_fwW wa (pz_fwR js je ga us ud wa (pz_fw0 (re, sp)) r) 16) j) j).2)) H locs := hw
          refine lv_iinc (v := nI (j + 1)) (lv' := [(2, .int (nI (j + 1))), (0, .ref (ad 0)), (1, .int (nI r))]) hx hb dX1_findWays_102 hl (k := 2) rfl (nI_1 _) (by decide) rfl (fun ls hl => ?_)
          refine lv_goto (tgt := 91) hx hb dX1_findWays_105 (by decide) ?_
          exact ih91 trivial _ _ _ hw (lv_sub hl [1, 2, 0] rfl)
        · intro hI91 H locs ls hw hl
          have hw : y_W D A s0.heap (xW ad cd tc pr us ud kn ch js je jw ga wa ((pz_fwJ js je ga us ud (pz_fwW wa (pz_fwR js je ga us ud wa (pz_fw0 (re, sp)) r) 16) 8).1) ((pz_fwJ js je ga us ud (pz_fwW wa (pz_fwR js je ga us ud wa (pz_fw0 (re, sp)) r) 16) 8).2)) H locs := hw
          have hl : lv_has ls 3 [(0, .ref (ad 0)), (1, .int (nI r)), (2, .int (nI 8))] := hl
          refine lv_iload_n hx hb dX1_findWays_91 rfl (lv_at hl 2 rfl) ?_
          refine lv_bipush (v := 8) hx hb dX1_findWays_92 (by decide) ?_
          refine lv_icmp_ge (tgt := 108) hx hb dX1_findWays_94 (by decide) (fun _ => ?_) (fun c9 => absurd (y_le (a := 8)) c9)
          refine lv_iinc (v := nI (r + 1)) (lv' := [(1, .int (nI (r + 1))), (0, .ref (ad 0)), (2, .int (nI 8))]) hx hb dX1_findWays_108 hl (k := 1) rfl (nI_1 _) (by decide) rfl (fun ls hl => ?_)
          refine lv_goto (tgt := 38) hx hb dX1_findWays_111 (by decide) ?_
          exact ih38 trivial _ _ _ hw (lv_sub hl [1, 0] rfl)
    · intro hI38 H locs ls hw hl
      have hw : y_W D A s0.heap (xW ad cd tc pr us ud kn ch js je jw ga wa ((pz_fwR js je ga us ud wa (pz_fw0 (re, sp)) 17).1) ((pz_fwR js je ga us ud wa (pz_fw0 (re, sp)) 17).2)) H locs := hw
      have hl : lv_has ls 3 [(0, .ref (ad 0)), (1, .int (nI 17))] := hl
      refine lv_iload_n hx hb dX1_findWays_38 rfl (lv_at hl 1 rfl) ?_
      refine lv_bipush (v := 16) hx hb dX1_findWays_39 (by decide) ?_
      refine lv_icmp_gt (tgt := 114) hx hb dX1_findWays_41 (by decide) (fun _ => ?_) (fun c9 => absurd (nI_lt (a := 16) (b := 17) (by decide) (by decide)) c9)
      exact y_vret hx hb hr hlocks hK hw rfl dX1_findWays_114
set_option maxHeartbeats 4000000 in
/-- follow() -/
theorem mX_follow (l : Launch) (D : va_G) (ad : Nat → Nat) (cd : Nat → ClassId) (tc pr us ud kn ch : Int32) (js je jw : Nat → Nat) (ga wa re sp : pz_F)  (hJ : pz_JB js je jw) (hSt : pz_StOk sp) : y_MV l yX1_follow cX1_follow 4 (y_rm 0 0) D (xT cd) [.ref (ad 0)] (xW ad cd tc pr us ud kn ch js je jw ga wa re sp)
    (fun u => u = xW ad cd tc pr us ((pz_fo js je sp (16, ud, wa) 64).2.1) kn ch js je jw ga ((pz_fo js je sp (16, ud, wa) 64).2.2) re sp) := by
  refine y_startV (by decide) (Nat.le_of_ble_eq_true rfl) ?_
  intro p e0 s0 m below meth c A ls hx hb hr hml hown hts hlocks hK hA hw hl
  have hw : y_W D A s0.heap (xW ad cd tc pr us ud kn ch js je jw ga wa re sp) s0.heap [] := hw
  have hl : lv_has ls 4 [(0, .ref (ad 0))] := hl
  refine lv_bipush (v := nI 16) hx hb dX1_follow_0 (by decide) ?_
  refine lv_istore_n (lv' := [(1, .int (nI 16)), (0, .ref (ad 0))]) hx hb dX1_follow_2 rfl hl (by decide) rfl (fun ls hl => ?_)
  refine lv_iconst (v := nI 0) hx hb dX1_follow_3 (by decide) ?_
  refine lv_istore_n (lv' := [(2, .int (nI 0)), (1, .int (nI 16)), (0, .ref (ad 0))]) hx hb dX1_follow_4 rfl hl (by decide) rfl (fun ls hl => ?_)
  refine y_for 5 4 64 0 (fun k => xW ad cd tc pr us ((pz_fo js je sp (16, ud, wa) k).2.1) kn ch js je jw ga ((pz_fo js je sp (16, ud, wa) k).2.2) re sp) (fun k => [(0, .ref (ad 0)), (1, .int (nI (pz_fo js je sp (16, ud, wa) k).1)), (2, .int (nI k))]) (fun k => (pz_fo js je sp (16, ud, wa) k).1 ≤ 16) (Nat.le_of_ble_eq_true rfl) (Nat.le_refl 16) hw (lv_sub hl [2, 1, 0] rfl) ?_ ?_
  · intro k hk hI5 H locs ls hw hl ih5
    have hw : y_W D A s0.heap (xW ad cd tc pr us ((pz_fo js je sp (16, ud, wa) k).2.1) kn ch js je jw ga ((pz_fo js je sp (16, ud, wa) k).2.2) re sp) H locs := hw
    have hl : lv_has ls 4 [(0, .ref (ad 0)), (1, .int (nI (pz_fo js je sp (16, ud, wa) k).1)), (2, .int (nI k))] := hl
    obtain ⟨tk, udk, wak, hY⟩ : ∃ (t : Nat) (u : Int32) (w : pz_F), pz_fo js je sp (16, ud, wa) k = (t, u, w) := ⟨_, _, _, rfl⟩
    rw [hY] at hI5
    rw [hY] at hw hl
    have ht16 : tk ≤ 16 := hI5
    have hw : y_W D A s0.heap (xW ad cd tc pr us udk kn ch js je jw ga wak re sp) H locs := hw
    have hl : lv_has ls 4 [(0, .ref (ad 0)), (1, .int (nI tk)), (2, .int (nI k))] := hl
    refine lv_iload_n hx hb dX1_follow_5 rfl (lv_at hl 2 rfl) ?_
    refine lv_bipush (v := 64) hx hb dX1_follow_6 (by decide) ?_
    refine lv_icmp_ge (tgt := 139) hx hb dX1_follow_8 (by decide) (fun c9 => absurd c9 (y_ge hk)) (fun _ => ?_)
    refine lv_iload_n hx hb dX1_follow_11 rfl (lv_at hl 1 rfl) ?_
    refine lv_if_le (tgt := 139) hx hb dX1_follow_12 (by decide) (fun c12 => ?_) (fun c12 => ?_)
    · skip
      have ht0 : tk = 0 := (pz_le0 (by omega)).mp c12
      exact y_vret hx hb hr hlocks hK hw (by show _ = _; rw [pz_fo_fin hk (Or.inl (by rw [hY]; exact ht0)), hY]) dX1_follow_139
    · skip
      have ht0 : tk ≠ 0 := fun q => c12 ((pz_le0 (by omega)).mpr q)
      have hstt := hSt tk (by omega)
      refine lv_aload_n hx hb dX1_follow_15 rfl (lv_at hl 0 rfl) ?_
      refine x_get hx hb hts hown hK hw rfl 10 (by decide) q41 rfl dX1_follow_16 ?_
      refine lv_iload_n hx hb dX1_follow_19 rfl (lv_at hl 1 rfl) ?_
      refine y_bald hx hb hK hw 7 6 tk rfl rfl rfl (by omega) (by decide) dX1_follow_20 ?_
      refine lv_istore_n (lv' := [(3, .int (sp tk)), (0, .ref (ad 0)), (1, .int (nI tk)), (2, .int (nI k))]) hx hb dX1_follow_21 rfl hl (by decide) rfl (fun ls hl => ?_)
      refine lv_iload_n hx hb dX1_follow_22 rfl (lv_at hl 0 rfl) ?_
      refine lv_bipush (v := 16) hx hb dX1_follow_23 (by decide) ?_
      refine lv_icmp_ne (tgt := 47) hx hb dX1_follow_25 (by decide) (fun c25 => ?_) (fun c25 => ?_)
      · skip
        refine lv_iload_n hx hb dX1_follow_47 rfl (lv_at hl 0 rfl) ?_
        refine lv_bipush (v := 17) hx hb dX1_follow_48 (by decide) ?_
        refine lv_icmp_ne (tgt := 70) hx hb dX1_follow_50 (by decide) (fun c50 => ?_) (fun c50 => ?_)
        · skip
          refine lv_iload_n hx hb dX1_follow_70 rfl (lv_at hl 0 rfl) ?_
          refine lv_bipush (v := 8) hx hb dX1_follow_71 (by decide) ?_
          refine lv_icmp_lt (tgt := 106) hx hb dX1_follow_73 (by decide) (fun c73 => ?_) (fun c73 => ?_)
          · skip
            refine lv_iload_n hx hb dX1_follow_106 rfl (lv_at hl 0 rfl) ?_
            refine lv_if_lt (tgt := 132) hx hb dX1_follow_107 (by decide) (fun c107 => ?_) (fun c107 => ?_)
            · skip
              exact y_vret hx hb hr hlocks hK hw (by show _ = _; rw [pz_fo_fin hk (Or.inr (by rw [hY]; exact pz_fo1_n c25 c50 c73 c107)), hY]) dX1_follow_132
            · skip
              obtain ⟨q, hq8, eq8⟩ := pz_sp0 c73 c107
              refine lv_aload_n hx hb dX1_follow_110 rfl (lv_at hl 1 rfl) ?_
              refine lv_dup hx hb dX1_follow_111 rfl ?_
              refine x_get hx hb hts hown hK hw rfl 7 (by decide) q38 rfl dX1_follow_112 ?_
              refine lv_iconst (v := 1) hx hb dX1_follow_115 (by decide) ?_
              refine lv_iload_n hx hb dX1_follow_116 rfl (lv_at hl 0 rfl) ?_
              refine lv_ishl hx hb dX1_follow_117 ?_
              refine lv_ior hx hb dX1_follow_118 ?_
              refine x_put (ty := .int) (v := .int (udk ||| (1 <<< ((sp tk) &&& 31)))) (ws' := xW ad cd tc pr us (udk ||| (1 <<< ((sp tk) &&& 31))) kn ch js je jw ga wak re sp) hx hb hts hown hK hw rfl 7 (by decide) q38 rfl (by decide +kernel) rfl rfl (Nat.le_of_ble_eq_true rfl) rfl dX1_follow_119 (fun H locs hw => ?_)
              refine lv_aload_n hx hb dX1_follow_122 rfl (lv_at hl 1 rfl) ?_
              refine x_get hx hb hts hown hK hw rfl 2 (by decide) q33 rfl dX1_follow_123 ?_
              refine lv_iload_n hx hb dX1_follow_126 rfl (lv_at hl 0 rfl) ?_
              refine y_bald hx hb hK hw 1 0 q rfl rfl eq8 hq8 (by decide) dX1_follow_127 ?_
              refine lv_istore_n (lv' := [(1, .int (nI (js q))), (3, .int (sp tk)), (0, .ref (ad 0)), (2, .int (nI k))]) hx hb dX1_follow_128 rfl hl (by decide) rfl (fun ls hl => ?_)
              refine lv_goto (tgt := 133) hx hb dX1_follow_129 (by decide) ?_
              refine lv_iinc (v := nI (k + 1)) (lv' := [(2, .int (nI (k + 1))), (1, .int (nI (js q))), (3, .int (sp tk)), (0, .ref (ad 0))]) hx hb dX1_follow_133 hl (k := 3) rfl (nI_1 _) (by decide) rfl (fun ls hl => ?_)
              refine lv_goto (tgt := 5) hx hb dX1_follow_136 (by decide) ?_
              have e1 := (pz_fo_next hY ht0).trans (pz_fo1_0 c25 c50 c73 c107 hq8 eq8)
              simp only [e1] at ih5
              exact ih5 (by first | omega | (have := hJ q hq8; omega)) _ _ _ hw (lv_sub hl [3, 1, 0] rfl)
          · skip
            obtain ⟨q, hq8, eq8⟩ := pz_sp8 hstt.1 c25 c50 c73
            refine lv_aload_n hx hb dX1_follow_76 rfl (lv_at hl 1 rfl) ?_
            refine lv_dup hx hb dX1_follow_77 rfl ?_
            refine x_get hx hb hts hown hK hw rfl 7 (by decide) q38 rfl dX1_follow_78 ?_
            refine lv_iconst (v := 1) hx hb dX1_follow_81 (by decide) ?_
            refine lv_iload_n hx hb dX1_follow_82 rfl (lv_at hl 0 rfl) ?_
            refine lv_bipush (v := 8) hx hb dX1_follow_83 (by decide) ?_
            refine lv_isub hx hb dX1_follow_85 ?_
            refine lv_ishl hx hb dX1_follow_86 ?_
            refine lv_iconst (v := (-1)) hx hb dX1_follow_87 (by decide) ?_
            refine lv_ixor hx hb dX1_follow_88 ?_
            refine lv_iand hx hb dX1_follow_89 ?_
            refine x_put (ty := .int) (v := .int (udk &&& ((1 <<< (((sp tk) - 8) &&& 31)) ^^^ (-1)))) (ws' := xW ad cd tc pr us (udk &&& ((1 <<< (((sp tk) - 8) &&& 31)) ^^^ (-1))) kn ch js je jw ga wak re sp) hx hb hts hown hK hw rfl 7 (by decide) q38 rfl (by decide +kernel) rfl rfl (Nat.le_of_ble_eq_true rfl) rfl dX1_follow_90 (fun H locs hw => ?_)
            refine lv_aload_n hx hb dX1_follow_93 rfl (lv_at hl 1 rfl) ?_
            refine x_get hx hb hts hown hK hw rfl 3 (by decide) q34 rfl dX1_follow_94 ?_
            refine lv_iload_n hx hb dX1_follow_97 rfl (lv_at hl 0 rfl) ?_
            refine lv_bipush (v := 8) hx hb dX1_follow_98 (by decide) ?_
            refine lv_isub hx hb dX1_follow_100 ?_
            refine y_bald hx hb hK hw 2 1 q rfl rfl eq8 hq8 (by decide) dX1_follow_101 ?_
            refine lv_istore_n (lv' := [(1, .int (nI (je q))), (3, .int (sp tk)), (0, .ref (ad 0)), (2, .int (nI k))]) hx hb dX1_follow_102 rfl hl (by decide) rfl (fun ls hl => ?_)
            refine lv_goto (tgt := 133) hx hb dX1_follow_103 (by decide) ?_
            refine lv_iinc (v := nI (k + 1)) (lv' := [(2, .int (nI (k + 1))), (1, .int (nI (je q))), (3, .int (sp tk)), (0, .ref (ad 0))]) hx hb dX1_follow_133 hl (k := 3) rfl (nI_1 _) (by decide) rfl (fun ls hl => ?_)
            refine lv_goto (tgt := 5) hx hb dX1_follow_136 (by decide) ?_
            have e1 := (pz_fo_next hY ht0).trans (pz_fo1_8 c25 c50 c73 hq8 eq8)
            simp only [e1] at ih5
            exact ih5 (by first | omega | (have := hJ q hq8; omega)) _ _ _ hw (lv_sub hl [3, 1, 0] rfl)
        · skip
          have ht15 : tk < 16 := Nat.lt_of_le_of_ne ht16 (fun q => hstt.2 q c50)
          refine lv_aload_n hx hb dX1_follow_53 rfl (lv_at hl 1 rfl) ?_
          refine x_get hx hb hts hown hK hw rfl 8 (by decide) q39 rfl dX1_follow_54 ?_
          refine lv_iload_n hx hb dX1_follow_57 rfl (lv_at hl 2 rfl) ?_
          refine lv_dup2_11 hx hb dX1_follow_58 rfl rfl ?_
          refine y_bald hx hb hK hw 5 4 tk rfl rfl rfl ht15 (by decide) dX1_follow_59 ?_
          refine lv_iconst (v := 1) hx hb dX1_follow_60 (by decide) ?_
          refine lv_isub hx hb dX1_follow_61 ?_
          refine lv_i2b (v := ((wak tk) - 1).toInt8.toInt32) hx hb dX1_follow_62 rfl ?_
          refine y_bast (x' := (wak tk - 1).toInt8.toInt32) (ws' := xW ad cd tc pr us udk kn ch js je jw ga (upd wak tk ((wak tk - 1).toInt8.toInt32)) re sp) hx hb hK hw 5 4 tk rfl rfl rfl ht15 (by decide) (pk_vb _) rfl dX1_follow_63 (fun H locs hw => ?_)
          refine lv_iinc (v := nI (tk + 1)) (lv' := [(1, .int (nI (tk + 1))), (3, .int (sp tk)), (0, .ref (ad 0)), (2, .int (nI k))]) hx hb dX1_follow_64 hl (k := 2) rfl (nI_1 _) (by decide) rfl (fun ls hl => ?_)
          refine lv_goto (tgt := 133) hx hb dX1_follow_67 (by decide) ?_
          refine lv_iinc (v := nI (k + 1)) (lv' := [(2, .int (nI (k + 1))), (1, .int (nI (tk + 1))), (3, .int (sp tk)), (0, .ref (ad 0))]) hx hb dX1_follow_133 hl (k := 3) rfl (nI_1 _) (by decide) rfl (fun ls hl => ?_)
          refine lv_goto (tgt := 5) hx hb dX1_follow_136 (by decide) ?_
          have e1 := (pz_fo_next hY ht0).trans (pz_fo1_17 c25 c50)
          simp only [e1] at ih5
          exact ih5 (by first | omega | (have := hJ q hq8; omega)) _ _ _ hw (lv_sub hl [3, 1, 0] rfl)
      · skip
        refine lv_aload_n hx hb dX1_follow_28 rfl (lv_at hl 1 rfl) ?_
        refine x_get hx hb hts hown hK hw rfl 8 (by decide) q39 rfl dX1_follow_29 ?_
        refine lv_iload_n hx hb dX1_follow_32 rfl (lv_at hl 2 rfl) ?_
        refine lv_iconst (v := 1) hx hb dX1_follow_33 (by decide) ?_
        refine lv_isub hx hb dX1_follow_34 ?_
        refine y_top (x' := nI (tk - 1)) (pz_m1 ht0) ?_
        refine lv_dup2_11 hx hb dX1_follow_35 rfl rfl ?_
        refine y_bald hx hb hK hw 5 4 (tk - 1) rfl rfl rfl (by omega) (by decide) dX1_follow_36 ?_
        refine lv_iconst (v := 1) hx hb dX1_follow_37 (by decide) ?_
        refine lv_iadd hx hb dX1_follow_38 ?_
        refine lv_i2b (v := ((wak (tk - 1)) + 1).toInt8.toInt32) hx hb dX1_follow_39 rfl ?_
        refine y_bast (x' := (wak (tk - 1) + 1).toInt8.toInt32) (ws' := xW ad cd tc pr us udk kn ch js je jw ga (upd wak (tk - 1) ((wak (tk - 1) + 1).toInt8.toInt32)) re sp) hx hb hK hw 5 4 (tk - 1) rfl rfl rfl (by omega) (by decide) (pk_vb _) rfl dX1_follow_40 (fun H locs hw => ?_)
        refine lv_iinc (v := nI (tk - 1)) (lv' := [(1, .int (nI (tk - 1))), (3, .int (sp tk)), (0, .ref (ad 0)), (2, .int (nI k))]) hx hb dX1_follow_41 hl (k := 2) rfl (pz_m1' ht0) (by decide) rfl (fun ls hl => ?_)
        refine lv_goto (tgt := 133) hx hb dX1_follow_44 (by decide) ?_
        refine lv_iinc (v := nI (k + 1)) (lv' := [(2, .int (nI (k + 1))), (1, .int (nI (tk - 1))), (3, .int (sp tk)), (0, .ref (ad 0))]) hx hb dX1_follow_133 hl (k := 3) rfl (nI_1 _) (by decide) rfl (fun ls hl => ?_)
        refine lv_goto (tgt := 5) hx hb dX1_follow_136 (by decide) ?_
        have e1 := (pz_fo_next hY ht0).trans (pz_fo1_16 c25)
        simp only [e1] at ih5
        exact ih5 (by first | omega | (have := hJ q hq8; omega)) _ _ _ hw (lv_sub hl [3, 1, 0] rfl)
  · intro hI5 H locs ls hw hl
    have hw : y_W D A s0.heap (xW ad cd tc pr us ((pz_fo js je sp (16, ud, wa) 64).2.1) kn ch js je jw ga ((pz_fo js je sp (16, ud, wa) 64).2.2) re sp) H locs := hw
    have hl : lv_has ls 4 [(0, .ref (ad 0)), (1, .int (nI (pz_fo js je sp (16, ud, wa) 64).1)), (2, .int (nI 64))] := hl
    refine lv_iload_n hx hb dX1_follow_5 rfl (lv_at hl 2 rfl) ?_
    refine lv_bipush (v := 64) hx hb dX1_follow_6 (by decide) ?_
    refine lv_icmp_ge (tgt := 139) hx hb dX1_follow_8 (by decide) (fun _ => ?_) (fun c9 => absurd (y_le (a := 64)) c9)
    exact y_vret hx hb hr hlocks hK hw rfl dX1_follow_139
end
section
/-! PURE 6: what is asked of sets: masks, marks, the best set, best sets with prescribed jobs -/
theorem nx_and (a b : Nat) : nI a &&& nI b = nI (a &&& b) := by
  apply Int32.toBitVec_inj.1
  show BitVec.ofNat 32 a &&& BitVec.ofNat 32 b = BitVec.ofNat 32 (a &&& b)
  apply BitVec.eq_of_getLsbD_eq
  intro i hi
  simp [hi]
theorem nx_xor (a b : Nat) : nI a ^^^ nI b = nI (a ^^^ b) := by
  apply Int32.toBitVec_inj.1
  show BitVec.ofNat 32 a ^^^ BitVec.ofNat 32 b = BitVec.ofNat 32 (a ^^^ b)
  apply BitVec.eq_of_getLsbD_eq
  intro i hi
  simp [hi]
theorem wb_of32 (x : Int32) : ∃ n, n < 2 ^ 32 ∧ x = nI n := ⟨x.toBitVec.toNat, x.toBitVec.isLt, Int32.toBitVec_inj.mp (by show _ = BitVec.ofNat 32 _; simp)⟩
/-- the complement within an int -/
def pz_cm (a : Nat) : Nat := a ^^^ (2 ^ 32 - 1)
theorem pz_cm_eq (a : Nat) : nI a ^^^ (-1) = nI (pz_cm a) := by
  rw [show (-1 : Int32) = nI (2 ^ 32 - 1) from by decide +kernel, nx_xor]
  rfl
theorem pz_cm_bit {a i : Nat} (hi : i < 32) : (pz_cm a).testBit i = !a.testBit i := by
  unfold pz_cm
  rw [Nat.testBit_xor, Nat.testBit_two_pow_sub_one]
  simp [hi]
theorem pz_nI0 {a : Nat} (h : a < 2 ^ 32) : nI a = 0 ↔ a = 0 := by
  constructor
  · intro q
    have := congrArg (fun x : Int32 => x.toBitVec.toNat) q
    have h2 : (nI a).toBitVec.toNat = a := pk_tn h
    have h3 : (nI a).toBitVec.toNat = 0 := this
    omega
  · intro q
    rw [q]
    rfl
theorem pz_and_lt {a b n : Nat} (h : b < n) : a &&& b < n := Nat.lt_of_le_of_lt Nat.and_le_right h
theorem pz_and_lt' {a b n : Nat} (h : a < n) : a &&& b < n := Nat.lt_of_le_of_lt Nat.and_le_left h
/-- A within B, by its first eight jobs -/
def pz_sb (A B : Nat) : Prop := ∀ j, j < 8 → A.testBit j = true → B.testBit j = true
theorem pz_sb_eq {A B : Nat} (hA : A < 256) : A &&& B = A ↔ pz_sb A B := by
  constructor
  · intro h j _ hb
    rw [← h, Nat.testBit_and] at hb
    simp only [Bool.and_eq_true] at hb
    exact hb.2
  · intro h
    apply Nat.eq_of_testBit_eq
    intro i
    rw [Nat.testBit_and]
    by_cases hi : i < 8
    · cases hb : A.testBit i with
      | false => rfl
      | true => rw [h i hi hb]; rfl
    · rw [pz_hi hA (by omega)]
      rfl
theorem pz_sb_cm {A B : Nat} (hA : A < 256) : (nI A &&& (nI B ^^^ (-1)) = 0) ↔ pz_sb A B := by
  rw [pz_cm_eq, nx_and, pz_nI0 (Nat.lt_trans (pz_and_lt' hA) (by decide))]
  constructor
  · intro h j hj hb
    have h1 : (A &&& pz_cm B).testBit j = false := by rw [h]; exact Nat.zero_testBit j
    rw [Nat.testBit_and, pz_cm_bit (by omega), hb] at h1
    simpa using h1
  · intro h
    apply Nat.eq_of_testBit_eq
    intro i
    rw [Nat.testBit_and, Nat.zero_testBit]
    by_cases hi : i < 8
    · rw [pz_cm_bit (by omega)]
      cases hb : A.testBit i with
      | false => rfl
      | true => rw [h i hi hb]; rfl
    · rw [pz_hi hA (by omega)]
      rfl
/-- the same where A is any int: then it is small -/
theorem pz_sb_big {a P : Nat} (ha : a < 2 ^ 32) (hP : P < 256) : (nI a &&& (nI P ^^^ (-1)) = 0) ↔ (a < 256 ∧ pz_sb a P) := by
  constructor
  · intro h
    have h8 : a < 256 := by
      apply Classical.byContradiction
      intro hn
      rw [pz_cm_eq, nx_and, pz_nI0 (pz_and_lt' ha)] at h
      obtain ⟨i, hi, hb⟩ := Nat.exists_ge_and_testBit_of_ge_two_pow (x := a) (n := 8) (by omega)
      have hi32 : i < 32 := by
        apply Classical.byContradiction
        intro q
        rw [Nat.testBit_lt_two_pow (Nat.lt_of_lt_of_le ha (Nat.pow_le_pow_right (by decide) (by omega : 32 ≤ i)))] at hb
        cases hb
      have h1 : (a &&& pz_cm P).testBit i = false := by rw [h]; exact Nat.zero_testBit i
      rw [Nat.testBit_and, pz_cm_bit hi32, hb, pz_hi hP hi] at h1
      cases h1
    exact ⟨h8, (pz_sb_cm h8).mp h⟩
  · intro h
    exact (pz_sb_cm h.1).mpr h.2
theorem pz_dj {b S : Nat} (hS : S < 256) : (nI b &&& nI S = 0) ↔ ∀ j, j < 8 → S.testBit j = true → b.testBit j = false := by
  rw [nx_and, pz_nI0 (Nat.lt_trans (pz_and_lt hS) (by decide))]
  constructor
  · intro h j hj hb
    have h1 : (b &&& S).testBit j = false := by rw [h]; exact Nat.zero_testBit j
    rw [Nat.testBit_and, hb] at h1
    simpa using h1
  · intro h
    apply Nat.eq_of_testBit_eq
    intro i
    rw [Nat.testBit_and, Nat.zero_testBit]
    by_cases hi : i < 8
    · cases hb : S.testBit i with
      | false => simp
      | true => rw [h i hi hb]; rfl
    · rw [pz_hi hS (by omega)]
      simp
/-- sums, marks -/
def pz_su (jw : Nat → Nat) (S : Nat) : Nat → Nat
  | 0 => 0
  | j + 1 => pz_su jw S j + (if S.testBit j = true then jw j else 0)
def pz_mk (S : Nat) : Nat → Nat
  | 0 => 0
  | j + 1 => pz_mk S j + (if S.testBit j = true then 2 ^ (7 - j) else 0)
theorem pz_ms_su (jw : Nat → Nat) (S : Nat) : ∀ n, pz_ms jw S n = 256 * pz_su jw S n + pz_mk S n
  | 0 => rfl
  | n + 1 => by
    have ih := pz_ms_su jw S n
    show pz_ms jw S n + (if S.testBit n = true then jw n * 256 + 2 ^ (7 - n) else 0) = 256 * (pz_su jw S n + (if S.testBit n = true then jw n else 0)) + (pz_mk S n + (if S.testBit n = true then 2 ^ (7 - n) else 0))
    rw [ih]
    by_cases h : S.testBit n = true
    · simp only [if_pos h]
      omega
    · simp only [if_neg h]
      omega
theorem pz_mk_tail (S j : Nat) : ∀ d, j + d ≤ 8 → pz_mk S (j + d) + 2 ^ (8 - (j + d)) ≤ pz_mk S j + 2 ^ (8 - j)
  | 0, _ => Nat.le_refl _
  | d + 1, h => by
    have ih := pz_mk_tail S j d (by omega)
    have e1 : 8 - (j + d) = (7 - (j + d)) + 1 := by omega
    have e2 : 8 - (j + (d + 1)) = 7 - (j + d) := by omega
    rw [e1, Nat.pow_succ] at ih
    rw [e2]
    show pz_mk S (j + d) + (if S.testBit (j + d) = true then 2 ^ (7 - (j + d)) else 0) + 2 ^ (7 - (j + d)) ≤ _
    split <;> omega
theorem pz_mk_mono (S j : Nat) : ∀ d, pz_mk S j ≤ pz_mk S (j + d)
  | 0 => Nat.le_refl _
  | d + 1 => by
    have ih := pz_mk_mono S j d
    show _ ≤ pz_mk S (j + d) + (if S.testBit (j + d) = true then 2 ^ (7 - (j + d)) else 0)
    omega
theorem pz_mk_256 (S : Nat) : pz_mk S 8 < 256 := by
  have h : pz_mk S 8 + 1 ≤ 0 + 256 := pz_mk_tail S 0 8 (by decide)
  omega
theorem pz_mk_congr {A B : Nat} : ∀ {n : Nat}, (∀ i, i < n → A.testBit i = B.testBit i) → pz_mk A n = pz_mk B n
  | 0, _ => rfl
  | n + 1, h => by
    show pz_mk A n + (if A.testBit n = true then 2 ^ (7 - n) else 0) = pz_mk B n + (if B.testBit n = true then 2 ^ (7 - n) else 0)
    rw [pz_mk_congr (n := n) (fun i hi => h i (by omega)), h n (by omega)]
theorem pz_su_congr {jw : Nat → Nat} {A B : Nat} : ∀ {n : Nat}, (∀ i, i < n → A.testBit i = B.testBit i) → pz_su jw A n = pz_su jw B n
  | 0, _ => rfl
  | n + 1, h => by
    show pz_su jw A n + (if A.testBit n = true then jw n else 0) = pz_su jw B n + (if B.testBit n = true then jw n else 0)
    rw [pz_su_congr (n := n) (fun i hi => h i (by omega)), h n (by omega)]
theorem pz_mk_lt {A B j : Nat} (hj : j < 8) (heq : ∀ i, i < j → A.testBit i = B.testBit i) (ha : A.testBit j = true) (hb : B.testBit j = false) : pz_mk B 8 < pz_mk A 8 := by
  have h1 := pz_mk_tail B (j + 1) (8 - (j + 1)) (by omega)
  have h2 := pz_mk_mono A (j + 1) (8 - (j + 1))
  rw [show j + 1 + (8 - (j + 1)) = 8 by omega] at h1 h2
  have h3 : pz_mk B (j + 1) = pz_mk B j := by
    show pz_mk B j + (if B.testBit j = true then 2 ^ (7 - j) else 0) = pz_mk B j
    rw [hb, if_neg (by decide)]
    rfl
  have h4 : pz_mk A (j + 1) = pz_mk A j + 2 ^ (7 - j) := by
    show pz_mk A j + (if A.testBit j = true then 2 ^ (7 - j) else 0) = _
    rw [ha, if_pos rfl]
  have h5 := pz_mk_congr heq
  have h6 : 8 - (j + 1) = 7 - j := by omega
  rw [h6] at h1
  have h7 : (2 : Nat) ^ (8 - 8) = 1 := rfl
  rw [h7] at h1
  omega
theorem pz_ms_inj {jw : Nat → Nat} {A B : Nat} (hA : A < 256) (hB : B < 256) (h : pz_ms jw A 8 = pz_ms jw B 8) : A = B := by
  have e1 := pz_ms_su jw A 8
  have e2 := pz_ms_su jw B 8
  have m1 := pz_mk_256 A
  have m2 := pz_mk_256 B
  have hm : pz_mk A 8 = pz_mk B 8 := by omega
  have key : ∀ j, j ≤ 8 → ∀ i, i < j → A.testBit i = B.testBit i := by
    intro j
    induction j with
    | zero => intro _ i hi; omega
    | succ j ih =>
      intro hj i hi
      have ih' := ih (by omega)
      by_cases e : i = j
      · subst e
        cases ha : A.testBit i with
        | false =>
          cases hb : B.testBit i with
          | false => rfl
          | true =>
            have := pz_mk_lt (A := B) (B := A) (by omega) (fun k hk => (ih' k hk).symm) hb ha
            omega
        | true =>
          cases hb : B.testBit i with
          | true => rfl
          | false =>
            have := pz_mk_lt (A := A) (B := B) (by omega) ih' ha hb
            omega
      · exact ih' i (by omega)
  apply Nat.eq_of_testBit_eq
  intro i
  by_cases hi : i < 8
  · exact key 8 (Nat.le_refl _) i hi
  · rw [pz_hi hA (by omega), pz_hi hB (by omega)]
/-- the order between sets: by sum, then by the first job that differs -/
theorem pz_bf_ne {jw : Nat → Nat} {A B : Nat} (h : pz_su jw A 8 ≠ pz_su jw B 8) : pz_ms jw B 8 < pz_ms jw A 8 ↔ pz_su jw B 8 < pz_su jw A 8 := by
  have e1 := pz_ms_su jw A 8
  have e2 := pz_ms_su jw B 8
  have m1 := pz_mk_256 A
  have m2 := pz_mk_256 B
  omega
theorem pz_bf_j {jw : Nat → Nat} {A B j : Nat} (hj : j < 8) (hs : pz_su jw A 8 = pz_su jw B 8) (heq : ∀ i, i < j → A.testBit i = B.testBit i) (hd : A.testBit j ≠ B.testBit j) : pz_ms jw B 8 < pz_ms jw A 8 ↔ A.testBit j = true := by
  have e1 := pz_ms_su jw A 8
  have e2 := pz_ms_su jw B 8
  cases ha : A.testBit j with
  | true =>
    have hb : B.testBit j = false := by rw [ha] at hd; cases hb : B.testBit j with
      | false => rfl
      | true => rw [hb] at hd; exact absurd rfl hd
    have := pz_mk_lt hj heq ha hb
    simp only [iff_true]
    omega
  | false =>
    have hb : B.testBit j = true := by rw [ha] at hd; cases hb : B.testBit j with
      | true => rfl
      | false => rw [hb] at hd; exact absurd rfl hd
    have := pz_mk_lt hj (fun i hi => (heq i hi).symm) hb ha
    constructor
    · intro q
      omega
    · intro q
      cases q
theorem pz_ms_congr {jw : Nat → Nat} {A B : Nat} (h : ∀ i, i < 8 → A.testBit i = B.testBit i) : pz_ms jw A 8 = pz_ms jw B 8 := by
  rw [pz_ms_su, pz_ms_su, pz_mk_congr h, pz_su_congr h]
/-- bounds of sums -/
theorem pz_su_le {jw : Nat → Nat} {S : Nat} (h : ∀ j, j < 8 → jw j ≤ 20) : ∀ n, n ≤ 8 → pz_su jw S n ≤ 20 * n
  | 0, _ => Nat.le_refl _
  | n + 1, hn => by
    have ih := pz_su_le (S := S) h n (by omega)
    have := h n (by omega)
    show pz_su jw S n + (if S.testBit n = true then jw n else 0) ≤ 20 * (n + 1)
    split <;> omega
theorem pz_ms_lt {jw : Nat → Nat} {S : Nat} (h : ∀ j, j < 8 → jw j ≤ 20) : pz_ms jw S 8 < 41216 := by
  have h1 := pz_su_le (S := S) h 8 (Nat.le_refl _)
  have h2 := pz_mk_256 S
  rw [pz_ms_su]
  omega
/-- plain(markedSum) is the sum -/
theorem pz_pl {jw : Nat → Nat} {S : Nat} (h : ∀ j, j < 8 → jw j ≤ 20) : nI (pz_ms jw S 8) >>> ((8 : Int32) &&& 31) = nI (pz_su jw S 8) := by
  have h1 := pz_ms_lt (S := S) h
  have h2 := pz_mk_256 S
  rw [pk_shrN (by omega) _ 8 (by decide), pz_ms_su]
  congr 1
  rw [Nat.mul_add_div (by decide)]
  show pz_su jw S 8 + pz_mk S 8 / 256 = pz_su jw S 8
  omega
theorem pz_gc_iff (js je : Nat → Nat) (S k : Nat) : ∀ n, pz_gc js je S n ≤ k ↔ ∀ t, t < n → pz_cw js je S t 8 ≤ k
  | 0 => ⟨fun _ t h => by omega, fun _ => Nat.zero_le _⟩
  | n + 1 => by
    have ih := pz_gc_iff js je S k n
    have e : pz_gc js je S (n + 1) = if pz_cw js je S n 8 ≤ pz_gc js je S n then pz_gc js je S n else pz_cw js je S n 8 := rfl
    rw [e]
    constructor
    · intro h t ht
      by_cases hc : pz_cw js je S n 8 ≤ pz_gc js je S n
      · rw [if_pos hc] at h
        by_cases q : t = n
        · subst q
          omega
        · exact ih.mp h t (by omega)
      · rw [if_neg hc] at h
        by_cases q : t = n
        · subst q
          exact h
        · exact ih.mp (by omega) t (by omega)
    · intro h
      have h1 := ih.mpr (fun t ht => h t (by omega))
      have h2 := h n (by omega)
      split <;> omega
/-- a set of jobs of P that fits on k tracks -/
abbrev pz_ok (js je : Nat → Nat) (P k S : Nat) : Prop := S &&& P = S ∧ pz_gc js je S 16 ≤ k
/-- the model's choice, over the sets below n -/
def pz_bs (js je jw : Nat → Nat) (P k : Nat) : Nat → Nat
  | 0 => 0
  | i + 1 => if pz_ok js je P k i ∧ pz_ms jw (pz_bs js je jw P k i) 8 < pz_ms jw i 8 then i else pz_bs js je jw P k i
def pz_BT (js je jw : Nat → Nat) (P k : Nat) : Nat := pz_bs js je jw P k 256
theorem pz_ok_0 (js je : Nat → Nat) (P k : Nat) : pz_ok js je P k 0 := by
  refine ⟨Nat.zero_and P, (pz_gc_iff js je 0 k 16).mpr (fun t _ => ?_)⟩
  rw [pz_cw_0]
  exact Nat.zero_le _
theorem pz_bs_prop (js je jw : Nat → Nat) (P k : Nat) : ∀ n, (pz_bs js je jw P k n = 0 ∨ pz_bs js je jw P k n < n) ∧ pz_ok js je P k (pz_bs js je jw P k n) ∧ ∀ i, i < n → pz_ok js je P k i → pz_ms jw i 8 ≤ pz_ms jw (pz_bs js je jw P k n) 8
  | 0 => ⟨Or.inl rfl, pz_ok_0 js je P k, fun i h => by omega⟩
  | n + 1 => by
    obtain ⟨h1, h2, h3⟩ := pz_bs_prop js je jw P k n
    have e : pz_bs js je jw P k (n + 1) = if pz_ok js je P k n ∧ pz_ms jw (pz_bs js je jw P k n) 8 < pz_ms jw n 8 then n else pz_bs js je jw P k n := rfl
    by_cases hc : pz_ok js je P k n ∧ pz_ms jw (pz_bs js je jw P k n) 8 < pz_ms jw n 8
    · rw [e, if_pos hc]
      refine ⟨Or.inr (by omega), hc.1, fun i hi hok => ?_⟩
      by_cases q : i = n
      · rw [q]
        exact Nat.le_refl _
      · have := h3 i (by omega) hok
        omega
    · rw [e, if_neg hc]
      refine ⟨by omega, h2, fun i hi hok => ?_⟩
      by_cases q : i = n
      · subst q
        apply Classical.byContradiction
        intro hn
        exact hc ⟨hok, by omega⟩
      · exact h3 i (by omega) hok
theorem pz_bs_lt (js je jw : Nat → Nat) (P k n : Nat) (hn : n ≤ 256) : pz_bs js je jw P k n < 256 := by
  rcases (pz_bs_prop js je jw P k n).1 with h | h <;> omega
theorem pz_BT_lt (js je jw : Nat → Nat) (P k : Nat) : pz_BT js je jw P k < 256 := pz_bs_lt js je jw P k 256 (Nat.le_refl _)
theorem pz_BT_ok (js je jw : Nat → Nat) (P k : Nat) : pz_ok js je P k (pz_BT js je jw P k) := (pz_bs_prop js je jw P k 256).2.1
theorem pz_BT_max {js je jw : Nat → Nat} {P k i : Nat} (hi : i < 256) (h : pz_ok js je P k i) : pz_ms jw i 8 ≤ pz_ms jw (pz_BT js je jw P k) 8 := (pz_bs_prop js je jw P k 256).2.2 i hi h
theorem pz_BT_uniq {js je jw : Nat → Nat} {P k S : Nat} (hS : S < 256) (h : pz_ok js je P k S) (hm : ∀ i, i < 256 → pz_ok js je P k i → pz_ms jw i 8 ≤ pz_ms jw S 8) : S = pz_BT js je jw P k := by
  refine pz_ms_inj (jw := jw) hS (pz_BT_lt _ _ _ _ _) ?_
  have h1 := pz_BT_max (jw := jw) hS h
  have h2 := hm _ (pz_BT_lt js je jw P k) (pz_BT_ok js je jw P k)
  omega
theorem pz_ok_iff {js je : Nat → Nat} {P k S : Nat} (hS : S < 256) : pz_ok js je P k S ↔ pz_sb S P ∧ ∀ t, t < 16 → pz_cw js je S t 8 ≤ k := by
  unfold pz_ok
  rw [pz_sb_eq hS, pz_gc_iff]
/-- gains as numbers -/
theorem pz_sg_nat (g : Nat → Nat) (S : Nat) (f : Nat → Nat) (h0 : f 0 = 0) (h : ∀ j, f (j + 1) = f j + (if S.testBit j = true then g j else 0)) : pz_sg (fun j => (g j : Int)) S = (f 8 : Int) := by
  have key : ∀ n, pz_sm (fun j => if S.testBit j = true then (g j : Int) else 0) n = (f n : Int) := by
    intro n
    induction n with
    | zero => rw [h0]; rfl
    | succ n ih =>
      rw [h n]
      show pz_sm (fun j => if S.testBit j = true then (g j : Int) else 0) n + (if S.testBit n = true then (g n : Int) else 0) = _
      rw [ih]
      split <;> omega
  exact key 8
theorem pz_sg_ms (jw : Nat → Nat) (S : Nat) : pz_sg (fun j => ((pz_mw jw j : Nat) : Int)) S = (pz_ms jw S 8 : Int) := pz_sg_nat (pz_mw jw) S (pz_ms jw S) rfl (fun _ => rfl)
theorem pz_Opt_BT {js je jw : Nat → Nat} {P k S : Nat} (h : pz_Opt js je (pz_mw jw) P k S) : S = pz_BT js je jw P k := by
  obtain ⟨h1, h2, h3, h4⟩ := h
  refine pz_BT_uniq h1 ((pz_ok_iff h1).mpr ⟨h2, h3⟩) (fun i hi hok => ?_)
  obtain ⟨a, b⟩ := (pz_ok_iff hi).mp hok
  have := h4 i a b
  rw [pz_sg_ms, pz_sg_ms] at this
  omega
/-- prescribed jobs -/
def pz_ic (M S : Nat) : Nat → Nat
  | 0 => 0
  | j + 1 => pz_ic M S j + (if S.testBit j = true ∧ M.testBit j = true then 1 else 0)
theorem pz_ic_le (M S : Nat) : ∀ n, pz_ic M S n ≤ pz_ic M M n
  | 0 => Nat.le_refl _
  | n + 1 => by
    have ih := pz_ic_le M S n
    show pz_ic M S n + (if S.testBit n = true ∧ M.testBit n = true then 1 else 0) ≤ pz_ic M M n + (if M.testBit n = true ∧ M.testBit n = true then 1 else 0)
    by_cases h : M.testBit n = true
    · rw [if_pos (⟨h, h⟩ : M.testBit n = true ∧ M.testBit n = true)]
      split <;> omega
    · rw [if_neg (fun q => h q.2), if_neg (fun q => h q.2)]
      omega
theorem pz_ic_lt {M S i : Nat} (hm : M.testBit i = true) (hs : S.testBit i = false) : ∀ n, i < n → pz_ic M S n + 1 ≤ pz_ic M M n
  | 0, h => by omega
  | n + 1, h => by
    show pz_ic M S n + (if S.testBit n = true ∧ M.testBit n = true then 1 else 0) + 1 ≤ pz_ic M M n + (if M.testBit n = true ∧ M.testBit n = true then 1 else 0)
    by_cases e : i = n
    · subst e
      have := pz_ic_le M S i
      rw [if_neg (fun q => by rw [hs] at q; cases q.1), if_pos ⟨hm, hm⟩]
      omega
    · have ih := pz_ic_lt hm hs n (by omega)
      by_cases h : M.testBit n = true
      · rw [if_pos (⟨h, h⟩ : M.testBit n = true ∧ M.testBit n = true)]
        split <;> omega
      · rw [if_neg (fun q => h q.2), if_neg (fun q => h q.2)]
        omega
theorem pz_ic_eq {M S : Nat} : ∀ n, (∀ j, j < n → M.testBit j = true → S.testBit j = true) → pz_ic M S n = pz_ic M M n
  | 0, _ => rfl
  | n + 1, h => by
    have ih := pz_ic_eq n (fun j hj => h j (by omega))
    show pz_ic M S n + (if S.testBit n = true ∧ M.testBit n = true then 1 else 0) = pz_ic M M n + (if M.testBit n = true ∧ M.testBit n = true then 1 else 0)
    rw [ih]
    by_cases q : M.testBit n = true
    · rw [if_pos ⟨h n (by omega) q, q⟩, if_pos (⟨q, q⟩ : M.testBit n = true ∧ M.testBit n = true)]
    · rw [if_neg (fun z => q z.2), if_neg (fun z => q z.2)]
def pz_gm (jw : Nat → Nat) (M j : Nat) : Nat := pz_mw jw j + (if M.testBit j = true then 1048576 else 0)
theorem pz_sg_gm (jw : Nat → Nat) (M S : Nat) : pz_sg (fun j => ((pz_gm jw M j : Nat) : Int)) S = ((pz_ms jw S 8 + 1048576 * pz_ic M S 8 : Nat) : Int) := by
  refine pz_sg_nat (pz_gm jw M) S (fun n => pz_ms jw S n + 1048576 * pz_ic M S n) rfl (fun j => ?_)
  show pz_ms jw S j + (if S.testBit j = true then pz_mw jw j else 0) + 1048576 * (pz_ic M S j + (if S.testBit j = true ∧ M.testBit j = true then 1 else 0)) = pz_ms jw S j + 1048576 * pz_ic M S j + (if S.testBit j = true then pz_mw jw j + (if M.testBit j = true then 1048576 else 0) else 0)
  by_cases h : S.testBit j = true
  · by_cases q : M.testBit j = true
    · rw [if_pos h, if_pos ⟨h, q⟩, if_pos h, if_pos q]
      omega
    · rw [if_pos h, if_neg (fun z => q z.2), if_pos h, if_neg q]
      omega
  · rw [if_neg h, if_neg (fun z => h z.1), if_neg h]
    omega
/-- the answer of bestWith: a best set of jobs of U with all of M, or -1 -/
def pz_BW (js je jw : Nat → Nat) (U k M : Nat) (r : Int32) : Prop :=
  (r = -1 ∧ ∀ S, S < 256 → pz_ok js je U k S → ¬ pz_sb M S) ∨ (∃ S, r = nI S ∧ S < 256 ∧ pz_ok js je U k S ∧ pz_sb M S ∧ ∀ S', S' < 256 → pz_ok js je U k S' → pz_sb M S' → pz_ms jw S' 8 ≤ pz_ms jw S 8)
theorem pz_Opt_BW {js je jw : Nat → Nat} {U k M S : Nat} (hw : ∀ j, j < 8 → jw j ≤ 20) (h : pz_Opt js je (pz_gm jw M) U k S) : (¬ pz_sb M S → pz_BW js je jw U k M (-1)) ∧ (pz_sb M S → pz_BW js je jw U k M (nI S)) := by
  obtain ⟨h1, h2, h3, h4⟩ := h
  constructor
  · intro hn
    refine Or.inl ⟨rfl, fun S' hS' hok hsb => ?_⟩
    obtain ⟨a, b⟩ := (pz_ok_iff hS').mp hok
    have h5 := h4 S' a b
    rw [pz_sg_gm, pz_sg_gm, pz_ic_eq (M := M) (S := S') 8 hsb] at h5
    have hex : ∃ i, i < 8 ∧ M.testBit i = true ∧ S.testBit i = false := by
      apply Classical.byContradiction
      intro q
      refine hn (fun j hj hb => ?_)
      cases hs : S.testBit j with
      | true => rfl
      | false => exact absurd ⟨j, hj, hb, hs⟩ q
    obtain ⟨i, hi, hm, hs⟩ := hex
    have h6 := pz_ic_lt hm hs 8 hi
    have h7 := pz_ms_lt (S := S) hw
    omega
  · intro hsb
    refine Or.inr ⟨S, rfl, h1, (pz_ok_iff h1).mpr ⟨h2, h3⟩, hsb, fun S' hS' hok hsb' => ?_⟩
    obtain ⟨a, b⟩ := (pz_ok_iff hS').mp hok
    have h5 := h4 S' a b
    rw [pz_sg_gm, pz_sg_gm, pz_ic_eq (M := M) (S := S') 8 hsb', pz_ic_eq (M := M) (S := S) 8 hsb] at h5
    omega
end
section
/-! small laws for the upper methods of TrackMarket -/
def pz_prG (ga : pz_F) (jw : Nat → Nat) : Nat → pz_F
  | 0 => ga
  | j + 1 => upd (pz_prG ga jw j) j (nI (pz_mw jw j))
theorem pz_prG_in (ga : pz_F) (jw : Nat → Nat) : ∀ n j, j < n → pz_prG ga jw n j = nI (pz_mw jw j)
  | 0, j, h => by omega
  | n + 1, j, h => by
    show upd (pz_prG ga jw n) n (nI (pz_mw jw n)) j = _
    by_cases e : j = n
    · subst e
      exact pk_us
    · rw [pk_un e]
      exact pz_prG_in ga jw n j (by omega)
def pz_prW (wa : pz_F) : Nat → pz_F
  | 0 => wa
  | t + 1 => upd (pz_prW wa t) t 0
theorem pz_prW_in (wa : pz_F) : ∀ n t, t < n → pz_prW wa n t = 0
  | 0, t, h => by omega
  | n + 1, t, h => by
    show upd (pz_prW wa n) n 0 t = 0
    by_cases e : t = n
    · subst e
      exact pk_us
    · rw [pk_un e]
      exact pz_prW_in wa n t (by omega)
def pz_mG (ga : pz_F) (M : Nat) : Nat → pz_F
  | 0 => ga
  | j + 1 => if M.testBit j = true then upd (pz_mG ga M j) j (pz_mG ga M j j + 1048576) else pz_mG ga M j
theorem pz_mG_t {ga : pz_F} {M j : Nat} (h : M.testBit j = true) : pz_mG ga M (j + 1) = upd (pz_mG ga M j) j (pz_mG ga M j j + 1048576) := if_pos h
theorem pz_mG_f {ga : pz_F} {M j : Nat} (h : M.testBit j = false) : pz_mG ga M (j + 1) = pz_mG ga M j := if_neg (by rw [h]; decide)
theorem pz_mG_in {ga : pz_F} {jw : Nat → Nat} {M : Nat} (hga : ∀ j, j < 8 → ga j = nI (pz_mw jw j)) : ∀ n, n ≤ 8 → (∀ j, j < n → pz_mG ga M n j = nI (pz_gm jw M j)) ∧ ∀ j, n ≤ j → pz_mG ga M n j = ga j
  | 0, _ => ⟨fun j h => by omega, fun _ _ => rfl⟩
  | n + 1, hn => by
    obtain ⟨h1, h2⟩ := pz_mG_in (M := M) hga n (by omega)
    cases hb : M.testBit n with
    | true =>
      rw [pz_mG_t hb]
      constructor
      · intro j hj
        by_cases e : j = n
        · subst e
          rw [pk_us, h2 j (Nat.le_refl _), hga j (by omega)]
          unfold pz_gm
          rw [hb, if_pos rfl, show (1048576 : Int32) = nI 1048576 from rfl, nI_add]
        · rw [pk_un e]
          exact h1 j (by omega)
      · intro j hj
        rw [pk_un (by omega)]
        exact h2 j (by omega)
    | false =>
      rw [pz_mG_f hb]
      constructor
      · intro j hj
        by_cases e : j = n
        · subst e
          rw [h2 j (Nat.le_refl _), hga j (by omega)]
          unfold pz_gm
          rw [hb, if_neg (by decide), Nat.add_zero]
        · exact h1 j (by omega)
      · intro j hj
        exact h2 j (by omega)
theorem pz_sd_succ (s e : Nat → Nat) (ga : pz_F) (us : Int32) (z : Int32 × pz_F × pz_RS) (n : Nat) : pz_sd s e ga us z (n + 1) =
    ((pz_fo s e (pz_FW s e ga us (pz_sd s e ga us z n).1 (pz_sd s e ga us z n).2.1 (pz_sd s e ga us z n).2.2).2 (16, (pz_sd s e ga us z n).1, (pz_sd s e ga us z n).2.1) 64).2.1,
     (pz_fo s e (pz_FW s e ga us (pz_sd s e ga us z n).1 (pz_sd s e ga us z n).2.1 (pz_sd s e ga us z n).2.2).2 (16, (pz_sd s e ga us z n).1, (pz_sd s e ga us z n).2.1) 64).2.2,
     pz_FW s e ga us (pz_sd s e ga us z n).1 (pz_sd s e ga us z n).2.1 (pz_sd s e ga us z n).2.2) := by
  rw [show pz_sd s e ga us z (n + 1) = pz_un s e ga us (pz_sd s e ga us z n) from rfl]
  unfold pz_un
  rfl
/-- what holds of the jobs all along -/
def pz_JW (k P : Nat) (js je jw : Nat → Nat) : Prop := k ≤ 4 ∧ P < 256 ∧ pz_JB js je jw ∧ ∀ j, j < 8 → P.testBit j = true → js j < je j ∧ je j ≤ 16
def pz_Kn (js je jw : Nat → Nat) (P k : Nat) (kn ch : Int32) : Prop := kn = 0 ∨ (kn = 1 ∧ ch = nI (pz_BT js je jw P k))
def pz_XS (ad : Nat → Nat) (cd : Nat → ClassId) (k P : Nat) (js je jw : Nat → Nat) (u : va_W) : Prop := ∃ (us ud kn ch : Int32) (ga wa re sp : pz_F), u = xW ad cd (nI k) (nI P) us ud kn ch js je jw ga wa re sp ∧ pz_Kn js je jw P k kn ch
theorem pz_w20 {k P : Nat} {js je jw : Nat → Nat} (h : pz_JW k P js je jw) : ∀ j, j < 8 → jw j ≤ 20 := fun j hj => (h.2.2.1 j hj).2.2
theorem pz_mw_le {jw : Nat → Nat} {j : Nat} (h : jw j ≤ 20) : pz_mw jw j ≤ 5248 := by
  have : 2 ^ (7 - j) ≤ 2 ^ 7 := Nat.pow_le_pow_right (by decide) (by omega)
  unfold pz_mw
  omega
theorem pz_g1 {k P : Nat} {js je jw : Nat → Nat} (h : pz_JW k P js je jw) : ∀ j, j < 8 → pz_mw jw j ≤ 2097152 := fun j hj => Nat.le_trans (pz_mw_le (pz_w20 h j hj)) (by decide)
theorem pz_g2 {k P M : Nat} {js je jw : Nat → Nat} (h : pz_JW k P js je jw) : ∀ j, j < 8 → pz_gm jw M j ≤ 2097152 := fun j hj => by
  have := pz_mw_le (pz_w20 h j hj)
  unfold pz_gm
  split <;> omega
end
section
/-! TrackMarket: choosing (printed by gen/walks2.py) -/
set_option maxHeartbeats 4000000 in
/-- plain(marked) -/
theorem mX_plain (l : Launch) (D : va_G) (x : Int32)   : y_MI l yX1_plain cX1_plain 1 .int (y_rm 0 0) D [] [.int x] []
    (fun r u => r = x >>> ((8 : Int32) &&& 31)) := by
  refine y_startI (by decide) (Nat.le_of_ble_eq_true rfl) ?_
  intro p e0 s0 m below meth c A ls hx hb hr hml hown hts hlocks hK hA hw hl
  have hl : lv_has ls 1 [(0, .int x)] := hl
  refine lv_iload_n hx hb dX1_plain_0 rfl (lv_at hl 0 rfl) ?_
  refine lv_bipush (v := 8) hx hb dX1_plain_1 (by decide) ?_
  refine lv_ishr hx hb dX1_plain_3 ?_
  exact y_iret (v := x >>> (8 &&& 31)) hx hb hr hlocks hK hw rfl rfl dX1_plain_4
set_option maxHeartbeats 4000000 in
/-- prepare(jobs) -/
theorem mX_prepare (l : Launch) (D : va_G) (ad : Nat → Nat) (cd : Nat → ClassId) (tc pr us ud kn ch : Int32) (js je jw : Nat → Nat) (ga wa re sp : pz_F) (ju : Int32)  : y_MV l yX1_prepare cX1_prepare 3 (y_rm 1 21) D (xT cd) [.ref (ad 0), .int ju] (xW ad cd tc pr us ud kn ch js je jw ga wa re sp)
    (fun u => ∃ (ga' wa' : pz_F), (∀ j, j < 8 → ga' j = nI (pz_mw jw j)) ∧ (∀ t, t < 16 → wa' t = 0) ∧ u = xW ad cd tc pr ju 0 kn ch js je jw ga' wa' re sp) := by
  refine y_startV (by decide) (Nat.le_of_ble_eq_true rfl) ?_
  intro p e0 s0 m below meth c A ls hx hb hr hml hown hts hlocks hK hA hw hl
  have hw : y_W D A s0.heap (xW ad cd tc pr us ud kn ch js je jw ga wa re sp) s0.heap [] := hw
  have hl : lv_has ls 3 [(0, .ref (ad 0)), (1, .int ju)] := hl
  refine lv_aload_n hx hb dX1_prepare_0 rfl (lv_at hl 0 rfl) ?_
  refine lv_iload_n hx hb dX1_prepare_1 rfl (lv_at hl 1 rfl) ?_
  refine x_put (ty := .int) (v := .int ju) (ws' := xW ad cd tc pr ju ud kn ch js je jw ga wa re sp) hx hb hts hown hK hw rfl 6 (by decide) q37 rfl (by decide +kernel) rfl rfl (Nat.le_of_ble_eq_true rfl) rfl dX1_prepare_2 (fun H locs hw => ?_)
  refine lv_aload_n hx hb dX1_prepare_5 rfl (lv_at hl 0 rfl) ?_
  refine lv_iconst (v := 0) hx hb dX1_prepare_6 (by decide) ?_
  refine x_put (ty := .int) (v := .int 0) (ws' := xW ad cd tc pr ju 0 kn ch js je jw ga wa re sp) hx hb hts hown hK hw rfl 7 (by decide) q38 rfl (by decide +kernel) rfl rfl (Nat.le_of_ble_eq_true rfl) rfl dX1_prepare_7 (fun H locs hw => ?_)
  refine lv_iconst (v := nI 0) hx hb dX1_prepare_10 (by decide) ?_
  refine lv_istore_n (lv' := [(2, .int (nI 0)), (0, .ref (ad 0)), (1, .int ju)]) hx hb dX1_prepare_11 rfl hl (by decide) rfl (fun ls hl => ?_)
  refine y_for 12 3 8 0 (fun j => xW ad cd tc pr ju 0 kn ch js je jw (pz_prG ga jw j) wa re sp) (fun j => [(0, .ref (ad 0)), (1, .int ju), (2, .int (nI j))]) (fun j => True) (Nat.le_of_ble_eq_true rfl) trivial hw (lv_sub hl [1, 2, 0] rfl) ?_ ?_
  · intro j hj hI12 H locs ls hw hl ih12
    have hw : y_W D A s0.heap (xW ad cd tc pr ju 0 kn ch js je jw (pz_prG ga jw j) wa re sp) H locs := hw
    have hl : lv_has ls 3 [(0, .ref (ad 0)), (1, .int ju), (2, .int (nI j))] := hl
    refine lv_iload_n hx hb dX1_prepare_12 rfl (lv_at hl 2 rfl) ?_
    refine lv_bipush (v := 8) hx hb dX1_prepare_13 (by decide) ?_
    refine lv_icmp_ge (tgt := 35) hx hb dX1_prepare_15 (by decide) (fun c9 => absurd c9 (y_ge hj)) (fun _ => ?_)
    refine lv_aload_n hx hb dX1_prepare_18 rfl (lv_at hl 0 rfl) ?_
    refine x_get hx hb hts hown hK hw rfl 5 (by decide) q36 rfl dX1_prepare_19 ?_
    refine lv_iload_n hx hb dX1_prepare_22 rfl (lv_at hl 2 rfl) ?_
    refine lv_aload_n hx hb dX1_prepare_23 rfl (lv_at hl 0 rfl) ?_
    refine lv_iload_n hx hb dX1_prepare_24 rfl (lv_at hl 2 rfl) ?_
    refine y_selfI (q := (RX1, TX1, 13)) (ci := 0) (As := [.int (nI j)]) (rest := [.int (nI j), .ref (ad 4)]) ⟨hx, hb, hml, hown, hts⟩ (mX_markedWorth l D ad cd tc pr ju 0 kn ch js je jw (pz_prG ga jw j) wa re sp j hj) (cwV 1 hts (lw_V q113 q115 qs3 q21 q116) rfl rfl rfl (by decide +kernel) ⟨Nat.le_of_ble_eq_true rfl, Nat.le_of_ble_eq_true rfl⟩) hK hw hA rfl rfl rfl hl.1 rfl (Nat.le_of_ble_eq_true rfl) dX1_prepare_25 ⟨Nat.zero_le _, Nat.zero_le _⟩ (fun r u H locs hq hw => ?_)
    obtain ⟨rfl, rfl⟩ := hq
    have hw : y_W D A s0.heap (xW ad cd tc pr ju 0 kn ch js je jw (pz_prG ga jw j) wa re sp) H locs := hw
    refine y_iast (ws' := xW ad cd tc pr ju 0 kn ch js je jw (upd (pz_prG ga jw j) j (nI (pz_mw jw j))) wa re sp) hx hb hK hw 4 3 j rfl rfl rfl hj (by decide) rfl dX1_prepare_28 (fun H locs hw => ?_)
    refine lv_iinc (v := nI (j + 1)) (lv' := [(2, .int (nI (j + 1))), (0, .ref (ad 0)), (1, .int ju)]) hx hb dX1_prepare_29 hl (k := 2) rfl (nI_1 _) (by decide) rfl (fun ls hl => ?_)
    refine lv_goto (tgt := 12) hx hb dX1_prepare_32 (by decide) ?_
    exact ih12 trivial _ _ _ hw (lv_sub hl [1, 2, 0] rfl)
  · intro hI12 H locs ls hw hl
    have hw : y_W D A s0.heap (xW ad cd tc pr ju 0 kn ch js je jw (pz_prG ga jw 8) wa re sp) H locs := hw
    have hl : lv_has ls 3 [(0, .ref (ad 0)), (1, .int ju), (2, .int (nI 8))] := hl
    refine lv_iload_n hx hb dX1_prepare_12 rfl (lv_at hl 2 rfl) ?_
    refine lv_bipush (v := 8) hx hb dX1_prepare_13 (by decide) ?_
    refine lv_icmp_ge (tgt := 35) hx hb dX1_prepare_15 (by decide) (fun _ => ?_) (fun c9 => absurd (y_le (a := 8)) c9)
    refine lv_iconst (v := nI 0) hx hb dX1_prepare_35 (by decide) ?_
    refine lv_istore_n (lv' := [(2, .int (nI 0)), (0, .ref (ad 0)), (1, .int ju)]) hx hb dX1_prepare_36 rfl hl (by decide) rfl (fun ls hl => ?_)
    refine y_for 37 3 16 0 (fun t => xW ad cd tc pr ju 0 kn ch js je jw (pz_prG ga jw 8) (pz_prW wa t) re sp) (fun t => [(0, .ref (ad 0)), (1, .int ju), (2, .int (nI t))]) (fun t => True) (Nat.le_of_ble_eq_true rfl) trivial hw (lv_sub hl [1, 2, 0] rfl) ?_ ?_
    · intro t ht hI37 H locs ls hw hl ih37
      have hw : y_W D A s0.heap (xW ad cd tc pr ju 0 kn ch js je jw (pz_prG ga jw 8) (pz_prW wa t) re sp) H locs := hw
      have hl : lv_has ls 3 [(0, .ref (ad 0)), (1, .int ju), (2, .int (nI t))] := hl
      refine lv_iload_n hx hb dX1_prepare_37 rfl (lv_at hl 2 rfl) ?_
      refine lv_bipush (v := 16) hx hb dX1_prepare_38 (by decide) ?_
      refine lv_icmp_ge (tgt := 56) hx hb dX1_prepare_40 (by decide) (fun c9 => absurd c9 (y_ge ht)) (fun _ => ?_)
      refine lv_aload_n hx hb dX1_prepare_43 rfl (lv_at hl 0 rfl) ?_
      refine x_get hx hb hts hown hK hw rfl 8 (by decide) q39 rfl dX1_prepare_44 ?_
      refine lv_iload_n hx hb dX1_prepare_47 rfl (lv_at hl 2 rfl) ?_
      refine lv_iconst (v := 0) hx hb dX1_prepare_48 (by decide) ?_
      refine y_bast (x' := 0) (ws' := xW ad cd tc pr ju 0 kn ch js je jw (pz_prG ga jw 8) (upd (pz_prW wa t) t 0) re sp) hx hb hK hw 5 4 t rfl rfl rfl ht (by decide) (by decide) rfl dX1_prepare_49 (fun H locs hw => ?_)
      refine lv_iinc (v := nI (t + 1)) (lv' := [(2, .int (nI (t + 1))), (0, .ref (ad 0)), (1, .int ju)]) hx hb dX1_prepare_50 hl (k := 2) rfl (nI_1 _) (by decide) rfl (fun ls hl => ?_)
      refine lv_goto (tgt := 37) hx hb dX1_prepare_53 (by decide) ?_
      exact ih37 trivial _ _ _ hw (lv_sub hl [1, 2, 0] rfl)
    · intro hI37 H locs ls hw hl
      have hw : y_W D A s0.heap (xW ad cd tc pr ju 0 kn ch js je jw (pz_prG ga jw 8) (pz_prW wa 16) re sp) H locs := hw
      have hl : lv_has ls 3 [(0, .ref (ad 0)), (1, .int ju), (2, .int (nI 16))] := hl
      refine lv_iload_n hx hb dX1_prepare_37 rfl (lv_at hl 2 rfl) ?_
      refine lv_bipush (v := 16) hx hb dX1_prepare_38 (by decide) ?_
      refine lv_icmp_ge (tgt := 56) hx hb dX1_prepare_40 (by decide) (fun _ => ?_) (fun c9 => absurd (y_le (a := 16)) c9)
      exact y_vret hx hb hr hlocks hK hw (⟨_, _, pz_prG_in ga jw 8, pz_prW_in wa 16, rfl⟩) dX1_prepare_56
set_option maxHeartbeats 4000000 in
/-- send(units) -/
theorem mX_send (l : Launch) (D : va_G) (ad : Nat → Nat) (cd : Nat → ClassId) (tc pr us ud kn ch : Int32) (js je jw : Nat → Nat) (ga wa re sp : pz_F) (k : Nat) (hk : k ≤ 10) (hJ : pz_JB js je jw) : y_MV l yX1_send cX1_send 3 (y_rm 3 67) D (xT cd) [.ref (ad 0), .int (nI k)] (xW ad cd tc pr us ud kn ch js je jw ga wa re sp)
    (fun u => u = xW ad cd tc pr us ((pz_sd js je ga us (ud, wa, (re, sp)) k).1) kn ch js je jw ga ((pz_sd js je ga us (ud, wa, (re, sp)) k).2.1) ((pz_sd js je ga us (ud, wa, (re, sp)) k).2.2.1) ((pz_sd js je ga us (ud, wa, (re, sp)) k).2.2.2)) := by
  refine y_startV (by decide) (Nat.le_of_ble_eq_true rfl) ?_
  intro p e0 s0 m below meth c A ls hx hb hr hml hown hts hlocks hK hA hw hl
  have hw : y_W D A s0.heap (xW ad cd tc pr us ud kn ch js je jw ga wa re sp) s0.heap [] := hw
  have hl : lv_has ls 3 [(0, .ref (ad 0)), (1, .int (nI k))] := hl
  refine lv_iconst (v := nI 0) hx hb dX1_send_0 (by decide) ?_
  refine lv_istore_n (lv' := [(2, .int (nI 0)), (0, .ref (ad 0)), (1, .int (nI k))]) hx hb dX1_send_1 rfl hl (by decide) rfl (fun ls hl => ?_)
  refine y_for 2 3 k 0 (fun n => xW ad cd tc pr us ((pz_sd js je ga us (ud, wa, (re, sp)) n).1) kn ch js je jw ga ((pz_sd js je ga us (ud, wa, (re, sp)) n).2.1) ((pz_sd js je ga us (ud, wa, (re, sp)) n).2.2.1) ((pz_sd js je ga us (ud, wa, (re, sp)) n).2.2.2)) (fun n => [(0, .ref (ad 0)), (1, .int (nI k)), (2, .int (nI n))]) (fun n => True) (Nat.zero_le _) trivial hw (lv_sub hl [1, 2, 0] rfl) ?_ ?_
  · intro n hn hI2 H locs ls hw hl ih2
    have hw : y_W D A s0.heap (xW ad cd tc pr us ((pz_sd js je ga us (ud, wa, (re, sp)) n).1) kn ch js je jw ga ((pz_sd js je ga us (ud, wa, (re, sp)) n).2.1) ((pz_sd js je ga us (ud, wa, (re, sp)) n).2.2.1) ((pz_sd js je ga us (ud, wa, (re, sp)) n).2.2.2)) H locs := hw
    have hl : lv_has ls 3 [(0, .ref (ad 0)), (1, .int (nI k)), (2, .int (nI n))] := hl
    refine lv_iload_n hx hb dX1_send_2 rfl (lv_at hl 2 rfl) ?_
    refine lv_iload_n hx hb dX1_send_3 rfl (lv_at hl 1 rfl) ?_
    refine lv_icmp_ge (tgt := 21) hx hb dX1_send_4 (by decide) (fun c9 => absurd c9 (nI_ge hn (by omega))) (fun _ => ?_)
    refine lv_aload_n hx hb dX1_send_7 rfl (lv_at hl 0 rfl) ?_
    refine y_selfV (q := (RX1, TX1, 13)) (ci := 0) (As := []) (rest := []) ⟨hx, hb, hml, hown, hts⟩ (mX_findWays l D ad cd tc pr us ((pz_sd js je ga us (ud, wa, (re, sp)) n).1) kn ch js je jw ga ((pz_sd js je ga us (ud, wa, (re, sp)) n).2.1) ((pz_sd js je ga us (ud, wa, (re, sp)) n).2.2.1) ((pz_sd js je ga us (ud, wa, (re, sp)) n).2.2.2) hJ) (cwV 0 hts (lw_V q121 q123 qs5 q21 q124) rfl rfl rfl (by decide +kernel) ⟨Nat.le_of_ble_eq_true rfl, Nat.le_of_ble_eq_true rfl⟩) hK hw hA rfl rfl rfl hl.1 rfl (Nat.le_of_ble_eq_true rfl) dX1_send_8 ⟨Nat.zero_le _, Nat.zero_le _⟩ (fun u H locs hq hw => ?_)
    obtain rfl := hq
    have hw : y_W D A s0.heap (xW ad cd tc pr us ((pz_sd js je ga us (ud, wa, (re, sp)) n).1) kn ch js je jw ga ((pz_sd js je ga us (ud, wa, (re, sp)) n).2.1) ((pz_FW js je ga us (pz_sd js je ga us (ud, wa, (re, sp)) n).1 (pz_sd js je ga us (ud, wa, (re, sp)) n).2.1 (pz_sd js je ga us (ud, wa, (re, sp)) n).2.2).1) ((pz_FW js je ga us (pz_sd js je ga us (ud, wa, (re, sp)) n).1 (pz_sd js je ga us (ud, wa, (re, sp)) n).2.1 (pz_sd js je ga us (ud, wa, (re, sp)) n).2.2).2)) H locs := hw
    refine lv_aload_n hx hb dX1_send_11 rfl (lv_at hl 0 rfl) ?_
    refine y_selfV (q := (RX1, TX1, 13)) (ci := 0) (As := []) (rest := []) ⟨hx, hb, hml, hown, hts⟩ (mX_follow l D ad cd tc pr us ((pz_sd js je ga us (ud, wa, (re, sp)) n).1) kn ch js je jw ga ((pz_sd js je ga us (ud, wa, (re, sp)) n).2.1) ((pz_FW js je ga us (pz_sd js je ga us (ud, wa, (re, sp)) n).1 (pz_sd js je ga us (ud, wa, (re, sp)) n).2.1 (pz_sd js je ga us (ud, wa, (re, sp)) n).2.2).1) ((pz_FW js je ga us (pz_sd js je ga us (ud, wa, (re, sp)) n).1 (pz_sd js je ga us (ud, wa, (re, sp)) n).2.1 (pz_sd js je ga us (ud, wa, (re, sp)) n).2.2).2) hJ (pz_FW_st _ _ _ _ _ _ _)) (cwV 0 hts (lw_V q134 q136 qs8 q21 q137) rfl rfl rfl (by decide +kernel) ⟨Nat.le_of_ble_eq_true rfl, Nat.le_of_ble_eq_true rfl⟩) hK hw hA rfl rfl rfl hl.1 rfl (Nat.le_of_ble_eq_true rfl) dX1_send_12 ⟨Nat.zero_le _, Nat.zero_le _⟩ (fun u H locs hq hw => ?_)
    obtain rfl := hq
    have hw : y_W D A s0.heap (xW ad cd tc pr us ((pz_fo js je (pz_FW js je ga us (pz_sd js je ga us (ud, wa, (re, sp)) n).1 (pz_sd js je ga us (ud, wa, (re, sp)) n).2.1 (pz_sd js je ga us (ud, wa, (re, sp)) n).2.2).2 (16, (pz_sd js je ga us (ud, wa, (re, sp)) n).1, (pz_sd js je ga us (ud, wa, (re, sp)) n).2.1) 64).2.1) kn ch js je jw ga ((pz_fo js je (pz_FW js je ga us (pz_sd js je ga us (ud, wa, (re, sp)) n).1 (pz_sd js je ga us (ud, wa, (re, sp)) n).2.1 (pz_sd js je ga us (ud, wa, (re, sp)) n).2.2).2 (16, (pz_sd js je ga us (ud, wa, (re, sp)) n).1, (pz_sd js je ga us (ud, wa, (re, sp)) n).2.1) 64).2.2) ((pz_FW js je ga us (pz_sd js je ga us (ud, wa, (re, sp)) n).1 (pz_sd js je ga us (ud, wa, (re, sp)) n).2.1 (pz_sd js je ga us (ud, wa, (re, sp)) n).2.2).1) ((pz_FW js je ga us (pz_sd js je ga us (ud, wa, (re, sp)) n).1 (pz_sd js je ga us (ud, wa, (re, sp)) n).2.1 (pz_sd js je ga us (ud, wa, (re, sp)) n).2.2).2)) H locs := hw
    refine lv_iinc (v := nI (n + 1)) (lv' := [(2, .int (nI (n + 1))), (0, .ref (ad 0)), (1, .int (nI k))]) hx hb dX1_send_15 hl (k := 2) rfl (nI_1 _) (by decide) rfl (fun ls hl => ?_)
    refine lv_goto (tgt := 2) hx hb dX1_send_18 (by decide) ?_
    have e1 := pz_sd_succ js je ga us (ud, wa, (re, sp)) n
    simp only [e1] at ih2
    exact ih2 trivial _ _ _ hw (lv_sub hl [1, 2, 0] rfl)
  · intro hI2 H locs ls hw hl
    have hw : y_W D A s0.heap (xW ad cd tc pr us ((pz_sd js je ga us (ud, wa, (re, sp)) k).1) kn ch js je jw ga ((pz_sd js je ga us (ud, wa, (re, sp)) k).2.1) ((pz_sd js je ga us (ud, wa, (re, sp)) k).2.2.1) ((pz_sd js je ga us (ud, wa, (re, sp)) k).2.2.2)) H locs := hw
    have hl : lv_has ls 3 [(0, .ref (ad 0)), (1, .int (nI k)), (2, .int (nI k))] := hl
    refine lv_iload_n hx hb dX1_send_2 rfl (lv_at hl 2 rfl) ?_
    refine lv_iload_n hx hb dX1_send_3 rfl (lv_at hl 1 rfl) ?_
    refine lv_icmp_ge (tgt := 21) hx hb dX1_send_4 (by decide) (fun _ => ?_) (fun c9 => absurd (y_le (a := k)) c9)
    exact y_vret hx hb hr hlocks hK hw rfl dX1_send_21
set_option maxHeartbeats 4000000 in
/-- choose(): afterwards the choice is known -/
theorem mX_choose (l : Launch) (D : va_G) (ad : Nat → Nat) (cd : Nat → ClassId) (k P : Nat) (us ud kn ch : Int32) (js je jw : Nat → Nat) (ga wa re sp : pz_F)  (hJW : pz_JW k P js je jw) (hKn : pz_Kn js je jw P k kn ch) : y_MV l yX1_choose cX1_choose 1 (y_rm 4 89) D (xT cd) [.ref (ad 0)] (xW ad cd (nI k) (nI P) us ud kn ch js je jw ga wa re sp)
    (fun u => ∃ (us ud : Int32) (ga wa re sp : pz_F), u = xW ad cd (nI k) (nI P) us ud 1 (nI (pz_BT js je jw P k)) js je jw ga wa re sp) := by
  refine y_startV (by decide) (Nat.le_of_ble_eq_true rfl) ?_
  intro p e0 s0 m below meth c A ls hx hb hr hml hown hts hlocks hK hA hw hl
  have hw : y_W D A s0.heap (xW ad cd (nI k) (nI P) us ud kn ch js je jw ga wa re sp) s0.heap [] := hw
  have hl : lv_has ls 1 [(0, .ref (ad 0))] := hl
  refine lv_aload_n hx hb dX1_choose_0 rfl (lv_at hl 0 rfl) ?_
  refine x_get hx hb hts hown hK hw rfl 11 (by decide) q42 rfl dX1_choose_1 ?_
  refine lv_if_eq (tgt := 8) hx hb dX1_choose_4 (by decide) (fun c4 => ?_) (fun c4 => ?_)
  · skip
    refine lv_aload_n hx hb dX1_choose_8 rfl (lv_at hl 0 rfl) ?_
    refine lv_iconst (v := 1) hx hb dX1_choose_9 (by decide) ?_
    refine x_put (ty := .boolean) (v := .int 1) (ws' := xW ad cd (nI k) (nI P) us ud 1 ch js je jw ga wa re sp) hx hb hts hown hK hw rfl 11 (by decide) q42 rfl (by decide +kernel) rfl rfl (Nat.le_of_ble_eq_true rfl) rfl dX1_choose_10 (fun H locs hw => ?_)
    refine lv_aload_n hx hb dX1_choose_13 rfl (lv_at hl 0 rfl) ?_
    refine lv_aload_n hx hb dX1_choose_14 rfl (lv_at hl 0 rfl) ?_
    refine x_get hx hb hts hown hK hw rfl 1 (by decide) q32 rfl dX1_choose_15 ?_
    refine y_selfV (q := (RX1, TX1, 13)) (ci := 0) (As := [.int (nI P)]) (rest := []) ⟨hx, hb, hml, hown, hts⟩ (mX_prepare l D ad cd (nI k) (nI P) us ud 1 ch js je jw ga wa re sp (nI P)) (cwV 1 hts (lw_V q109 q111 qs2 q21 q112) rfl rfl rfl (by decide +kernel) ⟨Nat.le_of_ble_eq_true rfl, Nat.le_of_ble_eq_true rfl⟩) hK hw hA rfl rfl rfl hl.1 rfl (Nat.le_of_ble_eq_true rfl) dX1_choose_18 ⟨Nat.zero_le _, Nat.zero_le _⟩ (fun u H locs hq hw => ?_)
    obtain ⟨ga1, wa1, hga1, hwa1, rfl⟩ := hq
    have hw : y_W D A s0.heap (xW ad cd (nI k) (nI P) (nI P) 0 1 ch js je jw ga1 wa1 re sp) H locs := hw
    refine lv_aload_n hx hb dX1_choose_21 rfl (lv_at hl 0 rfl) ?_
    refine lv_aload_n hx hb dX1_choose_22 rfl (lv_at hl 0 rfl) ?_
    refine x_get hx hb hts hown hK hw rfl 0 (by decide) q31 rfl dX1_choose_23 ?_
    refine y_selfV (q := (RX1, TX1, 13)) (ci := 0) (As := [.int (nI k)]) (rest := []) ⟨hx, hb, hml, hown, hts⟩ (mX_send l D ad cd (nI k) (nI P) (nI P) 0 1 ch js je jw ga1 wa1 re sp k (by have := hJW.1; omega) hJW.2.2.1) (cwV 1 hts (lw_V q117 q119 qs4 q21 q120) rfl rfl rfl (by decide +kernel) ⟨Nat.le_of_ble_eq_true rfl, Nat.le_of_ble_eq_true rfl⟩) hK hw hA rfl rfl rfl hl.1 rfl (Nat.le_of_ble_eq_true rfl) dX1_choose_26 ⟨Nat.zero_le _, Nat.zero_le _⟩ (fun u H locs hq hw => ?_)
    obtain rfl := hq
    obtain ⟨S, hS1, hS2⟩ := pz_send (g := pz_mw jw) hJW.2.1 hJW.2.2.2 (pz_g1 hJW) hga1 hwa1 (re, sp) k (by have := hJW.1; omega)
    generalize pz_sd js je ga1 (nI P) (0, wa1, (re, sp)) k = Zz at hw hS1
    obtain ⟨z1, wa2, re2, sp2⟩ := Zz
    obtain rfl : z1 = nI S := hS1
    obtain rfl := pz_Opt_BT hS2
    have hw : y_W D A s0.heap (xW ad cd (nI k) (nI P) (nI P) (nI (pz_BT js je jw P k)) 1 ch js je jw ga1 wa2 re2 sp2) H locs := hw
    refine lv_aload_n hx hb dX1_choose_29 rfl (lv_at hl 0 rfl) ?_
    refine lv_aload_n hx hb dX1_choose_30 rfl (lv_at hl 0 rfl) ?_
    refine x_get hx hb hts hown hK hw rfl 7 (by decide) q38 rfl dX1_choose_31 ?_
    refine x_put (ty := .int) (v := .int (nI (pz_BT js je jw P k))) (ws' := xW ad cd (nI k) (nI P) (nI P) (nI (pz_BT js je jw P k)) 1 (nI (pz_BT js je jw P k)) js je jw ga1 wa2 re2 sp2) hx hb hts hown hK hw rfl 12 (by decide) q43 rfl (by decide +kernel) rfl rfl (Nat.le_of_ble_eq_true rfl) rfl dX1_choose_34 (fun H locs hw => ?_)
    exact y_vret hx hb hr hlocks hK hw (⟨_, _, _, _, _, _, rfl⟩) dX1_choose_37
  · skip
    have hk1 := hKn.resolve_left c4
    exact y_vret hx hb hr hlocks hK hw (⟨us, ud, ga, wa, re, sp, by rw [hk1.1, hk1.2]⟩) dX1_choose_7
set_option maxHeartbeats 4000000 in
/-- totalFor(tracks) -/
theorem mX_totalFor (l : Launch) (D : va_G) (ad : Nat → Nat) (cd : Nat → ClassId) (k P : Nat) (us ud kn ch : Int32) (js je jw : Nat → Nat) (ga wa re sp : pz_F) (n : Nat) (hn : n ≤ 5) (hJW : pz_JW k P js je jw) : y_MI l yX1_totalFor cX1_totalFor 3 .int (y_rm 4 89) D (xT cd) [.ref (ad 0), .int (nI n)] (xW ad cd (nI k) (nI P) us ud kn ch js je jw ga wa re sp)
    (fun r u => r = nI (pz_su jw (pz_BT js je jw P n) 8) ∧ ∃ (us ud : Int32) (ga wa re sp : pz_F), u = xW ad cd (nI k) (nI P) us ud kn ch js je jw ga wa re sp) := by
  refine y_startI (by decide) (Nat.le_of_ble_eq_true rfl) ?_
  intro p e0 s0 m below meth c A ls hx hb hr hml hown hts hlocks hK hA hw hl
  have hw : y_W D A s0.heap (xW ad cd (nI k) (nI P) us ud kn ch js je jw ga wa re sp) s0.heap [] := hw
  have hl : lv_has ls 3 [(0, .ref (ad 0)), (1, .int (nI n))] := hl
  refine lv_aload_n hx hb dX1_totalFor_0 rfl (lv_at hl 0 rfl) ?_
  refine lv_aload_n hx hb dX1_totalFor_1 rfl (lv_at hl 0 rfl) ?_
  refine x_get hx hb hts hown hK hw rfl 1 (by decide) q32 rfl dX1_totalFor_2 ?_
  refine y_selfV (q := (RX1, TX1, 13)) (ci := 0) (As := [.int (nI P)]) (rest := []) ⟨hx, hb, hml, hown, hts⟩ (mX_prepare l D ad cd (nI k) (nI P) us ud kn ch js je jw ga wa re sp (nI P)) (cwV 1 hts (lw_V q109 q111 qs2 q21 q112) rfl rfl rfl (by decide +kernel) ⟨Nat.le_of_ble_eq_true rfl, Nat.le_of_ble_eq_true rfl⟩) hK hw hA rfl rfl rfl hl.1 rfl (Nat.le_of_ble_eq_true rfl) dX1_totalFor_5 ⟨Nat.zero_le _, Nat.zero_le _⟩ (fun u H locs hq hw => ?_)
  obtain ⟨ga1, wa1, hga1, hwa1, rfl⟩ := hq
  have hw : y_W D A s0.heap (xW ad cd (nI k) (nI P) (nI P) 0 kn ch js je jw ga1 wa1 re sp) H locs := hw
  refine lv_aload_n hx hb dX1_totalFor_8 rfl (lv_at hl 0 rfl) ?_
  refine lv_iload_n hx hb dX1_totalFor_9 rfl (lv_at hl 1 rfl) ?_
  refine y_selfV (q := (RX1, TX1, 13)) (ci := 0) (As := [.int (nI n)]) (rest := []) ⟨hx, hb, hml, hown, hts⟩ (mX_send l D ad cd (nI k) (nI P) (nI P) 0 kn ch js je jw ga1 wa1 re sp n (by omega) hJW.2.2.1) (cwV 1 hts (lw_V q117 q119 qs4 q21 q120) rfl rfl rfl (by decide +kernel) ⟨Nat.le_of_ble_eq_true rfl, Nat.le_of_ble_eq_true rfl⟩) hK hw hA rfl rfl rfl hl.1 rfl (Nat.le_of_ble_eq_true rfl) dX1_totalFor_10 ⟨Nat.zero_le _, Nat.zero_le _⟩ (fun u H locs hq hw => ?_)
  obtain rfl := hq
  obtain ⟨S, hS1, hS2⟩ := pz_send (g := pz_mw jw) hJW.2.1 hJW.2.2.2 (pz_g1 hJW) hga1 hwa1 (re, sp) n (by omega)
  generalize pz_sd js je ga1 (nI P) (0, wa1, (re, sp)) n = Zz at hw hS1
  obtain ⟨z1, wa2, re2, sp2⟩ := Zz
  obtain rfl : z1 = nI S := hS1
  obtain rfl := pz_Opt_BT hS2
  have hw : y_W D A s0.heap (xW ad cd (nI k) (nI P) (nI P) (nI (pz_BT js je jw P n)) kn ch js je jw ga1 wa2 re2 sp2) H locs := hw
  refine lv_aload_n hx hb dX1_totalFor_13 rfl (lv_at hl 0 rfl) ?_
  refine lv_aload_n hx hb dX1_totalFor_14 rfl (lv_at hl 0 rfl) ?_
  refine x_get hx hb hts hown hK hw rfl 7 (by decide) q38 rfl dX1_totalFor_15 ?_
  refine y_selfI (q := (RX1, TX1, 13)) (ci := 0) (As := [.int (nI (pz_BT js je jw P n))]) (rest := []) ⟨hx, hb, hml, hown, hts⟩ (mX_markedSum l D ad cd (nI k) (nI P) (nI P) (nI (pz_BT js je jw P n)) kn ch js je jw ga1 wa2 re2 sp2 (pz_BT js je jw P n) (pz_BT_lt _ _ _ _ _)) (cwV 1 hts (lw_V q142 q144 qs9 q21 q145) rfl rfl rfl (by decide +kernel) ⟨Nat.le_of_ble_eq_true rfl, Nat.le_of_ble_eq_true rfl⟩) hK hw hA rfl rfl rfl hl.1 rfl (Nat.le_of_ble_eq_true rfl) dX1_totalFor_18 ⟨Nat.zero_le _, Nat.zero_le _⟩ (fun r u H locs hq hw => ?_)
  obtain ⟨rfl, rfl⟩ := hq
  have hw : y_W D A s0.heap (xW ad cd (nI k) (nI P) (nI P) (nI (pz_BT js je jw P n)) kn ch js je jw ga1 wa2 re2 sp2) H locs := hw
  refine lv_istore_n (lv' := [(2, .int (nI (pz_ms jw (pz_BT js je jw P n) 8))), (0, .ref (ad 0)), (1, .int (nI n))]) hx hb dX1_totalFor_21 rfl hl (by decide) rfl (fun ls hl => ?_)
  refine lv_iload_n hx hb dX1_totalFor_22 rfl (lv_at hl 0 rfl) ?_
  refine y_statI (As := [.int (nI (pz_ms jw (pz_BT js je jw P n) 8))]) (rest := []) ⟨hx, hb, hml, hown, hts⟩ (mX_plain l D (nI (pz_ms jw (pz_BT js je jw P n) 8))) (va_cwS 1 hts (lw_S q146 q147 q21 q148) rfl rfl rfl (by decide +kernel) ⟨Nat.le_of_ble_eq_true rfl, Nat.le_of_ble_eq_true rfl⟩) (hK.sub [] rfl) hw hA rfl hl.1 rfl (Nat.le_of_ble_eq_true rfl) dX1_totalFor_23 ⟨Nat.zero_le _, Nat.zero_le _⟩ (fun r u H locs hq hw => ?_)
  obtain rfl := hq
  have hw : y_W D A s0.heap (xW ad cd (nI k) (nI P) (nI P) (nI (pz_BT js je jw P n)) kn ch js je jw ga1 wa2 re2 sp2) H locs := hw
  refine y_top (x' := nI (pz_su jw (pz_BT js je jw P n) 8)) (pz_pl (pz_w20 hJW)) ?_
  exact y_iret (v := nI (pz_su jw (pz_BT js je jw P n) 8)) hx hb hr hlocks hK hw rfl (⟨rfl, _, _, _, _, _, _, rfl⟩) dX1_totalFor_26
set_option maxHeartbeats 4000000 in
/-- bestWith(must, never) -/
theorem mX_bestWith (l : Launch) (D : va_G) (ad : Nat → Nat) (cd : Nat → ClassId) (k P : Nat) (us ud kn ch : Int32) (js je jw : Nat → Nat) (ga wa re sp : pz_F) (M U : Nat) (xn : Int32) (hM : M < 256) (hU8 : U < 256) (hUP : pz_sb U P) (hUe : nI P &&& (xn ^^^ (-1)) = nI U) (hJW : pz_JW k P js je jw) : y_MI l yX1_bestWith cX1_bestWith 4 .int (y_rm 4 89) D (xT cd) [.ref (ad 0), .int (nI M), .int xn] (xW ad cd (nI k) (nI P) us ud kn ch js je jw ga wa re sp)
    (fun r u => pz_BW js je jw U k M r ∧ ∃ (us ud : Int32) (ga wa re sp : pz_F), u = xW ad cd (nI k) (nI P) us ud kn ch js je jw ga wa re sp) := by
  refine y_startI (by decide) (Nat.le_of_ble_eq_true rfl) ?_
  intro p e0 s0 m below meth c A ls hx hb hr hml hown hts hlocks hK hA hw hl
  have hw : y_W D A s0.heap (xW ad cd (nI k) (nI P) us ud kn ch js je jw ga wa re sp) s0.heap [] := hw
  have hl : lv_has ls 4 [(0, .ref (ad 0)), (1, .int (nI M)), (2, .int xn)] := hl
  refine lv_aload_n hx hb dX1_bestWith_0 rfl (lv_at hl 0 rfl) ?_
  refine lv_aload_n hx hb dX1_bestWith_1 rfl (lv_at hl 0 rfl) ?_
  refine x_get hx hb hts hown hK hw rfl 1 (by decide) q32 rfl dX1_bestWith_2 ?_
  refine lv_iload_n hx hb dX1_bestWith_5 rfl (lv_at hl 2 rfl) ?_
  refine lv_iconst (v := (-1)) hx hb dX1_bestWith_6 (by decide) ?_
  refine lv_ixor hx hb dX1_bestWith_7 ?_
  refine lv_iand hx hb dX1_bestWith_8 ?_
  refine y_top (x' := nI U) hUe ?_
  refine y_selfV (q := (RX1, TX1, 13)) (ci := 0) (As := [.int (nI U)]) (rest := []) ⟨hx, hb, hml, hown, hts⟩ (mX_prepare l D ad cd (nI k) (nI P) us ud kn ch js je jw ga wa re sp (nI U)) (cwV 1 hts (lw_V q109 q111 qs2 q21 q112) rfl rfl rfl (by decide +kernel) ⟨Nat.le_of_ble_eq_true rfl, Nat.le_of_ble_eq_true rfl⟩) hK hw hA rfl rfl rfl hl.1 rfl (Nat.le_of_ble_eq_true rfl) dX1_bestWith_9 ⟨Nat.zero_le _, Nat.zero_le _⟩ (fun u H locs hq hw => ?_)
  obtain ⟨ga1, wa1, hga1, hwa1, rfl⟩ := hq
  have hw : y_W D A s0.heap (xW ad cd (nI k) (nI P) (nI U) 0 kn ch js je jw ga1 wa1 re sp) H locs := hw
  refine lv_iconst (v := nI 0) hx hb dX1_bestWith_12 (by decide) ?_
  refine lv_istore_n (lv' := [(3, .int (nI 0)), (0, .ref (ad 0)), (1, .int (nI M)), (2, .int xn)]) hx hb dX1_bestWith_13 rfl hl (by decide) rfl (fun ls hl => ?_)
  refine y_for 14 4 8 0 (fun j => xW ad cd (nI k) (nI P) (nI U) 0 kn ch js je jw (pz_mG ga1 M j) wa1 re sp) (fun j => [(0, .ref (ad 0)), (1, .int (nI M)), (2, .int xn), (3, .int (nI j))]) (fun j => True) (Nat.le_of_ble_eq_true rfl) trivial hw (lv_sub hl [1, 2, 3, 0] rfl) ?_ ?_
  · intro j hj hI14 H locs ls hw hl ih14
    have hw : y_W D A s0.heap (xW ad cd (nI k) (nI P) (nI U) 0 kn ch js je jw (pz_mG ga1 M j) wa1 re sp) H locs := hw
    have hl : lv_has ls 4 [(0, .ref (ad 0)), (1, .int (nI M)), (2, .int xn), (3, .int (nI j))] := hl
    refine lv_iload_n hx hb dX1_bestWith_14 rfl (lv_at hl 3 rfl) ?_
    refine lv_bipush (v := 8) hx hb dX1_bestWith_15 (by decide) ?_
    refine lv_icmp_ge (tgt := 45) hx hb dX1_bestWith_17 (by decide) (fun c9 => absurd c9 (y_ge hj)) (fun _ => ?_)
    refine lv_iload_n hx hb dX1_bestWith_20 rfl (lv_at hl 1 rfl) ?_
    refine lv_iload_n hx hb dX1_bestWith_21 rfl (lv_at hl 3 rfl) ?_
    refine lv_ishr hx hb dX1_bestWith_22 ?_
    refine lv_iconst (v := 1) hx hb dX1_bestWith_23 (by decide) ?_
    refine lv_iand hx hb dX1_bestWith_24 ?_
    refine lv_if_eq (tgt := 39) hx hb dX1_bestWith_25 (by decide) (fun c25 => ?_) (fun c25 => ?_)
    · skip
      have hbit := pz_bit0 hM hj c25
      refine lv_iinc (v := nI (j + 1)) (lv' := [(3, .int (nI (j + 1))), (0, .ref (ad 0)), (1, .int (nI M)), (2, .int xn)]) hx hb dX1_bestWith_39 hl (k := 3) rfl (nI_1 _) (by decide) rfl (fun ls hl => ?_)
      refine lv_goto (tgt := 14) hx hb dX1_bestWith_42 (by decide) ?_
      have e1 : pz_mG ga1 M (j + 1) = _ := pz_mG_f hbit
      simp only [e1] at ih14
      exact ih14 trivial _ _ _ hw (lv_sub hl [1, 2, 3, 0] rfl)
    · skip
      have hbit := pz_bit1 hM hj c25
      refine lv_aload_n hx hb dX1_bestWith_28 rfl (lv_at hl 0 rfl) ?_
      refine x_get hx hb hts hown hK hw rfl 5 (by decide) q36 rfl dX1_bestWith_29 ?_
      refine lv_iload_n hx hb dX1_bestWith_32 rfl (lv_at hl 3 rfl) ?_
      refine lv_dup2_11 hx hb dX1_bestWith_33 rfl rfl ?_
      refine y_iald hx hb hK hw 4 3 j rfl rfl rfl hj (by decide) dX1_bestWith_34 ?_
      refine lv_ldc (v := 1048576) hx hb hown (hts _ q173) dX1_bestWith_35 ?_
      refine lv_iadd hx hb dX1_bestWith_37 ?_
      refine y_iast (ws' := xW ad cd (nI k) (nI P) (nI U) 0 kn ch js je jw (upd (pz_mG ga1 M j) j (((pz_mG ga1 M j) j) + 1048576)) wa1 re sp) hx hb hK hw 4 3 j rfl rfl rfl hj (by decide) rfl dX1_bestWith_38 (fun H locs hw => ?_)
      refine lv_iinc (v := nI (j + 1)) (lv' := [(3, .int (nI (j + 1))), (0, .ref (ad 0)), (1, .int (nI M)), (2, .int xn)]) hx hb dX1_bestWith_39 hl (k := 3) rfl (nI_1 _) (by decide) rfl (fun ls hl => ?_)
      refine lv_goto (tgt := 14) hx hb dX1_bestWith_42 (by decide) ?_
      have e1 : pz_mG ga1 M (j + 1) = _ := pz_mG_t hbit
      simp only [e1] at ih14
      exact ih14 trivial _ _ _ hw (lv_sub hl [1, 2, 3, 0] rfl)
  · intro hI14 H locs ls hw hl
    have hw : y_W D A s0.heap (xW ad cd (nI k) (nI P) (nI U) 0 kn ch js je jw (pz_mG ga1 M 8) wa1 re sp) H locs := hw
    have hl : lv_has ls 4 [(0, .ref (ad 0)), (1, .int (nI M)), (2, .int xn), (3, .int (nI 8))] := hl
    refine lv_iload_n hx hb dX1_bestWith_14 rfl (lv_at hl 3 rfl) ?_
    refine lv_bipush (v := 8) hx hb dX1_bestWith_15 (by decide) ?_
    refine lv_icmp_ge (tgt := 45) hx hb dX1_bestWith_17 (by decide) (fun _ => ?_) (fun c9 => absurd (y_le (a := 8)) c9)
    refine lv_aload_n hx hb dX1_bestWith_45 rfl (lv_at hl 0 rfl) ?_
    refine lv_aload_n hx hb dX1_bestWith_46 rfl (lv_at hl 0 rfl) ?_
    refine x_get hx hb hts hown hK hw rfl 0 (by decide) q31 rfl dX1_bestWith_47 ?_
    refine y_selfV (q := (RX1, TX1, 13)) (ci := 0) (As := [.int (nI k)]) (rest := []) ⟨hx, hb, hml, hown, hts⟩ (mX_send l D ad cd (nI k) (nI P) (nI U) 0 kn ch js je jw (pz_mG ga1 M 8) wa1 re sp k (by have := hJW.1; omega) hJW.2.2.1) (cwV 1 hts (lw_V q117 q119 qs4 q21 q120) rfl rfl rfl (by decide +kernel) ⟨Nat.le_of_ble_eq_true rfl, Nat.le_of_ble_eq_true rfl⟩) hK hw hA rfl rfl rfl hl.1 rfl (Nat.le_of_ble_eq_true rfl) dX1_bestWith_50 ⟨Nat.zero_le _, Nat.zero_le _⟩ (fun u H locs hq hw => ?_)
    obtain rfl := hq
    obtain ⟨S, hS1, hS2⟩ := pz_send (g := pz_gm jw M) hU8 (fun j hj hb => hJW.2.2.2 j hj (hUP j hj hb)) (pz_g2 hJW) (pz_mG_in hga1 8 (Nat.le_refl _)).1 hwa1 (re, sp) k (by have := hJW.1; omega)
    generalize pz_sd js je (pz_mG ga1 M 8) (nI U) (0, wa1, (re, sp)) k = Zz at hw hS1
    obtain ⟨z1, wa2, re2, sp2⟩ := Zz
    obtain rfl : z1 = nI S := hS1
    have hBW := pz_Opt_BW (pz_w20 hJW) hS2
    have hS8 := hS2.1
    have hw : y_W D A s0.heap (xW ad cd (nI k) (nI P) (nI U) (nI S) kn ch js je jw (pz_mG ga1 M 8) wa2 re2 sp2) H locs := hw
    refine lv_iload_n hx hb dX1_bestWith_53 rfl (lv_at hl 1 rfl) ?_
    refine lv_aload_n hx hb dX1_bestWith_54 rfl (lv_at hl 0 rfl) ?_
    refine x_get hx hb hts hown hK hw rfl 7 (by decide) q38 rfl dX1_bestWith_55 ?_
    refine lv_iconst (v := (-1)) hx hb dX1_bestWith_58 (by decide) ?_
    refine lv_ixor hx hb dX1_bestWith_59 ?_
    refine lv_iand hx hb dX1_bestWith_60 ?_
    refine lv_if_eq (tgt := 68) hx hb dX1_bestWith_61 (by decide) (fun c61 => ?_) (fun c61 => ?_)
    · skip
      refine lv_aload_n hx hb dX1_bestWith_68 rfl (lv_at hl 0 rfl) ?_
      refine x_get hx hb hts hown hK hw rfl 7 (by decide) q38 rfl dX1_bestWith_69 ?_
      exact y_iret (v := nI S) hx hb hr hlocks hK hw rfl (⟨hBW.2 ((pz_sb_cm hM).mp c61), _, _, _, _, _, _, rfl⟩) dX1_bestWith_72
    · skip
      refine lv_iconst (v := (-1)) hx hb dX1_bestWith_64 (by decide) ?_
      refine lv_goto (tgt := 72) hx hb dX1_bestWith_65 (by decide) ?_
      exact y_iret (v := (-1)) hx hb hr hlocks hK hw rfl (⟨hBW.1 (fun q => c61 ((pz_sb_cm hM).mpr q)), _, _, _, _, _, _, rfl⟩) dX1_bestWith_72
end
section
/-! the answers' specifications, and laws for the public methods -/
theorem pz_has_yes {P : Nat} {j : Int32} (h : ¬ pz_has P j = 0) : ∃ q, q < 8 ∧ j = nI q ∧ P.testBit q = true := by
  unfold pz_has at h
  by_cases hc : 0 ≤ j ∧ j < 8 ∧ P.testBit j.toNatClampNeg = true
  · obtain ⟨q, hq, e⟩ := pz_ix8 (Int32.not_lt.mpr hc.1) (Int32.not_le.mpr hc.2.1)
    refine ⟨q, hq, e, ?_⟩
    have := hc.2.2
    rw [e, nI_clamp (by omega)] at this
    exact this
  · rw [if_neg hc] at h
    exact absurd rfl h
theorem pz_has_n0 {P q : Nat} (hq : q < 8) (h : P.testBit q = true) : ¬ pz_has P (nI q) = 0 := by
  rw [pz_has_nI hq, h, if_pos rfl]
  decide
theorem pz_has_f {P q : Nat} (hq : q < 8) (h : pz_has P (nI q) = 0) : P.testBit q = false := by
  cases hb : P.testBit q with
  | false => rfl
  | true => exact absurd h (pz_has_n0 hq hb)
theorem pz_has_t {P q : Nat} (hq : q < 8) (h : ¬ pz_has P (nI q) = 0) : P.testBit q = true := by
  cases hb : P.testBit q with
  | true => rfl
  | false =>
    rw [pz_has_nI hq, hb, if_neg (by decide)] at h
    exact absurd rfl h
theorem pz_i2b : ∀ a, a < 128 → (nI a).toInt8.toInt32 = nI a := by decide +kernel
theorem pz_1sh : ∀ q, q < 8 → (1 : Int32) <<< (nI q &&& 31) = nI (2 ^ q) := by decide +kernel
theorem pz_2q : ∀ q, q < 8 → 2 ^ q < 256 := by decide
theorem pz_2b : ∀ q, q < 8 → ∀ i, i < 8 → ((2 ^ q).testBit i = true ↔ i = q) := by decide +kernel
theorem pz_c0 : ∀ P, P < 256 → nI P &&& ((0 : Int32) ^^^ (-1)) = nI P := by decide +kernel
theorem pz_cq {P q : Nat} (hP : P < 256) (hq : q < 8) : nI P &&& (nI (2 ^ q) ^^^ (-1)) = nI (P &&& (255 - 2 ^ q)) := by
  rw [← pz_1sh q hq]
  exact pz_clr P hP q hq
theorem xW_js {ad : Nat → Nat} {cd : Nat → ClassId} {tc pr us ud kn ch : Int32} {js je jw : Nat → Nat} {ga wa re sp : pz_F} {k a : Nat} : (xW ad cd tc pr us ud kn ch js je jw ga wa re sp).set 1 (ad 1, .inl (cd 1, 8, .inl (upd (fun j => nI (js j)) k (nI a)))) = xW ad cd tc pr us ud kn ch (va_up js k a) je jw ga wa re sp := by
  rw [y_upn]
  rfl
theorem xW_je {ad : Nat → Nat} {cd : Nat → ClassId} {tc pr us ud kn ch : Int32} {js je jw : Nat → Nat} {ga wa re sp : pz_F} {k a : Nat} : (xW ad cd tc pr us ud kn ch js je jw ga wa re sp).set 2 (ad 2, .inl (cd 2, 8, .inl (upd (fun j => nI (je j)) k (nI a)))) = xW ad cd tc pr us ud kn ch js (va_up je k a) jw ga wa re sp := by
  rw [y_upn]
  rfl
theorem xW_jw {ad : Nat → Nat} {cd : Nat → ClassId} {tc pr us ud kn ch : Int32} {js je jw : Nat → Nat} {ga wa re sp : pz_F} {k a : Nat} : (xW ad cd tc pr us ud kn ch js je jw ga wa re sp).set 3 (ad 3, .inl (cd 3, 8, .inl (upd (fun j => nI (jw j)) k (nI a)))) = xW ad cd tc pr us ud kn ch js je (va_up jw k a) ga wa re sp := by
  rw [y_upn]
  rfl
/-- bring -/
def pz_brB (a b c : Int32) : Prop := a < 0 ∨ 16 < b ∨ b ≤ a ∨ c < 1 ∨ 20 < c
/-- j is the first job that P lacks -/
def pz_ff (P j : Nat) : Prop := j < 8 ∧ (∀ i, i < j → P.testBit i = true) ∧ P.testBit j = false
theorem pz_ff_u {P i j : Nat} (hi : pz_ff P i) (hj : pz_ff P j) : i = j := by
  rcases Nat.lt_trichotomy i j with h | h | h
  · have := hj.2.1 i h
    rw [hi.2.2] at this
    cases this
  · exact h
  · have := hi.2.1 j h
    rw [hj.2.2] at this
    cases this
theorem pz_br_ok {a b c : Int32} (h1 : ¬ a < 0) (h2 : ¬ 16 < b) (h3 : ¬ b ≤ a) (h4 : ¬ c < 1) (h5 : ¬ 20 < c) : ∃ A B C : Nat, a = nI A ∧ b = nI B ∧ c = nI C ∧ A < B ∧ B ≤ 16 ∧ 1 ≤ C ∧ C ≤ 20 := by
  rw [Int32.lt_iff_toInt_lt] at h1 h2 h4 h5
  rw [Int32.le_iff_toInt_le] at h3
  rw [show (0 : Int32).toInt = 0 from rfl] at h1
  rw [show (16 : Int32).toInt = 16 from rfl] at h2
  rw [show (1 : Int32).toInt = 1 from rfl] at h4
  rw [show (20 : Int32).toInt = 20 from rfl] at h5
  refine ⟨a.toInt.toNat, b.toInt.toNat, c.toInt.toNat, ?_, ?_, ?_, by omega, by omega, by omega, by omega⟩
  · rw [← Int32.toInt_inj, nI_toInt (by omega)]
    omega
  · rw [← Int32.toInt_inj, nI_toInt (by omega)]
    omega
  · rw [← Int32.toInt_inj, nI_toInt (by omega)]
    omega
theorem pz_rv_ok {c : Int32} (h4 : ¬ c < 1) (h5 : ¬ 20 < c) : ∃ C : Nat, c = nI C ∧ 1 ≤ C ∧ C ≤ 20 := by
  rw [Int32.lt_iff_toInt_lt] at h4 h5
  rw [show (1 : Int32).toInt = 1 from rfl] at h4
  rw [show (20 : Int32).toInt = 20 from rfl] at h5
  refine ⟨c.toInt.toNat, ?_, by omega, by omega⟩
  rw [← Int32.toInt_inj, nI_toInt (by omega)]
  omega
theorem pz_st_ok {c : Int32} (h4 : ¬ c < 0) (h5 : ¬ 4 < c) : ∃ C : Nat, c = nI C ∧ C ≤ 4 := by
  rw [Int32.lt_iff_toInt_lt] at h4 h5
  rw [show (0 : Int32).toInt = 0 from rfl] at h4
  rw [show (4 : Int32).toInt = 4 from rfl] at h5
  refine ⟨c.toInt.toNat, ?_, by omega⟩
  rw [← Int32.toInt_inj, nI_toInt (by omega)]
  omega
theorem pz_by_ok {c : Int32} (h4 : ¬ c < 0) (h5 : c < 16) : ∃ C : Nat, c = nI C ∧ C < 16 := by
  rw [Int32.lt_iff_toInt_lt] at h4 h5
  rw [show (0 : Int32).toInt = 0 from rfl] at h4
  rw [show (16 : Int32).toInt = 16 from rfl] at h5
  refine ⟨c.toInt.toNat, ?_, by omega⟩
  rw [← Int32.toInt_inj, nI_toInt (by omega)]
  omega
/-- bring's answer r and the jobs behind it -/
def pz_BR (P : Nat) (js je jw : Nat → Nat) (a b c r : Int32) (P' : Nat) (js' je' jw' : Nat → Nat) : Prop :=
  (pz_brB a b c ∧ r = -1 ∧ P' = P ∧ js' = js ∧ je' = je ∧ jw' = jw) ∨ (¬ pz_brB a b c ∧ (∀ i, i < 8 → P.testBit i = true) ∧ r = -2 ∧ P' = P ∧ js' = js ∧ je' = je ∧ jw' = jw) ∨
  (¬ pz_brB a b c ∧ ∃ j A B C : Nat, pz_ff P j ∧ a = nI A ∧ b = nI B ∧ c = nI C ∧ A < B ∧ B ≤ 16 ∧ 1 ≤ C ∧ C ≤ 20 ∧ r = nI j ∧ P' = P ||| 2 ^ j ∧ js' = va_up js j A ∧ je' = va_up je j B ∧ jw' = va_up jw j C)
theorem pz_nI_inj {a b : Nat} (ha : a < 2 ^ 31) (hb : b < 2 ^ 31) (h : nI a = nI b) : a = b := (nI_eq ha hb).mp h
theorem pz_BR_u {P : Nat} {js je jw : Nat → Nat} {a b c r r2 : Int32} {P1 P2 : Nat} {js1 je1 jw1 js2 je2 jw2 : Nat → Nat} (h1 : pz_BR P js je jw a b c r P1 js1 je1 jw1) (h2 : pz_BR P js je jw a b c r2 P2 js2 je2 jw2) : r = r2 ∧ P1 = P2 ∧ js1 = js2 ∧ je1 = je2 ∧ jw1 = jw2 := by
  rcases h1 with ⟨n1, e1, e2, e3, e4, e5⟩ | ⟨n1, g1, e1, e2, e3, e4, e5⟩ | ⟨n1, j, A, B, C, g1, g2, g3, g4, g5, g6, g7, g8, e1, e2, e3, e4, e5⟩ <;>
  rcases h2 with ⟨m1, d1, d2, d3, d4, d5⟩ | ⟨m1, k1, d1, d2, d3, d4, d5⟩ | ⟨m1, j', A', B', C', k1, k2, k3, k4, k5, k6, k7, k8, d1, d2, d3, d4, d5⟩
  · exact ⟨e1.trans d1.symm, e2.trans d2.symm, e3.trans d3.symm, e4.trans d4.symm, e5.trans d5.symm⟩
  · exact absurd n1 m1
  · exact absurd n1 m1
  · exact absurd m1 n1
  · exact ⟨e1.trans d1.symm, e2.trans d2.symm, e3.trans d3.symm, e4.trans d4.symm, e5.trans d5.symm⟩
  · have := g1 j' k1.1
    rw [k1.2.2] at this
    cases this
  · exact absurd m1 n1
  · have := k1 j g1.1
    rw [g1.2.2] at this
    cases this
  · have ej := pz_ff_u g1 k1
    have eA : A = A' := pz_nI_inj (by omega) (by omega) (g2.symm.trans k2)
    have eB : B = B' := pz_nI_inj (by omega) (by omega) (g3.symm.trans k3)
    have eC : C = C' := pz_nI_inj (by omega) (by omega) (g4.symm.trans k4)
    subst ej
    subst eA
    subst eB
    subst eC
    exact ⟨e1.trans d1.symm, e2.trans d2.symm, e3.trans d3.symm, e4.trans d4.symm, e5.trans d5.symm⟩
/-- take -/
def pz_TK (P : Nat) (j r : Int32) (P' : Nat) : Prop := (pz_has P j = 0 ∧ r = 0 ∧ P' = P) ∨ (¬ pz_has P j = 0 ∧ r = 1 ∧ ∃ q, q < 8 ∧ j = nI q ∧ P' = P &&& (255 - 2 ^ q))
theorem pz_TK_u {P : Nat} {j r r2 : Int32} {P1 P2 : Nat} (h1 : pz_TK P j r P1) (h2 : pz_TK P j r2 P2) : r = r2 ∧ P1 = P2 := by
  rcases h1 with ⟨n1, e1, e2⟩ | ⟨n1, e1, q, hq, g1, g2⟩ <;> rcases h2 with ⟨m1, d1, d2⟩ | ⟨m1, d1, q', hq', k1, k2⟩
  · exact ⟨e1.trans d1.symm, e2.trans d2.symm⟩
  · exact absurd n1 m1
  · exact absurd m1 n1
  · have : q = q' := pz_nI_inj (by omega) (by omega) (g1.symm.trans k1)
    subst this
    exact ⟨e1.trans d1.symm, g2.trans k2.symm⟩
/-- revalue -/
def pz_RV (P : Nat) (jw : Nat → Nat) (j w r : Int32) (jw' : Nat → Nat) : Prop := ((pz_has P j = 0 ∨ w < 1 ∨ 20 < w) ∧ r = 0 ∧ jw' = jw) ∨ (¬ (pz_has P j = 0 ∨ w < 1 ∨ 20 < w) ∧ r = 1 ∧ ∃ q C : Nat, q < 8 ∧ j = nI q ∧ w = nI C ∧ 1 ≤ C ∧ C ≤ 20 ∧ jw' = va_up jw q C)
theorem pz_RV_u {P : Nat} {jw jw1 jw2 : Nat → Nat} {j w r r2 : Int32} (h1 : pz_RV P jw j w r jw1) (h2 : pz_RV P jw j w r2 jw2) : r = r2 ∧ jw1 = jw2 := by
  rcases h1 with ⟨n1, e1, e2⟩ | ⟨n1, e1, q, C, hq, g1, g2, g3, g4, g5⟩ <;> rcases h2 with ⟨m1, d1, d2⟩ | ⟨m1, d1, q', C', hq', k1, k2, k3, k4, k5⟩
  · exact ⟨e1.trans d1.symm, e2.trans d2.symm⟩
  · exact absurd n1 m1
  · exact absurd m1 n1
  · have : q = q' := pz_nI_inj (by omega) (by omega) (g1.symm.trans k1)
    subst this
    have : C = C' := pz_nI_inj (by omega) (by omega) (g2.symm.trans k2)
    subst this
    exact ⟨e1.trans d1.symm, g5.trans k5.symm⟩
/-- setTracks -/
def pz_ST (k : Nat) (n r : Int32) (k' : Nat) : Prop := ((n < 0 ∨ 4 < n) ∧ r = 0 ∧ k' = k) ∨ (¬ (n < 0 ∨ 4 < n) ∧ r = 1 ∧ n = nI k' ∧ k' ≤ 4)
theorem pz_ST_u {k : Nat} {n r r2 : Int32} {k1 k2 : Nat} (h1 : pz_ST k n r k1) (h2 : pz_ST k n r2 k2) : r = r2 ∧ k1 = k2 := by
  rcases h1 with ⟨n1, e1, e2⟩ | ⟨n1, e1, g1, g2⟩ <;> rcases h2 with ⟨m1, d1, d2⟩ | ⟨m1, d1, f1, f2⟩
  · exact ⟨e1.trans d1.symm, e2.trans d2.symm⟩
  · exact absurd n1 m1
  · exact absurd m1 n1
  · exact ⟨e1.trans d1.symm, pz_nI_inj (by omega) (by omega) (g1.symm.trans f1)⟩
/-- fits -/
def pz_fit (js je : Nat → Nat) (P k a : Nat) : Int32 := if a < 256 ∧ a &&& P = a ∧ pz_gc js je a 16 ≤ k then 1 else 0
/-- busy -/
def pz_busy (js je jw : Nat → Nat) (P k : Nat) (t : Int32) : Int32 := if t < 0 ∨ ¬ t < 16 then 0 else nI (pz_cw js je (pz_BT js je jw P k) t.toNatClampNeg 8)
theorem pz_busy_in {js je jw : Nat → Nat} {P k T : Nat} (h : T < 16) : nI (pz_cw js je (pz_BT js je jw P k) T 8) = pz_busy js je jw P k (nI T) := by
  unfold pz_busy
  rw [nI_clamp (by omega), if_neg]
  intro q
  rcases q with q | q
  · exact nI_pos (by omega) q
  · exact q (nI_lt (b := 16) h (by decide))
/-- loss -/
def pz_loss (js je jw : Nat → Nat) (P k : Nat) : Int32 := if k = 0 then -1 else nI (pz_su jw (pz_BT js je jw P k) 8) - nI (pz_su jw (pz_BT js je jw P (k - 1)) 8)
/-- totalWith -/
def pz_tw (P a b S : Nat) : Prop := pz_sb (a &&& P) S ∧ ∀ j, j < 8 → S.testBit j = true → b.testBit j = false
def pz_TW (js je jw : Nat → Nat) (P k a b : Nat) (r : Int32) : Prop :=
  (r = -1 ∧ ∀ S, S < 256 → pz_ok js je P k S → ¬ pz_tw P a b S) ∨ (∃ S, r = nI (pz_su jw S 8) ∧ S < 256 ∧ pz_ok js je P k S ∧ pz_tw P a b S ∧ ∀ S', S' < 256 → pz_ok js je P k S' → pz_tw P a b S' → pz_su jw S' 8 ≤ pz_su jw S 8)
theorem pz_TW_u {js je jw : Nat → Nat} {P k a b : Nat} {r r2 : Int32} (h1 : pz_TW js je jw P k a b r) (h2 : pz_TW js je jw P k a b r2) : r = r2 := by
  rcases h1 with ⟨e1, n1⟩ | ⟨S, e1, g1, g2, g3, g4⟩ <;> rcases h2 with ⟨d1, m1⟩ | ⟨S', d1, f1, f2, f3, f4⟩
  · exact e1.trans d1.symm
  · exact absurd f3 (n1 S' f1 f2)
  · exact absurd g3 (m1 S g1 g2)
  · have h3 := g4 S' f1 f2 f3
    have h4 := f4 S g1 g2 g3
    rw [e1, d1]
    congr 1
    omega
theorem pz_okU {js je : Nat → Nat} {P k b S : Nat} (hS : S < 256) : pz_ok js je (P &&& pz_cm b) k S ↔ pz_ok js je P k S ∧ ∀ j, j < 8 → S.testBit j = true → b.testBit j = false := by
  rw [pz_ok_iff hS, pz_ok_iff hS]
  constructor
  · intro ⟨h1, h2⟩
    refine ⟨⟨fun j hj hb => ?_, h2⟩, fun j hj hb => ?_⟩
    · have := h1 j hj hb
      rw [Nat.testBit_and, pz_cm_bit (by omega)] at this
      simp only [Bool.and_eq_true] at this
      exact this.1
    · have := h1 j hj hb
      rw [Nat.testBit_and, pz_cm_bit (by omega)] at this
      simp only [Bool.and_eq_true, Bool.not_eq_true'] at this
      exact this.2
  · intro ⟨⟨h1, h2⟩, h3⟩
    refine ⟨fun j hj hb => ?_, h2⟩
    rw [Nat.testBit_and, pz_cm_bit (by omega), h1 j hj hb, h3 j hj hb]
    rfl
theorem pz_TW_none {js je jw : Nat → Nat} {P k a b : Nat} (hP : P < 256) (h : ¬ nI (a &&& b &&& P) = 0) : pz_TW js je jw P k a b (-1) := by
  refine Or.inl ⟨rfl, fun S hS hok htw => h ?_⟩
  rw [pz_nI0 (Nat.lt_trans (pz_and_lt hP) (by decide))]
  apply Nat.eq_of_testBit_eq
  intro i
  rw [Nat.zero_testBit, Nat.testBit_and, Nat.testBit_and]
  by_cases hi : i < 8
  · cases ha : a.testBit i with
    | false => rfl
    | true =>
      cases hp : P.testBit i with
      | false => simp
      | true =>
        have h1 : (a &&& P).testBit i = true := by rw [Nat.testBit_and, ha, hp]; rfl
        rw [htw.2 i hi (htw.1 i hi h1)]
        rfl
  · rw [pz_hi hP (by omega)]
    simp
theorem pz_BW_TW {js je jw : Nat → Nat} {P k a b : Nat} {r : Int32} (h : pz_BW js je jw (P &&& pz_cm b) k (a &&& P) r) : (¬ 0 ≤ r → pz_TW js je jw P k a b (-1)) ∧ (0 ≤ r → ∃ S, r = nI S ∧ S < 256 ∧ pz_TW js je jw P k a b (nI (pz_su jw S 8))) := by
  rcases h with ⟨e, h⟩ | ⟨S, e, hS, hok, hsb, hmx⟩
  · constructor
    · intro _
      refine Or.inl ⟨rfl, fun S hS hok htw => h S hS ((pz_okU hS).mpr ⟨hok, htw.2⟩) htw.1⟩
    · intro q
      rw [e] at q
      exact absurd q (by decide)
  · constructor
    · intro q
      rw [e] at q
      exact absurd (nI_pos' (by omega)) q
    · intro _
      obtain ⟨h1, h2⟩ := (pz_okU hS).mp hok
      refine ⟨S, e, hS, Or.inr ⟨S, rfl, hS, h1, ⟨hsb, h2⟩, fun S' hS' hok' htw => ?_⟩⟩
      have h3 := hmx S' hS' ((pz_okU hS').mpr ⟨hok', htw.2⟩) htw.1
      have e1 := pz_ms_su jw S 8
      have e2 := pz_ms_su jw S' 8
      have m1 := pz_mk_256 S
      have m2 := pz_mk_256 S'
      omega
/-- price -/
def pz_inB (js je jw : Nat → Nat) (P k q v : Nat) : Prop := (pz_BT js je (va_up jw q v) P k).testBit q = true
def pz_PR (js je jw : Nat → Nat) (P k q : Nat) (r : Int32) : Prop :=
  (r = 21 ∧ ∀ v, 1 ≤ v → v ≤ 20 → ¬ pz_inB js je jw P k q v) ∨ (∃ v, 1 ≤ v ∧ v ≤ 20 ∧ r = nI v ∧ pz_inB js je jw P k q v ∧ ∀ v', 1 ≤ v' → v' < v → ¬ pz_inB js je jw P k q v')
theorem pz_PR_u {js je jw : Nat → Nat} {P k q : Nat} {r r2 : Int32} (h1 : pz_PR js je jw P k q r) (h2 : pz_PR js je jw P k q r2) : r = r2 := by
  rcases h1 with ⟨e1, n1⟩ | ⟨v, a1, a2, a3, a4, a5⟩ <;> rcases h2 with ⟨d1, m1⟩ | ⟨v', b1, b2, b3, b4, b5⟩
  · exact e1.trans d1.symm
  · exact absurd b4 (n1 v' b1 b2)
  · exact absurd a4 (m1 v a1 a2)
  · rcases Nat.lt_trichotomy v v' with h | h | h
    · exact absurd a4 (b5 v a1 h)
    · rw [a3, b3, h]
    · exact absurd b4 (a5 v' b1 h)
/-- the sum of a set's other jobs doesn't see job q's worth -/
theorem pz_ms_up {jw : Nat → Nat} {S q v : Nat} (hb : S.testBit q = false) : ∀ n, pz_ms (va_up jw q v) S n = pz_ms jw S n
  | 0 => rfl
  | n + 1 => by
    have ih := pz_ms_up (jw := jw) (v := v) hb n
    show pz_ms (va_up jw q v) S n + (if S.testBit n = true then pz_mw (va_up jw q v) n else 0) = pz_ms jw S n + (if S.testBit n = true then pz_mw jw n else 0)
    rw [ih]
    by_cases e : n = q
    · subst e
      rw [hb, if_neg (by decide), if_neg (by decide)]
    · have : pz_mw (va_up jw q v) n = pz_mw jw n := by
        unfold pz_mw va_up
        rw [if_neg e]
      rw [this]
theorem pz_ms_clr {jw : Nat → Nat} {S q : Nat} (hS : S < 256) (hq : q < 8) (hb : S.testBit q = true) : ∀ n, pz_ms jw S n = pz_ms jw (S &&& (255 - 2 ^ q)) n + (if q < n then pz_mw jw q else 0)
  | 0 => rfl
  | n + 1 => by
    have ih := pz_ms_clr (jw := jw) hS hq hb n
    show pz_ms jw S n + (if S.testBit n = true then pz_mw jw n else 0) = pz_ms jw (S &&& (255 - 2 ^ q)) n + (if (S &&& (255 - 2 ^ q)).testBit n = true then pz_mw jw n else 0) + (if q < n + 1 then pz_mw jw q else 0)
    rw [ih]
    by_cases e : n = q
    · subst e
      rw [hb, if_pos rfl, pz_clr_self hq, if_neg (Nat.lt_irrefl n), if_neg (by decide), if_pos (Nat.lt_succ_self n)]
    · rw [pz_clr_ne hS hq e]
      by_cases h : q < n
      · rw [if_pos h, if_pos (show q < n + 1 by omega)]
        omega
      · rw [if_neg h, if_neg (show ¬ q < n + 1 by omega)]
        omega
theorem pz_ms_q {jw : Nat → Nat} {S q v : Nat} (hS : S < 256) (hq : q < 8) (hb : S.testBit q = true) : pz_ms (va_up jw q v) S 8 = pz_ms jw (S &&& (255 - 2 ^ q)) 8 + (v * 256 + 2 ^ (7 - q)) := by
  have e : pz_mw (va_up jw q v) q = v * 256 + 2 ^ (7 - q) := by
    unfold pz_mw va_up
    rw [if_pos rfl]
  rw [pz_ms_clr hS hq hb 8, if_pos hq, pz_ms_up (pz_clr_self hq), e]
theorem pz_sbq {q S : Nat} (hq : q < 8) : pz_sb (2 ^ q) S ↔ S.testBit q = true := by
  constructor
  · intro h
    exact h q hq ((pz_2b q hq q hq).mpr rfl)
  · intro h j hj hb
    rw [(pz_2b q hq j hj).mp hb]
    exact h
theorem pz_okc {js je : Nat → Nat} {P k q S : Nat} (hS : S < 256) (hP : P < 256) (hq : q < 8) : pz_ok js je (P &&& (255 - 2 ^ q)) k S ↔ pz_ok js je P k S ∧ S.testBit q = false := by
  rw [pz_ok_iff hS, pz_ok_iff hS]
  constructor
  · intro ⟨h1, h2⟩
    refine ⟨⟨fun j hj hb => ?_, h2⟩, ?_⟩
    · have := h1 j hj hb
      by_cases e : j = q
      · rw [e, pz_clr_self hq] at this
        cases this
      · rwa [pz_clr_ne hP hq e] at this
    · cases hb : S.testBit q with
      | false => rfl
      | true =>
        have := h1 q hq hb
        rw [pz_clr_self hq] at this
        cases this
  · intro ⟨⟨h1, h2⟩, h3⟩
    refine ⟨fun j hj hb => ?_, h2⟩
    by_cases e : j = q
    · rw [e, h3] at hb
      cases hb
    · rw [pz_clr_ne hP hq e]
      exact h1 j hj hb
theorem pz_price {js je jw : Nat → Nat} {P k q S0 S1 : Nat} (hq : q < 8) (hS1 : S1 < 256) (ok1 : pz_ok js je P k S1) (b1 : S1.testBit q = true) (m1 : ∀ S, S < 256 → pz_ok js je P k S → S.testBit q = true → pz_ms jw S 8 ≤ pz_ms jw S1 8)
    (hS0 : S0 < 256) (ok0 : pz_ok js je P k S0) (b0 : S0.testBit q = false) (m0 : ∀ S, S < 256 → pz_ok js je P k S → S.testBit q = false → pz_ms jw S 8 ≤ pz_ms jw S0 8) (v : Nat) :
    pz_inB js je jw P k q v ↔ pz_ms jw S0 8 < pz_ms jw (S1 &&& (255 - 2 ^ q)) 8 + (v * 256 + 2 ^ (7 - q)) := by
  have hB := pz_BT_lt js je (va_up jw q v) P k
  have okB := pz_BT_ok js je (va_up jw q v) P k
  have u0 := pz_BT_max (jw := va_up jw q v) hS0 ok0
  have u1 := pz_BT_max (jw := va_up jw q v) hS1 ok1
  have e1 := pz_ms_q (jw := jw) (v := v) hS1 hq b1
  have e0 := pz_ms_up (jw := jw) (v := v) b0 8
  unfold pz_inB
  constructor
  · intro hb
    have m2 := m1 _ hB okB hb
    have c1 := pz_ms_clr (jw := jw) hS1 hq b1 8
    have c2 := pz_ms_clr (jw := jw) hB hq hb 8
    rw [if_pos hq] at c1 c2
    have e2 := pz_ms_q (jw := jw) (v := v) hB hq hb
    have ne : pz_ms (va_up jw q v) S0 8 ≠ pz_ms (va_up jw q v) (pz_BT js je (va_up jw q v) P k) 8 := by
      intro z
      have := pz_ms_inj hS0 hB z
      rw [← this, b0] at hb
      cases hb
    omega
  · intro h
    cases hb : (pz_BT js je (va_up jw q v) P k).testBit q with
    | true => rfl
    | false =>
      have m2 := m0 _ hB okB hb
      have e2 := pz_ms_up (jw := jw) (v := v) hb 8
      omega
theorem pz_BW_0 {js je jw : Nat → Nat} {U k : Nat} {r : Int32} (h : pz_BW js je jw U k 0 r) : ∃ S, r = nI S ∧ S < 256 ∧ pz_ok js je U k S ∧ ∀ S', S' < 256 → pz_ok js je U k S' → pz_ms jw S' 8 ≤ pz_ms jw S 8 := by
  have h0 : ∀ S, pz_sb 0 S := fun S j _ hb => by rw [Nat.zero_testBit] at hb; cases hb
  rcases h with ⟨-, h⟩ | ⟨S, e, hS, hok, -, hmx⟩
  · exact absurd (h0 0) (h 0 (by decide) (pz_ok_0 js je U k))
  · exact ⟨S, e, hS, hok, fun S' a b => hmx S' a b (h0 S')⟩
theorem pz_gap {a b c : Nat} (ha : a < 2 ^ 20) (hb : b < 2 ^ 20) (hc : c < 2 ^ 20) : nI a ≤ nI b - nI c ↔ a + c ≤ b := by
  rw [Int32.le_iff_toInt_le, nI_toInt (by omega), pk_sub_toInt (by omega) (by omega)]
  omega
end
section
/-! TrackMarket: the public methods (printed by gen/walks3.py) -/
set_option maxHeartbeats 4000000 in
/-- tracks() -/
theorem mX_tracks (l : Launch) (D : va_G) (ad : Nat → Nat) (cd : Nat → ClassId) (k P : Nat) (us ud kn ch : Int32) (js je jw : Nat → Nat) (ga wa re sp : pz_F)  (hJW : pz_JW k P js je jw) (hKn : pz_Kn js je jw P k kn ch) : y_MI l yX1_tracks cX1_tracks 1 .int (y_rm 0 0) D (xT cd) [.ref (ad 0)] (xW ad cd (nI k) (nI P) us ud kn ch js je jw ga wa re sp)
    (fun r u => r = nI k ∧ pz_XS ad cd k P js je jw u) := by
  refine y_startI (by decide) (Nat.le_of_ble_eq_true rfl) ?_
  intro p e0 s0 m below meth c A ls hx hb hr hml hown hts hlocks hK hA hw hl
  have hw : y_W D A s0.heap (xW ad cd (nI k) (nI P) us ud kn ch js je jw ga wa re sp) s0.heap [] := hw
  have hl : lv_has ls 1 [(0, .ref (ad 0))] := hl
  refine lv_aload_n hx hb dX1_tracks_0 rfl (lv_at hl 0 rfl) ?_
  refine x_get hx hb hts hown hK hw rfl 0 (by decide) q31 rfl dX1_tracks_1 ?_
  exact y_iret (v := nI k) hx hb hr hlocks hK hw rfl (⟨rfl, us, ud, kn, ch, ga, wa, re, sp, rfl, hKn⟩) dX1_tracks_4
set_option maxHeartbeats 4000000 in
/-- jobs() -/
theorem mX_jobs (l : Launch) (D : va_G) (ad : Nat → Nat) (cd : Nat → ClassId) (k P : Nat) (us ud kn ch : Int32) (js je jw : Nat → Nat) (ga wa re sp : pz_F)  (hJW : pz_JW k P js je jw) (hKn : pz_Kn js je jw P k kn ch) : y_MI l yX1_jobs cX1_jobs 1 .int (y_rm 0 0) D (xT cd) [.ref (ad 0)] (xW ad cd (nI k) (nI P) us ud kn ch js je jw ga wa re sp)
    (fun r u => r = nI P ∧ pz_XS ad cd k P js je jw u) := by
  refine y_startI (by decide) (Nat.le_of_ble_eq_true rfl) ?_
  intro p e0 s0 m below meth c A ls hx hb hr hml hown hts hlocks hK hA hw hl
  have hw : y_W D A s0.heap (xW ad cd (nI k) (nI P) us ud kn ch js je jw ga wa re sp) s0.heap [] := hw
  have hl : lv_has ls 1 [(0, .ref (ad 0))] := hl
  refine lv_aload_n hx hb dX1_jobs_0 rfl (lv_at hl 0 rfl) ?_
  refine x_get hx hb hts hown hK hw rfl 1 (by decide) q32 rfl dX1_jobs_1 ?_
  exact y_iret (v := nI P) hx hb hr hlocks hK hw rfl (⟨rfl, us, ud, kn, ch, ga, wa, re, sp, rfl, hKn⟩) dX1_jobs_4
set_option maxHeartbeats 4000000 in
/-- setTracks(n) -/
theorem mX_setTracks (l : Launch) (D : va_G) (ad : Nat → Nat) (cd : Nat → ClassId) (k P : Nat) (us ud kn ch : Int32) (js je jw : Nat → Nat) (ga wa re sp : pz_F) (n : Int32) (hJW : pz_JW k P js je jw) (hKn : pz_Kn js je jw P k kn ch) : y_MI l yX1_setTracks cX1_setTracks 2 .boolean (y_rm 0 0) D (xT cd) [.ref (ad 0), .int n] (xW ad cd (nI k) (nI P) us ud kn ch js je jw ga wa re sp)
    (fun r u => ∃ k', pz_ST k n r k' ∧ pz_XS ad cd k' P js je jw u) := by
  refine y_startI (by decide) (Nat.le_of_ble_eq_true rfl) ?_
  intro p e0 s0 m below meth c A ls hx hb hr hml hown hts hlocks hK hA hw hl
  have hw : y_W D A s0.heap (xW ad cd (nI k) (nI P) us ud kn ch js je jw ga wa re sp) s0.heap [] := hw
  have hl : lv_has ls 2 [(0, .ref (ad 0)), (1, .int n)] := hl
  refine lv_iload_n hx hb dX1_setTracks_0 rfl (lv_at hl 1 rfl) ?_
  refine lv_if_lt (tgt := 9) hx hb dX1_setTracks_1 (by decide) (fun c1 => ?_) (fun c1 => ?_)
  · skip
    refine lv_iconst (v := 0) hx hb dX1_setTracks_9 (by decide) ?_
    exact y_iret (v := 0) hx hb hr hlocks hK hw rfl (⟨k, Or.inl ⟨Or.inl c1, rfl, rfl⟩, us, ud, kn, ch, ga, wa, re, sp, rfl, hKn⟩) dX1_setTracks_10
  · skip
    refine lv_iload_n hx hb dX1_setTracks_4 rfl (lv_at hl 1 rfl) ?_
    refine lv_iconst (v := 4) hx hb dX1_setTracks_5 (by decide) ?_
    refine lv_icmp_le (tgt := 11) hx hb dX1_setTracks_6 (by decide) (fun c6 => ?_) (fun c6 => ?_)
    · skip
      obtain ⟨K0, eK, hK0⟩ := pz_st_ok c1 (Int32.not_lt.mpr c6)
      refine lv_aload_n hx hb dX1_setTracks_11 rfl (lv_at hl 0 rfl) ?_
      refine lv_iload_n hx hb dX1_setTracks_12 rfl (lv_at hl 1 rfl) ?_
      refine y_top (x' := nI K0) eK ?_
      refine x_put (ty := .int) (v := .int (nI K0)) (ws' := xW ad cd (nI K0) (nI P) us ud kn ch js je jw ga wa re sp) hx hb hts hown hK hw rfl 0 (by decide) q31 rfl (by decide +kernel) rfl rfl (Nat.le_of_ble_eq_true rfl) rfl dX1_setTracks_13 (fun H locs hw => ?_)
      refine lv_aload_n hx hb dX1_setTracks_16 rfl (lv_at hl 0 rfl) ?_
      refine lv_iconst (v := 0) hx hb dX1_setTracks_17 (by decide) ?_
      refine x_put (ty := .boolean) (v := .int 0) (ws' := xW ad cd (nI K0) (nI P) us ud 0 ch js je jw ga wa re sp) hx hb hts hown hK hw rfl 11 (by decide) q42 rfl (by decide +kernel) rfl rfl (Nat.le_of_ble_eq_true rfl) rfl dX1_setTracks_18 (fun H locs hw => ?_)
      refine lv_iconst (v := 1) hx hb dX1_setTracks_21 (by decide) ?_
      exact y_iret (v := 1) hx hb hr hlocks hK hw rfl (⟨K0, Or.inr ⟨fun q => q.elim c1 (Int32.not_lt.mpr c6), rfl, eK, hK0⟩, us, ud, 0, ch, ga, wa, re, sp, rfl, Or.inl rfl⟩) dX1_setTracks_22
    · skip
      refine lv_iconst (v := 0) hx hb dX1_setTracks_9 (by decide) ?_
      exact y_iret (v := 0) hx hb hr hlocks hK hw rfl (⟨k, Or.inl ⟨Or.inr (Int32.not_le.mp c6), rfl, rfl⟩, us, ud, kn, ch, ga, wa, re, sp, rfl, hKn⟩) dX1_setTracks_10
set_option maxHeartbeats 4000000 in
/-- take(j) -/
theorem mX_take (l : Launch) (D : va_G) (ad : Nat → Nat) (cd : Nat → ClassId) (k P : Nat) (us ud kn ch : Int32) (js je jw : Nat → Nat) (ga wa re sp : pz_F) (j : Int32) (hJW : pz_JW k P js je jw) (hKn : pz_Kn js je jw P k kn ch) : y_MI l yX1_take cX1_take 2 .boolean (y_rm 1 21) D (xT cd) [.ref (ad 0), .int j] (xW ad cd (nI k) (nI P) us ud kn ch js je jw ga wa re sp)
    (fun r u => ∃ P', pz_TK P j r P' ∧ pz_XS ad cd k P' js je jw u) := by
  refine y_startI (by decide) (Nat.le_of_ble_eq_true rfl) ?_
  intro p e0 s0 m below meth c A ls hx hb hr hml hown hts hlocks hK hA hw hl
  have hw : y_W D A s0.heap (xW ad cd (nI k) (nI P) us ud kn ch js je jw ga wa re sp) s0.heap [] := hw
  have hl : lv_has ls 2 [(0, .ref (ad 0)), (1, .int j)] := hl
  refine lv_aload_n hx hb dX1_take_0 rfl (lv_at hl 0 rfl) ?_
  refine lv_iload_n hx hb dX1_take_1 rfl (lv_at hl 1 rfl) ?_
  refine y_selfI (q := (RX1, TX1, 13)) (ci := 0) (As := [.int j]) (rest := []) ⟨hx, hb, hml, hown, hts⟩ (mX_has l D ad cd (nI k) us ud kn ch js je jw ga wa re sp P j hJW.2.1) (cwV 1 hts (lw_V q77 q79 qs0 q21 q80) rfl rfl rfl (by decide +kernel) ⟨Nat.le_of_ble_eq_true rfl, Nat.le_of_ble_eq_true rfl⟩) hK hw hA rfl rfl rfl hl.1 rfl (Nat.le_of_ble_eq_true rfl) dX1_take_2 ⟨Nat.zero_le _, Nat.zero_le _⟩ (fun r u H locs hq hw => ?_)
  obtain ⟨rfl, rfl⟩ := hq
  have hw : y_W D A s0.heap (xW ad cd (nI k) (nI P) us ud kn ch js je jw ga wa re sp) H locs := hw
  refine lv_if_ne (tgt := 10) hx hb dX1_take_5 (by decide) (fun c5 => ?_) (fun c5 => ?_)
  · skip
    obtain ⟨q, hq8, ej, hbit⟩ := pz_has_yes c5
    refine lv_aload_n hx hb dX1_take_10 rfl (lv_at hl 0 rfl) ?_
    refine lv_dup hx hb dX1_take_11 rfl ?_
    refine x_get hx hb hts hown hK hw rfl 1 (by decide) q32 rfl dX1_take_12 ?_
    refine lv_iconst (v := 1) hx hb dX1_take_15 (by decide) ?_
    refine lv_iload_n hx hb dX1_take_16 rfl (lv_at hl 1 rfl) ?_
    refine lv_ishl hx hb dX1_take_17 ?_
    refine lv_iconst (v := (-1)) hx hb dX1_take_18 (by decide) ?_
    refine lv_ixor hx hb dX1_take_19 ?_
    refine lv_iand hx hb dX1_take_20 ?_
    refine y_top (x' := nI (P &&& (255 - 2 ^ q))) (by rw [ej]; exact pz_clr P hJW.2.1 q hq8) ?_
    refine x_put (ty := .int) (v := .int (nI (P &&& (255 - 2 ^ q)))) (ws' := xW ad cd (nI k) (nI (P &&& (255 - 2 ^ q))) us ud kn ch js je jw ga wa re sp) hx hb hts hown hK hw rfl 1 (by decide) q32 rfl (by decide +kernel) rfl rfl (Nat.le_of_ble_eq_true rfl) rfl dX1_take_21 (fun H locs hw => ?_)
    refine lv_aload_n hx hb dX1_take_24 rfl (lv_at hl 0 rfl) ?_
    refine lv_iconst (v := 0) hx hb dX1_take_25 (by decide) ?_
    refine x_put (ty := .boolean) (v := .int 0) (ws' := xW ad cd (nI k) (nI (P &&& (255 - 2 ^ q))) us ud 0 ch js je jw ga wa re sp) hx hb hts hown hK hw rfl 11 (by decide) q42 rfl (by decide +kernel) rfl rfl (Nat.le_of_ble_eq_true rfl) rfl dX1_take_26 (fun H locs hw => ?_)
    refine lv_iconst (v := 1) hx hb dX1_take_29 (by decide) ?_
    exact y_iret (v := 1) hx hb hr hlocks hK hw rfl (⟨_, Or.inr ⟨c5, rfl, q, hq8, ej, rfl⟩, us, ud, 0, ch, ga, wa, re, sp, rfl, Or.inl rfl⟩) dX1_take_30
  · skip
    refine lv_iconst (v := 0) hx hb dX1_take_8 (by decide) ?_
    exact y_iret (v := 0) hx hb hr hlocks hK hw rfl (⟨P, Or.inl ⟨c5, rfl, rfl⟩, us, ud, kn, ch, ga, wa, re, sp, rfl, hKn⟩) dX1_take_9
set_option maxHeartbeats 4000000 in
/-- revalue(j, worth) -/
theorem mX_revalue (l : Launch) (D : va_G) (ad : Nat → Nat) (cd : Nat → ClassId) (k P : Nat) (us ud kn ch : Int32) (js je jw : Nat → Nat) (ga wa re sp : pz_F) (j w : Int32) (hJW : pz_JW k P js je jw) (hKn : pz_Kn js je jw P k kn ch) : y_MI l yX1_revalue cX1_revalue 3 .boolean (y_rm 1 21) D (xT cd) [.ref (ad 0), .int j, .int w] (xW ad cd (nI k) (nI P) us ud kn ch js je jw ga wa re sp)
    (fun r u => ∃ jw', pz_RV P jw j w r jw' ∧ pz_XS ad cd k P js je jw' u) := by
  refine y_startI (by decide) (Nat.le_of_ble_eq_true rfl) ?_
  intro p e0 s0 m below meth c A ls hx hb hr hml hown hts hlocks hK hA hw hl
  have hw : y_W D A s0.heap (xW ad cd (nI k) (nI P) us ud kn ch js je jw ga wa re sp) s0.heap [] := hw
  have hl : lv_has ls 3 [(0, .ref (ad 0)), (1, .int j), (2, .int w)] := hl
  refine lv_aload_n hx hb dX1_revalue_0 rfl (lv_at hl 0 rfl) ?_
  refine lv_iload_n hx hb dX1_revalue_1 rfl (lv_at hl 1 rfl) ?_
  refine y_selfI (q := (RX1, TX1, 13)) (ci := 0) (As := [.int j]) (rest := []) ⟨hx, hb, hml, hown, hts⟩ (mX_has l D ad cd (nI k) us ud kn ch js je jw ga wa re sp P j hJW.2.1) (cwV 1 hts (lw_V q77 q79 qs0 q21 q80) rfl rfl rfl (by decide +kernel) ⟨Nat.le_of_ble_eq_true rfl, Nat.le_of_ble_eq_true rfl⟩) hK hw hA rfl rfl rfl hl.1 rfl (Nat.le_of_ble_eq_true rfl) dX1_revalue_2 ⟨Nat.zero_le _, Nat.zero_le _⟩ (fun r u H locs hq hw => ?_)
  obtain ⟨rfl, rfl⟩ := hq
  have hw : y_W D A s0.heap (xW ad cd (nI k) (nI P) us ud kn ch js je jw ga wa re sp) H locs := hw
  refine lv_if_eq (tgt := 19) hx hb dX1_revalue_5 (by decide) (fun c5 => ?_) (fun c5 => ?_)
  · skip
    refine lv_iconst (v := 0) hx hb dX1_revalue_19 (by decide) ?_
    exact y_iret (v := 0) hx hb hr hlocks hK hw rfl (⟨jw, Or.inl ⟨Or.inl c5, rfl, rfl⟩, us, ud, kn, ch, ga, wa, re, sp, rfl, hKn⟩) dX1_revalue_20
  · skip
    obtain ⟨q, hq8, ej, hbit⟩ := pz_has_yes c5
    refine lv_iload_n hx hb dX1_revalue_8 rfl (lv_at hl 2 rfl) ?_
    refine lv_iconst (v := 1) hx hb dX1_revalue_9 (by decide) ?_
    refine lv_icmp_lt (tgt := 19) hx hb dX1_revalue_10 (by decide) (fun c10 => ?_) (fun c10 => ?_)
    · skip
      refine lv_iconst (v := 0) hx hb dX1_revalue_19 (by decide) ?_
      exact y_iret (v := 0) hx hb hr hlocks hK hw rfl (⟨jw, Or.inl ⟨Or.inr (Or.inl c10), rfl, rfl⟩, us, ud, kn, ch, ga, wa, re, sp, rfl, hKn⟩) dX1_revalue_20
    · skip
      refine lv_iload_n hx hb dX1_revalue_13 rfl (lv_at hl 2 rfl) ?_
      refine lv_bipush (v := 20) hx hb dX1_revalue_14 (by decide) ?_
      refine lv_icmp_le (tgt := 21) hx hb dX1_revalue_16 (by decide) (fun c16 => ?_) (fun c16 => ?_)
      · skip
        obtain ⟨C0, eC, hC1, hC2⟩ := pz_rv_ok c10 (Int32.not_lt.mpr c16)
        refine lv_aload_n hx hb dX1_revalue_21 rfl (lv_at hl 0 rfl) ?_
        refine x_get hx hb hts hown hK hw rfl 4 (by decide) q35 rfl dX1_revalue_22 ?_
        refine lv_iload_n hx hb dX1_revalue_25 rfl (lv_at hl 1 rfl) ?_
        refine lv_iload_n hx hb dX1_revalue_26 rfl (lv_at hl 2 rfl) ?_
        refine lv_i2b (v := nI C0) hx hb dX1_revalue_27 (by rw [eC]; exact pz_i2b C0 (by omega)) ?_
        refine y_bast (x' := nI C0) (ws' := xW ad cd (nI k) (nI P) us ud kn ch js je (va_up jw q C0) ga wa re sp) hx hb hK hw 3 2 q rfl rfl ej hq8 (by decide) (pz_nb (pz_i2b C0 (by omega))) xW_jw dX1_revalue_28 (fun H locs hw => ?_)
        refine lv_aload_n hx hb dX1_revalue_29 rfl (lv_at hl 0 rfl) ?_
        refine lv_iconst (v := 0) hx hb dX1_revalue_30 (by decide) ?_
        refine x_put (ty := .boolean) (v := .int 0) (ws' := xW ad cd (nI k) (nI P) us ud 0 ch js je (va_up jw q C0) ga wa re sp) hx hb hts hown hK hw rfl 11 (by decide) q42 rfl (by decide +kernel) rfl rfl (Nat.le_of_ble_eq_true rfl) rfl dX1_revalue_31 (fun H locs hw => ?_)
        refine lv_iconst (v := 1) hx hb dX1_revalue_34 (by decide) ?_
        exact y_iret (v := 1) hx hb hr hlocks hK hw rfl (⟨_, Or.inr ⟨fun z => z.elim c5 (fun z => z.elim c10 (Int32.not_lt.mpr c16)), rfl, q, C0, hq8, ej, eC, hC1, hC2, rfl⟩, us, ud, 0, ch, ga, wa, re, sp, rfl, Or.inl rfl⟩) dX1_revalue_35
      · skip
        refine lv_iconst (v := 0) hx hb dX1_revalue_19 (by decide) ?_
        exact y_iret (v := 0) hx hb hr hlocks hK hw rfl (⟨jw, Or.inl ⟨Or.inr (Or.inr (Int32.not_le.mp c16)), rfl, rfl⟩, us, ud, kn, ch, ga, wa, re, sp, rfl, hKn⟩) dX1_revalue_20
set_option maxHeartbeats 4000000 in
/-- bring(s, e, worth) -/
theorem mX_bring (l : Launch) (D : va_G) (ad : Nat → Nat) (cd : Nat → ClassId) (k P : Nat) (us ud kn ch : Int32) (js je jw : Nat → Nat) (ga wa re sp : pz_F) (a b c0 : Int32) (hJW : pz_JW k P js je jw) (hKn : pz_Kn js je jw P k kn ch) : y_MI l yX1_bring cX1_bring 5 .int (y_rm 1 21) D (xT cd) [.ref (ad 0), .int a, .int b, .int c0] (xW ad cd (nI k) (nI P) us ud kn ch js je jw ga wa re sp)
    (fun r u => ∃ P' js' je' jw', pz_BR P js je jw a b c0 r P' js' je' jw' ∧ pz_XS ad cd k P' js' je' jw' u) := by
  refine y_startI (by decide) (Nat.le_of_ble_eq_true rfl) ?_
  intro p e0 s0 m below meth c A ls hx hb hr hml hown hts hlocks hK hA hw hl
  have hw : y_W D A s0.heap (xW ad cd (nI k) (nI P) us ud kn ch js je jw ga wa re sp) s0.heap [] := hw
  have hl : lv_has ls 5 [(0, .ref (ad 0)), (1, .int a), (2, .int b), (3, .int c0)] := hl
  refine lv_iload_n hx hb dX1_bring_0 rfl (lv_at hl 1 rfl) ?_
  refine lv_if_lt (tgt := 26) hx hb dX1_bring_1 (by decide) (fun c1 => ?_) (fun c1 => ?_)
  · skip
    refine lv_iconst (v := (-1)) hx hb dX1_bring_26 (by decide) ?_
    exact y_iret (v := (-1)) hx hb hr hlocks hK hw rfl (⟨P, js, je, jw, Or.inl ⟨Or.inl c1, rfl, rfl, rfl, rfl, rfl⟩, us, ud, kn, ch, ga, wa, re, sp, rfl, hKn⟩) dX1_bring_27
  · skip
    refine lv_iload_n hx hb dX1_bring_4 rfl (lv_at hl 2 rfl) ?_
    refine lv_bipush (v := 16) hx hb dX1_bring_5 (by decide) ?_
    refine lv_icmp_gt (tgt := 26) hx hb dX1_bring_7 (by decide) (fun c7 => ?_) (fun c7 => ?_)
    · skip
      refine lv_iconst (v := (-1)) hx hb dX1_bring_26 (by decide) ?_
      exact y_iret (v := (-1)) hx hb hr hlocks hK hw rfl (⟨P, js, je, jw, Or.inl ⟨Or.inr (Or.inl c7), rfl, rfl, rfl, rfl, rfl⟩, us, ud, kn, ch, ga, wa, re, sp, rfl, hKn⟩) dX1_bring_27
    · skip
      refine lv_iload_n hx hb dX1_bring_10 rfl (lv_at hl 1 rfl) ?_
      refine lv_iload_n hx hb dX1_bring_11 rfl (lv_at hl 2 rfl) ?_
      refine lv_icmp_ge (tgt := 26) hx hb dX1_bring_12 (by decide) (fun c12 => ?_) (fun c12 => ?_)
      · skip
        refine lv_iconst (v := (-1)) hx hb dX1_bring_26 (by decide) ?_
        exact y_iret (v := (-1)) hx hb hr hlocks hK hw rfl (⟨P, js, je, jw, Or.inl ⟨Or.inr (Or.inr (Or.inl c12)), rfl, rfl, rfl, rfl, rfl⟩, us, ud, kn, ch, ga, wa, re, sp, rfl, hKn⟩) dX1_bring_27
      · skip
        refine lv_iload_n hx hb dX1_bring_15 rfl (lv_at hl 3 rfl) ?_
        refine lv_iconst (v := 1) hx hb dX1_bring_16 (by decide) ?_
        refine lv_icmp_lt (tgt := 26) hx hb dX1_bring_17 (by decide) (fun c17 => ?_) (fun c17 => ?_)
        · skip
          refine lv_iconst (v := (-1)) hx hb dX1_bring_26 (by decide) ?_
          exact y_iret (v := (-1)) hx hb hr hlocks hK hw rfl (⟨P, js, je, jw, Or.inl ⟨Or.inr (Or.inr (Or.inr (Or.inl c17))), rfl, rfl, rfl, rfl, rfl⟩, us, ud, kn, ch, ga, wa, re, sp, rfl, hKn⟩) dX1_bring_27
        · skip
          refine lv_iload_n hx hb dX1_bring_20 rfl (lv_at hl 3 rfl) ?_
          refine lv_bipush (v := 20) hx hb dX1_bring_21 (by decide) ?_
          refine lv_icmp_le (tgt := 28) hx hb dX1_bring_23 (by decide) (fun c23 => ?_) (fun c23 => ?_)
          · skip
            obtain ⟨A0, B0, C0, eA, eB, eC, hAB, hB16, hC1, hC2⟩ := pz_br_ok c1 c7 c12 c17 (Int32.not_lt.mpr c23)
            refine lv_iconst (v := nI 0) hx hb dX1_bring_28 (by decide) ?_
            refine lv_istore (lv' := [(4, .int (nI 0)), (0, .ref (ad 0)), (1, .int a), (2, .int b), (3, .int c0)]) hx hb dX1_bring_29 hl (by decide) rfl (fun ls hl => ?_)
            refine y_for 31 5 8 0 (fun j => xW ad cd (nI k) (nI P) us ud kn ch js je jw ga wa re sp) (fun j => [(0, .ref (ad 0)), (1, .int a), (2, .int b), (3, .int c0), (4, .int (nI j))]) (fun j => ∀ i, i < j → P.testBit i = true) (Nat.le_of_ble_eq_true rfl) (fun i h => absurd h (Nat.not_lt_zero i)) hw (lv_sub hl [1, 2, 3, 4, 0] rfl) ?_ ?_
            · intro j hj hI31 H locs ls hw hl ih31
              have hw : y_W D A s0.heap (xW ad cd (nI k) (nI P) us ud kn ch js je jw ga wa re sp) H locs := hw
              have hl : lv_has ls 5 [(0, .ref (ad 0)), (1, .int a), (2, .int b), (3, .int c0), (4, .int (nI j))] := hl
              refine lv_iload hx hb dX1_bring_31 (lv_at hl 4 rfl) ?_
              refine lv_bipush (v := 8) hx hb dX1_bring_33 (by decide) ?_
              refine lv_icmp_ge (tgt := 101) hx hb dX1_bring_35 (by decide) (fun c9 => absurd c9 (y_ge hj)) (fun _ => ?_)
              refine lv_aload_n hx hb dX1_bring_38 rfl (lv_at hl 0 rfl) ?_
              refine lv_iload hx hb dX1_bring_39 (lv_at hl 4 rfl) ?_
              refine y_selfI (q := (RX1, TX1, 13)) (ci := 0) (As := [.int (nI j)]) (rest := []) ⟨hx, hb, hml, hown, hts⟩ (mX_has l D ad cd (nI k) us ud kn ch js je jw ga wa re sp P (nI j) hJW.2.1) (cwV 1 hts (lw_V q77 q79 qs0 q21 q80) rfl rfl rfl (by decide +kernel) ⟨Nat.le_of_ble_eq_true rfl, Nat.le_of_ble_eq_true rfl⟩) hK hw hA rfl rfl rfl hl.1 rfl (Nat.le_of_ble_eq_true rfl) dX1_bring_41 ⟨Nat.zero_le _, Nat.zero_le _⟩ (fun r u H locs hq hw => ?_)
              obtain ⟨rfl, rfl⟩ := hq
              have hw : y_W D A s0.heap (xW ad cd (nI k) (nI P) us ud kn ch js je jw ga wa re sp) H locs := hw
              refine lv_if_ne (tgt := 95) hx hb dX1_bring_44 (by decide) (fun c44 => ?_) (fun c44 => ?_)
              · skip
                have hbit := pz_has_t hj c44
                refine lv_iinc (v := nI (j + 1)) (lv' := [(4, .int (nI (j + 1))), (0, .ref (ad 0)), (1, .int a), (2, .int b), (3, .int c0)]) hx hb dX1_bring_95 hl (k := 4) rfl (nI_1 _) (by decide) rfl (fun ls hl => ?_)
                refine lv_goto (tgt := 31) hx hb dX1_bring_98 (by decide) ?_
                exact ih31 (fun i h => by by_cases e : i = j; exact e ▸ hbit; exact hI31 i (by omega)) _ _ _ hw (lv_sub hl [1, 2, 3, 4, 0] rfl)
              · skip
                have hbit := pz_has_f hj c44
                refine lv_aload_n hx hb dX1_bring_47 rfl (lv_at hl 0 rfl) ?_
                refine lv_dup hx hb dX1_bring_48 rfl ?_
                refine x_get hx hb hts hown hK hw rfl 1 (by decide) q32 rfl dX1_bring_49 ?_
                refine lv_iconst (v := 1) hx hb dX1_bring_52 (by decide) ?_
                refine lv_iload hx hb dX1_bring_53 (lv_at hl 4 rfl) ?_
                refine lv_ishl hx hb dX1_bring_55 ?_
                refine lv_ior hx hb dX1_bring_56 ?_
                refine y_top (x' := nI (P ||| 2 ^ j)) (pz_or P hJW.2.1 j hj) ?_
                refine x_put (ty := .int) (v := .int (nI (P ||| 2 ^ j))) (ws' := xW ad cd (nI k) (nI (P ||| 2 ^ j)) us ud kn ch js je jw ga wa re sp) hx hb hts hown hK hw rfl 1 (by decide) q32 rfl (by decide +kernel) rfl rfl (Nat.le_of_ble_eq_true rfl) rfl dX1_bring_57 (fun H locs hw => ?_)
                refine lv_aload_n hx hb dX1_bring_60 rfl (lv_at hl 0 rfl) ?_
                refine x_get hx hb hts hown hK hw rfl 2 (by decide) q33 rfl dX1_bring_61 ?_
                refine lv_iload hx hb dX1_bring_64 (lv_at hl 4 rfl) ?_
                refine lv_iload_n hx hb dX1_bring_66 rfl (lv_at hl 1 rfl) ?_
                refine lv_i2b (v := nI A0) hx hb dX1_bring_67 (by rw [eA]; exact pz_i2b A0 (by omega)) ?_
                refine y_bast (x' := nI A0) (ws' := xW ad cd (nI k) (nI (P ||| 2 ^ j)) us ud kn ch (va_up js j A0) je jw ga wa re sp) hx hb hK hw 1 0 j rfl rfl rfl hj (by decide) (pz_nb (pz_i2b A0 (by omega))) xW_js dX1_bring_68 (fun H locs hw => ?_)
                refine lv_aload_n hx hb dX1_bring_69 rfl (lv_at hl 0 rfl) ?_
                refine x_get hx hb hts hown hK hw rfl 3 (by decide) q34 rfl dX1_bring_70 ?_
                refine lv_iload hx hb dX1_bring_73 (lv_at hl 4 rfl) ?_
                refine lv_iload_n hx hb dX1_bring_75 rfl (lv_at hl 2 rfl) ?_
                refine lv_i2b (v := nI B0) hx hb dX1_bring_76 (by rw [eB]; exact pz_i2b B0 (by omega)) ?_
                refine y_bast (x' := nI B0) (ws' := xW ad cd (nI k) (nI (P ||| 2 ^ j)) us ud kn ch (va_up js j A0) (va_up je j B0) jw ga wa re sp) hx hb hK hw 2 1 j rfl rfl rfl hj (by decide) (pz_nb (pz_i2b B0 (by omega))) xW_je dX1_bring_77 (fun H locs hw => ?_)
                refine lv_aload_n hx hb dX1_bring_78 rfl (lv_at hl 0 rfl) ?_
                refine x_get hx hb hts hown hK hw rfl 4 (by decide) q35 rfl dX1_bring_79 ?_
                refine lv_iload hx hb dX1_bring_82 (lv_at hl 4 rfl) ?_
                refine lv_iload_n hx hb dX1_bring_84 rfl (lv_at hl 3 rfl) ?_
                refine lv_i2b (v := nI C0) hx hb dX1_bring_85 (by rw [eC]; exact pz_i2b C0 (by omega)) ?_
                refine y_bast (x' := nI C0) (ws' := xW ad cd (nI k) (nI (P ||| 2 ^ j)) us ud kn ch (va_up js j A0) (va_up je j B0) (va_up jw j C0) ga wa re sp) hx hb hK hw 3 2 j rfl rfl rfl hj (by decide) (pz_nb (pz_i2b C0 (by omega))) xW_jw dX1_bring_86 (fun H locs hw => ?_)
                refine lv_aload_n hx hb dX1_bring_87 rfl (lv_at hl 0 rfl) ?_
                refine lv_iconst (v := 0) hx hb dX1_bring_88 (by decide) ?_
                refine x_put (ty := .boolean) (v := .int 0) (ws' := xW ad cd (nI k) (nI (P ||| 2 ^ j)) us ud 0 ch (va_up js j A0) (va_up je j B0) (va_up jw j C0) ga wa re sp) hx hb hts hown hK hw rfl 11 (by decide) q42 rfl (by decide +kernel) rfl rfl (Nat.le_of_ble_eq_true rfl) rfl dX1_bring_89 (fun H locs hw => ?_)
                refine lv_iload hx hb dX1_bring_92 (lv_at hl 4 rfl) ?_
                exact y_iret (v := nI j) hx hb hr hlocks hK hw rfl (⟨_, _, _, _, Or.inr (Or.inr ⟨(fun z => z.elim c1 (fun z => z.elim c7 (fun z => z.elim c12 (fun z => z.elim c17 (Int32.not_lt.mpr c23))))), j, A0, B0, C0, ⟨hj, hI31, hbit⟩, eA, eB, eC, hAB, hB16, hC1, hC2, rfl, rfl, rfl, rfl, rfl⟩), us, ud, 0, ch, ga, wa, re, sp, rfl, Or.inl rfl⟩) dX1_bring_94
            · intro hI31 H locs ls hw hl
              have hw : y_W D A s0.heap (xW ad cd (nI k) (nI P) us ud kn ch js je jw ga wa re sp) H locs := hw
              have hl : lv_has ls 5 [(0, .ref (ad 0)), (1, .int a), (2, .int b), (3, .int c0), (4, .int (nI 8))] := hl
              refine lv_iload hx hb dX1_bring_31 (lv_at hl 4 rfl) ?_
              refine lv_bipush (v := 8) hx hb dX1_bring_33 (by decide) ?_
              refine lv_icmp_ge (tgt := 101) hx hb dX1_bring_35 (by decide) (fun _ => ?_) (fun c9 => absurd (y_le (a := 8)) c9)
              refine lv_bipush (v := (-2)) hx hb dX1_bring_101 (by decide) ?_
              exact y_iret (v := (-2)) hx hb hr hlocks hK hw rfl (⟨P, js, je, jw, Or.inr (Or.inl ⟨(fun z => z.elim c1 (fun z => z.elim c7 (fun z => z.elim c12 (fun z => z.elim c17 (Int32.not_lt.mpr c23))))), hI31, rfl, rfl, rfl, rfl, rfl⟩), us, ud, kn, ch, ga, wa, re, sp, rfl, hKn⟩) dX1_bring_103
          · skip
            refine lv_iconst (v := (-1)) hx hb dX1_bring_26 (by decide) ?_
            exact y_iret (v := (-1)) hx hb hr hlocks hK hw rfl (⟨P, js, je, jw, Or.inl ⟨Or.inr (Or.inr (Or.inr (Or.inr (Int32.not_le.mp c23)))), rfl, rfl, rfl, rfl, rfl⟩, us, ud, kn, ch, ga, wa, re, sp, rfl, hKn⟩) dX1_bring_27
set_option maxHeartbeats 4000000 in
/-- chosen() -/
theorem mX_chosen (l : Launch) (D : va_G) (ad : Nat → Nat) (cd : Nat → ClassId) (k P : Nat) (us ud kn ch : Int32) (js je jw : Nat → Nat) (ga wa re sp : pz_F)  (hJW : pz_JW k P js je jw) (hKn : pz_Kn js je jw P k kn ch) : y_MI l yX1_chosen cX1_chosen 1 .int (y_rm 5 109) D (xT cd) [.ref (ad 0)] (xW ad cd (nI k) (nI P) us ud kn ch js je jw ga wa re sp)
    (fun r u => r = nI (pz_BT js je jw P k) ∧ pz_XS ad cd k P js je jw u) := by
  refine y_startI (by decide) (Nat.le_of_ble_eq_true rfl) ?_
  intro p e0 s0 m below meth c A ls hx hb hr hml hown hts hlocks hK hA hw hl
  have hw : y_W D A s0.heap (xW ad cd (nI k) (nI P) us ud kn ch js je jw ga wa re sp) s0.heap [] := hw
  have hl : lv_has ls 1 [(0, .ref (ad 0))] := hl
  refine lv_aload_n hx hb dX1_chosen_0 rfl (lv_at hl 0 rfl) ?_
  refine y_selfV (q := (RX1, TX1, 13)) (ci := 0) (As := []) (rest := []) ⟨hx, hb, hml, hown, hts⟩ (mX_choose l D ad cd k P us ud kn ch js je jw ga wa re sp hJW hKn) (cwV 0 hts (lw_V q105 q107 qs1 q21 q108) rfl rfl rfl (by decide +kernel) ⟨Nat.le_of_ble_eq_true rfl, Nat.le_of_ble_eq_true rfl⟩) hK hw hA rfl rfl rfl hl.1 rfl (Nat.le_of_ble_eq_true rfl) dX1_chosen_1 ⟨Nat.zero_le _, Nat.zero_le _⟩ (fun u H locs hq hw => ?_)
  obtain ⟨us1, ud1, ga1, wa1, re1, sp1, rfl⟩ := hq
  have hw : y_W D A s0.heap (xW ad cd (nI k) (nI P) us1 ud1 1 (nI (pz_BT js je jw P k)) js je jw ga1 wa1 re1 sp1) H locs := hw
  refine lv_aload_n hx hb dX1_chosen_4 rfl (lv_at hl 0 rfl) ?_
  refine x_get hx hb hts hown hK hw rfl 12 (by decide) q43 rfl dX1_chosen_5 ?_
  exact y_iret (v := nI (pz_BT js je jw P k)) hx hb hr hlocks hK hw rfl (⟨rfl, us1, ud1, 1, _, ga1, wa1, re1, sp1, rfl, Or.inr ⟨rfl, rfl⟩⟩) dX1_chosen_8
set_option maxHeartbeats 4000000 in
/-- total() -/
theorem mX_total (l : Launch) (D : va_G) (ad : Nat → Nat) (cd : Nat → ClassId) (k P : Nat) (us ud kn ch : Int32) (js je jw : Nat → Nat) (ga wa re sp : pz_F)  (hJW : pz_JW k P js je jw) (hKn : pz_Kn js je jw P k kn ch) : y_MI l yX1_total cX1_total 2 .int (y_rm 5 109) D (xT cd) [.ref (ad 0)] (xW ad cd (nI k) (nI P) us ud kn ch js je jw ga wa re sp)
    (fun r u => r = nI (pz_su jw (pz_BT js je jw P k) 8) ∧ pz_XS ad cd k P js je jw u) := by
  refine y_startI (by decide) (Nat.le_of_ble_eq_true rfl) ?_
  intro p e0 s0 m below meth c A ls hx hb hr hml hown hts hlocks hK hA hw hl
  have hw : y_W D A s0.heap (xW ad cd (nI k) (nI P) us ud kn ch js je jw ga wa re sp) s0.heap [] := hw
  have hl : lv_has ls 2 [(0, .ref (ad 0))] := hl
  refine lv_aload_n hx hb dX1_total_0 rfl (lv_at hl 0 rfl) ?_
  refine y_selfV (q := (RX1, TX1, 13)) (ci := 0) (As := []) (rest := []) ⟨hx, hb, hml, hown, hts⟩ (mX_choose l D ad cd k P us ud kn ch js je jw ga wa re sp hJW hKn) (cwV 0 hts (lw_V q105 q107 qs1 q21 q108) rfl rfl rfl (by decide +kernel) ⟨Nat.le_of_ble_eq_true rfl, Nat.le_of_ble_eq_true rfl⟩) hK hw hA rfl rfl rfl hl.1 rfl (Nat.le_of_ble_eq_true rfl) dX1_total_1 ⟨Nat.zero_le _, Nat.zero_le _⟩ (fun u H locs hq hw => ?_)
  obtain ⟨us1, ud1, ga1, wa1, re1, sp1, rfl⟩ := hq
  have hw : y_W D A s0.heap (xW ad cd (nI k) (nI P) us1 ud1 1 (nI (pz_BT js je jw P k)) js je jw ga1 wa1 re1 sp1) H locs := hw
  refine lv_aload_n hx hb dX1_total_4 rfl (lv_at hl 0 rfl) ?_
  refine lv_aload_n hx hb dX1_total_5 rfl (lv_at hl 0 rfl) ?_
  refine x_get hx hb hts hown hK hw rfl 12 (by decide) q43 rfl dX1_total_6 ?_
  refine y_selfI (q := (RX1, TX1, 13)) (ci := 0) (As := [.int (nI (pz_BT js je jw P k))]) (rest := []) ⟨hx, hb, hml, hown, hts⟩ (mX_markedSum l D ad cd (nI k) (nI P) us1 ud1 1 (nI (pz_BT js je jw P k)) js je jw ga1 wa1 re1 sp1 (pz_BT js je jw P k) (pz_BT_lt _ _ _ _ _)) (cwV 1 hts (lw_V q142 q144 qs9 q21 q145) rfl rfl rfl (by decide +kernel) ⟨Nat.le_of_ble_eq_true rfl, Nat.le_of_ble_eq_true rfl⟩) hK hw hA rfl rfl rfl hl.1 rfl (Nat.le_of_ble_eq_true rfl) dX1_total_9 ⟨Nat.zero_le _, Nat.zero_le _⟩ (fun r u H locs hq hw => ?_)
  obtain ⟨rfl, rfl⟩ := hq
  have hw : y_W D A s0.heap (xW ad cd (nI k) (nI P) us1 ud1 1 (nI (pz_BT js je jw P k)) js je jw ga1 wa1 re1 sp1) H locs := hw
  refine lv_istore_n (lv' := [(1, .int (nI (pz_ms jw (pz_BT js je jw P k) 8))), (0, .ref (ad 0))]) hx hb dX1_total_12 rfl hl (by decide) rfl (fun ls hl => ?_)
  refine lv_iload_n hx hb dX1_total_13 rfl (lv_at hl 0 rfl) ?_
  refine y_statI (As := [.int (nI (pz_ms jw (pz_BT js je jw P k) 8))]) (rest := []) ⟨hx, hb, hml, hown, hts⟩ (mX_plain l D (nI (pz_ms jw (pz_BT js je jw P k) 8))) (va_cwS 1 hts (lw_S q146 q147 q21 q148) rfl rfl rfl (by decide +kernel) ⟨Nat.le_of_ble_eq_true rfl, Nat.le_of_ble_eq_true rfl⟩) (hK.sub [] rfl) hw hA rfl hl.1 rfl (Nat.le_of_ble_eq_true rfl) dX1_total_14 ⟨Nat.zero_le _, Nat.zero_le _⟩ (fun r u H locs hq hw => ?_)
  obtain rfl := hq
  have hw : y_W D A s0.heap (xW ad cd (nI k) (nI P) us1 ud1 1 (nI (pz_BT js je jw P k)) js je jw ga1 wa1 re1 sp1) H locs := hw
  refine y_top (x' := nI (pz_su jw (pz_BT js je jw P k) 8)) (pz_pl (pz_w20 hJW)) ?_
  exact y_iret (v := nI (pz_su jw (pz_BT js je jw P k) 8)) hx hb hr hlocks hK hw rfl (⟨rfl, us1, ud1, 1, _, ga1, wa1, re1, sp1, rfl, Or.inr ⟨rfl, rfl⟩⟩) dX1_total_17
set_option maxHeartbeats 4000000 in
/-- fits(set) -/
theorem mX_fits (l : Launch) (D : va_G) (ad : Nat → Nat) (cd : Nat → ClassId) (k P : Nat) (us ud kn ch : Int32) (js je jw : Nat → Nat) (ga wa re sp : pz_F) (a : Nat) (ha : a < 2 ^ 32) (hJW : pz_JW k P js je jw) (hKn : pz_Kn js je jw P k kn ch) : y_MI l yX1_fits cX1_fits 2 .boolean (y_rm 2 48) D (xT cd) [.ref (ad 0), .int (nI a)] (xW ad cd (nI k) (nI P) us ud kn ch js je jw ga wa re sp)
    (fun r u => r = pz_fit js je P k a ∧ pz_XS ad cd k P js je jw u) := by
  refine y_startI (by decide) (Nat.le_of_ble_eq_true rfl) ?_
  intro p e0 s0 m below meth c A ls hx hb hr hml hown hts hlocks hK hA hw hl
  have hw : y_W D A s0.heap (xW ad cd (nI k) (nI P) us ud kn ch js je jw ga wa re sp) s0.heap [] := hw
  have hl : lv_has ls 2 [(0, .ref (ad 0)), (1, .int (nI a))] := hl
  refine lv_iload_n hx hb dX1_fits_0 rfl (lv_at hl 1 rfl) ?_
  refine lv_aload_n hx hb dX1_fits_1 rfl (lv_at hl 0 rfl) ?_
  refine x_get hx hb hts hown hK hw rfl 1 (by decide) q32 rfl dX1_fits_2 ?_
  refine lv_iconst (v := (-1)) hx hb dX1_fits_5 (by decide) ?_
  refine lv_ixor hx hb dX1_fits_6 ?_
  refine lv_iand hx hb dX1_fits_7 ?_
  refine lv_if_ne (tgt := 27) hx hb dX1_fits_8 (by decide) (fun c8 => ?_) (fun c8 => ?_)
  · skip
    refine lv_iconst (v := 0) hx hb dX1_fits_27 (by decide) ?_
    exact y_iret (v := 0) hx hb hr hlocks hK hw rfl (⟨by unfold pz_fit; rw [if_neg]; exact fun z => c8 ((pz_sb_big ha hJW.2.1).mpr ⟨z.1, (pz_sb_eq z.1).mp z.2.1⟩), us, ud, kn, ch, ga, wa, re, sp, rfl, hKn⟩) dX1_fits_28
  · skip
    obtain ⟨ha8, hsb⟩ := (pz_sb_big ha hJW.2.1).mp c8
    refine lv_aload_n hx hb dX1_fits_11 rfl (lv_at hl 0 rfl) ?_
    refine lv_iload_n hx hb dX1_fits_12 rfl (lv_at hl 1 rfl) ?_
    refine y_selfI (q := (RX1, TX1, 13)) (ci := 0) (As := [.int (nI a)]) (rest := []) ⟨hx, hb, hml, hown, hts⟩ (mX_greatestCrowd l D ad cd (nI k) (nI P) us ud kn ch js je jw ga wa re sp a ha8 hJW.2.2.1) (cwV 1 hts (lw_V q153 q155 qs10 q21 q156) rfl rfl rfl (by decide +kernel) ⟨Nat.le_of_ble_eq_true rfl, Nat.le_of_ble_eq_true rfl⟩) hK hw hA rfl rfl rfl hl.1 rfl (Nat.le_of_ble_eq_true rfl) dX1_fits_13 ⟨Nat.zero_le _, Nat.zero_le _⟩ (fun r u H locs hq hw => ?_)
    obtain ⟨rfl, rfl⟩ := hq
    have hw : y_W D A s0.heap (xW ad cd (nI k) (nI P) us ud kn ch js je jw ga wa re sp) H locs := hw
    refine lv_aload_n hx hb dX1_fits_16 rfl (lv_at hl 0 rfl) ?_
    refine x_get hx hb hts hown hK hw rfl 0 (by decide) q31 rfl dX1_fits_17 ?_
    refine lv_icmp_gt (tgt := 27) hx hb dX1_fits_20 (by decide) (fun c20 => ?_) (fun c20 => ?_)
    · skip
      refine lv_iconst (v := 0) hx hb dX1_fits_27 (by decide) ?_
      exact y_iret (v := 0) hx hb hr hlocks hK hw rfl (⟨by unfold pz_fit; rw [if_neg]; exact fun z => by have h1 := (nI_ltI (by have := hJW.1; omega) (by have := pz_gc_le js je a 16; omega)).mp c20; omega, us, ud, kn, ch, ga, wa, re, sp, rfl, hKn⟩) dX1_fits_28
    · skip
      refine lv_iconst (v := 1) hx hb dX1_fits_23 (by decide) ?_
      refine lv_goto (tgt := 28) hx hb dX1_fits_24 (by decide) ?_
      exact y_iret (v := 1) hx hb hr hlocks hK hw rfl (⟨by unfold pz_fit; rw [if_pos]; exact ⟨ha8, (pz_sb_eq ha8).mpr hsb, Nat.le_of_not_lt (fun z => c20 ((nI_ltI (by have := hJW.1; omega) (by have := pz_gc_le js je a 16; omega)).mpr z))⟩, us, ud, kn, ch, ga, wa, re, sp, rfl, hKn⟩) dX1_fits_28
set_option maxHeartbeats 4000000 in
/-- tracksFor(set) -/
theorem mX_tracksFor (l : Launch) (D : va_G) (ad : Nat → Nat) (cd : Nat → ClassId) (k P : Nat) (us ud kn ch : Int32) (js je jw : Nat → Nat) (ga wa re sp : pz_F) (a : Nat) (hJW : pz_JW k P js je jw) (hKn : pz_Kn js je jw P k kn ch) : y_MI l yX1_tracksFor cX1_tracksFor 2 .int (y_rm 2 48) D (xT cd) [.ref (ad 0), .int (nI a)] (xW ad cd (nI k) (nI P) us ud kn ch js je jw ga wa re sp)
    (fun r u => r = nI (pz_gc js je (a &&& P) 16) ∧ pz_XS ad cd k P js je jw u) := by
  refine y_startI (by decide) (Nat.le_of_ble_eq_true rfl) ?_
  intro p e0 s0 m below meth c A ls hx hb hr hml hown hts hlocks hK hA hw hl
  have hw : y_W D A s0.heap (xW ad cd (nI k) (nI P) us ud kn ch js je jw ga wa re sp) s0.heap [] := hw
  have hl : lv_has ls 2 [(0, .ref (ad 0)), (1, .int (nI a))] := hl
  refine lv_aload_n hx hb dX1_tracksFor_0 rfl (lv_at hl 0 rfl) ?_
  refine lv_iload_n hx hb dX1_tracksFor_1 rfl (lv_at hl 1 rfl) ?_
  refine lv_aload_n hx hb dX1_tracksFor_2 rfl (lv_at hl 0 rfl) ?_
  refine x_get hx hb hts hown hK hw rfl 1 (by decide) q32 rfl dX1_tracksFor_3 ?_
  refine lv_iand hx hb dX1_tracksFor_6 ?_
  refine y_top (x' := nI (a &&& P)) (nx_and a P) ?_
  refine y_selfI (q := (RX1, TX1, 13)) (ci := 0) (As := [.int (nI (a &&& P))]) (rest := []) ⟨hx, hb, hml, hown, hts⟩ (mX_greatestCrowd l D ad cd (nI k) (nI P) us ud kn ch js je jw ga wa re sp (a &&& P) (pz_and_lt hJW.2.1) hJW.2.2.1) (cwV 1 hts (lw_V q153 q155 qs10 q21 q156) rfl rfl rfl (by decide +kernel) ⟨Nat.le_of_ble_eq_true rfl, Nat.le_of_ble_eq_true rfl⟩) hK hw hA rfl rfl rfl hl.1 rfl (Nat.le_of_ble_eq_true rfl) dX1_tracksFor_7 ⟨Nat.zero_le _, Nat.zero_le _⟩ (fun r u H locs hq hw => ?_)
  obtain ⟨rfl, rfl⟩ := hq
  have hw : y_W D A s0.heap (xW ad cd (nI k) (nI P) us ud kn ch js je jw ga wa re sp) H locs := hw
  exact y_iret (v := nI (pz_gc js je (a &&& P) 16)) hx hb hr hlocks hK hw rfl (⟨rfl, us, ud, kn, ch, ga, wa, re, sp, rfl, hKn⟩) dX1_tracksFor_10
set_option maxHeartbeats 4000000 in
/-- gain() -/
theorem mX_gain (l : Launch) (D : va_G) (ad : Nat → Nat) (cd : Nat → ClassId) (k P : Nat) (us ud kn ch : Int32) (js je jw : Nat → Nat) (ga wa re sp : pz_F)  (hJW : pz_JW k P js je jw) (hKn : pz_Kn js je jw P k kn ch) : y_MI l yX1_gain cX1_gain 2 .int (y_rm 6 130) D (xT cd) [.ref (ad 0)] (xW ad cd (nI k) (nI P) us ud kn ch js je jw ga wa re sp)
    (fun r u => r = nI (pz_su jw (pz_BT js je jw P (k + 1)) 8) - nI (pz_su jw (pz_BT js je jw P k) 8) ∧ pz_XS ad cd k P js je jw u) := by
  refine y_startI (by decide) (Nat.le_of_ble_eq_true rfl) ?_
  intro p e0 s0 m below meth c A ls hx hb hr hml hown hts hlocks hK hA hw hl
  have hw : y_W D A s0.heap (xW ad cd (nI k) (nI P) us ud kn ch js je jw ga wa re sp) s0.heap [] := hw
  have hl : lv_has ls 2 [(0, .ref (ad 0))] := hl
  refine lv_aload_n hx hb dX1_gain_0 rfl (lv_at hl 0 rfl) ?_
  refine y_selfI (q := (RX1, TX1, 13)) (ci := 0) (As := []) (rest := []) ⟨hx, hb, hml, hown, hts⟩ (mX_total l D ad cd k P us ud kn ch js je jw ga wa re sp hJW hKn) (cwV 0 hts (lw_V q182 q139 q140 q21 q141) rfl rfl rfl (by decide +kernel) ⟨Nat.le_of_ble_eq_true rfl, Nat.le_of_ble_eq_true rfl⟩) hK hw hA rfl rfl rfl hl.1 rfl (Nat.le_of_ble_eq_true rfl) dX1_gain_1 ⟨Nat.zero_le _, Nat.zero_le _⟩ (fun r u H locs hq hw => ?_)
  obtain ⟨rfl, us1, ud1, kn1, ch1, ga1, wa1, re1, sp1, rfl, hKn1⟩ := hq
  have hw : y_W D A s0.heap (xW ad cd (nI k) (nI P) us1 ud1 kn1 ch1 js je jw ga1 wa1 re1 sp1) H locs := hw
  refine lv_istore_n (lv' := [(1, .int (nI (pz_su jw (pz_BT js je jw P k) 8))), (0, .ref (ad 0))]) hx hb dX1_gain_4 rfl hl (by decide) rfl (fun ls hl => ?_)
  refine lv_aload_n hx hb dX1_gain_5 rfl (lv_at hl 1 rfl) ?_
  refine lv_aload_n hx hb dX1_gain_6 rfl (lv_at hl 1 rfl) ?_
  refine x_get hx hb hts hown hK hw rfl 0 (by decide) q31 rfl dX1_gain_7 ?_
  refine lv_iconst (v := 1) hx hb dX1_gain_10 (by decide) ?_
  refine lv_iadd hx hb dX1_gain_11 ?_
  refine y_top (x' := nI (k + 1)) (nI_1 k) ?_
  refine y_selfI (q := (RX1, TX1, 13)) (ci := 0) (As := [.int (nI (k + 1))]) (rest := []) ⟨hx, hb, hml, hown, hts⟩ (mX_totalFor l D ad cd k P us1 ud1 kn1 ch1 js je jw ga1 wa1 re1 sp1 (k + 1) (by have := hJW.1; omega) hJW) (cwV 1 hts (lw_V q183 q185 qs13 q21 q186) rfl rfl rfl (by decide +kernel) ⟨Nat.le_of_ble_eq_true rfl, Nat.le_of_ble_eq_true rfl⟩) hK hw hA rfl rfl rfl hl.1 rfl (Nat.le_of_ble_eq_true rfl) dX1_gain_12 ⟨Nat.zero_le _, Nat.zero_le _⟩ (fun r u H locs hq hw => ?_)
  obtain ⟨rfl, us2, ud2, ga2, wa2, re2, sp2, rfl⟩ := hq
  have hw : y_W D A s0.heap (xW ad cd (nI k) (nI P) us2 ud2 kn1 ch1 js je jw ga2 wa2 re2 sp2) H locs := hw
  refine lv_iload_n hx hb dX1_gain_15 rfl (lv_at hl 0 rfl) ?_
  refine lv_isub hx hb dX1_gain_16 ?_
  exact y_iret (v := (nI (pz_su jw (pz_BT js je jw P (k + 1)) 8)) - (nI (pz_su jw (pz_BT js je jw P k) 8))) hx hb hr hlocks hK hw rfl (⟨rfl, us2, ud2, kn1, ch1, ga2, wa2, re2, sp2, rfl, hKn1⟩) dX1_gain_17
set_option maxHeartbeats 4000000 in
/-- loss() -/
theorem mX_loss (l : Launch) (D : va_G) (ad : Nat → Nat) (cd : Nat → ClassId) (k P : Nat) (us ud kn ch : Int32) (js je jw : Nat → Nat) (ga wa re sp : pz_F)  (hJW : pz_JW k P js je jw) (hKn : pz_Kn js je jw P k kn ch) : y_MI l yX1_loss cX1_loss 2 .int (y_rm 6 130) D (xT cd) [.ref (ad 0)] (xW ad cd (nI k) (nI P) us ud kn ch js je jw ga wa re sp)
    (fun r u => r = pz_loss js je jw P k ∧ pz_XS ad cd k P js je jw u) := by
  refine y_startI (by decide) (Nat.le_of_ble_eq_true rfl) ?_
  intro p e0 s0 m below meth c A ls hx hb hr hml hown hts hlocks hK hA hw hl
  have hw : y_W D A s0.heap (xW ad cd (nI k) (nI P) us ud kn ch js je jw ga wa re sp) s0.heap [] := hw
  have hl : lv_has ls 2 [(0, .ref (ad 0))] := hl
  refine lv_aload_n hx hb dX1_loss_0 rfl (lv_at hl 0 rfl) ?_
  refine x_get hx hb hts hown hK hw rfl 0 (by decide) q31 rfl dX1_loss_1 ?_
  refine lv_if_ne (tgt := 9) hx hb dX1_loss_4 (by decide) (fun c4 => ?_) (fun c4 => ?_)
  · skip
    have hk0 : k ≠ 0 := fun z => c4 (by rw [z]; rfl)
    refine lv_aload_n hx hb dX1_loss_9 rfl (lv_at hl 0 rfl) ?_
    refine y_selfI (q := (RX1, TX1, 13)) (ci := 0) (As := []) (rest := []) ⟨hx, hb, hml, hown, hts⟩ (mX_total l D ad cd k P us ud kn ch js je jw ga wa re sp hJW hKn) (cwV 0 hts (lw_V q182 q139 q140 q21 q141) rfl rfl rfl (by decide +kernel) ⟨Nat.le_of_ble_eq_true rfl, Nat.le_of_ble_eq_true rfl⟩) hK hw hA rfl rfl rfl hl.1 rfl (Nat.le_of_ble_eq_true rfl) dX1_loss_10 ⟨Nat.zero_le _, Nat.zero_le _⟩ (fun r u H locs hq hw => ?_)
    obtain ⟨rfl, us1, ud1, kn1, ch1, ga1, wa1, re1, sp1, rfl, hKn1⟩ := hq
    have hw : y_W D A s0.heap (xW ad cd (nI k) (nI P) us1 ud1 kn1 ch1 js je jw ga1 wa1 re1 sp1) H locs := hw
    refine lv_istore_n (lv' := [(1, .int (nI (pz_su jw (pz_BT js je jw P k) 8))), (0, .ref (ad 0))]) hx hb dX1_loss_13 rfl hl (by decide) rfl (fun ls hl => ?_)
    refine lv_iload_n hx hb dX1_loss_14 rfl (lv_at hl 0 rfl) ?_
    refine lv_aload_n hx hb dX1_loss_15 rfl (lv_at hl 1 rfl) ?_
    refine lv_aload_n hx hb dX1_loss_16 rfl (lv_at hl 1 rfl) ?_
    refine x_get hx hb hts hown hK hw rfl 0 (by decide) q31 rfl dX1_loss_17 ?_
    refine lv_iconst (v := 1) hx hb dX1_loss_20 (by decide) ?_
    refine lv_isub hx hb dX1_loss_21 ?_
    refine y_top (x' := nI (k - 1)) (pz_m1 hk0) ?_
    refine y_selfI (q := (RX1, TX1, 13)) (ci := 0) (As := [.int (nI (k - 1))]) (rest := [.int (nI (pz_su jw (pz_BT js je jw P k) 8))]) ⟨hx, hb, hml, hown, hts⟩ (mX_totalFor l D ad cd k P us1 ud1 kn1 ch1 js je jw ga1 wa1 re1 sp1 (k - 1) (by have := hJW.1; omega) hJW) (cwV 1 hts (lw_V q183 q185 qs13 q21 q186) rfl rfl rfl (by decide +kernel) ⟨Nat.le_of_ble_eq_true rfl, Nat.le_of_ble_eq_true rfl⟩) hK hw hA rfl rfl rfl hl.1 rfl (Nat.le_of_ble_eq_true rfl) dX1_loss_22 ⟨Nat.zero_le _, Nat.zero_le _⟩ (fun r u H locs hq hw => ?_)
    obtain ⟨rfl, us2, ud2, ga2, wa2, re2, sp2, rfl⟩ := hq
    have hw : y_W D A s0.heap (xW ad cd (nI k) (nI P) us2 ud2 kn1 ch1 js je jw ga2 wa2 re2 sp2) H locs := hw
    refine lv_isub hx hb dX1_loss_25 ?_
    exact y_iret (v := (nI (pz_su jw (pz_BT js je jw P k) 8)) - (nI (pz_su jw (pz_BT js je jw P (k - 1)) 8))) hx hb hr hlocks hK hw rfl (⟨by unfold pz_loss; rw [if_neg hk0], us2, ud2, kn1, ch1, ga2, wa2, re2, sp2, rfl, hKn1⟩) dX1_loss_26
  · skip
    have hk0 : k = 0 := (pz_nI0 (by have := hJW.1; omega)).mp c4
    refine lv_iconst (v := (-1)) hx hb dX1_loss_7 (by decide) ?_
    exact y_iret (v := (-1)) hx hb hr hlocks hK hw rfl (⟨by unfold pz_loss; rw [if_pos hk0], us, ud, kn, ch, ga, wa, re, sp, rfl, hKn⟩) dX1_loss_8
set_option maxHeartbeats 4000000 in
/-- busy(t) -/
theorem mX_busy (l : Launch) (D : va_G) (ad : Nat → Nat) (cd : Nat → ClassId) (k P : Nat) (us ud kn ch : Int32) (js je jw : Nat → Nat) (ga wa re sp : pz_F) (t : Int32) (hJW : pz_JW k P js je jw) (hKn : pz_Kn js je jw P k kn ch) : y_MI l yX1_busy cX1_busy 2 .int (y_rm 5 109) D (xT cd) [.ref (ad 0), .int t] (xW ad cd (nI k) (nI P) us ud kn ch js je jw ga wa re sp)
    (fun r u => r = pz_busy js je jw P k t ∧ pz_XS ad cd k P js je jw u) := by
  refine y_startI (by decide) (Nat.le_of_ble_eq_true rfl) ?_
  intro p e0 s0 m below meth c A ls hx hb hr hml hown hts hlocks hK hA hw hl
  have hw : y_W D A s0.heap (xW ad cd (nI k) (nI P) us ud kn ch js je jw ga wa re sp) s0.heap [] := hw
  have hl : lv_has ls 2 [(0, .ref (ad 0)), (1, .int t)] := hl
  refine lv_iload_n hx hb dX1_busy_0 rfl (lv_at hl 1 rfl) ?_
  refine lv_if_lt (tgt := 10) hx hb dX1_busy_1 (by decide) (fun c1 => ?_) (fun c1 => ?_)
  · skip
    refine lv_iconst (v := 0) hx hb dX1_busy_10 (by decide) ?_
    exact y_iret (v := 0) hx hb hr hlocks hK hw rfl (⟨by unfold pz_busy; rw [if_pos (Or.inl c1)], us, ud, kn, ch, ga, wa, re, sp, rfl, hKn⟩) dX1_busy_11
  · skip
    refine lv_iload_n hx hb dX1_busy_4 rfl (lv_at hl 1 rfl) ?_
    refine lv_bipush (v := 16) hx hb dX1_busy_5 (by decide) ?_
    refine lv_icmp_lt (tgt := 12) hx hb dX1_busy_7 (by decide) (fun c7 => ?_) (fun c7 => ?_)
    · skip
      obtain ⟨T0, eT, hT0⟩ := pz_by_ok c1 c7
      refine lv_aload_n hx hb dX1_busy_12 rfl (lv_at hl 0 rfl) ?_
      refine y_selfV (q := (RX1, TX1, 13)) (ci := 0) (As := []) (rest := []) ⟨hx, hb, hml, hown, hts⟩ (mX_choose l D ad cd k P us ud kn ch js je jw ga wa re sp hJW hKn) (cwV 0 hts (lw_V q105 q107 qs1 q21 q108) rfl rfl rfl (by decide +kernel) ⟨Nat.le_of_ble_eq_true rfl, Nat.le_of_ble_eq_true rfl⟩) hK hw hA rfl rfl rfl hl.1 rfl (Nat.le_of_ble_eq_true rfl) dX1_busy_13 ⟨Nat.zero_le _, Nat.zero_le _⟩ (fun u H locs hq hw => ?_)
      obtain ⟨us1, ud1, ga1, wa1, re1, sp1, rfl⟩ := hq
      have hw : y_W D A s0.heap (xW ad cd (nI k) (nI P) us1 ud1 1 (nI (pz_BT js je jw P k)) js je jw ga1 wa1 re1 sp1) H locs := hw
      refine lv_aload_n hx hb dX1_busy_16 rfl (lv_at hl 0 rfl) ?_
      refine lv_aload_n hx hb dX1_busy_17 rfl (lv_at hl 0 rfl) ?_
      refine x_get hx hb hts hown hK hw rfl 12 (by decide) q43 rfl dX1_busy_18 ?_
      refine lv_iload_n hx hb dX1_busy_21 rfl (lv_at hl 1 rfl) ?_
      refine y_top (x' := nI T0) eT ?_
      refine y_selfI (q := (RX1, TX1, 13)) (ci := 0) (As := [.int (nI (pz_BT js je jw P k)), .int (nI T0)]) (rest := []) ⟨hx, hb, hml, hown, hts⟩ (mX_crowd l D ad cd (nI k) (nI P) us1 ud1 1 (nI (pz_BT js je jw P k)) js je jw ga1 wa1 re1 sp1 (pz_BT js je jw P k) T0 (pz_BT_lt _ _ _ _ _) hT0 hJW.2.2.1) (cwV 2 hts (lw_V q157 q159 qs11 q21 q160) rfl rfl rfl (by decide +kernel) ⟨Nat.le_of_ble_eq_true rfl, Nat.le_of_ble_eq_true rfl⟩) hK hw hA rfl rfl rfl hl.1 rfl (Nat.le_of_ble_eq_true rfl) dX1_busy_22 ⟨Nat.zero_le _, Nat.zero_le _⟩ (fun r u H locs hq hw => ?_)
      obtain ⟨rfl, rfl⟩ := hq
      have hw : y_W D A s0.heap (xW ad cd (nI k) (nI P) us1 ud1 1 (nI (pz_BT js je jw P k)) js je jw ga1 wa1 re1 sp1) H locs := hw
      exact y_iret (v := nI (pz_cw js je (pz_BT js je jw P k) T0 8)) hx hb hr hlocks hK hw rfl (⟨by rw [eT]; exact pz_busy_in hT0, us1, ud1, 1, _, ga1, wa1, re1, sp1, rfl, Or.inr ⟨rfl, rfl⟩⟩) dX1_busy_25
    · skip
      refine lv_iconst (v := 0) hx hb dX1_busy_10 (by decide) ?_
      exact y_iret (v := 0) hx hb hr hlocks hK hw rfl (⟨by unfold pz_busy; rw [if_pos (Or.inr c7)], us, ud, kn, ch, ga, wa, re, sp, rfl, hKn⟩) dX1_busy_11
set_option maxHeartbeats 4000000 in
/-- totalWith(must, never) -/
theorem mX_totalWith (l : Launch) (D : va_G) (ad : Nat → Nat) (cd : Nat → ClassId) (k P : Nat) (us ud kn ch : Int32) (js je jw : Nat → Nat) (ga wa re sp : pz_F) (a b : Nat) (hb2 : b < 2 ^ 32) (hJW : pz_JW k P js je jw) (hKn : pz_Kn js je jw P k kn ch) : y_MI l yX1_totalWith cX1_totalWith 5 .int (y_rm 5 112) D (xT cd) [.ref (ad 0), .int (nI a), .int (nI b)] (xW ad cd (nI k) (nI P) us ud kn ch js je jw ga wa re sp)
    (fun r u => pz_TW js je jw P k a b r ∧ pz_XS ad cd k P js je jw u) := by
  refine y_startI (by decide) (Nat.le_of_ble_eq_true rfl) ?_
  intro p e0 s0 m below meth c A ls hx hb hr hml hown hts hlocks hK hA hw hl
  have hw : y_W D A s0.heap (xW ad cd (nI k) (nI P) us ud kn ch js je jw ga wa re sp) s0.heap [] := hw
  have hl : lv_has ls 5 [(0, .ref (ad 0)), (1, .int (nI a)), (2, .int (nI b))] := hl
  refine lv_iload_n hx hb dX1_totalWith_0 rfl (lv_at hl 1 rfl) ?_
  refine lv_iload_n hx hb dX1_totalWith_1 rfl (lv_at hl 2 rfl) ?_
  refine lv_iand hx hb dX1_totalWith_2 ?_
  refine y_top (x' := nI (a &&& b)) (nx_and a b) ?_
  refine lv_aload_n hx hb dX1_totalWith_3 rfl (lv_at hl 0 rfl) ?_
  refine x_get hx hb hts hown hK hw rfl 1 (by decide) q32 rfl dX1_totalWith_4 ?_
  refine lv_iand hx hb dX1_totalWith_7 ?_
  refine y_top (x' := nI (a &&& b &&& P)) (nx_and _ P) ?_
  refine lv_if_eq (tgt := 13) hx hb dX1_totalWith_8 (by decide) (fun c8 => ?_) (fun c8 => ?_)
  · skip
    refine lv_aload_n hx hb dX1_totalWith_13 rfl (lv_at hl 0 rfl) ?_
    refine lv_iload_n hx hb dX1_totalWith_14 rfl (lv_at hl 1 rfl) ?_
    refine lv_aload_n hx hb dX1_totalWith_15 rfl (lv_at hl 0 rfl) ?_
    refine x_get hx hb hts hown hK hw rfl 1 (by decide) q32 rfl dX1_totalWith_16 ?_
    refine lv_iand hx hb dX1_totalWith_19 ?_
    refine y_top (x' := nI (a &&& P)) (nx_and a P) ?_
    refine lv_iload_n hx hb dX1_totalWith_20 rfl (lv_at hl 2 rfl) ?_
    refine y_selfI (q := (RX1, TX1, 13)) (ci := 0) (As := [.int (nI (a &&& P)), .int (nI b)]) (rest := []) ⟨hx, hb, hml, hown, hts⟩ (mX_bestWith l D ad cd k P us ud kn ch js je jw ga wa re sp (a &&& P) (P &&& pz_cm b) (nI b) (pz_and_lt hJW.2.1) (pz_and_lt' hJW.2.1) (fun j hj hb => by rw [Nat.testBit_and] at hb; simp only [Bool.and_eq_true] at hb; exact hb.1) (by rw [pz_cm_eq, nx_and]) hJW) (cwV 2 hts (lw_V q169 q171 qs12 q21 q172) rfl rfl rfl (by decide +kernel) ⟨Nat.le_of_ble_eq_true rfl, Nat.le_of_ble_eq_true rfl⟩) hK hw hA rfl rfl rfl hl.1 rfl (Nat.le_of_ble_eq_true rfl) dX1_totalWith_21 ⟨Nat.zero_le _, Nat.zero_le _⟩ (fun r u H locs hq hw => ?_)
    obtain ⟨hBW, us1, ud1, ga1, wa1, re1, sp1, rfl⟩ := hq
    have hTW := pz_BW_TW hBW
    have hw : y_W D A s0.heap (xW ad cd (nI k) (nI P) us1 ud1 kn ch js je jw ga1 wa1 re1 sp1) H locs := hw
    refine lv_istore_n (lv' := [(3, .int r), (0, .ref (ad 0)), (1, .int (nI a)), (2, .int (nI b))]) hx hb dX1_totalWith_24 rfl hl (by decide) rfl (fun ls hl => ?_)
    refine lv_iload_n hx hb dX1_totalWith_25 rfl (lv_at hl 0 rfl) ?_
    refine lv_if_ge (tgt := 33) hx hb dX1_totalWith_26 (by decide) (fun c26 => ?_) (fun c26 => ?_)
    · skip
      obtain ⟨S, rfl, hS8, hTS⟩ := hTW.2 c26
      refine lv_aload_n hx hb dX1_totalWith_33 rfl (lv_at hl 1 rfl) ?_
      refine lv_iload_n hx hb dX1_totalWith_34 rfl (lv_at hl 0 rfl) ?_
      refine y_selfI (q := (RX1, TX1, 13)) (ci := 0) (As := [.int (nI S)]) (rest := []) ⟨hx, hb, hml, hown, hts⟩ (mX_markedSum l D ad cd (nI k) (nI P) us1 ud1 kn ch js je jw ga1 wa1 re1 sp1 S hS8) (cwV 1 hts (lw_V q142 q144 qs9 q21 q145) rfl rfl rfl (by decide +kernel) ⟨Nat.le_of_ble_eq_true rfl, Nat.le_of_ble_eq_true rfl⟩) hK hw hA rfl rfl rfl hl.1 rfl (Nat.le_of_ble_eq_true rfl) dX1_totalWith_35 ⟨Nat.zero_le _, Nat.zero_le _⟩ (fun r u H locs hq hw => ?_)
      obtain ⟨rfl, rfl⟩ := hq
      have hw : y_W D A s0.heap (xW ad cd (nI k) (nI P) us1 ud1 kn ch js je jw ga1 wa1 re1 sp1) H locs := hw
      refine lv_istore (lv' := [(4, .int (nI (pz_ms jw S 8))), (3, .int (nI S)), (0, .ref (ad 0)), (1, .int (nI a)), (2, .int (nI b))]) hx hb dX1_totalWith_38 hl (by decide) rfl (fun ls hl => ?_)
      refine lv_iload_n hx hb dX1_totalWith_40 rfl (lv_at hl 1 rfl) ?_
      refine lv_if_ge (tgt := 48) hx hb dX1_totalWith_41 (by decide) (fun _ => ?_) (fun c9 => absurd c26 c9)
      refine lv_iload hx hb dX1_totalWith_48 (lv_at hl 0 rfl) ?_
      refine y_statI (As := [.int (nI (pz_ms jw S 8))]) (rest := []) ⟨hx, hb, hml, hown, hts⟩ (mX_plain l D (nI (pz_ms jw S 8))) (va_cwS 1 hts (lw_S q146 q147 q21 q148) rfl rfl rfl (by decide +kernel) ⟨Nat.le_of_ble_eq_true rfl, Nat.le_of_ble_eq_true rfl⟩) (hK.sub [] rfl) hw hA rfl hl.1 rfl (Nat.le_of_ble_eq_true rfl) dX1_totalWith_50 ⟨Nat.zero_le _, Nat.zero_le _⟩ (fun r u H locs hq hw => ?_)
      obtain rfl := hq
      have hw : y_W D A s0.heap (xW ad cd (nI k) (nI P) us1 ud1 kn ch js je jw ga1 wa1 re1 sp1) H locs := hw
      refine y_top (x' := nI (pz_su jw S 8)) (pz_pl (pz_w20 hJW)) ?_
      exact y_iret (v := nI (pz_su jw S 8)) hx hb hr hlocks hK hw rfl (⟨hTS, us1, ud1, kn, ch, ga1, wa1, re1, sp1, rfl, hKn⟩) dX1_totalWith_53
    · skip
      refine lv_iconst (v := 0) hx hb dX1_totalWith_29 (by decide) ?_
      refine lv_goto (tgt := 38) hx hb dX1_totalWith_30 (by decide) ?_
      refine lv_istore (lv' := [(4, .int 0), (3, .int r), (0, .ref (ad 0)), (1, .int (nI a)), (2, .int (nI b))]) hx hb dX1_totalWith_38 hl (by decide) rfl (fun ls hl => ?_)
      refine lv_iload_n hx hb dX1_totalWith_40 rfl (lv_at hl 1 rfl) ?_
      refine lv_if_ge (tgt := 48) hx hb dX1_totalWith_41 (by decide) (fun c9 => absurd c9 c26) (fun _ => ?_)
      refine lv_iconst (v := (-1)) hx hb dX1_totalWith_44 (by decide) ?_
      refine lv_goto (tgt := 53) hx hb dX1_totalWith_45 (by decide) ?_
      exact y_iret (v := (-1)) hx hb hr hlocks hK hw rfl (⟨hTW.1 c26, us1, ud1, kn, ch, ga1, wa1, re1, sp1, rfl, hKn⟩) dX1_totalWith_53
  · skip
    refine lv_iconst (v := (-1)) hx hb dX1_totalWith_11 (by decide) ?_
    exact y_iret (v := (-1)) hx hb hr hlocks hK hw rfl (⟨pz_TW_none hJW.2.1 c8, us, ud, kn, ch, ga, wa, re, sp, rfl, hKn⟩) dX1_totalWith_12
set_option maxHeartbeats 4000000 in
/-- price(j) -/
theorem mX_price (l : Launch) (D : va_G) (ad : Nat → Nat) (cd : Nat → ClassId) (k P : Nat) (us ud kn ch : Int32) (js je jw : Nat → Nat) (ga wa re sp : pz_F) (j : Int32) (hJW : pz_JW k P js je jw) (hKn : pz_Kn js je jw P k kn ch) : y_MI l yX1_price cX1_price 7 .int (y_rm 5 112) D (xT cd) [.ref (ad 0), .int j] (xW ad cd (nI k) (nI P) us ud kn ch js je jw ga wa re sp)
    (fun r u => (pz_has P j = 0 → r = -1) ∧ (∀ q, q < 8 → j = nI q → P.testBit q = true → pz_PR js je jw P k q r) ∧ pz_XS ad cd k P js je jw u) := by
  refine y_startI (by decide) (Nat.le_of_ble_eq_true rfl) ?_
  intro p e0 s0 m below meth c A ls hx hb hr hml hown hts hlocks hK hA hw hl
  have hw : y_W D A s0.heap (xW ad cd (nI k) (nI P) us ud kn ch js je jw ga wa re sp) s0.heap [] := hw
  have hl : lv_has ls 7 [(0, .ref (ad 0)), (1, .int j)] := hl
  refine lv_aload_n hx hb dX1_price_0 rfl (lv_at hl 0 rfl) ?_
  refine lv_iload_n hx hb dX1_price_1 rfl (lv_at hl 1 rfl) ?_
  refine y_selfI (q := (RX1, TX1, 13)) (ci := 0) (As := [.int j]) (rest := []) ⟨hx, hb, hml, hown, hts⟩ (mX_has l D ad cd (nI k) us ud kn ch js je jw ga wa re sp P j hJW.2.1) (cwV 1 hts (lw_V q77 q79 qs0 q21 q80) rfl rfl rfl (by decide +kernel) ⟨Nat.le_of_ble_eq_true rfl, Nat.le_of_ble_eq_true rfl⟩) hK hw hA rfl rfl rfl hl.1 rfl (Nat.le_of_ble_eq_true rfl) dX1_price_2 ⟨Nat.zero_le _, Nat.zero_le _⟩ (fun r u H locs hq hw => ?_)
  obtain ⟨rfl, rfl⟩ := hq
  have hw : y_W D A s0.heap (xW ad cd (nI k) (nI P) us ud kn ch js je jw ga wa re sp) H locs := hw
  refine lv_if_ne (tgt := 10) hx hb dX1_price_5 (by decide) (fun c5 => ?_) (fun c5 => ?_)
  · skip
    obtain ⟨q, hq8, ej, hbit⟩ := pz_has_yes c5
    refine lv_aload_n hx hb dX1_price_10 rfl (lv_at hl 0 rfl) ?_
    refine lv_iconst (v := 1) hx hb dX1_price_11 (by decide) ?_
    refine lv_iload_n hx hb dX1_price_12 rfl (lv_at hl 1 rfl) ?_
    refine lv_ishl hx hb dX1_price_13 ?_
    refine y_top (x' := nI (2 ^ q)) (by rw [ej]; exact pz_1sh q hq8) ?_
    refine lv_iconst (v := 0) hx hb dX1_price_14 (by decide) ?_
    refine y_selfI (q := (RX1, TX1, 13)) (ci := 0) (As := [.int (nI (2 ^ q)), .int 0]) (rest := []) ⟨hx, hb, hml, hown, hts⟩ (mX_bestWith l D ad cd k P us ud kn ch js je jw ga wa re sp (2 ^ q) P 0 (pz_2q q hq8) hJW.2.1 (fun _ _ h => h) (pz_c0 P hJW.2.1) hJW) (cwV 2 hts (lw_V q169 q171 qs12 q21 q172) rfl rfl rfl (by decide +kernel) ⟨Nat.le_of_ble_eq_true rfl, Nat.le_of_ble_eq_true rfl⟩) hK hw hA rfl rfl rfl hl.1 rfl (Nat.le_of_ble_eq_true rfl) dX1_price_15 ⟨Nat.zero_le _, Nat.zero_le _⟩ (fun r u H locs hq hw => ?_)
    obtain ⟨hBW, us1, ud1, ga1, wa1, re1, sp1, rfl⟩ := hq
    have hw : y_W D A s0.heap (xW ad cd (nI k) (nI P) us1 ud1 kn ch js je jw ga1 wa1 re1 sp1) H locs := hw
    refine lv_istore_n (lv' := [(2, .int r), (0, .ref (ad 0)), (1, .int j)]) hx hb dX1_price_18 rfl hl (by decide) rfl (fun ls hl => ?_)
    refine lv_iload_n hx hb dX1_price_19 rfl (lv_at hl 0 rfl) ?_
    refine lv_if_ge (tgt := 26) hx hb dX1_price_20 (by decide) (fun c20 => ?_) (fun c20 => ?_)
    · skip
      obtain ⟨S1, rfl, hS1, hok1, hsb1, hmx1⟩ := hBW.resolve_left (fun z => absurd c20 (by rw [z.1]; decide))
      refine lv_aload_n hx hb dX1_price_26 rfl (lv_at hl 1 rfl) ?_
      refine lv_iload_n hx hb dX1_price_27 rfl (lv_at hl 0 rfl) ?_
      refine lv_iconst (v := 1) hx hb dX1_price_28 (by decide) ?_
      refine lv_iload_n hx hb dX1_price_29 rfl (lv_at hl 2 rfl) ?_
      refine lv_ishl hx hb dX1_price_30 ?_
      refine lv_iconst (v := (-1)) hx hb dX1_price_31 (by decide) ?_
      refine lv_ixor hx hb dX1_price_32 ?_
      refine lv_iand hx hb dX1_price_33 ?_
      refine y_top (x' := nI (S1 &&& (255 - 2 ^ q))) (by rw [ej]; exact pz_clr S1 hS1 q hq8) ?_
      refine y_selfI (q := (RX1, TX1, 13)) (ci := 0) (As := [.int (nI (S1 &&& (255 - 2 ^ q)))]) (rest := []) ⟨hx, hb, hml, hown, hts⟩ (mX_markedSum l D ad cd (nI k) (nI P) us1 ud1 kn ch js je jw ga1 wa1 re1 sp1 (S1 &&& (255 - 2 ^ q)) (pz_clr_lt hS1)) (cwV 1 hts (lw_V q142 q144 qs9 q21 q145) rfl rfl rfl (by decide +kernel) ⟨Nat.le_of_ble_eq_true rfl, Nat.le_of_ble_eq_true rfl⟩) hK hw hA rfl rfl rfl hl.1 rfl (Nat.le_of_ble_eq_true rfl) dX1_price_34 ⟨Nat.zero_le _, Nat.zero_le _⟩ (fun r u H locs hq hw => ?_)
      obtain ⟨rfl, rfl⟩ := hq
      have hw : y_W D A s0.heap (xW ad cd (nI k) (nI P) us1 ud1 kn ch js je jw ga1 wa1 re1 sp1) H locs := hw
      refine lv_istore_n (lv' := [(3, .int (nI (pz_ms jw (S1 &&& (255 - 2 ^ q)) 8))), (2, .int (nI S1)), (0, .ref (ad 0)), (1, .int j)]) hx hb dX1_price_37 rfl hl (by decide) rfl (fun ls hl => ?_)
      refine lv_aload_n hx hb dX1_price_38 rfl (lv_at hl 2 rfl) ?_
      refine lv_iconst (v := nI 0) hx hb dX1_price_39 (by decide) ?_
      refine lv_iconst (v := 1) hx hb dX1_price_40 (by decide) ?_
      refine lv_iload_n hx hb dX1_price_41 rfl (lv_at hl 3 rfl) ?_
      refine lv_ishl hx hb dX1_price_42 ?_
      refine y_top (x' := nI (2 ^ q)) (by rw [ej]; exact pz_1sh q hq8) ?_
      refine y_selfI (q := (RX1, TX1, 13)) (ci := 0) (As := [.int (nI 0), .int (nI (2 ^ q))]) (rest := []) ⟨hx, hb, hml, hown, hts⟩ (mX_bestWith l D ad cd k P us1 ud1 kn ch js je jw ga1 wa1 re1 sp1 0 (P &&& (255 - 2 ^ q)) (nI (2 ^ q)) (by decide) (pz_clr_lt hJW.2.1) (fun j hj hb => by rw [Nat.testBit_and] at hb; simp only [Bool.and_eq_true] at hb; exact hb.1) (pz_cq hJW.2.1 hq8) hJW) (cwV 2 hts (lw_V q169 q171 qs12 q21 q172) rfl rfl rfl (by decide +kernel) ⟨Nat.le_of_ble_eq_true rfl, Nat.le_of_ble_eq_true rfl⟩) hK hw hA rfl rfl rfl hl.1 rfl (Nat.le_of_ble_eq_true rfl) dX1_price_43 ⟨Nat.zero_le _, Nat.zero_le _⟩ (fun r u H locs hq hw => ?_)
      obtain ⟨hBW2, us2, ud2, ga2, wa2, re2, sp2, rfl⟩ := hq
      obtain ⟨S0, rfl, hS0, hok0, hmx0⟩ := pz_BW_0 hBW2
      have hpr := pz_price (jw := jw) hq8 hS1 hok1 ((pz_sbq hq8).mp hsb1) (fun S hS ho hb => hmx1 S hS ho ((pz_sbq hq8).mpr hb)) hS0 ((pz_okc hS0 hJW.2.1 hq8).mp hok0).1 ((pz_okc hS0 hJW.2.1 hq8).mp hok0).2 (fun S hS ho hb => hmx0 S hS ((pz_okc hS hJW.2.1 hq8).mpr ⟨ho, hb⟩))
      have hl0 := pz_ms_lt (S := S0) (pz_w20 hJW)
      have hl1 := pz_ms_lt (S := (S1 &&& (255 - 2 ^ q))) (pz_w20 hJW)
      have hp7 : 2 ^ (7 - q) ≤ 2 ^ 7 := Nat.pow_le_pow_right (by decide) (by omega)
      have hw : y_W D A s0.heap (xW ad cd (nI k) (nI P) us2 ud2 kn ch js je jw ga2 wa2 re2 sp2) H locs := hw
      refine lv_istore (lv' := [(4, .int (nI S0)), (3, .int (nI (pz_ms jw (S1 &&& (255 - 2 ^ q)) 8))), (2, .int (nI S1)), (0, .ref (ad 0)), (1, .int j)]) hx hb dX1_price_46 hl (by decide) rfl (fun ls hl => ?_)
      refine lv_aload_n hx hb dX1_price_48 rfl (lv_at hl 3 rfl) ?_
      refine lv_iload hx hb dX1_price_49 (lv_at hl 0 rfl) ?_
      refine y_selfI (q := (RX1, TX1, 13)) (ci := 0) (As := [.int (nI S0)]) (rest := []) ⟨hx, hb, hml, hown, hts⟩ (mX_markedSum l D ad cd (nI k) (nI P) us2 ud2 kn ch js je jw ga2 wa2 re2 sp2 S0 hS0) (cwV 1 hts (lw_V q142 q144 qs9 q21 q145) rfl rfl rfl (by decide +kernel) ⟨Nat.le_of_ble_eq_true rfl, Nat.le_of_ble_eq_true rfl⟩) hK hw hA rfl rfl rfl hl.1 rfl (Nat.le_of_ble_eq_true rfl) dX1_price_51 ⟨Nat.zero_le _, Nat.zero_le _⟩ (fun r u H locs hq hw => ?_)
      obtain ⟨rfl, rfl⟩ := hq
      have hw : y_W D A s0.heap (xW ad cd (nI k) (nI P) us2 ud2 kn ch js je jw ga2 wa2 re2 sp2) H locs := hw
      refine lv_iload_n hx hb dX1_price_54 rfl (lv_at hl 1 rfl) ?_
      refine lv_isub hx hb dX1_price_55 ?_
      refine lv_istore (lv' := [(5, .int ((nI (pz_ms jw S0 8)) - (nI (pz_ms jw (S1 &&& (255 - 2 ^ q)) 8)))), (4, .int (nI S0)), (3, .int (nI (pz_ms jw (S1 &&& (255 - 2 ^ q)) 8))), (2, .int (nI S1)), (0, .ref (ad 0)), (1, .int j)]) hx hb dX1_price_56 hl (by decide) rfl (fun ls hl => ?_)
      refine lv_iconst (v := nI 1) hx hb dX1_price_58 (by decide) ?_
      refine lv_istore (lv' := [(6, .int (nI 1)), (5, .int ((nI (pz_ms jw S0 8)) - (nI (pz_ms jw (S1 &&& (255 - 2 ^ q)) 8)))), (4, .int (nI S0)), (3, .int (nI (pz_ms jw (S1 &&& (255 - 2 ^ q)) 8))), (2, .int (nI S1)), (0, .ref (ad 0)), (1, .int j)]) hx hb dX1_price_59 hl (by decide) rfl (fun ls hl => ?_)
      refine y_for 61 7 21 1 (fun w => xW ad cd (nI k) (nI P) us2 ud2 kn ch js je jw ga2 wa2 re2 sp2) (fun w => [(0, .ref (ad 0)), (1, .int j), (5, .int (nI (pz_ms jw S0 8) - nI (pz_ms jw (S1 &&& (255 - 2 ^ q)) 8))), (6, .int (nI w))]) (fun w => 1 ≤ w ∧ ∀ v, 1 ≤ v → v < w → ¬ pz_inB js je jw P k q v) (Nat.le_of_ble_eq_true rfl) ⟨Nat.le_refl 1, fun v h1 h2 => absurd h1 (by omega)⟩ hw (lv_sub hl [5, 6, 1, 0] rfl) ?_ ?_
      · intro w hw hI61 H locs ls hw hl ih61
        have hw : y_W D A s0.heap (xW ad cd (nI k) (nI P) us2 ud2 kn ch js je jw ga2 wa2 re2 sp2) H locs := hw
        have hl : lv_has ls 7 [(0, .ref (ad 0)), (1, .int j), (5, .int (nI (pz_ms jw S0 8) - nI (pz_ms jw (S1 &&& (255 - 2 ^ q)) 8))), (6, .int (nI w))] := hl
        refine lv_iload hx hb dX1_price_61 (lv_at hl 3 rfl) ?_
        refine lv_bipush (v := 20) hx hb dX1_price_63 (by decide) ?_
        refine lv_icmp_gt (tgt := 95) hx hb dX1_price_65 (by decide) (fun c9 => absurd c9 (nI_nlt (a := 20) (by omega) (by decide))) (fun _ => ?_)
        refine lv_iload hx hb dX1_price_68 (lv_at hl 3 rfl) ?_
        refine lv_sipush (v := 256) hx hb dX1_price_70 (by decide) ?_
        refine lv_imul hx hb dX1_price_73 ?_
        refine lv_iconst (v := 1) hx hb dX1_price_74 (by decide) ?_
        refine lv_bipush (v := 7) hx hb dX1_price_75 (by decide) ?_
        refine lv_iload_n hx hb dX1_price_77 rfl (lv_at hl 1 rfl) ?_
        refine lv_isub hx hb dX1_price_78 ?_
        refine lv_ishl hx hb dX1_price_79 ?_
        refine lv_iadd hx hb dX1_price_80 ?_
        refine y_top (x' := nI (w * 256 + 2 ^ (7 - q))) (by rw [ej]; exact pz_mw_eq (jw := fun _ => w) hq8) ?_
        refine lv_iload hx hb dX1_price_81 (lv_at hl 2 rfl) ?_
        refine lv_icmp_le (tgt := 89) hx hb dX1_price_83 (by decide) (fun c83 => ?_) (fun c83 => ?_)
        · skip
          have hnC := (pz_gap (by omega) (by omega) (by omega)).mp c83
          refine lv_iinc (v := nI (w + 1)) (lv' := [(6, .int (nI (w + 1))), (0, .ref (ad 0)), (1, .int j), (5, .int (nI (pz_ms jw S0 8) - nI (pz_ms jw (S1 &&& (255 - 2 ^ q)) 8)))]) hx hb dX1_price_89 hl (k := 3) rfl (nI_1 _) (by decide) rfl (fun ls hl => ?_)
          refine lv_goto (tgt := 61) hx hb dX1_price_92 (by decide) ?_
          exact ih61 (⟨by omega, fun v h1 h2 => if e : v = w then (by rw [e, hpr w]; omega) else hI61.2 v h1 (by omega)⟩) _ _ _ hw (lv_sub hl [1, 2, 3, 0] rfl)
        · skip
          have hC := Nat.lt_of_not_le (fun z => c83 ((pz_gap (by omega) (by omega) (by omega)).mpr z))
          refine lv_iload hx hb dX1_price_86 (lv_at hl 3 rfl) ?_
          exact y_iret (v := nI w) hx hb hr hlocks hK hw rfl (⟨fun z => absurd z c5, fun q' hq' e' hb' => (by have eq' : q' = q := pz_nI_inj (by omega) (by omega) (e'.symm.trans ej); subst eq'; exact Or.inr ⟨w, hI61.1, by omega, rfl, (hpr w).mpr (by omega), hI61.2⟩), us2, ud2, kn, ch, ga2, wa2, re2, sp2, rfl, hKn⟩) dX1_price_88
      · intro hI61 H locs ls hw hl
        have hw : y_W D A s0.heap (xW ad cd (nI k) (nI P) us2 ud2 kn ch js je jw ga2 wa2 re2 sp2) H locs := hw
        have hl : lv_has ls 7 [(0, .ref (ad 0)), (1, .int j), (5, .int (nI (pz_ms jw S0 8) - nI (pz_ms jw (S1 &&& (255 - 2 ^ q)) 8))), (6, .int (nI 21))] := hl
        refine lv_iload hx hb dX1_price_61 (lv_at hl 3 rfl) ?_
        refine lv_bipush (v := 20) hx hb dX1_price_63 (by decide) ?_
        refine lv_icmp_gt (tgt := 95) hx hb dX1_price_65 (by decide) (fun _ => ?_) (fun c9 => absurd (nI_lt (a := 20) (b := 21) (by decide) (by decide)) c9)
        refine lv_bipush (v := 21) hx hb dX1_price_95 (by decide) ?_
        exact y_iret (v := 21) hx hb hr hlocks hK hw rfl (⟨fun z => absurd z c5, fun q' hq' e' hb' => (by have eq' : q' = q := pz_nI_inj (by omega) (by omega) (e'.symm.trans ej); subst eq'; exact Or.inl ⟨rfl, fun v h1 h2 => hI61.2 v h1 (by omega)⟩), us2, ud2, kn, ch, ga2, wa2, re2, sp2, rfl, hKn⟩) dX1_price_97
    · skip
      have hno := fun S hS ho => (hBW.resolve_right (fun ⟨S, z, h8, _⟩ => c20 (by rw [z]; exact nI_pos' (by omega)))).2 S hS ho
      refine lv_bipush (v := 21) hx hb dX1_price_23 (by decide) ?_
      exact y_iret (v := 21) hx hb hr hlocks hK hw rfl (⟨fun z => absurd z c5, fun q' hq' e' hb' => (by have eq' : q' = q := pz_nI_inj (by omega) (by omega) (e'.symm.trans ej); subst eq'; exact Or.inl ⟨rfl, fun v _ _ hin => hno _ (pz_BT_lt js je (va_up jw q' v) P k) (pz_BT_ok js je (va_up jw q' v) P k) ((pz_sbq hq8).mpr hin)⟩), us1, ud1, kn, ch, ga1, wa1, re1, sp1, rfl, hKn⟩) dX1_price_25
  · skip
    refine lv_iconst (v := (-1)) hx hb dX1_price_8 (by decide) ?_
    exact y_iret (v := (-1)) hx hb hr hlocks hK hw rfl (⟨fun _ => rfl, fun q hq e hb => absurd c5 (by rw [e]; exact pz_has_n0 hq hb), us, ud, kn, ch, ga, wa, re, sp, rfl, hKn⟩) dX1_price_9
end
section
/-! small laws for the walks of TrackMarketModel -/
def pz_th (P : Nat) : pz_F := fun j => if P.testBit j = true then 1 else 0
theorem pz_th0 {P j : Nat} (h : pz_th P j = 0) : P.testBit j = false := by
  cases hb : P.testBit j with
  | false => rfl
  | true =>
    unfold pz_th at h
    rw [hb, if_pos rfl] at h
    exact absurd h (by decide)
theorem pz_th1 {P j : Nat} (h : ¬ pz_th P j = 0) : P.testBit j = true := by
  cases hb : P.testBit j with
  | true => rfl
  | false =>
    unfold pz_th at h
    rw [hb, if_neg (by decide)] at h
    exact absurd rfl h
theorem pz_th_set {P j : Nat} : upd (pz_th P) j 1 = pz_th (P ||| 2 ^ j) := by
  funext i
  unfold upd pz_th
  by_cases e : i = j
  · rw [if_pos e, e, pz_set_self, if_pos rfl]
  · rw [if_neg e, pz_set_ne e]
theorem pz_th_clr {P j : Nat} (hP : P < 256) (hj : j < 8) : upd (pz_th P) j 0 = pz_th (P &&& (255 - 2 ^ j)) := by
  funext i
  unfold upd pz_th
  by_cases e : i = j
  · rw [if_pos e, e, pz_clr_self hj, if_neg (by decide)]
  · rw [if_neg e, pz_clr_ne hP hj e]
def pz_MS (ad : Nat → Nat) (cd : Nat → ClassId) (k P : Nat) (js je jw : Nat → Nat) (u : va_W) : Prop := ∃ ld : pz_F, u = mW ad cd (nI k) (pz_th P) js je jw ld
theorem mW_js {ad : Nat → Nat} {cd : Nat → ClassId} {ln : Int32} {th : pz_F} {js je jw : Nat → Nat} {ld : pz_F} {k a : Nat} : (mW ad cd ln th js je jw ld).set 2 (ad 2, .inl (cd 2, 8, .inl (upd (fun j => nI (js j)) k (nI a)))) = mW ad cd ln th (va_up js k a) je jw ld := by
  rw [y_upn]
  rfl
theorem mW_je {ad : Nat → Nat} {cd : Nat → ClassId} {ln : Int32} {th : pz_F} {js je jw : Nat → Nat} {ld : pz_F} {k a : Nat} : (mW ad cd ln th js je jw ld).set 3 (ad 3, .inl (cd 3, 8, .inl (upd (fun j => nI (je j)) k (nI a)))) = mW ad cd ln th js (va_up je k a) jw ld := by
  rw [y_upn]
  rfl
theorem mW_jw {ad : Nat → Nat} {cd : Nat → ClassId} {ln : Int32} {th : pz_F} {js je jw : Nat → Nat} {ld : pz_F} {k a : Nat} : (mW ad cd ln th js je jw ld).set 4 (ad 4, .inl (cd 4, 8, .inl (upd (fun j => nI (jw j)) k (nI a)))) = mW ad cd ln th js je (va_up jw k a) ld := by
  rw [y_upn]
  rfl
theorem pz_uu (f : pz_F) (k : Nat) (a b : Int32) : upd (upd f k a) k b = upd f k b := by
  funext i
  unfold upd
  by_cases e : i = k
  · rw [if_pos e, if_pos e]
  · rw [if_neg e, if_neg e, if_neg e]
theorem mW_uu {ad : Nat → Nat} {cd : Nat → ClassId} {ln : Int32} {th : pz_F} {js je jw : Nat → Nat} {L : pz_F} {k : Nat} {a b : Int32} : (mW ad cd ln th js je jw (upd L k a)).set 5 (ad 5, .inl (cd 5, 256, .inl (upd (upd L k a) k b))) = mW ad cd ln th js je jw (upd L k b) := by
  rw [pz_uu]
  rfl
/-- jobs() -/
theorem pz_jb : ∀ P, P < 256 → ∀ j, j < 8 → (P.testBit j = true → nI (P % 2 ^ j) ||| ((1 : Int32) <<< (nI j &&& 31)) = nI (P % 2 ^ (j + 1))) ∧ (P.testBit j = false → nI (P % 2 ^ j) ||| 0 = nI (P % 2 ^ (j + 1))) := by decide +kernel
/-- bits as the model asks for them -/
theorem pz_b1 : ∀ S, S < 256 → ∀ j, j < 8 → (((nI S >>> (nI j &&& 31)) &&& 1 = 1) ↔ S.testBit j = true) := by decide +kernel
theorem pz_b1f {S j : Nat} (hS : S < 256) (hj : j < 8) (h : ¬ (nI S >>> (nI j &&& 31)) &&& 1 = 1) : S.testBit j = false := by
  rw [pz_b1 S hS j hj] at h
  simpa using h
theorem pz_be {A B j : Nat} (hA : A < 256) (hB : B < 256) (hj : j < 8) : ((nI A >>> (nI j &&& 31)) &&& 1 = (nI B >>> (nI j &&& 31)) &&& 1) ↔ A.testBit j = B.testBit j := by
  have a0 := pz_bit A hA j hj
  have a1 := pz_b1 A hA j hj
  have b0 := pz_bit B hB j hj
  have b1 := pz_b1 B hB j hj
  cases ha : A.testBit j with
  | false =>
    cases hb : B.testBit j with
    | false => rw [a0.mpr ha, b0.mpr hb]; exact ⟨fun _ => rfl, fun _ => rfl⟩
    | true =>
      rw [a0.mpr ha, b1.mpr hb]
      exact ⟨fun h => absurd h (by decide), fun h => by cases h⟩
  | true =>
    cases hb : B.testBit j with
    | true => rw [a1.mpr ha, b1.mpr hb]; exact ⟨fun _ => rfl, fun _ => rfl⟩
    | false =>
      rw [a1.mpr ha, b0.mpr hb]
      exact ⟨fun h => absurd h (by decide), fun h => by cases h⟩
theorem pz_a0 (x : Int32) : x + 0 = x := Int32.add_zero x
theorem pz_su_f {jw : Nat → Nat} {S j : Nat} (h : S.testBit j = false) : nI (pz_su jw S j) + 0 = nI (pz_su jw S (j + 1)) := by
  rw [pz_a0]
  show nI (pz_su jw S j) = nI (pz_su jw S j + (if S.testBit j = true then jw j else 0))
  rw [h, if_neg (by decide), Nat.add_zero]
theorem pz_su_t {jw : Nat → Nat} {S j : Nat} (h : S.testBit j = true) : nI (pz_su jw S j) + nI (jw j) = nI (pz_su jw S (j + 1)) := by
  show nI (pz_su jw S j) + nI (jw j) = nI (pz_su jw S j + (if S.testBit j = true then jw j else 0))
  rw [h, if_pos rfl, nI_add]
/-- the load of a set -/
def pz_ldN (js je : Nat → Nat) (P i : Nat) : Nat := if i &&& P = i then pz_gc js je i 16 else 0
def pz_wkL (js je : Nat → Nat) (P : Nat) (ld : pz_F) : Nat → pz_F
  | 0 => ld
  | i + 1 => upd (pz_wkL js je P ld i) i (nI (pz_ldN js je P i))
theorem pz_wkL_in (js je : Nat → Nat) (P : Nat) (ld : pz_F) : ∀ n i, i < n → pz_wkL js je P ld n i = nI (pz_ldN js je P i)
  | 0, i, h => by omega
  | n + 1, i, h => by
    show upd (pz_wkL js je P ld n) n (nI (pz_ldN js je P n)) i = _
    by_cases e : i = n
    · subst e
      exact pk_us
    · rw [pk_un e]
      exact pz_wkL_in js je P ld n i (by omega)
def pz_LD (js je : Nat → Nat) (P : Nat) (ld : pz_F) : Prop := ∀ i, i < 256 → ld i = nI (pz_ldN js je P i)
theorem pz_LD_gc {js je : Nat → Nat} {P i : Nat} {ld : pz_F} (h : pz_LD js je P ld) (hi : i < 256) (hs : pz_sb i P) : ld i = nI (pz_gc js je i 16) := by
  rw [h i hi]
  unfold pz_ldN
  rw [if_pos ((pz_sb_eq hi).mpr hs)]
theorem pz_wk_y {js je : Nat → Nat} {P i : Nat} (hi : i < 256) (hs : pz_sb i P) : pz_gc js je i 16 = pz_ldN js je P i := by
  unfold pz_ldN
  rw [if_pos ((pz_sb_eq hi).mpr hs)]
theorem pz_wk_n {js je : Nat → Nat} {P i : Nat} (hi : i < 256) (hs : ¬ pz_sb i P) : pz_gc js je i 0 = pz_ldN js je P i := by
  unfold pz_ldN
  rw [if_neg (fun q => hs ((pz_sb_eq hi).mp q))]
  rfl
/-- before -/
def pz_bfI (jw : Nat → Nat) (A B : Nat) : Int32 := if pz_ms jw B 8 < pz_ms jw A 8 then 1 else 0
theorem pz_su_31 {jw : Nat → Nat} {S : Nat} (h : ∀ j, j < 8 → jw j ≤ 20) : pz_su jw S 8 < 2 ^ 20 := by
  have := pz_su_le (S := S) h 8 (Nat.le_refl _)
  omega
theorem pz_bf1 {jw : Nat → Nat} {A B : Nat} (h : ∀ j, j < 8 → jw j ≤ 20) (hn : ¬ nI (pz_su jw A 8) = nI (pz_su jw B 8)) (h2 : nI (pz_su jw A 8) ≤ nI (pz_su jw B 8)) : 0 = pz_bfI jw A B := by
  have a := pz_su_31 (S := A) h
  have b := pz_su_31 (S := B) h
  unfold pz_bfI
  rw [nI_leI (by omega) (by omega)] at h2
  rw [if_neg]
  intro q
  rw [pz_bf_ne (fun z => hn (by rw [z]))] at q
  omega
theorem pz_bf2 {jw : Nat → Nat} {A B : Nat} (h : ∀ j, j < 8 → jw j ≤ 20) (hn : ¬ nI (pz_su jw A 8) = nI (pz_su jw B 8)) (h2 : ¬ nI (pz_su jw A 8) ≤ nI (pz_su jw B 8)) : 1 = pz_bfI jw A B := by
  have a := pz_su_31 (S := A) h
  have b := pz_su_31 (S := B) h
  unfold pz_bfI
  rw [nI_leI (by omega) (by omega)] at h2
  rw [if_pos]
  rw [pz_bf_ne (fun z => hn (by rw [z]))]
  omega
theorem pz_bf3 {jw : Nat → Nat} {A B j : Nat} (hj : j < 8) (hs : pz_su jw A 8 = pz_su jw B 8) (heq : ∀ i, i < j → A.testBit i = B.testBit i) (hd : A.testBit j ≠ B.testBit j) (ha : A.testBit j = false) : 0 = pz_bfI jw A B := by
  unfold pz_bfI
  rw [if_neg]
  rw [pz_bf_j hj hs heq hd, ha]
  decide
theorem pz_bf4 {jw : Nat → Nat} {A B j : Nat} (hj : j < 8) (hs : pz_su jw A 8 = pz_su jw B 8) (heq : ∀ i, i < j → A.testBit i = B.testBit i) (hd : A.testBit j ≠ B.testBit j) (ha : A.testBit j = true) : 1 = pz_bfI jw A B := by
  unfold pz_bfI
  rw [if_pos]
  rw [pz_bf_j hj hs heq hd, ha]
theorem pz_bf5 {jw : Nat → Nat} {A B : Nat} (heq : ∀ i, i < 8 → A.testBit i = B.testBit i) : 0 = pz_bfI jw A B := by
  unfold pz_bfI
  rw [if_neg]
  rw [pz_ms_congr heq]
  exact Nat.lt_irrefl _
/-- best -/
theorem pz_bs_1 (js je jw : Nat → Nat) (P k : Nat) : pz_bs js je jw P k 1 = 0 := by
  show (if pz_ok js je P k 0 ∧ pz_ms jw (pz_bs js je jw P k 0) 8 < pz_ms jw 0 8 then 0 else pz_bs js je jw P k 0) = 0
  split <;> rfl
theorem pz_bs_n {js je jw : Nat → Nat} {P k i : Nat} (h : ¬ (pz_ok js je P k i ∧ pz_ms jw (pz_bs js je jw P k i) 8 < pz_ms jw i 8)) : nI (pz_bs js je jw P k i) = nI (pz_bs js je jw P k (i + 1)) := by
  show _ = nI (if pz_ok js je P k i ∧ pz_ms jw (pz_bs js je jw P k i) 8 < pz_ms jw i 8 then i else pz_bs js je jw P k i)
  rw [if_neg h]
theorem pz_bs_y {js je jw : Nat → Nat} {P k i : Nat} (h : pz_ok js je P k i ∧ pz_ms jw (pz_bs js je jw P k i) 8 < pz_ms jw i 8) : nI i = nI (pz_bs js je jw P k (i + 1)) := by
  show _ = nI (if pz_ok js je P k i ∧ pz_ms jw (pz_bs js je jw P k i) 8 < pz_ms jw i 8 then i else pz_bs js je jw P k i)
  rw [if_pos h]
theorem pz_bfI0 {jw : Nat → Nat} {A B : Nat} (h : pz_bfI jw A B = 0) : ¬ pz_ms jw B 8 < pz_ms jw A 8 := by
  intro q
  unfold pz_bfI at h
  rw [if_pos q] at h
  exact absurd h (by decide)
theorem pz_bfI1 {jw : Nat → Nat} {A B : Nat} (h : ¬ pz_bfI jw A B = 0) : pz_ms jw B 8 < pz_ms jw A 8 := by
  apply Classical.byContradiction
  intro q
  unfold pz_bfI at h
  rw [if_neg q] at h
  exact absurd rfl h
theorem pz_gt {js je : Nat → Nat} {i k : Nat} (hk : k < 2 ^ 31) : nI k < nI (pz_gc js je i 16) ↔ k < pz_gc js je i 16 := nI_ltI hk (by have := pz_gc_le js je i 16; omega)
theorem pz_255 : ∀ a, a < 256 → nI a &&& 255 = nI a := by decide +kernel
/-- totalWith: the greatest sum so far -/
abbrev pz_twc (js je : Nat → Nat) (P k a b i : Nat) : Prop := nI i &&& (nI P ^^^ (-1)) = 0 ∧ pz_gc js je i 16 ≤ k ∧ nI (a &&& P) &&& (nI i ^^^ (-1)) = 0 ∧ nI b &&& nI i = 0
def pz_mo (js je jw : Nat → Nat) (P k a b : Nat) : Nat → Int32
  | 0 => -1
  | i + 1 => if pz_twc js je P k a b i then (if nI (pz_su jw i 8) ≤ pz_mo js je jw P k a b i then pz_mo js je jw P k a b i else nI (pz_su jw i 8)) else pz_mo js je jw P k a b i
theorem pz_mo_n {js je jw : Nat → Nat} {P k a b i : Nat} (h : ¬ pz_twc js je P k a b i) : pz_mo js je jw P k a b i = pz_mo js je jw P k a b (i + 1) := (if_neg h).symm
theorem pz_mo_1 {js je jw : Nat → Nat} {P k a b i : Nat} (h : pz_twc js je P k a b i) (h2 : nI (pz_su jw i 8) ≤ pz_mo js je jw P k a b i) : pz_mo js je jw P k a b i = pz_mo js je jw P k a b (i + 1) := by
  show _ = if pz_twc js je P k a b i then (if nI (pz_su jw i 8) ≤ pz_mo js je jw P k a b i then pz_mo js je jw P k a b i else nI (pz_su jw i 8)) else pz_mo js je jw P k a b i
  rw [if_pos h, if_pos h2]
theorem pz_mo_2 {js je jw : Nat → Nat} {P k a b i : Nat} (h : pz_twc js je P k a b i) (h2 : ¬ nI (pz_su jw i 8) ≤ pz_mo js je jw P k a b i) : nI (pz_su jw i 8) = pz_mo js je jw P k a b (i + 1) := by
  show _ = if pz_twc js je P k a b i then (if nI (pz_su jw i 8) ≤ pz_mo js je jw P k a b i then pz_mo js je jw P k a b i else nI (pz_su jw i 8)) else pz_mo js je jw P k a b i
  rw [if_pos h, if_neg h2]
theorem pz_twc_iff {js je : Nat → Nat} {P k a b i : Nat} (hP : P < 256) (hi : i < 256) : pz_twc js je P k a b i ↔ pz_ok js je P k i ∧ pz_tw P a b i := by
  unfold pz_twc pz_ok pz_tw
  rw [pz_sb_cm hi, pz_sb_cm (pz_and_lt hP), pz_dj hi, pz_sb_eq hi]
  constructor
  · intro ⟨h1, h2, h3, h4⟩
    exact ⟨⟨h1, h2⟩, h3, h4⟩
  · intro ⟨⟨h1, h2⟩, h3, h4⟩
    exact ⟨h1, h2, h3, h4⟩
theorem pz_mo_inv {js je jw : Nat → Nat} {P k a b : Nat} (hP : P < 256) (hw : ∀ j, j < 8 → jw j ≤ 20) : ∀ n, n ≤ 256 → (pz_mo js je jw P k a b n = -1 ∧ ∀ S, S < n → pz_ok js je P k S → ¬ pz_tw P a b S) ∨ (∃ S, pz_mo js je jw P k a b n = nI (pz_su jw S 8) ∧ S < n ∧ pz_ok js je P k S ∧ pz_tw P a b S ∧ ∀ S', S' < n → pz_ok js je P k S' → pz_tw P a b S' → pz_su jw S' 8 ≤ pz_su jw S 8)
  | 0, _ => Or.inl ⟨rfl, fun S h => by omega⟩
  | n + 1, hn => by
    have ih := pz_mo_inv (js := js) (je := je) (jw := jw) (k := k) (a := a) (b := b) hP hw n (by omega)
    have hnn : n < 256 := by omega
    by_cases hc : pz_twc js je P k a b n
    · obtain ⟨c1, c2⟩ := (pz_twc_iff hP hnn).mp hc
      have s0 := pz_su_31 (S := n) hw
      rcases ih with ⟨e, h⟩ | ⟨S, e, h1, h2, h3, h4⟩
      · have h9 : ¬ nI (pz_su jw n 8) ≤ pz_mo js je jw P k a b n := by
          rw [e, Int32.le_iff_toInt_le, nI_toInt (by omega), show (-1 : Int32).toInt = -1 from rfl]
          omega
        rw [← pz_mo_2 hc h9]
        refine Or.inr ⟨n, rfl, by omega, c1, c2, fun S' hS' ok' tw' => ?_⟩
        by_cases q : S' = n
        · rw [q]
          exact Nat.le_refl _
        · exact absurd tw' (h S' (by omega) ok')
      · have s1 := pz_su_31 (S := S) hw
        by_cases h9 : nI (pz_su jw n 8) ≤ pz_mo js je jw P k a b n
        · rw [← pz_mo_1 hc h9]
          rw [e, nI_leI (by omega) (by omega)] at h9
          refine Or.inr ⟨S, e, by omega, h2, h3, fun S' hS' ok' tw' => ?_⟩
          by_cases q : S' = n
          · rw [q]
            exact h9
          · exact h4 S' (by omega) ok' tw'
        · rw [← pz_mo_2 hc h9]
          rw [e, nI_leI (by omega) (by omega)] at h9
          refine Or.inr ⟨n, rfl, by omega, c1, c2, fun S' hS' ok' tw' => ?_⟩
          by_cases q : S' = n
          · rw [q]
            exact Nat.le_refl _
          · have := h4 S' (by omega) ok' tw'
            omega
    · rw [← pz_mo_n hc]
      have hno : ¬ (pz_ok js je P k n ∧ pz_tw P a b n) := fun z => hc ((pz_twc_iff hP hnn).mpr z)
      rcases ih with ⟨e, h⟩ | ⟨S, e, h1, h2, h3, h4⟩
      · refine Or.inl ⟨e, fun S hS ok' tw' => ?_⟩
        by_cases q : S = n
        · subst q
          exact hno ⟨ok', tw'⟩
        · exact h S (by omega) ok' tw'
      · refine Or.inr ⟨S, e, by omega, h2, h3, fun S' hS' ok' tw' => ?_⟩
        by_cases q : S' = n
        · subst q
          exact absurd ⟨ok', tw'⟩ hno
        · exact h4 S' (by omega) ok' tw'
theorem pz_mo_TW {js je jw : Nat → Nat} {P k a b : Nat} (hP : P < 256) (hw : ∀ j, j < 8 → jw j ≤ 20) : pz_TW js je jw P k a b (pz_mo js je jw P k a b 256) := by
  rcases pz_mo_inv (js := js) (je := je) (k := k) (a := a) (b := b) hP hw 256 (Nat.le_refl _) with ⟨e, h⟩ | ⟨S, e, h1, h2, h3, h4⟩
  · exact Or.inl ⟨e, h⟩
  · exact Or.inr ⟨S, e, h1, h2, h3, h4⟩
/-- price -/
def pz_pw (jw : Nat → Nat) (q : Nat) : Nat → Nat → Nat
  | 0 => jw
  | c + 1 => va_up jw q (20 - c)
theorem pz_pw_up (jw : Nat → Nat) (q v : Nat) : ∀ c, va_up (pz_pw jw q c) q v = va_up jw q v
  | 0 => rfl
  | _ + 1 => bx_uu jw q _ v
theorem pz_up_self (jw : Nat → Nat) (q : Nat) : va_up jw q (jw q) = jw := by
  funext i
  unfold va_up
  by_cases e : i = q
  · rw [if_pos e, e]
  · rw [if_neg e]
def pz_lp (js je jw : Nat → Nat) (P k q : Nat) : Nat → Nat
  | 0 => 21
  | c + 1 => if (pz_BT js je (va_up jw q (20 - c)) P k).testBit q = true then 20 - c else pz_lp js je jw P k q c
theorem pz_lp_t {js je jw : Nat → Nat} {P k q c : Nat} (h : (pz_BT js je (va_up jw q (20 - c)) P k).testBit q = true) : nI (20 - c) = nI (pz_lp js je jw P k q (c + 1)) := by
  show _ = nI (if (pz_BT js je (va_up jw q (20 - c)) P k).testBit q = true then 20 - c else pz_lp js je jw P k q c)
  rw [if_pos h]
theorem pz_lp_f {js je jw : Nat → Nat} {P k q c : Nat} (h : (pz_BT js je (va_up jw q (20 - c)) P k).testBit q = false) : nI (pz_lp js je jw P k q c) = nI (pz_lp js je jw P k q (c + 1)) := by
  show _ = nI (if (pz_BT js je (va_up jw q (20 - c)) P k).testBit q = true then 20 - c else pz_lp js je jw P k q c)
  rw [if_neg (by rw [h]; decide)]
theorem pz_lp_inv (js je jw : Nat → Nat) (P k q : Nat) : ∀ c, c ≤ 20 → (pz_lp js je jw P k q c = 21 ∧ ∀ v, 21 - c ≤ v → v ≤ 20 → ¬ pz_inB js je jw P k q v) ∨ (20 - c < pz_lp js je jw P k q c ∧ pz_lp js je jw P k q c ≤ 20 ∧ pz_inB js je jw P k q (pz_lp js je jw P k q c) ∧ ∀ v, 21 - c ≤ v → v < pz_lp js je jw P k q c → ¬ pz_inB js je jw P k q v)
  | 0, _ => Or.inl ⟨rfl, fun v h1 h2 => by omega⟩
  | c + 1, hc => by
    have ih := pz_lp_inv js je jw P k q c (by omega)
    have e : pz_lp js je jw P k q (c + 1) = if (pz_BT js je (va_up jw q (20 - c)) P k).testBit q = true then 20 - c else pz_lp js je jw P k q c := rfl
    by_cases h : (pz_BT js je (va_up jw q (20 - c)) P k).testBit q = true
    · rw [e, if_pos h]
      exact Or.inr ⟨by omega, by omega, h, fun v h1 h2 => by omega⟩
    · rw [e, if_neg h]
      rcases ih with ⟨e1, h1⟩ | ⟨h1, h2, h3, h4⟩
      · refine Or.inl ⟨e1, fun v g1 g2 => ?_⟩
        by_cases z : v = 20 - c
        · rw [z]
          exact h
        · exact h1 v (by omega) g2
      · refine Or.inr ⟨by omega, h2, h3, fun v g1 g2 => ?_⟩
        by_cases z : v = 20 - c
        · rw [z]
          exact h
        · exact h4 v (by omega) g2
theorem pz_lp_PR (js je jw : Nat → Nat) (P k q : Nat) : pz_PR js je jw P k q (nI (pz_lp js je jw P k q 20)) := by
  rcases pz_lp_inv js je jw P k q 20 (Nat.le_refl _) with ⟨e1, h1⟩ | ⟨h1, h2, h3, h4⟩
  · exact Or.inl ⟨by rw [e1]; rfl, fun v g1 g2 => h1 v (by omega) g2⟩
  · exact Or.inr ⟨_, by omega, h2, rfl, h3, fun v g1 g2 => h4 v (by omega) g2⟩
theorem pz_up20 {jw : Nat → Nat} {q v : Nat} (h : ∀ j, j < 8 → jw j ≤ 20) (hv : v ≤ 20) : ∀ j, j < 8 → va_up jw q v j ≤ 20 := by
  intro j hj
  unfold va_up
  split
  · exact hv
  · exact h j hj
end
section
/-! TrackMarketModel: its methods (printed by gen/walks4.py) -/
set_option maxHeartbeats 4000000 in
/-- is(j) -/
theorem mM_is (l : Launch) (D : va_G) (ad : Nat → Nat) (cd : Nat → ClassId) (k P : Nat) (js je jw : Nat → Nat) (ld : pz_F) (j : Int32)  : y_MI l yX2_is cX2_is 2 .boolean (y_rm 0 0) D (mT cd) [.ref (ad 0), .int j] (mW ad cd (nI k) (pz_th P) js je jw ld)
    (fun r u => r = pz_has P j ∧ u = mW ad cd (nI k) (pz_th P) js je jw ld) := by
  refine y_startI (by decide) (Nat.le_of_ble_eq_true rfl) ?_
  intro p e0 s0 m below meth c A ls hx hb hr hml hown hts hlocks hK hA hw hl
  have hw : y_W D A s0.heap (mW ad cd (nI k) (pz_th P) js je jw ld) s0.heap [] := hw
  have hl : lv_has ls 2 [(0, .ref (ad 0)), (1, .int j)] := hl
  refine lv_iload_n hx hb dX2_is_0 rfl (lv_at hl 1 rfl) ?_
  refine lv_if_lt (tgt := 23) hx hb dX2_is_1 (by decide) (fun c1 => ?_) (fun c1 => ?_)
  · skip
    refine lv_iconst (v := 0) hx hb dX2_is_23 (by decide) ?_
    exact y_iret (v := 0) hx hb hr hlocks hK hw rfl (⟨pz_has_lt c1, rfl⟩) dX2_is_24
  · skip
    refine lv_iload_n hx hb dX2_is_4 rfl (lv_at hl 1 rfl) ?_
    refine lv_bipush (v := 8) hx hb dX2_is_5 (by decide) ?_
    refine lv_icmp_ge (tgt := 23) hx hb dX2_is_7 (by decide) (fun c7 => ?_) (fun c7 => ?_)
    · skip
      refine lv_iconst (v := 0) hx hb dX2_is_23 (by decide) ?_
      exact y_iret (v := 0) hx hb hr hlocks hK hw rfl (⟨pz_has_ge c7, rfl⟩) dX2_is_24
    · skip
      obtain ⟨q, hq, eq⟩ := pz_ix8 c1 c7
      refine lv_aload_n hx hb dX2_is_10 rfl (lv_at hl 0 rfl) ?_
      refine m_get hx hb hts hown hK hw rfl 1 (by decide) q205 rfl dX2_is_11 ?_
      refine lv_iload_n hx hb dX2_is_14 rfl (lv_at hl 1 rfl) ?_
      refine y_zald hx hb hK hw 1 0 q rfl rfl eq hq (by decide) dX2_is_15 ?_
      refine lv_if_eq (tgt := 23) hx hb dX2_is_16 (by decide) (fun c16 => ?_) (fun c16 => ?_)
      · skip
        have hbit := pz_th0 c16
        refine lv_iconst (v := 0) hx hb dX2_is_23 (by decide) ?_
        exact y_iret (v := 0) hx hb hr hlocks hK hw rfl (⟨by rw [eq, pz_has_nI hq, hbit, if_neg (by decide)], rfl⟩) dX2_is_24
      · skip
        have hbit := pz_th1 c16
        refine lv_iconst (v := 1) hx hb dX2_is_19 (by decide) ?_
        refine lv_goto (tgt := 24) hx hb dX2_is_20 (by decide) ?_
        exact y_iret (v := 1) hx hb hr hlocks hK hw rfl (⟨by rw [eq, pz_has_nI hq, hbit, if_pos rfl], rfl⟩) dX2_is_24
set_option maxHeartbeats 4000000 in
/-- jobs() -/
theorem mM_jobs (l : Launch) (D : va_G) (ad : Nat → Nat) (cd : Nat → ClassId) (k P : Nat) (js je jw : Nat → Nat) (ld : pz_F)  (hP : P < 256) : y_MI l yX2_jobs cX2_jobs 3 .int (y_rm 0 0) D (mT cd) [.ref (ad 0)] (mW ad cd (nI k) (pz_th P) js je jw ld)
    (fun r u => r = nI P ∧ u = mW ad cd (nI k) (pz_th P) js je jw ld) := by
  refine y_startI (by decide) (Nat.le_of_ble_eq_true rfl) ?_
  intro p e0 s0 m below meth c A ls hx hb hr hml hown hts hlocks hK hA hw hl
  have hw : y_W D A s0.heap (mW ad cd (nI k) (pz_th P) js je jw ld) s0.heap [] := hw
  have hl : lv_has ls 3 [(0, .ref (ad 0))] := hl
  refine lv_iconst (v := nI 0) hx hb dX2_jobs_0 (by decide) ?_
  refine lv_istore_n (lv' := [(1, .int (nI 0)), (0, .ref (ad 0))]) hx hb dX2_jobs_1 rfl hl (by decide) rfl (fun ls hl => ?_)
  refine lv_iconst (v := 0) hx hb dX2_jobs_2 (by decide) ?_
  refine lv_istore_n (lv' := [(2, .int 0), (1, .int (nI 0)), (0, .ref (ad 0))]) hx hb dX2_jobs_3 rfl hl (by decide) rfl (fun ls hl => ?_)
  rw [show nI 0 = nI (P % 2 ^ 0) from by rw [Nat.pow_zero, Nat.mod_one]] at hl
  refine y_for 4 3 8 0 (fun j => mW ad cd (nI k) (pz_th P) js je jw ld) (fun j => [(0, .ref (ad 0)), (1, .int (nI (P % 2 ^ j))), (2, .int (nI j))]) (fun j => True) (Nat.le_of_ble_eq_true rfl) trivial hw (lv_sub hl [2, 1, 0] rfl) ?_ ?_
  · intro j hj hI4 H locs ls hw hl ih4
    have hw : y_W D A s0.heap (mW ad cd (nI k) (pz_th P) js je jw ld) H locs := hw
    have hl : lv_has ls 3 [(0, .ref (ad 0)), (1, .int (nI (P % 2 ^ j))), (2, .int (nI j))] := hl
    refine lv_iload_n hx hb dX2_jobs_4 rfl (lv_at hl 2 rfl) ?_
    refine lv_bipush (v := 8) hx hb dX2_jobs_5 (by decide) ?_
    refine lv_icmp_ge (tgt := 35) hx hb dX2_jobs_7 (by decide) (fun c9 => absurd c9 (y_ge hj)) (fun _ => ?_)
    refine lv_iload_n hx hb dX2_jobs_10 rfl (lv_at hl 1 rfl) ?_
    refine lv_aload_n hx hb dX2_jobs_11 rfl (lv_at hl 0 rfl) ?_
    refine m_get hx hb hts hown hK hw rfl 1 (by decide) q205 rfl dX2_jobs_12 ?_
    refine lv_iload_n hx hb dX2_jobs_15 rfl (lv_at hl 2 rfl) ?_
    refine y_zald hx hb hK hw 1 0 j rfl rfl rfl hj (by decide) dX2_jobs_16 ?_
    refine lv_if_eq (tgt := 26) hx hb dX2_jobs_17 (by decide) (fun c17 => ?_) (fun c17 => ?_)
    · skip
      have hbit := pz_th0 c17
      refine lv_iconst (v := 0) hx hb dX2_jobs_26 (by decide) ?_
      refine lv_ior hx hb dX2_jobs_27 ?_
      refine y_top (x' := nI (P % 2 ^ (j + 1))) ((pz_jb P hP j hj).2 hbit) ?_
      refine lv_istore_n (lv' := [(1, .int (nI (P % 2 ^ (j + 1)))), (0, .ref (ad 0)), (2, .int (nI j))]) hx hb dX2_jobs_28 rfl hl (by decide) rfl (fun ls hl => ?_)
      refine lv_iinc (v := nI (j + 1)) (lv' := [(2, .int (nI (j + 1))), (1, .int (nI (P % 2 ^ (j + 1)))), (0, .ref (ad 0))]) hx hb dX2_jobs_29 hl (k := 2) rfl (nI_1 _) (by decide) rfl (fun ls hl => ?_)
      refine lv_goto (tgt := 4) hx hb dX2_jobs_32 (by decide) ?_
      exact ih4 trivial _ _ _ hw (lv_sub hl [2, 1, 0] rfl)
    · skip
      have hbit := pz_th1 c17
      refine lv_iconst (v := 1) hx hb dX2_jobs_20 (by decide) ?_
      refine lv_iload_n hx hb dX2_jobs_21 rfl (lv_at hl 2 rfl) ?_
      refine lv_ishl hx hb dX2_jobs_22 ?_
      refine lv_goto (tgt := 27) hx hb dX2_jobs_23 (by decide) ?_
      refine lv_ior hx hb dX2_jobs_27 ?_
      refine y_top (x' := nI (P % 2 ^ (j + 1))) ((pz_jb P hP j hj).1 hbit) ?_
      refine lv_istore_n (lv' := [(1, .int (nI (P % 2 ^ (j + 1)))), (0, .ref (ad 0)), (2, .int (nI j))]) hx hb dX2_jobs_28 rfl hl (by decide) rfl (fun ls hl => ?_)
      refine lv_iinc (v := nI (j + 1)) (lv' := [(2, .int (nI (j + 1))), (1, .int (nI (P % 2 ^ (j + 1)))), (0, .ref (ad 0))]) hx hb dX2_jobs_29 hl (k := 2) rfl (nI_1 _) (by decide) rfl (fun ls hl => ?_)
      refine lv_goto (tgt := 4) hx hb dX2_jobs_32 (by decide) ?_
      exact ih4 trivial _ _ _ hw (lv_sub hl [2, 1, 0] rfl)
  · intro hI4 H locs ls hw hl
    have hw : y_W D A s0.heap (mW ad cd (nI k) (pz_th P) js je jw ld) H locs := hw
    have hl : lv_has ls 3 [(0, .ref (ad 0)), (1, .int (nI (P % 2 ^ 8))), (2, .int (nI 8))] := hl
    refine lv_iload_n hx hb dX2_jobs_4 rfl (lv_at hl 2 rfl) ?_
    refine lv_bipush (v := 8) hx hb dX2_jobs_5 (by decide) ?_
    refine lv_icmp_ge (tgt := 35) hx hb dX2_jobs_7 (by decide) (fun _ => ?_) (fun c9 => absurd (y_le (a := 8)) c9)
    refine lv_iload_n hx hb dX2_jobs_35 rfl (lv_at hl 1 rfl) ?_
    refine y_top (x' := nI P) (by rw [Nat.mod_eq_of_lt (show P < 2 ^ 8 from hP)]) ?_
    exact y_iret (v := nI P) hx hb hr hlocks hK hw rfl (⟨rfl, rfl⟩) dX2_jobs_36
set_option maxHeartbeats 4000000 in
/-- at(set, t) -/
theorem mM_at (l : Launch) (D : va_G) (ad : Nat → Nat) (cd : Nat → ClassId) (k P : Nat) (js je jw : Nat → Nat) (ld : pz_F) (S T : Nat) (hS : S < 256) (hT : T < 16) (hJ : pz_JB js je jw) : y_MI l yX2_at cX2_at 5 .int (y_rm 0 0) D (mT cd) [.ref (ad 0), .int (nI S), .int (nI T)] (mW ad cd (nI k) (pz_th P) js je jw ld)
    (fun r u => r = nI (pz_cw js je S T 8) ∧ u = mW ad cd (nI k) (pz_th P) js je jw ld) := by
  refine y_startI (by decide) (Nat.le_of_ble_eq_true rfl) ?_
  intro p e0 s0 m below meth c A ls hx hb hr hml hown hts hlocks hK hA hw hl
  have hw : y_W D A s0.heap (mW ad cd (nI k) (pz_th P) js je jw ld) s0.heap [] := hw
  have hl : lv_has ls 5 [(0, .ref (ad 0)), (1, .int (nI S)), (2, .int (nI T))] := hl
  refine lv_iconst (v := nI 0) hx hb dX2_at_0 (by decide) ?_
  refine lv_istore_n (lv' := [(3, .int (nI 0)), (0, .ref (ad 0)), (1, .int (nI S)), (2, .int (nI T))]) hx hb dX2_at_1 rfl hl (by decide) rfl (fun ls hl => ?_)
  refine lv_iconst (v := nI 0) hx hb dX2_at_2 (by decide) ?_
  refine lv_istore (lv' := [(4, .int (nI 0)), (3, .int (nI 0)), (0, .ref (ad 0)), (1, .int (nI S)), (2, .int (nI T))]) hx hb dX2_at_3 hl (by decide) rfl (fun ls hl => ?_)
  refine y_for 5 5 8 0 (fun j => mW ad cd (nI k) (pz_th P) js je jw ld) (fun j => [(0, .ref (ad 0)), (1, .int (nI S)), (2, .int (nI T)), (3, .int (nI (pz_cw js je S T j))), (4, .int (nI j))]) (fun j => True) (Nat.le_of_ble_eq_true rfl) trivial hw (lv_sub hl [2, 3, 4, 1, 0] rfl) ?_ ?_
  · intro j hj hI5 H locs ls hw hl ih5
    have hw : y_W D A s0.heap (mW ad cd (nI k) (pz_th P) js je jw ld) H locs := hw
    have hl : lv_has ls 5 [(0, .ref (ad 0)), (1, .int (nI S)), (2, .int (nI T)), (3, .int (nI (pz_cw js je S T j))), (4, .int (nI j))] := hl
    have hJj := hJ j hj
    refine lv_iload hx hb dX2_at_5 (lv_at hl 4 rfl) ?_
    refine lv_bipush (v := 8) hx hb dX2_at_7 (by decide) ?_
    refine lv_icmp_ge (tgt := 58) hx hb dX2_at_9 (by decide) (fun c9 => absurd c9 (y_ge hj)) (fun _ => ?_)
    refine lv_iload_n hx hb dX2_at_12 rfl (lv_at hl 3 rfl) ?_
    refine lv_iload_n hx hb dX2_at_13 rfl (lv_at hl 1 rfl) ?_
    refine lv_iload hx hb dX2_at_14 (lv_at hl 4 rfl) ?_
    refine lv_ishr hx hb dX2_at_16 ?_
    refine lv_iconst (v := 1) hx hb dX2_at_17 (by decide) ?_
    refine lv_iand hx hb dX2_at_18 ?_
    refine lv_iconst (v := 1) hx hb dX2_at_19 (by decide) ?_
    refine lv_icmp_ne (tgt := 49) hx hb dX2_at_20 (by decide) (fun c20 => ?_) (fun c20 => ?_)
    · skip
      have hbit := pz_b1f hS hj c20
      refine lv_iconst (v := 0) hx hb dX2_at_49 (by decide) ?_
      refine lv_iadd hx hb dX2_at_50 ?_
      refine y_top (x' := nI (pz_cw js je S T (j + 1))) ((pz_a0 _).trans (pz_cw_f1 hbit)) ?_
      refine lv_istore_n (lv' := [(3, .int (nI (pz_cw js je S T (j + 1)))), (0, .ref (ad 0)), (1, .int (nI S)), (2, .int (nI T)), (4, .int (nI j))]) hx hb dX2_at_51 rfl hl (by decide) rfl (fun ls hl => ?_)
      refine lv_iinc (v := nI (j + 1)) (lv' := [(4, .int (nI (j + 1))), (3, .int (nI (pz_cw js je S T (j + 1)))), (0, .ref (ad 0)), (1, .int (nI S)), (2, .int (nI T))]) hx hb dX2_at_52 hl (k := 4) rfl (nI_1 _) (by decide) rfl (fun ls hl => ?_)
      refine lv_goto (tgt := 5) hx hb dX2_at_55 (by decide) ?_
      exact ih5 trivial _ _ _ hw (lv_sub hl [2, 3, 4, 1, 0] rfl)
    · skip
      have hbit := (pz_b1 S hS j hj).mp c20
      refine lv_aload_n hx hb dX2_at_23 rfl (lv_at hl 0 rfl) ?_
      refine m_get hx hb hts hown hK hw rfl 2 (by decide) q206 rfl dX2_at_24 ?_
      refine lv_iload hx hb dX2_at_27 (lv_at hl 4 rfl) ?_
      refine y_iald hx hb hK hw 2 1 j rfl rfl rfl hj (by decide) dX2_at_29 ?_
      refine lv_iload_n hx hb dX2_at_30 rfl (lv_at hl 2 rfl) ?_
      refine lv_icmp_gt (tgt := 49) hx hb dX2_at_31 (by decide) (fun c31 => ?_) (fun c31 => ?_)
      · skip
        refine lv_iconst (v := 0) hx hb dX2_at_49 (by decide) ?_
        refine lv_iadd hx hb dX2_at_50 ?_
        refine y_top (x' := nI (pz_cw js je S T (j + 1))) ((pz_a0 _).trans (pz_cw_f2 c31 (by omega) (by omega))) ?_
        refine lv_istore_n (lv' := [(3, .int (nI (pz_cw js je S T (j + 1)))), (0, .ref (ad 0)), (1, .int (nI S)), (2, .int (nI T)), (4, .int (nI j))]) hx hb dX2_at_51 rfl hl (by decide) rfl (fun ls hl => ?_)
        refine lv_iinc (v := nI (j + 1)) (lv' := [(4, .int (nI (j + 1))), (3, .int (nI (pz_cw js je S T (j + 1)))), (0, .ref (ad 0)), (1, .int (nI S)), (2, .int (nI T))]) hx hb dX2_at_52 hl (k := 4) rfl (nI_1 _) (by decide) rfl (fun ls hl => ?_)
        refine lv_goto (tgt := 5) hx hb dX2_at_55 (by decide) ?_
        exact ih5 trivial _ _ _ hw (lv_sub hl [2, 3, 4, 1, 0] rfl)
      · skip
        refine lv_iload_n hx hb dX2_at_34 rfl (lv_at hl 2 rfl) ?_
        refine lv_aload_n hx hb dX2_at_35 rfl (lv_at hl 0 rfl) ?_
        refine m_get hx hb hts hown hK hw rfl 3 (by decide) q207 rfl dX2_at_36 ?_
        refine lv_iload hx hb dX2_at_39 (lv_at hl 4 rfl) ?_
        refine y_iald hx hb hK hw 3 2 j rfl rfl rfl hj (by decide) dX2_at_41 ?_
        refine lv_icmp_ge (tgt := 49) hx hb dX2_at_42 (by decide) (fun c42 => ?_) (fun c42 => ?_)
        · skip
          refine lv_iconst (v := 0) hx hb dX2_at_49 (by decide) ?_
          refine lv_iadd hx hb dX2_at_50 ?_
          refine y_top (x' := nI (pz_cw js je S T (j + 1))) ((pz_a0 _).trans (pz_cw_f3 c42 (by omega) (by omega))) ?_
          refine lv_istore_n (lv' := [(3, .int (nI (pz_cw js je S T (j + 1)))), (0, .ref (ad 0)), (1, .int (nI S)), (2, .int (nI T)), (4, .int (nI j))]) hx hb dX2_at_51 rfl hl (by decide) rfl (fun ls hl => ?_)
          refine lv_iinc (v := nI (j + 1)) (lv' := [(4, .int (nI (j + 1))), (3, .int (nI (pz_cw js je S T (j + 1)))), (0, .ref (ad 0)), (1, .int (nI S)), (2, .int (nI T))]) hx hb dX2_at_52 hl (k := 4) rfl (nI_1 _) (by decide) rfl (fun ls hl => ?_)
          refine lv_goto (tgt := 5) hx hb dX2_at_55 (by decide) ?_
          exact ih5 trivial _ _ _ hw (lv_sub hl [2, 3, 4, 1, 0] rfl)
        · skip
          refine lv_iconst (v := 1) hx hb dX2_at_45 (by decide) ?_
          refine lv_goto (tgt := 50) hx hb dX2_at_46 (by decide) ?_
          refine lv_iadd hx hb dX2_at_50 ?_
          refine y_top (x' := nI (pz_cw js je S T (j + 1))) (pz_cw_t hbit c31 c42 (by omega) (by omega) (by omega)) ?_
          refine lv_istore_n (lv' := [(3, .int (nI (pz_cw js je S T (j + 1)))), (0, .ref (ad 0)), (1, .int (nI S)), (2, .int (nI T)), (4, .int (nI j))]) hx hb dX2_at_51 rfl hl (by decide) rfl (fun ls hl => ?_)
          refine lv_iinc (v := nI (j + 1)) (lv' := [(4, .int (nI (j + 1))), (3, .int (nI (pz_cw js je S T (j + 1)))), (0, .ref (ad 0)), (1, .int (nI S)), (2, .int (nI T))]) hx hb dX2_at_52 hl (k := 4) rfl (nI_1 _) (by decide) rfl (fun ls hl => ?_)
          refine lv_goto (tgt := 5) hx hb dX2_at_55 (by decide) ?_
          exact ih5 trivial _ _ _ hw (lv_sub hl [2, 3, 4, 1, 0] rfl)
  · intro hI5 H locs ls hw hl
    have hw : y_W D A s0.heap (mW ad cd (nI k) (pz_th P) js je jw ld) H locs := hw
    have hl : lv_has ls 5 [(0, .ref (ad 0)), (1, .int (nI S)), (2, .int (nI T)), (3, .int (nI (pz_cw js je S T 8))), (4, .int (nI 8))] := hl
    refine lv_iload hx hb dX2_at_5 (lv_at hl 4 rfl) ?_
    refine lv_bipush (v := 8) hx hb dX2_at_7 (by decide) ?_
    refine lv_icmp_ge (tgt := 58) hx hb dX2_at_9 (by decide) (fun _ => ?_) (fun c9 => absurd (y_le (a := 8)) c9)
    refine lv_iload_n hx hb dX2_at_58 rfl (lv_at hl 3 rfl) ?_
    exact y_iret (v := nI (pz_cw js je S T 8)) hx hb hr hlocks hK hw rfl (⟨rfl, rfl⟩) dX2_at_59
set_option maxHeartbeats 4000000 in
/-- work() -/
theorem mM_work (l : Launch) (D : va_G) (ad : Nat → Nat) (cd : Nat → ClassId) (k P : Nat) (js je jw : Nat → Nat) (ld : pz_F)  (hP : P < 256) (hJ : pz_JB js je jw) : y_MV l yX2_work cX2_work 5 (y_rm 1 24) D (mT cd) [.ref (ad 0)] (mW ad cd (nI k) (pz_th P) js je jw ld)
    (fun u => ∃ ld', pz_LD js je P ld' ∧ u = mW ad cd (nI k) (pz_th P) js je jw ld') := by
  refine y_startV (by decide) (Nat.le_of_ble_eq_true rfl) ?_
  intro p e0 s0 m below meth c A ls hx hb hr hml hown hts hlocks hK hA hw hl
  have hw : y_W D A s0.heap (mW ad cd (nI k) (pz_th P) js je jw ld) s0.heap [] := hw
  have hl : lv_has ls 5 [(0, .ref (ad 0))] := hl
  refine lv_aload_n hx hb dX2_work_0 rfl (lv_at hl 0 rfl) ?_
  refine y_selfI (q := (RX2, TX2, 6)) (ci := 1) (As := []) (rest := []) ⟨hx, hb, hml, hown, hts⟩ (mM_jobs l D ad cd k P js je jw ld hP) (cwV 0 hts (lw_V q260 q249 q250 q22 q251) rfl rfl rfl (by decide +kernel) ⟨Nat.le_of_ble_eq_true rfl, Nat.le_of_ble_eq_true rfl⟩) hK hw hA rfl rfl rfl hl.1 rfl (Nat.le_of_ble_eq_true rfl) dX2_work_1 ⟨Nat.zero_le _, Nat.zero_le _⟩ (fun r u H locs hq hw => ?_)
  obtain ⟨rfl, rfl⟩ := hq
  have hw : y_W D A s0.heap (mW ad cd (nI k) (pz_th P) js je jw ld) H locs := hw
  refine lv_istore_n (lv' := [(1, .int (nI P)), (0, .ref (ad 0))]) hx hb dX2_work_4 rfl hl (by decide) rfl (fun ls hl => ?_)
  refine lv_iconst (v := nI 0) hx hb dX2_work_5 (by decide) ?_
  refine lv_istore_n (lv' := [(2, .int (nI 0)), (1, .int (nI P)), (0, .ref (ad 0))]) hx hb dX2_work_6 rfl hl (by decide) rfl (fun ls hl => ?_)
  refine y_for 7 5 256 0 (fun i => mW ad cd (nI k) (pz_th P) js je jw (pz_wkL js je P ld i)) (fun i => [(0, .ref (ad 0)), (1, .int (nI P)), (2, .int (nI i))]) (fun i => True) (Nat.le_of_ble_eq_true rfl) trivial hw (lv_sub hl [2, 1, 0] rfl) ?_ ?_
  · intro i hi hI7 H locs ls hw hl ih7
    have hw : y_W D A s0.heap (mW ad cd (nI k) (pz_th P) js je jw (pz_wkL js je P ld i)) H locs := hw
    have hl : lv_has ls 5 [(0, .ref (ad 0)), (1, .int (nI P)), (2, .int (nI i))] := hl
    refine lv_iload_n hx hb dX2_work_7 rfl (lv_at hl 2 rfl) ?_
    refine lv_sipush (v := 256) hx hb dX2_work_8 (by decide) ?_
    refine lv_icmp_ge (tgt := 85) hx hb dX2_work_11 (by decide) (fun c9 => absurd c9 (y_ge hi)) (fun _ => ?_)
    refine lv_aload_n hx hb dX2_work_14 rfl (lv_at hl 0 rfl) ?_
    refine m_get hx hb hts hown hK hw rfl 5 (by decide) q209 rfl dX2_work_15 ?_
    refine lv_iload_n hx hb dX2_work_18 rfl (lv_at hl 2 rfl) ?_
    refine lv_iconst (v := 0) hx hb dX2_work_19 (by decide) ?_
    refine y_top (x' := nI (pz_gc js je i 0)) rfl ?_
    refine y_iast (ws' := mW ad cd (nI k) (pz_th P) js je jw (upd (pz_wkL js je P ld i) i (nI (pz_gc js je i 0)))) hx hb hK hw 5 4 i rfl rfl rfl hi (by decide) rfl dX2_work_20 (fun H locs hw => ?_)
    refine lv_iconst (v := nI 0) hx hb dX2_work_21 (by decide) ?_
    refine lv_istore_n (lv' := [(3, .int (nI 0)), (0, .ref (ad 0)), (1, .int (nI P)), (2, .int (nI i))]) hx hb dX2_work_22 rfl hl (by decide) rfl (fun ls hl => ?_)
    refine y_for 23 5 16 0 (fun t => mW ad cd (nI k) (pz_th P) js je jw (upd (pz_wkL js je P ld i) i (nI (pz_gc js je i t)))) (fun t => [(0, .ref (ad 0)), (1, .int (nI P)), (2, .int (nI i)), (3, .int (nI t))]) (fun t => t = 0 ∨ pz_sb i P) (Nat.le_of_ble_eq_true rfl) (Or.inl rfl) hw (lv_sub hl [1, 2, 3, 0] rfl) ?_ ?_
    · intro t ht hI23 H locs ls hw hl ih23
      have hw : y_W D A s0.heap (mW ad cd (nI k) (pz_th P) js je jw (upd (pz_wkL js je P ld i) i (nI (pz_gc js je i t)))) H locs := hw
      have hl : lv_has ls 5 [(0, .ref (ad 0)), (1, .int (nI P)), (2, .int (nI i)), (3, .int (nI t))] := hl
      refine lv_iload_n hx hb dX2_work_23 rfl (lv_at hl 3 rfl) ?_
      refine lv_bipush (v := 16) hx hb dX2_work_24 (by decide) ?_
      refine lv_icmp_ge (tgt := 79) hx hb dX2_work_26 (by decide) (fun c9 => absurd c9 (y_ge ht)) (fun _ => ?_)
      refine lv_iload_n hx hb dX2_work_29 rfl (lv_at hl 2 rfl) ?_
      refine lv_iload_n hx hb dX2_work_30 rfl (lv_at hl 1 rfl) ?_
      refine lv_iconst (v := (-1)) hx hb dX2_work_31 (by decide) ?_
      refine lv_ixor hx hb dX2_work_32 ?_
      refine lv_iand hx hb dX2_work_33 ?_
      refine lv_if_ne (tgt := 79) hx hb dX2_work_34 (by decide) (fun c34 => ?_) (fun c34 => ?_)
      · skip
        have hnsb : ¬ pz_sb i P := fun z => c34 ((pz_sb_cm hi).mpr z)
        have ht0 : t = 0 := hI23.resolve_right hnsb
        subst ht0
        have e1 : pz_wkL js je P ld (i + 1) = upd (pz_wkL js je P ld i) i (nI (pz_gc js je i 0)) := by rw [pz_wk_n hi hnsb]; rfl
        simp only [e1] at ih7
        refine lv_iinc (v := nI (i + 1)) (lv' := [(2, .int (nI (i + 1))), (0, .ref (ad 0)), (1, .int (nI P)), (3, .int (nI 0))]) hx hb dX2_work_79 hl (k := 2) rfl (nI_1 _) (by decide) rfl (fun ls hl => ?_)
        refine lv_goto (tgt := 7) hx hb dX2_work_82 (by decide) ?_
        exact ih7 trivial _ _ _ hw (lv_sub hl [1, 2, 0] rfl)
      · skip
        have hsb : pz_sb i P := (pz_sb_cm hi).mp c34
        refine lv_aload_n hx hb dX2_work_37 rfl (lv_at hl 0 rfl) ?_
        refine lv_iload_n hx hb dX2_work_38 rfl (lv_at hl 2 rfl) ?_
        refine lv_iload_n hx hb dX2_work_39 rfl (lv_at hl 3 rfl) ?_
        refine y_selfI (q := (RX2, TX2, 6)) (ci := 1) (As := [.int (nI i), .int (nI t)]) (rest := []) ⟨hx, hb, hml, hown, hts⟩ (mM_at l D ad cd k P js je jw (upd (pz_wkL js je P ld i) i (nI (pz_gc js je i t))) i t hi ht hJ) (cwV 2 hts (lw_V q261 q263 qs16 q22 q264) rfl rfl rfl (by decide +kernel) ⟨Nat.le_of_ble_eq_true rfl, Nat.le_of_ble_eq_true rfl⟩) hK hw hA rfl rfl rfl hl.1 rfl (Nat.le_of_ble_eq_true rfl) dX2_work_40 ⟨Nat.zero_le _, Nat.zero_le _⟩ (fun r u H locs hq hw => ?_)
        obtain ⟨rfl, rfl⟩ := hq
        have hw : y_W D A s0.heap (mW ad cd (nI k) (pz_th P) js je jw (upd (pz_wkL js je P ld i) i (nI (pz_gc js je i t)))) H locs := hw
        refine lv_istore (lv' := [(4, .int (nI (pz_cw js je i t 8))), (0, .ref (ad 0)), (1, .int (nI P)), (2, .int (nI i)), (3, .int (nI t))]) hx hb dX2_work_43 hl (by decide) rfl (fun ls hl => ?_)
        refine lv_aload_n hx hb dX2_work_45 rfl (lv_at hl 1 rfl) ?_
        refine m_get hx hb hts hown hK hw rfl 5 (by decide) q209 rfl dX2_work_46 ?_
        refine lv_iload_n hx hb dX2_work_49 rfl (lv_at hl 3 rfl) ?_
        refine lv_iload hx hb dX2_work_50 (lv_at hl 0 rfl) ?_
        refine lv_aload_n hx hb dX2_work_52 rfl (lv_at hl 1 rfl) ?_
        refine m_get hx hb hts hown hK hw rfl 5 (by decide) q209 rfl dX2_work_53 ?_
        refine lv_iload_n hx hb dX2_work_56 rfl (lv_at hl 3 rfl) ?_
        refine y_iald hx hb hK hw 5 4 i rfl rfl rfl hi (by decide) dX2_work_57 ?_
        refine y_top (x' := nI (pz_gc js je i t)) pk_us ?_
        refine lv_icmp_le (tgt := 66) hx hb dX2_work_58 (by decide) (fun c58 => ?_) (fun c58 => ?_)
        · skip
          refine lv_aload_n hx hb dX2_work_66 rfl (lv_at hl 1 rfl) ?_
          refine m_get hx hb hts hown hK hw rfl 5 (by decide) q209 rfl dX2_work_67 ?_
          refine lv_iload_n hx hb dX2_work_70 rfl (lv_at hl 3 rfl) ?_
          refine y_iald hx hb hK hw 5 4 i rfl rfl rfl hi (by decide) dX2_work_71 ?_
          refine y_top (x' := nI (pz_gc js je i (t + 1))) (pk_us.trans (pz_gc_t c58)) ?_
          refine y_iast (ws' := mW ad cd (nI k) (pz_th P) js je jw (upd (pz_wkL js je P ld i) i (nI (pz_gc js je i (t + 1))))) hx hb hK hw 5 4 i rfl rfl rfl hi (by decide) mW_uu dX2_work_72 (fun H locs hw => ?_)
          refine lv_iinc (v := nI (t + 1)) (lv' := [(3, .int (nI (t + 1))), (4, .int (nI (pz_cw js je i t 8))), (0, .ref (ad 0)), (1, .int (nI P)), (2, .int (nI i))]) hx hb dX2_work_73 hl (k := 4) rfl (nI_1 _) (by decide) rfl (fun ls hl => ?_)
          refine lv_goto (tgt := 23) hx hb dX2_work_76 (by decide) ?_
          exact ih23 (Or.inr hsb) _ _ _ hw (lv_sub hl [2, 3, 4, 0] rfl)
        · skip
          refine lv_iload hx hb dX2_work_61 (lv_at hl 0 rfl) ?_
          refine y_top (x' := nI (pz_gc js je i (t + 1))) (pz_gc_f c58) ?_
          refine lv_goto (tgt := 72) hx hb dX2_work_63 (by decide) ?_
          refine y_iast (ws' := mW ad cd (nI k) (pz_th P) js je jw (upd (pz_wkL js je P ld i) i (nI (pz_gc js je i (t + 1))))) hx hb hK hw 5 4 i rfl rfl rfl hi (by decide) mW_uu dX2_work_72 (fun H locs hw => ?_)
          refine lv_iinc (v := nI (t + 1)) (lv' := [(3, .int (nI (t + 1))), (4, .int (nI (pz_cw js je i t 8))), (0, .ref (ad 0)), (1, .int (nI P)), (2, .int (nI i))]) hx hb dX2_work_73 hl (k := 4) rfl (nI_1 _) (by decide) rfl (fun ls hl => ?_)
          refine lv_goto (tgt := 23) hx hb dX2_work_76 (by decide) ?_
          exact ih23 (Or.inr hsb) _ _ _ hw (lv_sub hl [2, 3, 4, 0] rfl)
    · intro hI23 H locs ls hw hl
      have hw : y_W D A s0.heap (mW ad cd (nI k) (pz_th P) js je jw (upd (pz_wkL js je P ld i) i (nI (pz_gc js je i 16)))) H locs := hw
      have hl : lv_has ls 5 [(0, .ref (ad 0)), (1, .int (nI P)), (2, .int (nI i)), (3, .int (nI 16))] := hl
      have hsb : pz_sb i P := hI23.resolve_left (by decide)
      have e1 : pz_wkL js je P ld (i + 1) = upd (pz_wkL js je P ld i) i (nI (pz_gc js je i 16)) := by rw [pz_wk_y hi hsb]; rfl
      simp only [e1] at ih7
      refine lv_iload_n hx hb dX2_work_23 rfl (lv_at hl 3 rfl) ?_
      refine lv_bipush (v := 16) hx hb dX2_work_24 (by decide) ?_
      refine lv_icmp_ge (tgt := 79) hx hb dX2_work_26 (by decide) (fun _ => ?_) (fun c9 => absurd (y_le (a := 16)) c9)
      refine lv_iinc (v := nI (i + 1)) (lv' := [(2, .int (nI (i + 1))), (0, .ref (ad 0)), (1, .int (nI P)), (3, .int (nI 16))]) hx hb dX2_work_79 hl (k := 2) rfl (nI_1 _) (by decide) rfl (fun ls hl => ?_)
      refine lv_goto (tgt := 7) hx hb dX2_work_82 (by decide) ?_
      exact ih7 trivial _ _ _ hw (lv_sub hl [1, 2, 0] rfl)
  · intro hI7 H locs ls hw hl
    have hw : y_W D A s0.heap (mW ad cd (nI k) (pz_th P) js je jw (pz_wkL js je P ld 256)) H locs := hw
    have hl : lv_has ls 5 [(0, .ref (ad 0)), (1, .int (nI P)), (2, .int (nI 256))] := hl
    refine lv_iload_n hx hb dX2_work_7 rfl (lv_at hl 2 rfl) ?_
    refine lv_sipush (v := 256) hx hb dX2_work_8 (by decide) ?_
    refine lv_icmp_ge (tgt := 85) hx hb dX2_work_11 (by decide) (fun _ => ?_) (fun c9 => absurd (y_le (a := 256)) c9)
    exact y_vret hx hb hr hlocks hK hw (⟨_, fun i hi => pz_wkL_in js je P ld 256 i hi, rfl⟩) dX2_work_85
set_option maxHeartbeats 4000000 in
/-- sum(set) -/
theorem mM_sum (l : Launch) (D : va_G) (ad : Nat → Nat) (cd : Nat → ClassId) (k P : Nat) (js je jw : Nat → Nat) (ld : pz_F) (S : Nat) (hS : S < 256) : y_MI l yX2_sum cX2_sum 4 .int (y_rm 0 0) D (mT cd) [.ref (ad 0), .int (nI S)] (mW ad cd (nI k) (pz_th P) js je jw ld)
    (fun r u => r = nI (pz_su jw S 8) ∧ u = mW ad cd (nI k) (pz_th P) js je jw ld) := by
  refine y_startI (by decide) (Nat.le_of_ble_eq_true rfl) ?_
  intro p e0 s0 m below meth c A ls hx hb hr hml hown hts hlocks hK hA hw hl
  have hw : y_W D A s0.heap (mW ad cd (nI k) (pz_th P) js je jw ld) s0.heap [] := hw
  have hl : lv_has ls 4 [(0, .ref (ad 0)), (1, .int (nI S))] := hl
  refine lv_iconst (v := nI 0) hx hb dX2_sum_0 (by decide) ?_
  refine lv_istore_n (lv' := [(2, .int (nI 0)), (0, .ref (ad 0)), (1, .int (nI S))]) hx hb dX2_sum_1 rfl hl (by decide) rfl (fun ls hl => ?_)
  refine lv_iconst (v := nI 0) hx hb dX2_sum_2 (by decide) ?_
  refine lv_istore_n (lv' := [(3, .int (nI 0)), (2, .int (nI 0)), (0, .ref (ad 0)), (1, .int (nI S))]) hx hb dX2_sum_3 rfl hl (by decide) rfl (fun ls hl => ?_)
  refine y_for 4 4 8 0 (fun j => mW ad cd (nI k) (pz_th P) js je jw ld) (fun j => [(0, .ref (ad 0)), (1, .int (nI S)), (2, .int (nI (pz_su jw S j))), (3, .int (nI j))]) (fun j => True) (Nat.le_of_ble_eq_true rfl) trivial hw (lv_sub hl [2, 3, 1, 0] rfl) ?_ ?_
  · intro j hj hI4 H locs ls hw hl ih4
    have hw : y_W D A s0.heap (mW ad cd (nI k) (pz_th P) js je jw ld) H locs := hw
    have hl : lv_has ls 4 [(0, .ref (ad 0)), (1, .int (nI S)), (2, .int (nI (pz_su jw S j))), (3, .int (nI j))] := hl
    refine lv_iload_n hx hb dX2_sum_4 rfl (lv_at hl 3 rfl) ?_
    refine lv_bipush (v := 8) hx hb dX2_sum_5 (by decide) ?_
    refine lv_icmp_ge (tgt := 38) hx hb dX2_sum_7 (by decide) (fun c9 => absurd c9 (y_ge hj)) (fun _ => ?_)
    refine lv_iload_n hx hb dX2_sum_10 rfl (lv_at hl 2 rfl) ?_
    refine lv_iload_n hx hb dX2_sum_11 rfl (lv_at hl 1 rfl) ?_
    refine lv_iload_n hx hb dX2_sum_12 rfl (lv_at hl 3 rfl) ?_
    refine lv_ishr hx hb dX2_sum_13 ?_
    refine lv_iconst (v := 1) hx hb dX2_sum_14 (by decide) ?_
    refine lv_iand hx hb dX2_sum_15 ?_
    refine lv_iconst (v := 1) hx hb dX2_sum_16 (by decide) ?_
    refine lv_icmp_ne (tgt := 29) hx hb dX2_sum_17 (by decide) (fun c17 => ?_) (fun c17 => ?_)
    · skip
      have hbit := pz_b1f hS hj c17
      refine lv_iconst (v := 0) hx hb dX2_sum_29 (by decide) ?_
      refine lv_iadd hx hb dX2_sum_30 ?_
      refine y_top (x' := nI (pz_su jw S (j + 1))) (pz_su_f hbit) ?_
      refine lv_istore_n (lv' := [(2, .int (nI (pz_su jw S (j + 1)))), (0, .ref (ad 0)), (1, .int (nI S)), (3, .int (nI j))]) hx hb dX2_sum_31 rfl hl (by decide) rfl (fun ls hl => ?_)
      refine lv_iinc (v := nI (j + 1)) (lv' := [(3, .int (nI (j + 1))), (2, .int (nI (pz_su jw S (j + 1)))), (0, .ref (ad 0)), (1, .int (nI S))]) hx hb dX2_sum_32 hl (k := 3) rfl (nI_1 _) (by decide) rfl (fun ls hl => ?_)
      refine lv_goto (tgt := 4) hx hb dX2_sum_35 (by decide) ?_
      exact ih4 trivial _ _ _ hw (lv_sub hl [2, 3, 1, 0] rfl)
    · skip
      have hbit := (pz_b1 S hS j hj).mp c17
      refine lv_aload_n hx hb dX2_sum_20 rfl (lv_at hl 0 rfl) ?_
      refine m_get hx hb hts hown hK hw rfl 4 (by decide) q208 rfl dX2_sum_21 ?_
      refine lv_iload_n hx hb dX2_sum_24 rfl (lv_at hl 3 rfl) ?_
      refine y_iald hx hb hK hw 4 3 j rfl rfl rfl hj (by decide) dX2_sum_25 ?_
      refine lv_goto (tgt := 30) hx hb dX2_sum_26 (by decide) ?_
      refine lv_iadd hx hb dX2_sum_30 ?_
      refine y_top (x' := nI (pz_su jw S (j + 1))) (pz_su_t hbit) ?_
      refine lv_istore_n (lv' := [(2, .int (nI (pz_su jw S (j + 1)))), (0, .ref (ad 0)), (1, .int (nI S)), (3, .int (nI j))]) hx hb dX2_sum_31 rfl hl (by decide) rfl (fun ls hl => ?_)
      refine lv_iinc (v := nI (j + 1)) (lv' := [(3, .int (nI (j + 1))), (2, .int (nI (pz_su jw S (j + 1)))), (0, .ref (ad 0)), (1, .int (nI S))]) hx hb dX2_sum_32 hl (k := 3) rfl (nI_1 _) (by decide) rfl (fun ls hl => ?_)
      refine lv_goto (tgt := 4) hx hb dX2_sum_35 (by decide) ?_
      exact ih4 trivial _ _ _ hw (lv_sub hl [2, 3, 1, 0] rfl)
  · intro hI4 H locs ls hw hl
    have hw : y_W D A s0.heap (mW ad cd (nI k) (pz_th P) js je jw ld) H locs := hw
    have hl : lv_has ls 4 [(0, .ref (ad 0)), (1, .int (nI S)), (2, .int (nI (pz_su jw S 8))), (3, .int (nI 8))] := hl
    refine lv_iload_n hx hb dX2_sum_4 rfl (lv_at hl 3 rfl) ?_
    refine lv_bipush (v := 8) hx hb dX2_sum_5 (by decide) ?_
    refine lv_icmp_ge (tgt := 38) hx hb dX2_sum_7 (by decide) (fun _ => ?_) (fun c9 => absurd (y_le (a := 8)) c9)
    refine lv_iload_n hx hb dX2_sum_38 rfl (lv_at hl 2 rfl) ?_
    exact y_iret (v := nI (pz_su jw S 8)) hx hb hr hlocks hK hw rfl (⟨rfl, rfl⟩) dX2_sum_39
set_option maxHeartbeats 4000000 in
/-- before(a, b) -/
theorem mM_before (l : Launch) (D : va_G) (ad : Nat → Nat) (cd : Nat → ClassId) (k P : Nat) (js je jw : Nat → Nat) (ld : pz_F) (A0 B0 : Nat) (hA0 : A0 < 256) (hB0 : B0 < 256) (hw20 : ∀ j, j < 8 → jw j ≤ 20) : y_MI l yX2_before cX2_before 6 .boolean (y_rm 1 23) D (mT cd) [.ref (ad 0), .int (nI A0), .int (nI B0)] (mW ad cd (nI k) (pz_th P) js je jw ld)
    (fun r u => r = pz_bfI jw A0 B0 ∧ u = mW ad cd (nI k) (pz_th P) js je jw ld) := by
  refine y_startI (by decide) (Nat.le_of_ble_eq_true rfl) ?_
  intro p e0 s0 m below meth c A ls hx hb hr hml hown hts hlocks hK hA hw hl
  have hw : y_W D A s0.heap (mW ad cd (nI k) (pz_th P) js je jw ld) s0.heap [] := hw
  have hl : lv_has ls 6 [(0, .ref (ad 0)), (1, .int (nI A0)), (2, .int (nI B0))] := hl
  refine lv_aload_n hx hb dX2_before_0 rfl (lv_at hl 0 rfl) ?_
  refine lv_iload_n hx hb dX2_before_1 rfl (lv_at hl 1 rfl) ?_
  refine y_selfI (q := (RX2, TX2, 6)) (ci := 1) (As := [.int (nI A0)]) (rest := []) ⟨hx, hb, hml, hown, hts⟩ (mM_sum l D ad cd k P js je jw ld A0 hA0) (cwV 1 hts (lw_V q273 q275 qs19 q22 q276) rfl rfl rfl (by decide +kernel) ⟨Nat.le_of_ble_eq_true rfl, Nat.le_of_ble_eq_true rfl⟩) hK hw hA rfl rfl rfl hl.1 rfl (Nat.le_of_ble_eq_true rfl) dX2_before_2 ⟨Nat.zero_le _, Nat.zero_le _⟩ (fun r u H locs hq hw => ?_)
  obtain ⟨rfl, rfl⟩ := hq
  have hw : y_W D A s0.heap (mW ad cd (nI k) (pz_th P) js je jw ld) H locs := hw
  refine lv_istore_n (lv' := [(3, .int (nI (pz_su jw A0 8))), (0, .ref (ad 0)), (1, .int (nI A0)), (2, .int (nI B0))]) hx hb dX2_before_5 rfl hl (by decide) rfl (fun ls hl => ?_)
  refine lv_aload_n hx hb dX2_before_6 rfl (lv_at hl 1 rfl) ?_
  refine lv_iload_n hx hb dX2_before_7 rfl (lv_at hl 3 rfl) ?_
  refine y_selfI (q := (RX2, TX2, 6)) (ci := 1) (As := [.int (nI B0)]) (rest := []) ⟨hx, hb, hml, hown, hts⟩ (mM_sum l D ad cd k P js je jw ld B0 hB0) (cwV 1 hts (lw_V q273 q275 qs19 q22 q276) rfl rfl rfl (by decide +kernel) ⟨Nat.le_of_ble_eq_true rfl, Nat.le_of_ble_eq_true rfl⟩) hK hw hA rfl rfl rfl hl.1 rfl (Nat.le_of_ble_eq_true rfl) dX2_before_8 ⟨Nat.zero_le _, Nat.zero_le _⟩ (fun r u H locs hq hw => ?_)
  obtain ⟨rfl, rfl⟩ := hq
  have hw : y_W D A s0.heap (mW ad cd (nI k) (pz_th P) js je jw ld) H locs := hw
  refine lv_istore (lv' := [(4, .int (nI (pz_su jw B0 8))), (3, .int (nI (pz_su jw A0 8))), (0, .ref (ad 0)), (1, .int (nI A0)), (2, .int (nI B0))]) hx hb dX2_before_11 hl (by decide) rfl (fun ls hl => ?_)
  refine lv_iload_n hx hb dX2_before_13 rfl (lv_at hl 1 rfl) ?_
  refine lv_iload hx hb dX2_before_14 (lv_at hl 0 rfl) ?_
  refine lv_icmp_eq (tgt := 31) hx hb dX2_before_16 (by decide) (fun c16 => ?_) (fun c16 => ?_)
  · skip
    have hsu : pz_su jw A0 8 = pz_su jw B0 8 := pz_nI_inj (Nat.lt_trans (pz_su_31 hw20) (by decide)) (Nat.lt_trans (pz_su_31 hw20) (by decide)) c16
    refine lv_iconst (v := nI 0) hx hb dX2_before_31 (by decide) ?_
    refine lv_istore (lv' := [(5, .int (nI 0)), (4, .int (nI (pz_su jw B0 8))), (3, .int (nI (pz_su jw A0 8))), (0, .ref (ad 0)), (1, .int (nI A0)), (2, .int (nI B0))]) hx hb dX2_before_32 hl (by decide) rfl (fun ls hl => ?_)
    refine y_for 34 6 8 0 (fun j => mW ad cd (nI k) (pz_th P) js je jw ld) (fun j => [(0, .ref (ad 0)), (1, .int (nI A0)), (2, .int (nI B0)), (5, .int (nI j))]) (fun j => ∀ i, i < j → A0.testBit i = B0.testBit i) (Nat.le_of_ble_eq_true rfl) (fun i h => absurd h (Nat.not_lt_zero i)) hw (lv_sub hl [3, 4, 5, 0] rfl) ?_ ?_
    · intro j hj hI34 H locs ls hw hl ih34
      have hw : y_W D A s0.heap (mW ad cd (nI k) (pz_th P) js je jw ld) H locs := hw
      have hl : lv_has ls 6 [(0, .ref (ad 0)), (1, .int (nI A0)), (2, .int (nI B0)), (5, .int (nI j))] := hl
      refine lv_iload hx hb dX2_before_34 (lv_at hl 3 rfl) ?_
      refine lv_bipush (v := 8) hx hb dX2_before_36 (by decide) ?_
      refine lv_icmp_ge (tgt := 78) hx hb dX2_before_38 (by decide) (fun c9 => absurd c9 (y_ge hj)) (fun _ => ?_)
      refine lv_iload_n hx hb dX2_before_41 rfl (lv_at hl 1 rfl) ?_
      refine lv_iload hx hb dX2_before_42 (lv_at hl 3 rfl) ?_
      refine lv_ishr hx hb dX2_before_44 ?_
      refine lv_iconst (v := 1) hx hb dX2_before_45 (by decide) ?_
      refine lv_iand hx hb dX2_before_46 ?_
      refine lv_iload_n hx hb dX2_before_47 rfl (lv_at hl 2 rfl) ?_
      refine lv_iload hx hb dX2_before_48 (lv_at hl 3 rfl) ?_
      refine lv_ishr hx hb dX2_before_50 ?_
      refine lv_iconst (v := 1) hx hb dX2_before_51 (by decide) ?_
      refine lv_iand hx hb dX2_before_52 ?_
      refine lv_icmp_eq (tgt := 72) hx hb dX2_before_53 (by decide) (fun c53 => ?_) (fun c53 => ?_)
      · skip
        have hbe := (pz_be hA0 hB0 hj).mp c53
        refine lv_iinc (v := nI (j + 1)) (lv' := [(5, .int (nI (j + 1))), (0, .ref (ad 0)), (1, .int (nI A0)), (2, .int (nI B0))]) hx hb dX2_before_72 hl (k := 3) rfl (nI_1 _) (by decide) rfl (fun ls hl => ?_)
        refine lv_goto (tgt := 34) hx hb dX2_before_75 (by decide) ?_
        exact ih34 (fun i h => if e : i = j then e ▸ hbe else hI34 i (by omega)) _ _ _ hw (lv_sub hl [1, 2, 3, 0] rfl)
      · skip
        have hbn : A0.testBit j ≠ B0.testBit j := fun z => c53 ((pz_be hA0 hB0 hj).mpr z)
        refine lv_iload_n hx hb dX2_before_56 rfl (lv_at hl 1 rfl) ?_
        refine lv_iload hx hb dX2_before_57 (lv_at hl 3 rfl) ?_
        refine lv_ishr hx hb dX2_before_59 ?_
        refine lv_iconst (v := 1) hx hb dX2_before_60 (by decide) ?_
        refine lv_iand hx hb dX2_before_61 ?_
        refine lv_iconst (v := 1) hx hb dX2_before_62 (by decide) ?_
        refine lv_icmp_ne (tgt := 70) hx hb dX2_before_63 (by decide) (fun c63 => ?_) (fun c63 => ?_)
        · skip
          have hbit := pz_b1f hA0 hj c63
          refine lv_iconst (v := 0) hx hb dX2_before_70 (by decide) ?_
          exact y_iret (v := 0) hx hb hr hlocks hK hw rfl (⟨pz_bf3 hj hsu hI34 hbn hbit, rfl⟩) dX2_before_71
        · skip
          have hbit := (pz_b1 A0 hA0 j hj).mp c63
          refine lv_iconst (v := 1) hx hb dX2_before_66 (by decide) ?_
          refine lv_goto (tgt := 71) hx hb dX2_before_67 (by decide) ?_
          exact y_iret (v := 1) hx hb hr hlocks hK hw rfl (⟨pz_bf4 hj hsu hI34 hbn hbit, rfl⟩) dX2_before_71
    · intro hI34 H locs ls hw hl
      have hw : y_W D A s0.heap (mW ad cd (nI k) (pz_th P) js je jw ld) H locs := hw
      have hl : lv_has ls 6 [(0, .ref (ad 0)), (1, .int (nI A0)), (2, .int (nI B0)), (5, .int (nI 8))] := hl
      refine lv_iload hx hb dX2_before_34 (lv_at hl 3 rfl) ?_
      refine lv_bipush (v := 8) hx hb dX2_before_36 (by decide) ?_
      refine lv_icmp_ge (tgt := 78) hx hb dX2_before_38 (by decide) (fun _ => ?_) (fun c9 => absurd (y_le (a := 8)) c9)
      refine lv_iconst (v := 0) hx hb dX2_before_78 (by decide) ?_
      exact y_iret (v := 0) hx hb hr hlocks hK hw rfl (⟨pz_bf5 hI34, rfl⟩) dX2_before_79
  · skip
    refine lv_iload_n hx hb dX2_before_19 rfl (lv_at hl 1 rfl) ?_
    refine lv_iload hx hb dX2_before_20 (lv_at hl 0 rfl) ?_
    refine lv_icmp_le (tgt := 29) hx hb dX2_before_22 (by decide) (fun c22 => ?_) (fun c22 => ?_)
    · skip
      refine lv_iconst (v := 0) hx hb dX2_before_29 (by decide) ?_
      exact y_iret (v := 0) hx hb hr hlocks hK hw rfl (⟨pz_bf1 hw20 c16 c22, rfl⟩) dX2_before_30
    · skip
      refine lv_iconst (v := 1) hx hb dX2_before_25 (by decide) ?_
      refine lv_goto (tgt := 30) hx hb dX2_before_26 (by decide) ?_
      exact y_iret (v := 1) hx hb hr hlocks hK hw rfl (⟨pz_bf2 hw20 c16 c22, rfl⟩) dX2_before_30
set_option maxHeartbeats 4000000 in
/-- best(tracks) -/
theorem mM_best (l : Launch) (D : va_G) (ad : Nat → Nat) (cd : Nat → ClassId) (k P : Nat) (js je jw : Nat → Nat) (ld : pz_F) (n : Nat) (hn : n ≤ 10) (hP : P < 256) (hw20 : ∀ j, j < 8 → jw j ≤ 20) (hLD : pz_LD js je P ld) : y_MI l yX2_best cX2_best 5 .int (y_rm 2 48) D (mT cd) [.ref (ad 0), .int (nI n)] (mW ad cd (nI k) (pz_th P) js je jw ld)
    (fun r u => r = nI (pz_BT js je jw P n) ∧ u = mW ad cd (nI k) (pz_th P) js je jw ld) := by
  refine y_startI (by decide) (Nat.le_of_ble_eq_true rfl) ?_
  intro p e0 s0 m below meth c A ls hx hb hr hml hown hts hlocks hK hA hw hl
  have hw : y_W D A s0.heap (mW ad cd (nI k) (pz_th P) js je jw ld) s0.heap [] := hw
  have hl : lv_has ls 5 [(0, .ref (ad 0)), (1, .int (nI n))] := hl
  refine lv_aload_n hx hb dX2_best_0 rfl (lv_at hl 0 rfl) ?_
  refine y_selfI (q := (RX2, TX2, 6)) (ci := 1) (As := []) (rest := []) ⟨hx, hb, hml, hown, hts⟩ (mM_jobs l D ad cd k P js je jw ld hP) (cwV 0 hts (lw_V q260 q249 q250 q22 q251) rfl rfl rfl (by decide +kernel) ⟨Nat.le_of_ble_eq_true rfl, Nat.le_of_ble_eq_true rfl⟩) hK hw hA rfl rfl rfl hl.1 rfl (Nat.le_of_ble_eq_true rfl) dX2_best_1 ⟨Nat.zero_le _, Nat.zero_le _⟩ (fun r u H locs hq hw => ?_)
  obtain ⟨rfl, rfl⟩ := hq
  have hw : y_W D A s0.heap (mW ad cd (nI k) (pz_th P) js je jw ld) H locs := hw
  refine lv_istore_n (lv' := [(2, .int (nI P)), (0, .ref (ad 0)), (1, .int (nI n))]) hx hb dX2_best_4 rfl hl (by decide) rfl (fun ls hl => ?_)
  refine lv_iconst (v := nI 0) hx hb dX2_best_5 (by decide) ?_
  refine lv_istore_n (lv' := [(3, .int (nI 0)), (2, .int (nI P)), (0, .ref (ad 0)), (1, .int (nI n))]) hx hb dX2_best_6 rfl hl (by decide) rfl (fun ls hl => ?_)
  refine lv_iconst (v := nI 1) hx hb dX2_best_7 (by decide) ?_
  refine lv_istore (lv' := [(4, .int (nI 1)), (3, .int (nI 0)), (2, .int (nI P)), (0, .ref (ad 0)), (1, .int (nI n))]) hx hb dX2_best_8 hl (by decide) rfl (fun ls hl => ?_)
  rw [show nI 0 = nI (pz_bs js je jw P n 1) from by rw [pz_bs_1]] at hl
  refine y_for 10 5 256 1 (fun i => mW ad cd (nI k) (pz_th P) js je jw ld) (fun i => [(0, .ref (ad 0)), (1, .int (nI n)), (2, .int (nI P)), (3, .int (nI (pz_bs js je jw P n i))), (4, .int (nI i))]) (fun i => True) (Nat.le_of_ble_eq_true rfl) trivial hw (lv_sub hl [3, 4, 2, 1, 0] rfl) ?_ ?_
  · intro i hi hI10 H locs ls hw hl ih10
    have hw : y_W D A s0.heap (mW ad cd (nI k) (pz_th P) js je jw ld) H locs := hw
    have hl : lv_has ls 5 [(0, .ref (ad 0)), (1, .int (nI n)), (2, .int (nI P)), (3, .int (nI (pz_bs js je jw P n i))), (4, .int (nI i))] := hl
    refine lv_iload hx hb dX2_best_10 (lv_at hl 4 rfl) ?_
    refine lv_sipush (v := 256) hx hb dX2_best_12 (by decide) ?_
    refine lv_icmp_ge (tgt := 57) hx hb dX2_best_15 (by decide) (fun c9 => absurd c9 (y_ge hi)) (fun _ => ?_)
    refine lv_iload hx hb dX2_best_18 (lv_at hl 4 rfl) ?_
    refine lv_iload_n hx hb dX2_best_20 rfl (lv_at hl 2 rfl) ?_
    refine lv_iconst (v := (-1)) hx hb dX2_best_21 (by decide) ?_
    refine lv_ixor hx hb dX2_best_22 ?_
    refine lv_iand hx hb dX2_best_23 ?_
    refine lv_if_ne (tgt := 51) hx hb dX2_best_24 (by decide) (fun c24 => ?_) (fun c24 => ?_)
    · skip
      have hnsb : ¬ pz_sb i P := fun z => c24 ((pz_sb_cm hi).mpr z)
      refine lv_iinc (v := nI (i + 1)) (lv' := [(4, .int (nI (i + 1))), (0, .ref (ad 0)), (1, .int (nI n)), (2, .int (nI P)), (3, .int (nI (pz_bs js je jw P n i)))]) hx hb dX2_best_51 hl (k := 4) rfl (nI_1 _) (by decide) rfl (fun ls hl => ?_)
      refine lv_goto (tgt := 10) hx hb dX2_best_54 (by decide) ?_
      rw [pz_bs_n (fun z => hnsb ((pz_sb_eq hi).mp z.1.1))] at hl
      exact ih10 trivial _ _ _ hw (lv_sub hl [1, 2, 3, 4, 0] rfl)
    · skip
      have hsb : pz_sb i P := (pz_sb_cm hi).mp c24
      refine lv_aload_n hx hb dX2_best_27 rfl (lv_at hl 0 rfl) ?_
      refine m_get hx hb hts hown hK hw rfl 5 (by decide) q209 rfl dX2_best_28 ?_
      refine lv_iload hx hb dX2_best_31 (lv_at hl 4 rfl) ?_
      refine y_iald hx hb hK hw 5 4 i rfl rfl rfl hi (by decide) dX2_best_33 ?_
      refine y_top (x' := nI (pz_gc js je i 16)) (pz_LD_gc hLD hi hsb) ?_
      refine lv_iload_n hx hb dX2_best_34 rfl (lv_at hl 1 rfl) ?_
      refine lv_icmp_gt (tgt := 51) hx hb dX2_best_35 (by decide) (fun c35 => ?_) (fun c35 => ?_)
      · skip
        have hgt := (pz_gt (by omega)).mp c35
        refine lv_iinc (v := nI (i + 1)) (lv' := [(4, .int (nI (i + 1))), (0, .ref (ad 0)), (1, .int (nI n)), (2, .int (nI P)), (3, .int (nI (pz_bs js je jw P n i)))]) hx hb dX2_best_51 hl (k := 4) rfl (nI_1 _) (by decide) rfl (fun ls hl => ?_)
        refine lv_goto (tgt := 10) hx hb dX2_best_54 (by decide) ?_
        rw [pz_bs_n (fun z => absurd z.1.2 (by omega))] at hl
        exact ih10 trivial _ _ _ hw (lv_sub hl [1, 2, 3, 4, 0] rfl)
      · skip
        have hgt := Nat.le_of_not_lt (fun z => c35 ((pz_gt (by omega)).mpr z))
        refine lv_aload_n hx hb dX2_best_38 rfl (lv_at hl 0 rfl) ?_
        refine lv_iload hx hb dX2_best_39 (lv_at hl 4 rfl) ?_
        refine lv_iload_n hx hb dX2_best_41 rfl (lv_at hl 3 rfl) ?_
        refine y_selfI (q := (RX2, TX2, 6)) (ci := 1) (As := [.int (nI i), .int (nI (pz_bs js je jw P n i))]) (rest := []) ⟨hx, hb, hml, hown, hts⟩ (mM_before l D ad cd k P js je jw ld i (pz_bs js je jw P n i) hi (pz_bs_lt _ _ _ _ _ _ (by omega)) hw20) (cwV 2 hts (lw_V q269 q271 qs18 q22 q272) rfl rfl rfl (by decide +kernel) ⟨Nat.le_of_ble_eq_true rfl, Nat.le_of_ble_eq_true rfl⟩) hK hw hA rfl rfl rfl hl.1 rfl (Nat.le_of_ble_eq_true rfl) dX2_best_42 ⟨Nat.zero_le _, Nat.zero_le _⟩ (fun r u H locs hq hw => ?_)
        obtain ⟨rfl, rfl⟩ := hq
        have hw : y_W D A s0.heap (mW ad cd (nI k) (pz_th P) js je jw ld) H locs := hw
        refine lv_if_eq (tgt := 51) hx hb dX2_best_45 (by decide) (fun c45 => ?_) (fun c45 => ?_)
        · skip
          have hlt := pz_bfI0 c45
          refine lv_iinc (v := nI (i + 1)) (lv' := [(4, .int (nI (i + 1))), (0, .ref (ad 0)), (1, .int (nI n)), (2, .int (nI P)), (3, .int (nI (pz_bs js je jw P n i)))]) hx hb dX2_best_51 hl (k := 4) rfl (nI_1 _) (by decide) rfl (fun ls hl => ?_)
          refine lv_goto (tgt := 10) hx hb dX2_best_54 (by decide) ?_
          rw [pz_bs_n (fun z => hlt z.2)] at hl
          exact ih10 trivial _ _ _ hw (lv_sub hl [1, 2, 3, 4, 0] rfl)
        · skip
          have hlt := pz_bfI1 c45
          refine lv_iload hx hb dX2_best_48 (lv_at hl 4 rfl) ?_
          refine y_top (x' := nI (pz_bs js je jw P n (i + 1))) (pz_bs_y ⟨⟨(pz_sb_eq hi).mpr hsb, hgt⟩, hlt⟩) ?_
          refine lv_istore_n (lv' := [(3, .int (nI (pz_bs js je jw P n (i + 1)))), (0, .ref (ad 0)), (1, .int (nI n)), (2, .int (nI P)), (4, .int (nI i))]) hx hb dX2_best_50 rfl hl (by decide) rfl (fun ls hl => ?_)
          refine lv_iinc (v := nI (i + 1)) (lv' := [(4, .int (nI (i + 1))), (3, .int (nI (pz_bs js je jw P n (i + 1)))), (0, .ref (ad 0)), (1, .int (nI n)), (2, .int (nI P))]) hx hb dX2_best_51 hl (k := 4) rfl (nI_1 _) (by decide) rfl (fun ls hl => ?_)
          refine lv_goto (tgt := 10) hx hb dX2_best_54 (by decide) ?_
          exact ih10 trivial _ _ _ hw (lv_sub hl [2, 3, 4, 1, 0] rfl)
  · intro hI10 H locs ls hw hl
    have hw : y_W D A s0.heap (mW ad cd (nI k) (pz_th P) js je jw ld) H locs := hw
    have hl : lv_has ls 5 [(0, .ref (ad 0)), (1, .int (nI n)), (2, .int (nI P)), (3, .int (nI (pz_bs js je jw P n 256))), (4, .int (nI 256))] := hl
    refine lv_iload hx hb dX2_best_10 (lv_at hl 4 rfl) ?_
    refine lv_sipush (v := 256) hx hb dX2_best_12 (by decide) ?_
    refine lv_icmp_ge (tgt := 57) hx hb dX2_best_15 (by decide) (fun _ => ?_) (fun c9 => absurd (y_le (a := 256)) c9)
    refine lv_iload_n hx hb dX2_best_57 rfl (lv_at hl 3 rfl) ?_
    exact y_iret (v := nI (pz_bs js je jw P n 256)) hx hb hr hlocks hK hw rfl (⟨rfl, rfl⟩) dX2_best_58
set_option maxHeartbeats 4000000 in
/-- tracks() -/
theorem mM_tracks (l : Launch) (D : va_G) (ad : Nat → Nat) (cd : Nat → ClassId) (k P : Nat) (js je jw : Nat → Nat) (ld : pz_F)  (hJW : pz_JW k P js je jw) : y_MI l yX2_tracks cX2_tracks 1 .int (y_rm 0 0) D (mT cd) [.ref (ad 0)] (mW ad cd (nI k) (pz_th P) js je jw ld)
    (fun r u => r = nI k ∧ pz_MS ad cd k P js je jw u) := by
  refine y_startI (by decide) (Nat.le_of_ble_eq_true rfl) ?_
  intro p e0 s0 m below meth c A ls hx hb hr hml hown hts hlocks hK hA hw hl
  have hw : y_W D A s0.heap (mW ad cd (nI k) (pz_th P) js je jw ld) s0.heap [] := hw
  have hl : lv_has ls 1 [(0, .ref (ad 0))] := hl
  refine lv_aload_n hx hb dX2_tracks_0 rfl (lv_at hl 0 rfl) ?_
  refine m_get hx hb hts hown hK hw rfl 0 (by decide) q204 rfl dX2_tracks_1 ?_
  exact y_iret (v := nI k) hx hb hr hlocks hK hw rfl (⟨rfl, ld, rfl⟩) dX2_tracks_4
set_option maxHeartbeats 4000000 in
/-- setTracks(n) -/
theorem mM_setTracks (l : Launch) (D : va_G) (ad : Nat → Nat) (cd : Nat → ClassId) (k P : Nat) (js je jw : Nat → Nat) (ld : pz_F) (n : Int32) (hJW : pz_JW k P js je jw) : y_MI l yX2_setTracks cX2_setTracks 2 .boolean (y_rm 0 0) D (mT cd) [.ref (ad 0), .int n] (mW ad cd (nI k) (pz_th P) js je jw ld)
    (fun r u => ∃ k', pz_ST k n r k' ∧ pz_MS ad cd k' P js je jw u) := by
  refine y_startI (by decide) (Nat.le_of_ble_eq_true rfl) ?_
  intro p e0 s0 m below meth c A ls hx hb hr hml hown hts hlocks hK hA hw hl
  have hw : y_W D A s0.heap (mW ad cd (nI k) (pz_th P) js je jw ld) s0.heap [] := hw
  have hl : lv_has ls 2 [(0, .ref (ad 0)), (1, .int n)] := hl
  refine lv_iload_n hx hb dX2_setTracks_0 rfl (lv_at hl 1 rfl) ?_
  refine lv_if_lt (tgt := 9) hx hb dX2_setTracks_1 (by decide) (fun c1 => ?_) (fun c1 => ?_)
  · skip
    refine lv_iconst (v := 0) hx hb dX2_setTracks_9 (by decide) ?_
    exact y_iret (v := 0) hx hb hr hlocks hK hw rfl (⟨k, Or.inl ⟨Or.inl c1, rfl, rfl⟩, ld, rfl⟩) dX2_setTracks_10
  · skip
    refine lv_iload_n hx hb dX2_setTracks_4 rfl (lv_at hl 1 rfl) ?_
    refine lv_iconst (v := 4) hx hb dX2_setTracks_5 (by decide) ?_
    refine lv_icmp_le (tgt := 11) hx hb dX2_setTracks_6 (by decide) (fun c6 => ?_) (fun c6 => ?_)
    · skip
      obtain ⟨K0, eK, hK0⟩ := pz_st_ok c1 (Int32.not_lt.mpr c6)
      refine lv_aload_n hx hb dX2_setTracks_11 rfl (lv_at hl 0 rfl) ?_
      refine lv_iload_n hx hb dX2_setTracks_12 rfl (lv_at hl 1 rfl) ?_
      refine y_top (x' := nI K0) eK ?_
      refine m_put (ty := .int) (v := .int (nI K0)) (ws' := mW ad cd (nI K0) (pz_th P) js je jw ld) hx hb hts hown hK hw rfl 0 (by decide) q204 rfl (by decide +kernel) rfl rfl (Nat.le_of_ble_eq_true rfl) rfl dX2_setTracks_13 (fun H locs hw => ?_)
      refine lv_iconst (v := 1) hx hb dX2_setTracks_16 (by decide) ?_
      exact y_iret (v := 1) hx hb hr hlocks hK hw rfl (⟨K0, Or.inr ⟨fun q => q.elim c1 (Int32.not_lt.mpr c6), rfl, eK, hK0⟩, ld, rfl⟩) dX2_setTracks_17
    · skip
      refine lv_iconst (v := 0) hx hb dX2_setTracks_9 (by decide) ?_
      exact y_iret (v := 0) hx hb hr hlocks hK hw rfl (⟨k, Or.inl ⟨Or.inr (Int32.not_le.mp c6), rfl, rfl⟩, ld, rfl⟩) dX2_setTracks_10
set_option maxHeartbeats 4000000 in
/-- take(j) -/
theorem mM_take (l : Launch) (D : va_G) (ad : Nat → Nat) (cd : Nat → ClassId) (k P : Nat) (js je jw : Nat → Nat) (ld : pz_F) (j : Int32) (hJW : pz_JW k P js je jw) : y_MI l yX2_take cX2_take 2 .boolean (y_rm 1 21) D (mT cd) [.ref (ad 0), .int j] (mW ad cd (nI k) (pz_th P) js je jw ld)
    (fun r u => ∃ P', pz_TK P j r P' ∧ pz_MS ad cd k P' js je jw u) := by
  refine y_startI (by decide) (Nat.le_of_ble_eq_true rfl) ?_
  intro p e0 s0 m below meth c A ls hx hb hr hml hown hts hlocks hK hA hw hl
  have hw : y_W D A s0.heap (mW ad cd (nI k) (pz_th P) js je jw ld) s0.heap [] := hw
  have hl : lv_has ls 2 [(0, .ref (ad 0)), (1, .int j)] := hl
  refine lv_aload_n hx hb dX2_take_0 rfl (lv_at hl 0 rfl) ?_
  refine lv_iload_n hx hb dX2_take_1 rfl (lv_at hl 1 rfl) ?_
  refine y_selfI (q := (RX2, TX2, 6)) (ci := 1) (As := [.int j]) (rest := []) ⟨hx, hb, hml, hown, hts⟩ (mM_is l D ad cd k P js je jw ld j) (cwV 1 hts (lw_V q232 q234 qs14 q22 q235) rfl rfl rfl (by decide +kernel) ⟨Nat.le_of_ble_eq_true rfl, Nat.le_of_ble_eq_true rfl⟩) hK hw hA rfl rfl rfl hl.1 rfl (Nat.le_of_ble_eq_true rfl) dX2_take_2 ⟨Nat.zero_le _, Nat.zero_le _⟩ (fun r u H locs hq hw => ?_)
  obtain ⟨rfl, rfl⟩ := hq
  have hw : y_W D A s0.heap (mW ad cd (nI k) (pz_th P) js je jw ld) H locs := hw
  refine lv_if_ne (tgt := 10) hx hb dX2_take_5 (by decide) (fun c5 => ?_) (fun c5 => ?_)
  · skip
    obtain ⟨q, hq8, ej, hbit⟩ := pz_has_yes c5
    refine lv_aload_n hx hb dX2_take_10 rfl (lv_at hl 0 rfl) ?_
    refine m_get hx hb hts hown hK hw rfl 1 (by decide) q205 rfl dX2_take_11 ?_
    refine lv_iload_n hx hb dX2_take_14 rfl (lv_at hl 1 rfl) ?_
    refine lv_iconst (v := 0) hx hb dX2_take_15 (by decide) ?_
    refine y_zast (x' := 0) (ws' := mW ad cd (nI k) (pz_th (P &&& (255 - 2 ^ q))) js je jw ld) hx hb hK hw 1 0 q rfl rfl ej hq8 (by decide) (by decide) (by rw [pz_th_clr hJW.2.1 hq8]; rfl) dX2_take_16 (fun H locs hw => ?_)
    refine lv_iconst (v := 1) hx hb dX2_take_17 (by decide) ?_
    exact y_iret (v := 1) hx hb hr hlocks hK hw rfl (⟨_, Or.inr ⟨c5, rfl, q, hq8, ej, rfl⟩, ld, rfl⟩) dX2_take_18
  · skip
    refine lv_iconst (v := 0) hx hb dX2_take_8 (by decide) ?_
    exact y_iret (v := 0) hx hb hr hlocks hK hw rfl (⟨P, Or.inl ⟨c5, rfl, rfl⟩, ld, rfl⟩) dX2_take_9
set_option maxHeartbeats 4000000 in
/-- revalue(j, worth) -/
theorem mM_revalue (l : Launch) (D : va_G) (ad : Nat → Nat) (cd : Nat → ClassId) (k P : Nat) (js je jw : Nat → Nat) (ld : pz_F) (j w : Int32) (hJW : pz_JW k P js je jw) : y_MI l yX2_revalue cX2_revalue 3 .boolean (y_rm 1 21) D (mT cd) [.ref (ad 0), .int j, .int w] (mW ad cd (nI k) (pz_th P) js je jw ld)
    (fun r u => ∃ jw', pz_RV P jw j w r jw' ∧ pz_MS ad cd k P js je jw' u) := by
  refine y_startI (by decide) (Nat.le_of_ble_eq_true rfl) ?_
  intro p e0 s0 m below meth c A ls hx hb hr hml hown hts hlocks hK hA hw hl
  have hw : y_W D A s0.heap (mW ad cd (nI k) (pz_th P) js je jw ld) s0.heap [] := hw
  have hl : lv_has ls 3 [(0, .ref (ad 0)), (1, .int j), (2, .int w)] := hl
  refine lv_aload_n hx hb dX2_revalue_0 rfl (lv_at hl 0 rfl) ?_
  refine lv_iload_n hx hb dX2_revalue_1 rfl (lv_at hl 1 rfl) ?_
  refine y_selfI (q := (RX2, TX2, 6)) (ci := 1) (As := [.int j]) (rest := []) ⟨hx, hb, hml, hown, hts⟩ (mM_is l D ad cd k P js je jw ld j) (cwV 1 hts (lw_V q232 q234 qs14 q22 q235) rfl rfl rfl (by decide +kernel) ⟨Nat.le_of_ble_eq_true rfl, Nat.le_of_ble_eq_true rfl⟩) hK hw hA rfl rfl rfl hl.1 rfl (Nat.le_of_ble_eq_true rfl) dX2_revalue_2 ⟨Nat.zero_le _, Nat.zero_le _⟩ (fun r u H locs hq hw => ?_)
  obtain ⟨rfl, rfl⟩ := hq
  have hw : y_W D A s0.heap (mW ad cd (nI k) (pz_th P) js je jw ld) H locs := hw
  refine lv_if_eq (tgt := 19) hx hb dX2_revalue_5 (by decide) (fun c5 => ?_) (fun c5 => ?_)
  · skip
    refine lv_iconst (v := 0) hx hb dX2_revalue_19 (by decide) ?_
    exact y_iret (v := 0) hx hb hr hlocks hK hw rfl (⟨jw, Or.inl ⟨Or.inl c5, rfl, rfl⟩, ld, rfl⟩) dX2_revalue_20
  · skip
    obtain ⟨q, hq8, ej, hbit⟩ := pz_has_yes c5
    refine lv_iload_n hx hb dX2_revalue_8 rfl (lv_at hl 2 rfl) ?_
    refine lv_iconst (v := 1) hx hb dX2_revalue_9 (by decide) ?_
    refine lv_icmp_lt (tgt := 19) hx hb dX2_revalue_10 (by decide) (fun c10 => ?_) (fun c10 => ?_)
    · skip
      refine lv_iconst (v := 0) hx hb dX2_revalue_19 (by decide) ?_
      exact y_iret (v := 0) hx hb hr hlocks hK hw rfl (⟨jw, Or.inl ⟨Or.inr (Or.inl c10), rfl, rfl⟩, ld, rfl⟩) dX2_revalue_20
    · skip
      refine lv_iload_n hx hb dX2_revalue_13 rfl (lv_at hl 2 rfl) ?_
      refine lv_bipush (v := 20) hx hb dX2_revalue_14 (by decide) ?_
      refine lv_icmp_le (tgt := 21) hx hb dX2_revalue_16 (by decide) (fun c16 => ?_) (fun c16 => ?_)
      · skip
        obtain ⟨C0, eC, hC1, hC2⟩ := pz_rv_ok c10 (Int32.not_lt.mpr c16)
        refine lv_aload_n hx hb dX2_revalue_21 rfl (lv_at hl 0 rfl) ?_
        refine m_get hx hb hts hown hK hw rfl 4 (by decide) q208 rfl dX2_revalue_22 ?_
        refine lv_iload_n hx hb dX2_revalue_25 rfl (lv_at hl 1 rfl) ?_
        refine lv_iload_n hx hb dX2_revalue_26 rfl (lv_at hl 2 rfl) ?_
        refine y_top (x' := nI C0) eC ?_
        refine y_iast (ws' := mW ad cd (nI k) (pz_th P) js je (va_up jw q C0) ld) hx hb hK hw 4 3 q rfl rfl ej hq8 (by decide) mW_jw dX2_revalue_27 (fun H locs hw => ?_)
        refine lv_iconst (v := 1) hx hb dX2_revalue_28 (by decide) ?_
        exact y_iret (v := 1) hx hb hr hlocks hK hw rfl (⟨_, Or.inr ⟨fun z => z.elim c5 (fun z => z.elim c10 (Int32.not_lt.mpr c16)), rfl, q, C0, hq8, ej, eC, hC1, hC2, rfl⟩, ld, rfl⟩) dX2_revalue_29
      · skip
        refine lv_iconst (v := 0) hx hb dX2_revalue_19 (by decide) ?_
        exact y_iret (v := 0) hx hb hr hlocks hK hw rfl (⟨jw, Or.inl ⟨Or.inr (Or.inr (Int32.not_le.mp c16)), rfl, rfl⟩, ld, rfl⟩) dX2_revalue_20
set_option maxHeartbeats 4000000 in
/-- bring(s, e, worth) -/
theorem mM_bring (l : Launch) (D : va_G) (ad : Nat → Nat) (cd : Nat → ClassId) (k P : Nat) (js je jw : Nat → Nat) (ld : pz_F) (a b c0 : Int32) (hJW : pz_JW k P js je jw) : y_MI l yX2_bring cX2_bring 5 .int (y_rm 0 0) D (mT cd) [.ref (ad 0), .int a, .int b, .int c0] (mW ad cd (nI k) (pz_th P) js je jw ld)
    (fun r u => ∃ P' js' je' jw', pz_BR P js je jw a b c0 r P' js' je' jw' ∧ pz_MS ad cd k P' js' je' jw' u) := by
  refine y_startI (by decide) (Nat.le_of_ble_eq_true rfl) ?_
  intro p e0 s0 m below meth c A ls hx hb hr hml hown hts hlocks hK hA hw hl
  have hw : y_W D A s0.heap (mW ad cd (nI k) (pz_th P) js je jw ld) s0.heap [] := hw
  have hl : lv_has ls 5 [(0, .ref (ad 0)), (1, .int a), (2, .int b), (3, .int c0)] := hl
  refine lv_iload_n hx hb dX2_bring_0 rfl (lv_at hl 1 rfl) ?_
  refine lv_if_lt (tgt := 26) hx hb dX2_bring_1 (by decide) (fun c1 => ?_) (fun c1 => ?_)
  · skip
    refine lv_iconst (v := (-1)) hx hb dX2_bring_26 (by decide) ?_
    exact y_iret (v := (-1)) hx hb hr hlocks hK hw rfl (⟨P, js, je, jw, Or.inl ⟨Or.inl c1, rfl, rfl, rfl, rfl, rfl⟩, ld, rfl⟩) dX2_bring_27
  · skip
    refine lv_iload_n hx hb dX2_bring_4 rfl (lv_at hl 1 rfl) ?_
    refine lv_iload_n hx hb dX2_bring_5 rfl (lv_at hl 2 rfl) ?_
    refine lv_icmp_ge (tgt := 26) hx hb dX2_bring_6 (by decide) (fun c6 => ?_) (fun c6 => ?_)
    · skip
      refine lv_iconst (v := (-1)) hx hb dX2_bring_26 (by decide) ?_
      exact y_iret (v := (-1)) hx hb hr hlocks hK hw rfl (⟨P, js, je, jw, Or.inl ⟨Or.inr (Or.inr (Or.inl c6)), rfl, rfl, rfl, rfl, rfl⟩, ld, rfl⟩) dX2_bring_27
    · skip
      refine lv_iload_n hx hb dX2_bring_9 rfl (lv_at hl 2 rfl) ?_
      refine lv_bipush (v := 16) hx hb dX2_bring_10 (by decide) ?_
      refine lv_icmp_gt (tgt := 26) hx hb dX2_bring_12 (by decide) (fun c12 => ?_) (fun c12 => ?_)
      · skip
        refine lv_iconst (v := (-1)) hx hb dX2_bring_26 (by decide) ?_
        exact y_iret (v := (-1)) hx hb hr hlocks hK hw rfl (⟨P, js, je, jw, Or.inl ⟨Or.inr (Or.inl c12), rfl, rfl, rfl, rfl, rfl⟩, ld, rfl⟩) dX2_bring_27
      · skip
        refine lv_iload_n hx hb dX2_bring_15 rfl (lv_at hl 3 rfl) ?_
        refine lv_iconst (v := 1) hx hb dX2_bring_16 (by decide) ?_
        refine lv_icmp_lt (tgt := 26) hx hb dX2_bring_17 (by decide) (fun c17 => ?_) (fun c17 => ?_)
        · skip
          refine lv_iconst (v := (-1)) hx hb dX2_bring_26 (by decide) ?_
          exact y_iret (v := (-1)) hx hb hr hlocks hK hw rfl (⟨P, js, je, jw, Or.inl ⟨Or.inr (Or.inr (Or.inr (Or.inl c17))), rfl, rfl, rfl, rfl, rfl⟩, ld, rfl⟩) dX2_bring_27
        · skip
          refine lv_iload_n hx hb dX2_bring_20 rfl (lv_at hl 3 rfl) ?_
          refine lv_bipush (v := 20) hx hb dX2_bring_21 (by decide) ?_
          refine lv_icmp_le (tgt := 28) hx hb dX2_bring_23 (by decide) (fun c23 => ?_) (fun c23 => ?_)
          · skip
            obtain ⟨A0, B0, C0, eA, eB, eC, hAB, hB16, hC1, hC2⟩ := pz_br_ok c1 c12 c6 c17 (Int32.not_lt.mpr c23)
            refine lv_iconst (v := nI 0) hx hb dX2_bring_28 (by decide) ?_
            refine lv_istore (lv' := [(4, .int (nI 0)), (0, .ref (ad 0)), (1, .int a), (2, .int b), (3, .int c0)]) hx hb dX2_bring_29 hl (by decide) rfl (fun ls hl => ?_)
            refine y_for 31 5 8 0 (fun j => mW ad cd (nI k) (pz_th P) js je jw ld) (fun j => [(0, .ref (ad 0)), (1, .int a), (2, .int b), (3, .int c0), (4, .int (nI j))]) (fun j => ∀ i, i < j → P.testBit i = true) (Nat.le_of_ble_eq_true rfl) (fun i h => absurd h (Nat.not_lt_zero i)) hw (lv_sub hl [1, 2, 3, 4, 0] rfl) ?_ ?_
            · intro j hj hI31 H locs ls hw hl ih31
              have hw : y_W D A s0.heap (mW ad cd (nI k) (pz_th P) js je jw ld) H locs := hw
              have hl : lv_has ls 5 [(0, .ref (ad 0)), (1, .int a), (2, .int b), (3, .int c0), (4, .int (nI j))] := hl
              refine lv_iload hx hb dX2_bring_31 (lv_at hl 4 rfl) ?_
              refine lv_bipush (v := 8) hx hb dX2_bring_33 (by decide) ?_
              refine lv_icmp_ge (tgt := 89) hx hb dX2_bring_35 (by decide) (fun c9 => absurd c9 (y_ge hj)) (fun _ => ?_)
              refine lv_aload_n hx hb dX2_bring_38 rfl (lv_at hl 0 rfl) ?_
              refine m_get hx hb hts hown hK hw rfl 1 (by decide) q205 rfl dX2_bring_39 ?_
              refine lv_iload hx hb dX2_bring_42 (lv_at hl 4 rfl) ?_
              refine y_zald hx hb hK hw 1 0 j rfl rfl rfl hj (by decide) dX2_bring_44 ?_
              refine lv_if_ne (tgt := 83) hx hb dX2_bring_45 (by decide) (fun c45 => ?_) (fun c45 => ?_)
              · skip
                have hbit := pz_th1 c45
                refine lv_iinc (v := nI (j + 1)) (lv' := [(4, .int (nI (j + 1))), (0, .ref (ad 0)), (1, .int a), (2, .int b), (3, .int c0)]) hx hb dX2_bring_83 hl (k := 4) rfl (nI_1 _) (by decide) rfl (fun ls hl => ?_)
                refine lv_goto (tgt := 31) hx hb dX2_bring_86 (by decide) ?_
                exact ih31 (fun i h => if e : i = j then e ▸ hbit else hI31 i (by omega)) _ _ _ hw (lv_sub hl [1, 2, 3, 4, 0] rfl)
              · skip
                have hbit := pz_th0 c45
                refine lv_aload_n hx hb dX2_bring_48 rfl (lv_at hl 0 rfl) ?_
                refine m_get hx hb hts hown hK hw rfl 1 (by decide) q205 rfl dX2_bring_49 ?_
                refine lv_iload hx hb dX2_bring_52 (lv_at hl 4 rfl) ?_
                refine lv_iconst (v := 1) hx hb dX2_bring_54 (by decide) ?_
                refine y_zast (x' := 1) (ws' := mW ad cd (nI k) (pz_th (P ||| 2 ^ j)) js je jw ld) hx hb hK hw 1 0 j rfl rfl rfl hj (by decide) (by decide) (by rw [pz_th_set]; rfl) dX2_bring_55 (fun H locs hw => ?_)
                refine lv_aload_n hx hb dX2_bring_56 rfl (lv_at hl 0 rfl) ?_
                refine m_get hx hb hts hown hK hw rfl 2 (by decide) q206 rfl dX2_bring_57 ?_
                refine lv_iload hx hb dX2_bring_60 (lv_at hl 4 rfl) ?_
                refine lv_iload_n hx hb dX2_bring_62 rfl (lv_at hl 1 rfl) ?_
                refine y_top (x' := nI A0) eA ?_
                refine y_iast (ws' := mW ad cd (nI k) (pz_th (P ||| 2 ^ j)) (va_up js j A0) je jw ld) hx hb hK hw 2 1 j rfl rfl rfl hj (by decide) mW_js dX2_bring_63 (fun H locs hw => ?_)
                refine lv_aload_n hx hb dX2_bring_64 rfl (lv_at hl 0 rfl) ?_
                refine m_get hx hb hts hown hK hw rfl 3 (by decide) q207 rfl dX2_bring_65 ?_
                refine lv_iload hx hb dX2_bring_68 (lv_at hl 4 rfl) ?_
                refine lv_iload_n hx hb dX2_bring_70 rfl (lv_at hl 2 rfl) ?_
                refine y_top (x' := nI B0) eB ?_
                refine y_iast (ws' := mW ad cd (nI k) (pz_th (P ||| 2 ^ j)) (va_up js j A0) (va_up je j B0) jw ld) hx hb hK hw 3 2 j rfl rfl rfl hj (by decide) mW_je dX2_bring_71 (fun H locs hw => ?_)
                refine lv_aload_n hx hb dX2_bring_72 rfl (lv_at hl 0 rfl) ?_
                refine m_get hx hb hts hown hK hw rfl 4 (by decide) q208 rfl dX2_bring_73 ?_
                refine lv_iload hx hb dX2_bring_76 (lv_at hl 4 rfl) ?_
                refine lv_iload_n hx hb dX2_bring_78 rfl (lv_at hl 3 rfl) ?_
                refine y_top (x' := nI C0) eC ?_
                refine y_iast (ws' := mW ad cd (nI k) (pz_th (P ||| 2 ^ j)) (va_up js j A0) (va_up je j B0) (va_up jw j C0) ld) hx hb hK hw 4 3 j rfl rfl rfl hj (by decide) mW_jw dX2_bring_79 (fun H locs hw => ?_)
                refine lv_iload hx hb dX2_bring_80 (lv_at hl 4 rfl) ?_
                exact y_iret (v := nI j) hx hb hr hlocks hK hw rfl (⟨_, _, _, _, Or.inr (Or.inr ⟨(fun z => z.elim c1 (fun z => z.elim c12 (fun z => z.elim c6 (fun z => z.elim c17 (Int32.not_lt.mpr c23))))), j, A0, B0, C0, ⟨hj, hI31, hbit⟩, eA, eB, eC, hAB, hB16, hC1, hC2, rfl, rfl, rfl, rfl, rfl⟩), ld, rfl⟩) dX2_bring_82
            · intro hI31 H locs ls hw hl
              have hw : y_W D A s0.heap (mW ad cd (nI k) (pz_th P) js je jw ld) H locs := hw
              have hl : lv_has ls 5 [(0, .ref (ad 0)), (1, .int a), (2, .int b), (3, .int c0), (4, .int (nI 8))] := hl
              refine lv_iload hx hb dX2_bring_31 (lv_at hl 4 rfl) ?_
              refine lv_bipush (v := 8) hx hb dX2_bring_33 (by decide) ?_
              refine lv_icmp_ge (tgt := 89) hx hb dX2_bring_35 (by decide) (fun _ => ?_) (fun c9 => absurd (y_le (a := 8)) c9)
              refine lv_bipush (v := (-2)) hx hb dX2_bring_89 (by decide) ?_
              exact y_iret (v := (-2)) hx hb hr hlocks hK hw rfl (⟨P, js, je, jw, Or.inr (Or.inl ⟨(fun z => z.elim c1 (fun z => z.elim c12 (fun z => z.elim c6 (fun z => z.elim c17 (Int32.not_lt.mpr c23))))), hI31, rfl, rfl, rfl, rfl, rfl⟩), ld, rfl⟩) dX2_bring_91
          · skip
            refine lv_iconst (v := (-1)) hx hb dX2_bring_26 (by decide) ?_
            exact y_iret (v := (-1)) hx hb hr hlocks hK hw rfl (⟨P, js, je, jw, Or.inl ⟨Or.inr (Or.inr (Or.inr (Or.inr (Int32.not_le.mp c23)))), rfl, rfl, rfl, rfl, rfl⟩, ld, rfl⟩) dX2_bring_27
set_option maxHeartbeats 4000000 in
/-- chosen() -/
theorem mM_chosen (l : Launch) (D : va_G) (ad : Nat → Nat) (cd : Nat → ClassId) (k P : Nat) (js je jw : Nat → Nat) (ld : pz_F)  (hJW : pz_JW k P js je jw) : y_MI l yX2_chosen cX2_chosen 1 .int (y_rm 3 72) D (mT cd) [.ref (ad 0)] (mW ad cd (nI k) (pz_th P) js je jw ld)
    (fun r u => r = nI (pz_BT js je jw P k) ∧ pz_MS ad cd k P js je jw u) := by
  refine y_startI (by decide) (Nat.le_of_ble_eq_true rfl) ?_
  intro p e0 s0 m below meth c A ls hx hb hr hml hown hts hlocks hK hA hw hl
  have hw : y_W D A s0.heap (mW ad cd (nI k) (pz_th P) js je jw ld) s0.heap [] := hw
  have hl : lv_has ls 1 [(0, .ref (ad 0))] := hl
  refine lv_aload_n hx hb dX2_chosen_0 rfl (lv_at hl 0 rfl) ?_
  refine y_selfV (q := (RX2, TX2, 6)) (ci := 1) (As := []) (rest := []) ⟨hx, hb, hml, hown, hts⟩ (mM_work l D ad cd k P js je jw ld hJW.2.1 hJW.2.2.1) (cwV 0 hts (lw_V q256 q258 qs15 q22 q259) rfl rfl rfl (by decide +kernel) ⟨Nat.le_of_ble_eq_true rfl, Nat.le_of_ble_eq_true rfl⟩) hK hw hA rfl rfl rfl hl.1 rfl (Nat.le_of_ble_eq_true rfl) dX2_chosen_1 ⟨Nat.zero_le _, Nat.zero_le _⟩ (fun u H locs hq hw => ?_)
  obtain ⟨ld1, hLD, rfl⟩ := hq
  have hw : y_W D A s0.heap (mW ad cd (nI k) (pz_th P) js je jw ld1) H locs := hw
  refine lv_aload_n hx hb dX2_chosen_4 rfl (lv_at hl 0 rfl) ?_
  refine lv_aload_n hx hb dX2_chosen_5 rfl (lv_at hl 0 rfl) ?_
  refine m_get hx hb hts hown hK hw rfl 0 (by decide) q204 rfl dX2_chosen_6 ?_
  refine y_selfI (q := (RX2, TX2, 6)) (ci := 1) (As := [.int (nI k)]) (rest := []) ⟨hx, hb, hml, hown, hts⟩ (mM_best l D ad cd k P js je jw ld1 k (by have := hJW.1; omega) hJW.2.1 (pz_w20 hJW) hLD) (cwV 1 hts (lw_V q265 q267 qs17 q22 q268) rfl rfl rfl (by decide +kernel) ⟨Nat.le_of_ble_eq_true rfl, Nat.le_of_ble_eq_true rfl⟩) hK hw hA rfl rfl rfl hl.1 rfl (Nat.le_of_ble_eq_true rfl) dX2_chosen_9 ⟨Nat.zero_le _, Nat.zero_le _⟩ (fun r u H locs hq hw => ?_)
  obtain ⟨rfl, rfl⟩ := hq
  have hw : y_W D A s0.heap (mW ad cd (nI k) (pz_th P) js je jw ld1) H locs := hw
  exact y_iret (v := nI (pz_BT js je jw P k)) hx hb hr hlocks hK hw rfl (⟨rfl, ld1, rfl⟩) dX2_chosen_12
set_option maxHeartbeats 4000000 in
/-- total() -/
theorem mM_total (l : Launch) (D : va_G) (ad : Nat → Nat) (cd : Nat → ClassId) (k P : Nat) (js je jw : Nat → Nat) (ld : pz_F)  (hJW : pz_JW k P js je jw) : y_MI l yX2_total cX2_total 2 .int (y_rm 4 92) D (mT cd) [.ref (ad 0)] (mW ad cd (nI k) (pz_th P) js je jw ld)
    (fun r u => r = nI (pz_su jw (pz_BT js je jw P k) 8) ∧ pz_MS ad cd k P js je jw u) := by
  refine y_startI (by decide) (Nat.le_of_ble_eq_true rfl) ?_
  intro p e0 s0 m below meth c A ls hx hb hr hml hown hts hlocks hK hA hw hl
  have hw : y_W D A s0.heap (mW ad cd (nI k) (pz_th P) js je jw ld) s0.heap [] := hw
  have hl : lv_has ls 2 [(0, .ref (ad 0))] := hl
  refine lv_aload_n hx hb dX2_total_0 rfl (lv_at hl 0 rfl) ?_
  refine y_selfI (q := (RX2, TX2, 6)) (ci := 1) (As := []) (rest := []) ⟨hx, hb, hml, hown, hts⟩ (mM_chosen l D ad cd k P js je jw ld hJW) (cwV 0 hts (lw_V q281 q253 q254 q22 q255) rfl rfl rfl (by decide +kernel) ⟨Nat.le_of_ble_eq_true rfl, Nat.le_of_ble_eq_true rfl⟩) hK hw hA rfl rfl rfl hl.1 rfl (Nat.le_of_ble_eq_true rfl) dX2_total_1 ⟨Nat.zero_le _, Nat.zero_le _⟩ (fun r u H locs hq hw => ?_)
  obtain ⟨rfl, ld1, rfl⟩ := hq
  have hw : y_W D A s0.heap (mW ad cd (nI k) (pz_th P) js je jw ld1) H locs := hw
  refine lv_istore_n (lv' := [(1, .int (nI (pz_BT js je jw P k))), (0, .ref (ad 0))]) hx hb dX2_total_4 rfl hl (by decide) rfl (fun ls hl => ?_)
  refine lv_aload_n hx hb dX2_total_5 rfl (lv_at hl 1 rfl) ?_
  refine lv_iload_n hx hb dX2_total_6 rfl (lv_at hl 0 rfl) ?_
  refine y_selfI (q := (RX2, TX2, 6)) (ci := 1) (As := [.int (nI (pz_BT js je jw P k))]) (rest := []) ⟨hx, hb, hml, hown, hts⟩ (mM_sum l D ad cd k P js je jw ld1 (pz_BT js je jw P k) (pz_BT_lt _ _ _ _ _)) (cwV 1 hts (lw_V q273 q275 qs19 q22 q276) rfl rfl rfl (by decide +kernel) ⟨Nat.le_of_ble_eq_true rfl, Nat.le_of_ble_eq_true rfl⟩) hK hw hA rfl rfl rfl hl.1 rfl (Nat.le_of_ble_eq_true rfl) dX2_total_7 ⟨Nat.zero_le _, Nat.zero_le _⟩ (fun r u H locs hq hw => ?_)
  obtain ⟨rfl, rfl⟩ := hq
  have hw : y_W D A s0.heap (mW ad cd (nI k) (pz_th P) js je jw ld1) H locs := hw
  exact y_iret (v := nI (pz_su jw (pz_BT js je jw P k) 8)) hx hb hr hlocks hK hw rfl (⟨rfl, ld1, rfl⟩) dX2_total_10
set_option maxHeartbeats 4000000 in
/-- fits(set) -/
theorem mM_fits (l : Launch) (D : va_G) (ad : Nat → Nat) (cd : Nat → ClassId) (k P : Nat) (js je jw : Nat → Nat) (ld : pz_F) (a : Nat) (ha : a < 2 ^ 32) (hJW : pz_JW k P js je jw) : y_MI l yX2_fits cX2_fits 2 .boolean (y_rm 2 48) D (mT cd) [.ref (ad 0), .int (nI a)] (mW ad cd (nI k) (pz_th P) js je jw ld)
    (fun r u => r = pz_fit js je P k a ∧ pz_MS ad cd k P js je jw u) := by
  refine y_startI (by decide) (Nat.le_of_ble_eq_true rfl) ?_
  intro p e0 s0 m below meth c A ls hx hb hr hml hown hts hlocks hK hA hw hl
  have hw : y_W D A s0.heap (mW ad cd (nI k) (pz_th P) js je jw ld) s0.heap [] := hw
  have hl : lv_has ls 2 [(0, .ref (ad 0)), (1, .int (nI a))] := hl
  refine lv_aload_n hx hb dX2_fits_0 rfl (lv_at hl 0 rfl) ?_
  refine y_selfV (q := (RX2, TX2, 6)) (ci := 1) (As := []) (rest := []) ⟨hx, hb, hml, hown, hts⟩ (mM_work l D ad cd k P js je jw ld hJW.2.1 hJW.2.2.1) (cwV 0 hts (lw_V q256 q258 qs15 q22 q259) rfl rfl rfl (by decide +kernel) ⟨Nat.le_of_ble_eq_true rfl, Nat.le_of_ble_eq_true rfl⟩) hK hw hA rfl rfl rfl hl.1 rfl (Nat.le_of_ble_eq_true rfl) dX2_fits_1 ⟨Nat.zero_le _, Nat.zero_le _⟩ (fun u H locs hq hw => ?_)
  obtain ⟨ld1, hLD, rfl⟩ := hq
  have hw : y_W D A s0.heap (mW ad cd (nI k) (pz_th P) js je jw ld1) H locs := hw
  refine lv_iload_n hx hb dX2_fits_4 rfl (lv_at hl 1 rfl) ?_
  refine lv_aload_n hx hb dX2_fits_5 rfl (lv_at hl 0 rfl) ?_
  refine y_selfI (q := (RX2, TX2, 6)) (ci := 1) (As := []) (rest := [.int (nI a)]) ⟨hx, hb, hml, hown, hts⟩ (mM_jobs l D ad cd k P js je jw ld1 hJW.2.1) (cwV 0 hts (lw_V q260 q249 q250 q22 q251) rfl rfl rfl (by decide +kernel) ⟨Nat.le_of_ble_eq_true rfl, Nat.le_of_ble_eq_true rfl⟩) hK hw hA rfl rfl rfl hl.1 rfl (Nat.le_of_ble_eq_true rfl) dX2_fits_6 ⟨Nat.zero_le _, Nat.zero_le _⟩ (fun r u H locs hq hw => ?_)
  obtain ⟨rfl, rfl⟩ := hq
  have hw : y_W D A s0.heap (mW ad cd (nI k) (pz_th P) js je jw ld1) H locs := hw
  refine lv_iconst (v := (-1)) hx hb dX2_fits_9 (by decide) ?_
  refine lv_ixor hx hb dX2_fits_10 ?_
  refine lv_iand hx hb dX2_fits_11 ?_
  refine lv_if_ne (tgt := 36) hx hb dX2_fits_12 (by decide) (fun c12 => ?_) (fun c12 => ?_)
  · skip
    refine lv_iconst (v := 0) hx hb dX2_fits_36 (by decide) ?_
    exact y_iret (v := 0) hx hb hr hlocks hK hw rfl (⟨by unfold pz_fit; rw [if_neg]; exact fun z => c12 ((pz_sb_big ha hJW.2.1).mpr ⟨z.1, (pz_sb_eq z.1).mp z.2.1⟩), ld1, rfl⟩) dX2_fits_37
  · skip
    obtain ⟨ha8, hsb⟩ := (pz_sb_big ha hJW.2.1).mp c12
    refine lv_aload_n hx hb dX2_fits_15 rfl (lv_at hl 0 rfl) ?_
    refine m_get hx hb hts hown hK hw rfl 5 (by decide) q209 rfl dX2_fits_16 ?_
    refine lv_iload_n hx hb dX2_fits_19 rfl (lv_at hl 1 rfl) ?_
    refine lv_sipush (v := 255) hx hb dX2_fits_20 (by decide) ?_
    refine lv_iand hx hb dX2_fits_23 ?_
    refine y_top (x' := nI a) (pz_255 a ha8) ?_
    refine y_iald hx hb hK hw 5 4 a rfl rfl rfl ha8 (by decide) dX2_fits_24 ?_
    refine y_top (x' := nI (pz_gc js je a 16)) (pz_LD_gc hLD ha8 hsb) ?_
    refine lv_aload_n hx hb dX2_fits_25 rfl (lv_at hl 0 rfl) ?_
    refine m_get hx hb hts hown hK hw rfl 0 (by decide) q204 rfl dX2_fits_26 ?_
    refine lv_icmp_gt (tgt := 36) hx hb dX2_fits_29 (by decide) (fun c29 => ?_) (fun c29 => ?_)
    · skip
      refine lv_iconst (v := 0) hx hb dX2_fits_36 (by decide) ?_
      exact y_iret (v := 0) hx hb hr hlocks hK hw rfl (⟨by unfold pz_fit; rw [if_neg]; exact fun z => by have h1 := (pz_gt (by have := hJW.1; omega)).mp c29; omega, ld1, rfl⟩) dX2_fits_37
    · skip
      refine lv_iconst (v := 1) hx hb dX2_fits_32 (by decide) ?_
      refine lv_goto (tgt := 37) hx hb dX2_fits_33 (by decide) ?_
      exact y_iret (v := 1) hx hb hr hlocks hK hw rfl (⟨by unfold pz_fit; rw [if_pos]; exact ⟨ha8, (pz_sb_eq ha8).mpr hsb, Nat.le_of_not_lt (fun z => c29 ((pz_gt (by have := hJW.1; omega)).mpr z))⟩, ld1, rfl⟩) dX2_fits_37
set_option maxHeartbeats 4000000 in
/-- tracksFor(set) -/
theorem mM_tracksFor (l : Launch) (D : va_G) (ad : Nat → Nat) (cd : Nat → ClassId) (k P : Nat) (js je jw : Nat → Nat) (ld : pz_F) (a : Nat) (hJW : pz_JW k P js je jw) : y_MI l yX2_tracksFor cX2_tracksFor 2 .int (y_rm 2 48) D (mT cd) [.ref (ad 0), .int (nI a)] (mW ad cd (nI k) (pz_th P) js je jw ld)
    (fun r u => r = nI (pz_gc js je (a &&& P) 16) ∧ pz_MS ad cd k P js je jw u) := by
  refine y_startI (by decide) (Nat.le_of_ble_eq_true rfl) ?_
  intro p e0 s0 m below meth c A ls hx hb hr hml hown hts hlocks hK hA hw hl
  have hw : y_W D A s0.heap (mW ad cd (nI k) (pz_th P) js je jw ld) s0.heap [] := hw
  have hl : lv_has ls 2 [(0, .ref (ad 0)), (1, .int (nI a))] := hl
  refine lv_aload_n hx hb dX2_tracksFor_0 rfl (lv_at hl 0 rfl) ?_
  refine y_selfV (q := (RX2, TX2, 6)) (ci := 1) (As := []) (rest := []) ⟨hx, hb, hml, hown, hts⟩ (mM_work l D ad cd k P js je jw ld hJW.2.1 hJW.2.2.1) (cwV 0 hts (lw_V q256 q258 qs15 q22 q259) rfl rfl rfl (by decide +kernel) ⟨Nat.le_of_ble_eq_true rfl, Nat.le_of_ble_eq_true rfl⟩) hK hw hA rfl rfl rfl hl.1 rfl (Nat.le_of_ble_eq_true rfl) dX2_tracksFor_1 ⟨Nat.zero_le _, Nat.zero_le _⟩ (fun u H locs hq hw => ?_)
  obtain ⟨ld1, hLD, rfl⟩ := hq
  have hw : y_W D A s0.heap (mW ad cd (nI k) (pz_th P) js je jw ld1) H locs := hw
  refine lv_aload_n hx hb dX2_tracksFor_4 rfl (lv_at hl 0 rfl) ?_
  refine m_get hx hb hts hown hK hw rfl 5 (by decide) q209 rfl dX2_tracksFor_5 ?_
  refine lv_iload_n hx hb dX2_tracksFor_8 rfl (lv_at hl 1 rfl) ?_
  refine lv_aload_n hx hb dX2_tracksFor_9 rfl (lv_at hl 0 rfl) ?_
  refine y_selfI (q := (RX2, TX2, 6)) (ci := 1) (As := []) (rest := [.int (nI a), .ref (ad 5)]) ⟨hx, hb, hml, hown, hts⟩ (mM_jobs l D ad cd k P js je jw ld1 hJW.2.1) (cwV 0 hts (lw_V q260 q249 q250 q22 q251) rfl rfl rfl (by decide +kernel) ⟨Nat.le_of_ble_eq_true rfl, Nat.le_of_ble_eq_true rfl⟩) hK hw hA rfl rfl rfl hl.1 rfl (Nat.le_of_ble_eq_true rfl) dX2_tracksFor_10 ⟨Nat.zero_le _, Nat.zero_le _⟩ (fun r u H locs hq hw => ?_)
  obtain ⟨rfl, rfl⟩ := hq
  have hw : y_W D A s0.heap (mW ad cd (nI k) (pz_th P) js je jw ld1) H locs := hw
  refine lv_iand hx hb dX2_tracksFor_13 ?_
  refine y_top (x' := nI (a &&& P)) (nx_and a P) ?_
  refine y_iald hx hb hK hw 5 4 (a &&& P) rfl rfl rfl (pz_and_lt hJW.2.1) (by decide) dX2_tracksFor_14 ?_
  refine y_top (x' := nI (pz_gc js je (a &&& P) 16)) (pz_LD_gc hLD (pz_and_lt hJW.2.1) (fun j hj hb => by rw [Nat.testBit_and] at hb; simp only [Bool.and_eq_true] at hb; exact hb.2)) ?_
  exact y_iret (v := nI (pz_gc js je (a &&& P) 16)) hx hb hr hlocks hK hw rfl (⟨rfl, ld1, rfl⟩) dX2_tracksFor_15
set_option maxHeartbeats 4000000 in
/-- gain() -/
theorem mM_gain (l : Launch) (D : va_G) (ad : Nat → Nat) (cd : Nat → ClassId) (k P : Nat) (js je jw : Nat → Nat) (ld : pz_F)  (hJW : pz_JW k P js je jw) : y_MI l yX2_gain cX2_gain 3 .int (y_rm 3 72) D (mT cd) [.ref (ad 0)] (mW ad cd (nI k) (pz_th P) js je jw ld)
    (fun r u => r = nI (pz_su jw (pz_BT js je jw P (k + 1)) 8) - nI (pz_su jw (pz_BT js je jw P k) 8) ∧ pz_MS ad cd k P js je jw u) := by
  refine y_startI (by decide) (Nat.le_of_ble_eq_true rfl) ?_
  intro p e0 s0 m below meth c A ls hx hb hr hml hown hts hlocks hK hA hw hl
  have hw : y_W D A s0.heap (mW ad cd (nI k) (pz_th P) js je jw ld) s0.heap [] := hw
  have hl : lv_has ls 3 [(0, .ref (ad 0))] := hl
  refine lv_aload_n hx hb dX2_gain_0 rfl (lv_at hl 0 rfl) ?_
  refine y_selfV (q := (RX2, TX2, 6)) (ci := 1) (As := []) (rest := []) ⟨hx, hb, hml, hown, hts⟩ (mM_work l D ad cd k P js je jw ld hJW.2.1 hJW.2.2.1) (cwV 0 hts (lw_V q256 q258 qs15 q22 q259) rfl rfl rfl (by decide +kernel) ⟨Nat.le_of_ble_eq_true rfl, Nat.le_of_ble_eq_true rfl⟩) hK hw hA rfl rfl rfl hl.1 rfl (Nat.le_of_ble_eq_true rfl) dX2_gain_1 ⟨Nat.zero_le _, Nat.zero_le _⟩ (fun u H locs hq hw => ?_)
  obtain ⟨ld1, hLD, rfl⟩ := hq
  have hw : y_W D A s0.heap (mW ad cd (nI k) (pz_th P) js je jw ld1) H locs := hw
  refine lv_aload_n hx hb dX2_gain_4 rfl (lv_at hl 0 rfl) ?_
  refine lv_aload_n hx hb dX2_gain_5 rfl (lv_at hl 0 rfl) ?_
  refine m_get hx hb hts hown hK hw rfl 0 (by decide) q204 rfl dX2_gain_6 ?_
  refine y_selfI (q := (RX2, TX2, 6)) (ci := 1) (As := [.int (nI k)]) (rest := []) ⟨hx, hb, hml, hown, hts⟩ (mM_best l D ad cd k P js je jw ld1 k (by have := hJW.1; omega) hJW.2.1 (pz_w20 hJW) hLD) (cwV 1 hts (lw_V q265 q267 qs17 q22 q268) rfl rfl rfl (by decide +kernel) ⟨Nat.le_of_ble_eq_true rfl, Nat.le_of_ble_eq_true rfl⟩) hK hw hA rfl rfl rfl hl.1 rfl (Nat.le_of_ble_eq_true rfl) dX2_gain_9 ⟨Nat.zero_le _, Nat.zero_le _⟩ (fun r u H locs hq hw => ?_)
  obtain ⟨rfl, rfl⟩ := hq
  have hw : y_W D A s0.heap (mW ad cd (nI k) (pz_th P) js je jw ld1) H locs := hw
  refine lv_istore_n (lv' := [(1, .int (nI (pz_BT js je jw P k))), (0, .ref (ad 0))]) hx hb dX2_gain_12 rfl hl (by decide) rfl (fun ls hl => ?_)
  refine lv_aload_n hx hb dX2_gain_13 rfl (lv_at hl 1 rfl) ?_
  refine lv_aload_n hx hb dX2_gain_14 rfl (lv_at hl 1 rfl) ?_
  refine m_get hx hb hts hown hK hw rfl 0 (by decide) q204 rfl dX2_gain_15 ?_
  refine lv_iconst (v := 1) hx hb dX2_gain_18 (by decide) ?_
  refine lv_iadd hx hb dX2_gain_19 ?_
  refine y_top (x' := nI (k + 1)) (nI_1 k) ?_
  refine y_selfI (q := (RX2, TX2, 6)) (ci := 1) (As := [.int (nI (k + 1))]) (rest := []) ⟨hx, hb, hml, hown, hts⟩ (mM_best l D ad cd k P js je jw ld1 (k + 1) (by have := hJW.1; omega) hJW.2.1 (pz_w20 hJW) hLD) (cwV 1 hts (lw_V q265 q267 qs17 q22 q268) rfl rfl rfl (by decide +kernel) ⟨Nat.le_of_ble_eq_true rfl, Nat.le_of_ble_eq_true rfl⟩) hK hw hA rfl rfl rfl hl.1 rfl (Nat.le_of_ble_eq_true rfl) dX2_gain_20 ⟨Nat.zero_le _, Nat.zero_le _⟩ (fun r u H locs hq hw => ?_)
  obtain ⟨rfl, rfl⟩ := hq
  have hw : y_W D A s0.heap (mW ad cd (nI k) (pz_th P) js je jw ld1) H locs := hw
  refine lv_istore_n (lv' := [(2, .int (nI (pz_BT js je jw P (k + 1)))), (1, .int (nI (pz_BT js je jw P k))), (0, .ref (ad 0))]) hx hb dX2_gain_23 rfl hl (by decide) rfl (fun ls hl => ?_)
  refine lv_aload_n hx hb dX2_gain_24 rfl (lv_at hl 2 rfl) ?_
  refine lv_iload_n hx hb dX2_gain_25 rfl (lv_at hl 0 rfl) ?_
  refine y_selfI (q := (RX2, TX2, 6)) (ci := 1) (As := [.int (nI (pz_BT js je jw P (k + 1)))]) (rest := []) ⟨hx, hb, hml, hown, hts⟩ (mM_sum l D ad cd k P js je jw ld1 (pz_BT js je jw P (k + 1)) (pz_BT_lt _ _ _ _ _)) (cwV 1 hts (lw_V q273 q275 qs19 q22 q276) rfl rfl rfl (by decide +kernel) ⟨Nat.le_of_ble_eq_true rfl, Nat.le_of_ble_eq_true rfl⟩) hK hw hA rfl rfl rfl hl.1 rfl (Nat.le_of_ble_eq_true rfl) dX2_gain_26 ⟨Nat.zero_le _, Nat.zero_le _⟩ (fun r u H locs hq hw => ?_)
  obtain ⟨rfl, rfl⟩ := hq
  have hw : y_W D A s0.heap (mW ad cd (nI k) (pz_th P) js je jw ld1) H locs := hw
  refine lv_aload_n hx hb dX2_gain_29 rfl (lv_at hl 2 rfl) ?_
  refine lv_iload_n hx hb dX2_gain_30 rfl (lv_at hl 1 rfl) ?_
  refine y_selfI (q := (RX2, TX2, 6)) (ci := 1) (As := [.int (nI (pz_BT js je jw P k))]) (rest := [.int (nI (pz_su jw (pz_BT js je jw P (k + 1)) 8))]) ⟨hx, hb, hml, hown, hts⟩ (mM_sum l D ad cd k P js je jw ld1 (pz_BT js je jw P k) (pz_BT_lt _ _ _ _ _)) (cwV 1 hts (lw_V q273 q275 qs19 q22 q276) rfl rfl rfl (by decide +kernel) ⟨Nat.le_of_ble_eq_true rfl, Nat.le_of_ble_eq_true rfl⟩) hK hw hA rfl rfl rfl hl.1 rfl (Nat.le_of_ble_eq_true rfl) dX2_gain_31 ⟨Nat.zero_le _, Nat.zero_le _⟩ (fun r u H locs hq hw => ?_)
  obtain ⟨rfl, rfl⟩ := hq
  have hw : y_W D A s0.heap (mW ad cd (nI k) (pz_th P) js je jw ld1) H locs := hw
  refine lv_isub hx hb dX2_gain_34 ?_
  exact y_iret (v := (nI (pz_su jw (pz_BT js je jw P (k + 1)) 8)) - (nI (pz_su jw (pz_BT js je jw P k) 8))) hx hb hr hlocks hK hw rfl (⟨rfl, ld1, rfl⟩) dX2_gain_35
set_option maxHeartbeats 4000000 in
/-- loss() -/
theorem mM_loss (l : Launch) (D : va_G) (ad : Nat → Nat) (cd : Nat → ClassId) (k P : Nat) (js je jw : Nat → Nat) (ld : pz_F)  (hJW : pz_JW k P js je jw) : y_MI l yX2_loss cX2_loss 3 .int (y_rm 3 72) D (mT cd) [.ref (ad 0)] (mW ad cd (nI k) (pz_th P) js je jw ld)
    (fun r u => r = pz_loss js je jw P k ∧ pz_MS ad cd k P js je jw u) := by
  refine y_startI (by decide) (Nat.le_of_ble_eq_true rfl) ?_
  intro p e0 s0 m below meth c A ls hx hb hr hml hown hts hlocks hK hA hw hl
  have hw : y_W D A s0.heap (mW ad cd (nI k) (pz_th P) js je jw ld) s0.heap [] := hw
  have hl : lv_has ls 3 [(0, .ref (ad 0))] := hl
  refine lv_aload_n hx hb dX2_loss_0 rfl (lv_at hl 0 rfl) ?_
  refine m_get hx hb hts hown hK hw rfl 0 (by decide) q204 rfl dX2_loss_1 ?_
  refine lv_if_ne (tgt := 9) hx hb dX2_loss_4 (by decide) (fun c4 => ?_) (fun c4 => ?_)
  · skip
    have hk0 : k ≠ 0 := fun z => c4 (by rw [z]; rfl)
    refine lv_aload_n hx hb dX2_loss_9 rfl (lv_at hl 0 rfl) ?_
    refine y_selfV (q := (RX2, TX2, 6)) (ci := 1) (As := []) (rest := []) ⟨hx, hb, hml, hown, hts⟩ (mM_work l D ad cd k P js je jw ld hJW.2.1 hJW.2.2.1) (cwV 0 hts (lw_V q256 q258 qs15 q22 q259) rfl rfl rfl (by decide +kernel) ⟨Nat.le_of_ble_eq_true rfl, Nat.le_of_ble_eq_true rfl⟩) hK hw hA rfl rfl rfl hl.1 rfl (Nat.le_of_ble_eq_true rfl) dX2_loss_10 ⟨Nat.zero_le _, Nat.zero_le _⟩ (fun u H locs hq hw => ?_)
    obtain ⟨ld1, hLD, rfl⟩ := hq
    have hw : y_W D A s0.heap (mW ad cd (nI k) (pz_th P) js je jw ld1) H locs := hw
    refine lv_aload_n hx hb dX2_loss_13 rfl (lv_at hl 0 rfl) ?_
    refine lv_aload_n hx hb dX2_loss_14 rfl (lv_at hl 0 rfl) ?_
    refine m_get hx hb hts hown hK hw rfl 0 (by decide) q204 rfl dX2_loss_15 ?_
    refine y_selfI (q := (RX2, TX2, 6)) (ci := 1) (As := [.int (nI k)]) (rest := []) ⟨hx, hb, hml, hown, hts⟩ (mM_best l D ad cd k P js je jw ld1 k (by have := hJW.1; omega) hJW.2.1 (pz_w20 hJW) hLD) (cwV 1 hts (lw_V q265 q267 qs17 q22 q268) rfl rfl rfl (by decide +kernel) ⟨Nat.le_of_ble_eq_true rfl, Nat.le_of_ble_eq_true rfl⟩) hK hw hA rfl rfl rfl hl.1 rfl (Nat.le_of_ble_eq_true rfl) dX2_loss_18 ⟨Nat.zero_le _, Nat.zero_le _⟩ (fun r u H locs hq hw => ?_)
    obtain ⟨rfl, rfl⟩ := hq
    have hw : y_W D A s0.heap (mW ad cd (nI k) (pz_th P) js je jw ld1) H locs := hw
    refine lv_istore_n (lv' := [(1, .int (nI (pz_BT js je jw P k))), (0, .ref (ad 0))]) hx hb dX2_loss_21 rfl hl (by decide) rfl (fun ls hl => ?_)
    refine lv_aload_n hx hb dX2_loss_22 rfl (lv_at hl 1 rfl) ?_
    refine lv_aload_n hx hb dX2_loss_23 rfl (lv_at hl 1 rfl) ?_
    refine m_get hx hb hts hown hK hw rfl 0 (by decide) q204 rfl dX2_loss_24 ?_
    refine lv_iconst (v := 1) hx hb dX2_loss_27 (by decide) ?_
    refine lv_isub hx hb dX2_loss_28 ?_
    refine y_top (x' := nI (k - 1)) (pz_m1 hk0) ?_
    refine y_selfI (q := (RX2, TX2, 6)) (ci := 1) (As := [.int (nI (k - 1))]) (rest := []) ⟨hx, hb, hml, hown, hts⟩ (mM_best l D ad cd k P js je jw ld1 (k - 1) (by have := hJW.1; omega) hJW.2.1 (pz_w20 hJW) hLD) (cwV 1 hts (lw_V q265 q267 qs17 q22 q268) rfl rfl rfl (by decide +kernel) ⟨Nat.le_of_ble_eq_true rfl, Nat.le_of_ble_eq_true rfl⟩) hK hw hA rfl rfl rfl hl.1 rfl (Nat.le_of_ble_eq_true rfl) dX2_loss_29 ⟨Nat.zero_le _, Nat.zero_le _⟩ (fun r u H locs hq hw => ?_)
    obtain ⟨rfl, rfl⟩ := hq
    have hw : y_W D A s0.heap (mW ad cd (nI k) (pz_th P) js je jw ld1) H locs := hw
    refine lv_istore_n (lv' := [(2, .int (nI (pz_BT js je jw P (k - 1)))), (1, .int (nI (pz_BT js je jw P k))), (0, .ref (ad 0))]) hx hb dX2_loss_32 rfl hl (by decide) rfl (fun ls hl => ?_)
    refine lv_aload_n hx hb dX2_loss_33 rfl (lv_at hl 2 rfl) ?_
    refine lv_iload_n hx hb dX2_loss_34 rfl (lv_at hl 1 rfl) ?_
    refine y_selfI (q := (RX2, TX2, 6)) (ci := 1) (As := [.int (nI (pz_BT js je jw P k))]) (rest := []) ⟨hx, hb, hml, hown, hts⟩ (mM_sum l D ad cd k P js je jw ld1 (pz_BT js je jw P k) (pz_BT_lt _ _ _ _ _)) (cwV 1 hts (lw_V q273 q275 qs19 q22 q276) rfl rfl rfl (by decide +kernel) ⟨Nat.le_of_ble_eq_true rfl, Nat.le_of_ble_eq_true rfl⟩) hK hw hA rfl rfl rfl hl.1 rfl (Nat.le_of_ble_eq_true rfl) dX2_loss_35 ⟨Nat.zero_le _, Nat.zero_le _⟩ (fun r u H locs hq hw => ?_)
    obtain ⟨rfl, rfl⟩ := hq
    have hw : y_W D A s0.heap (mW ad cd (nI k) (pz_th P) js je jw ld1) H locs := hw
    refine lv_aload_n hx hb dX2_loss_38 rfl (lv_at hl 2 rfl) ?_
    refine lv_iload_n hx hb dX2_loss_39 rfl (lv_at hl 0 rfl) ?_
    refine y_selfI (q := (RX2, TX2, 6)) (ci := 1) (As := [.int (nI (pz_BT js je jw P (k - 1)))]) (rest := [.int (nI (pz_su jw (pz_BT js je jw P k) 8))]) ⟨hx, hb, hml, hown, hts⟩ (mM_sum l D ad cd k P js je jw ld1 (pz_BT js je jw P (k - 1)) (pz_BT_lt _ _ _ _ _)) (cwV 1 hts (lw_V q273 q275 qs19 q22 q276) rfl rfl rfl (by decide +kernel) ⟨Nat.le_of_ble_eq_true rfl, Nat.le_of_ble_eq_true rfl⟩) hK hw hA rfl rfl rfl hl.1 rfl (Nat.le_of_ble_eq_true rfl) dX2_loss_40 ⟨Nat.zero_le _, Nat.zero_le _⟩ (fun r u H locs hq hw => ?_)
    obtain ⟨rfl, rfl⟩ := hq
    have hw : y_W D A s0.heap (mW ad cd (nI k) (pz_th P) js je jw ld1) H locs := hw
    refine lv_isub hx hb dX2_loss_43 ?_
    exact y_iret (v := (nI (pz_su jw (pz_BT js je jw P k) 8)) - (nI (pz_su jw (pz_BT js je jw P (k - 1)) 8))) hx hb hr hlocks hK hw rfl (⟨by unfold pz_loss; rw [if_neg hk0], ld1, rfl⟩) dX2_loss_44
  · skip
    have hk0 : k = 0 := (pz_nI0 (by have := hJW.1; omega)).mp c4
    refine lv_iconst (v := (-1)) hx hb dX2_loss_7 (by decide) ?_
    exact y_iret (v := (-1)) hx hb hr hlocks hK hw rfl (⟨by unfold pz_loss; rw [if_pos hk0], ld, rfl⟩) dX2_loss_8
set_option maxHeartbeats 4000000 in
/-- busy(t) -/
theorem mM_busy (l : Launch) (D : va_G) (ad : Nat → Nat) (cd : Nat → ClassId) (k P : Nat) (js je jw : Nat → Nat) (ld : pz_F) (t : Int32) (hJW : pz_JW k P js je jw) : y_MI l yX2_busy cX2_busy 3 .int (y_rm 4 92) D (mT cd) [.ref (ad 0), .int t] (mW ad cd (nI k) (pz_th P) js je jw ld)
    (fun r u => r = pz_busy js je jw P k t ∧ pz_MS ad cd k P js je jw u) := by
  refine y_startI (by decide) (Nat.le_of_ble_eq_true rfl) ?_
  intro p e0 s0 m below meth c A ls hx hb hr hml hown hts hlocks hK hA hw hl
  have hw : y_W D A s0.heap (mW ad cd (nI k) (pz_th P) js je jw ld) s0.heap [] := hw
  have hl : lv_has ls 3 [(0, .ref (ad 0)), (1, .int t)] := hl
  refine lv_aload_n hx hb dX2_busy_0 rfl (lv_at hl 0 rfl) ?_
  refine y_selfI (q := (RX2, TX2, 6)) (ci := 1) (As := []) (rest := []) ⟨hx, hb, hml, hown, hts⟩ (mM_chosen l D ad cd k P js je jw ld hJW) (cwV 0 hts (lw_V q281 q253 q254 q22 q255) rfl rfl rfl (by decide +kernel) ⟨Nat.le_of_ble_eq_true rfl, Nat.le_of_ble_eq_true rfl⟩) hK hw hA rfl rfl rfl hl.1 rfl (Nat.le_of_ble_eq_true rfl) dX2_busy_1 ⟨Nat.zero_le _, Nat.zero_le _⟩ (fun r u H locs hq hw => ?_)
  obtain ⟨rfl, ld1, rfl⟩ := hq
  have hw : y_W D A s0.heap (mW ad cd (nI k) (pz_th P) js je jw ld1) H locs := hw
  refine lv_istore_n (lv' := [(2, .int (nI (pz_BT js je jw P k))), (0, .ref (ad 0)), (1, .int t)]) hx hb dX2_busy_4 rfl hl (by decide) rfl (fun ls hl => ?_)
  refine lv_iload_n hx hb dX2_busy_5 rfl (lv_at hl 2 rfl) ?_
  refine lv_if_lt (tgt := 15) hx hb dX2_busy_6 (by decide) (fun c6 => ?_) (fun c6 => ?_)
  · skip
    refine lv_iconst (v := 0) hx hb dX2_busy_15 (by decide) ?_
    refine lv_goto (tgt := 25) hx hb dX2_busy_16 (by decide) ?_
    exact y_iret (v := 0) hx hb hr hlocks hK hw rfl (⟨by unfold pz_busy; rw [if_pos (Or.inl c6)], ld1, rfl⟩) dX2_busy_25
  · skip
    refine lv_iload_n hx hb dX2_busy_9 rfl (lv_at hl 2 rfl) ?_
    refine lv_bipush (v := 15) hx hb dX2_busy_10 (by decide) ?_
    refine lv_icmp_le (tgt := 19) hx hb dX2_busy_12 (by decide) (fun c12 => ?_) (fun c12 => ?_)
    · skip
      have hlt : t < 16 := by rw [Int32.le_iff_toInt_le] at c12; rw [Int32.lt_iff_toInt_lt]; exact Int.lt_of_le_of_lt c12 (by decide)
      obtain ⟨T0, eT, hT0⟩ := pz_by_ok c6 hlt
      refine lv_aload_n hx hb dX2_busy_19 rfl (lv_at hl 1 rfl) ?_
      refine lv_iload_n hx hb dX2_busy_20 rfl (lv_at hl 0 rfl) ?_
      refine lv_iload_n hx hb dX2_busy_21 rfl (lv_at hl 2 rfl) ?_
      refine y_top (x' := nI T0) eT ?_
      refine y_selfI (q := (RX2, TX2, 6)) (ci := 1) (As := [.int (nI (pz_BT js je jw P k)), .int (nI T0)]) (rest := []) ⟨hx, hb, hml, hown, hts⟩ (mM_at l D ad cd k P js je jw ld1 (pz_BT js je jw P k) T0 (pz_BT_lt _ _ _ _ _) hT0 hJW.2.2.1) (cwV 2 hts (lw_V q261 q263 qs16 q22 q264) rfl rfl rfl (by decide +kernel) ⟨Nat.le_of_ble_eq_true rfl, Nat.le_of_ble_eq_true rfl⟩) hK hw hA rfl rfl rfl hl.1 rfl (Nat.le_of_ble_eq_true rfl) dX2_busy_22 ⟨Nat.zero_le _, Nat.zero_le _⟩ (fun r u H locs hq hw => ?_)
      obtain ⟨rfl, rfl⟩ := hq
      have hw : y_W D A s0.heap (mW ad cd (nI k) (pz_th P) js je jw ld1) H locs := hw
      exact y_iret (v := nI (pz_cw js je (pz_BT js je jw P k) T0 8)) hx hb hr hlocks hK hw rfl (⟨by rw [eT]; exact pz_busy_in hT0, ld1, rfl⟩) dX2_busy_25
    · skip
      have hge : ¬ t < 16 := by rw [Int32.le_iff_toInt_le, show (15 : Int32).toInt = 15 from rfl] at c12; rw [Int32.lt_iff_toInt_lt, show (16 : Int32).toInt = 16 from rfl]; omega
      refine lv_iconst (v := 0) hx hb dX2_busy_15 (by decide) ?_
      refine lv_goto (tgt := 25) hx hb dX2_busy_16 (by decide) ?_
      exact y_iret (v := 0) hx hb hr hlocks hK hw rfl (⟨by unfold pz_busy; rw [if_pos (Or.inr hge)], ld1, rfl⟩) dX2_busy_25
set_option maxHeartbeats 4000000 in
/-- totalWith(must, never) -/
theorem mM_totalWith (l : Launch) (D : va_G) (ad : Nat → Nat) (cd : Nat → ClassId) (k P : Nat) (js je jw : Nat → Nat) (ld : pz_F) (a b : Nat) (hJW : pz_JW k P js je jw) : y_MI l yX2_totalWith cX2_totalWith 7 .int (y_rm 2 48) D (mT cd) [.ref (ad 0), .int (nI a), .int (nI b)] (mW ad cd (nI k) (pz_th P) js je jw ld)
    (fun r u => pz_TW js je jw P k a b r ∧ pz_MS ad cd k P js je jw u) := by
  refine y_startI (by decide) (Nat.le_of_ble_eq_true rfl) ?_
  intro p e0 s0 m below meth c A ls hx hb hr hml hown hts hlocks hK hA hw hl
  have hw : y_W D A s0.heap (mW ad cd (nI k) (pz_th P) js je jw ld) s0.heap [] := hw
  have hl : lv_has ls 7 [(0, .ref (ad 0)), (1, .int (nI a)), (2, .int (nI b))] := hl
  refine lv_aload_n hx hb dX2_totalWith_0 rfl (lv_at hl 0 rfl) ?_
  refine y_selfV (q := (RX2, TX2, 6)) (ci := 1) (As := []) (rest := []) ⟨hx, hb, hml, hown, hts⟩ (mM_work l D ad cd k P js je jw ld hJW.2.1 hJW.2.2.1) (cwV 0 hts (lw_V q256 q258 qs15 q22 q259) rfl rfl rfl (by decide +kernel) ⟨Nat.le_of_ble_eq_true rfl, Nat.le_of_ble_eq_true rfl⟩) hK hw hA rfl rfl rfl hl.1 rfl (Nat.le_of_ble_eq_true rfl) dX2_totalWith_1 ⟨Nat.zero_le _, Nat.zero_le _⟩ (fun u H locs hq hw => ?_)
  obtain ⟨ld1, hLD, rfl⟩ := hq
  have hw : y_W D A s0.heap (mW ad cd (nI k) (pz_th P) js je jw ld1) H locs := hw
  refine lv_aload_n hx hb dX2_totalWith_4 rfl (lv_at hl 0 rfl) ?_
  refine y_selfI (q := (RX2, TX2, 6)) (ci := 1) (As := []) (rest := []) ⟨hx, hb, hml, hown, hts⟩ (mM_jobs l D ad cd k P js je jw ld1 hJW.2.1) (cwV 0 hts (lw_V q260 q249 q250 q22 q251) rfl rfl rfl (by decide +kernel) ⟨Nat.le_of_ble_eq_true rfl, Nat.le_of_ble_eq_true rfl⟩) hK hw hA rfl rfl rfl hl.1 rfl (Nat.le_of_ble_eq_true rfl) dX2_totalWith_5 ⟨Nat.zero_le _, Nat.zero_le _⟩ (fun r u H locs hq hw => ?_)
  obtain ⟨rfl, rfl⟩ := hq
  have hw : y_W D A s0.heap (mW ad cd (nI k) (pz_th P) js je jw ld1) H locs := hw
  refine lv_istore_n (lv' := [(3, .int (nI P)), (0, .ref (ad 0)), (1, .int (nI a)), (2, .int (nI b))]) hx hb dX2_totalWith_8 rfl hl (by decide) rfl (fun ls hl => ?_)
  refine lv_iconst (v := (-1)) hx hb dX2_totalWith_9 (by decide) ?_
  refine y_top (x' := pz_mo js je jw P k a b 0) rfl ?_
  refine lv_istore (lv' := [(4, .int (pz_mo js je jw P k a b 0)), (3, .int (nI P)), (0, .ref (ad 0)), (1, .int (nI a)), (2, .int (nI b))]) hx hb dX2_totalWith_10 hl (by decide) rfl (fun ls hl => ?_)
  refine lv_iconst (v := nI 0) hx hb dX2_totalWith_12 (by decide) ?_
  refine lv_istore (lv' := [(5, .int (nI 0)), (4, .int (pz_mo js je jw P k a b 0)), (3, .int (nI P)), (0, .ref (ad 0)), (1, .int (nI a)), (2, .int (nI b))]) hx hb dX2_totalWith_13 hl (by decide) rfl (fun ls hl => ?_)
  refine y_for 15 7 256 0 (fun i => mW ad cd (nI k) (pz_th P) js je jw ld1) (fun i => [(0, .ref (ad 0)), (1, .int (nI a)), (2, .int (nI b)), (3, .int (nI P)), (4, .int (pz_mo js je jw P k a b i)), (5, .int (nI i))]) (fun i => True) (Nat.le_of_ble_eq_true rfl) trivial hw (lv_sub hl [3, 4, 5, 2, 1, 0] rfl) ?_ ?_
  · intro i hi hI15 H locs ls hw hl ih15
    have hw : y_W D A s0.heap (mW ad cd (nI k) (pz_th P) js je jw ld1) H locs := hw
    have hl : lv_has ls 7 [(0, .ref (ad 0)), (1, .int (nI a)), (2, .int (nI b)), (3, .int (nI P)), (4, .int (pz_mo js je jw P k a b i)), (5, .int (nI i))] := hl
    refine lv_iload hx hb dX2_totalWith_15 (lv_at hl 5 rfl) ?_
    refine lv_sipush (v := 256) hx hb dX2_totalWith_17 (by decide) ?_
    refine lv_icmp_ge (tgt := 94) hx hb dX2_totalWith_20 (by decide) (fun c9 => absurd c9 (y_ge hi)) (fun _ => ?_)
    refine lv_iload hx hb dX2_totalWith_23 (lv_at hl 5 rfl) ?_
    refine lv_iload_n hx hb dX2_totalWith_25 rfl (lv_at hl 3 rfl) ?_
    refine lv_iconst (v := (-1)) hx hb dX2_totalWith_26 (by decide) ?_
    refine lv_ixor hx hb dX2_totalWith_27 ?_
    refine lv_iand hx hb dX2_totalWith_28 ?_
    refine lv_if_ne (tgt := 88) hx hb dX2_totalWith_29 (by decide) (fun c29 => ?_) (fun c29 => ?_)
    · skip
      refine lv_iinc (v := nI (i + 1)) (lv' := [(5, .int (nI (i + 1))), (0, .ref (ad 0)), (1, .int (nI a)), (2, .int (nI b)), (3, .int (nI P)), (4, .int (pz_mo js je jw P k a b i))]) hx hb dX2_totalWith_88 hl (k := 5) rfl (nI_1 _) (by decide) rfl (fun ls hl => ?_)
      refine lv_goto (tgt := 15) hx hb dX2_totalWith_91 (by decide) ?_
      have e1 : pz_mo js je jw P k a b i = pz_mo js je jw P k a b (i + 1) := pz_mo_n (fun z => c29 z.1)
      rw [e1] at hl
      exact ih15 trivial _ _ _ hw (lv_sub hl [1, 2, 3, 4, 5, 0] rfl)
    · skip
      have hsb : pz_sb i P := (pz_sb_cm hi).mp c29
      refine lv_aload_n hx hb dX2_totalWith_32 rfl (lv_at hl 0 rfl) ?_
      refine m_get hx hb hts hown hK hw rfl 5 (by decide) q209 rfl dX2_totalWith_33 ?_
      refine lv_iload hx hb dX2_totalWith_36 (lv_at hl 5 rfl) ?_
      refine y_iald hx hb hK hw 5 4 i rfl rfl rfl hi (by decide) dX2_totalWith_38 ?_
      refine y_top (x' := nI (pz_gc js je i 16)) (pz_LD_gc hLD hi hsb) ?_
      refine lv_aload_n hx hb dX2_totalWith_39 rfl (lv_at hl 0 rfl) ?_
      refine m_get hx hb hts hown hK hw rfl 0 (by decide) q204 rfl dX2_totalWith_40 ?_
      refine lv_icmp_gt (tgt := 88) hx hb dX2_totalWith_43 (by decide) (fun c43 => ?_) (fun c43 => ?_)
      · skip
        have hgt := (pz_gt (by have := hJW.1; omega)).mp c43
        refine lv_iinc (v := nI (i + 1)) (lv' := [(5, .int (nI (i + 1))), (0, .ref (ad 0)), (1, .int (nI a)), (2, .int (nI b)), (3, .int (nI P)), (4, .int (pz_mo js je jw P k a b i))]) hx hb dX2_totalWith_88 hl (k := 5) rfl (nI_1 _) (by decide) rfl (fun ls hl => ?_)
        refine lv_goto (tgt := 15) hx hb dX2_totalWith_91 (by decide) ?_
        have e1 : pz_mo js je jw P k a b i = pz_mo js je jw P k a b (i + 1) := pz_mo_n (fun z => absurd z.2.1 (by omega))
        rw [e1] at hl
        exact ih15 trivial _ _ _ hw (lv_sub hl [1, 2, 3, 4, 5, 0] rfl)
      · skip
        have hgt := Nat.le_of_not_lt (fun z => c43 ((pz_gt (by have := hJW.1; omega)).mpr z))
        refine lv_iload_n hx hb dX2_totalWith_46 rfl (lv_at hl 1 rfl) ?_
        refine lv_iload_n hx hb dX2_totalWith_47 rfl (lv_at hl 3 rfl) ?_
        refine lv_iand hx hb dX2_totalWith_48 ?_
        refine y_top (x' := nI (a &&& P)) (nx_and a P) ?_
        refine lv_iload hx hb dX2_totalWith_49 (lv_at hl 5 rfl) ?_
        refine lv_iconst (v := (-1)) hx hb dX2_totalWith_51 (by decide) ?_
        refine lv_ixor hx hb dX2_totalWith_52 ?_
        refine lv_iand hx hb dX2_totalWith_53 ?_
        refine lv_if_ne (tgt := 88) hx hb dX2_totalWith_54 (by decide) (fun c54 => ?_) (fun c54 => ?_)
        · skip
          refine lv_iinc (v := nI (i + 1)) (lv' := [(5, .int (nI (i + 1))), (0, .ref (ad 0)), (1, .int (nI a)), (2, .int (nI b)), (3, .int (nI P)), (4, .int (pz_mo js je jw P k a b i))]) hx hb dX2_totalWith_88 hl (k := 5) rfl (nI_1 _) (by decide) rfl (fun ls hl => ?_)
          refine lv_goto (tgt := 15) hx hb dX2_totalWith_91 (by decide) ?_
          have e1 : pz_mo js je jw P k a b i = pz_mo js je jw P k a b (i + 1) := pz_mo_n (fun z => c54 z.2.2.1)
          rw [e1] at hl
          exact ih15 trivial _ _ _ hw (lv_sub hl [1, 2, 3, 4, 5, 0] rfl)
        · skip
          refine lv_iload_n hx hb dX2_totalWith_57 rfl (lv_at hl 2 rfl) ?_
          refine lv_iload hx hb dX2_totalWith_58 (lv_at hl 5 rfl) ?_
          refine lv_iand hx hb dX2_totalWith_60 ?_
          refine lv_if_ne (tgt := 88) hx hb dX2_totalWith_61 (by decide) (fun c61 => ?_) (fun c61 => ?_)
          · skip
            refine lv_iinc (v := nI (i + 1)) (lv' := [(5, .int (nI (i + 1))), (0, .ref (ad 0)), (1, .int (nI a)), (2, .int (nI b)), (3, .int (nI P)), (4, .int (pz_mo js je jw P k a b i))]) hx hb dX2_totalWith_88 hl (k := 5) rfl (nI_1 _) (by decide) rfl (fun ls hl => ?_)
            refine lv_goto (tgt := 15) hx hb dX2_totalWith_91 (by decide) ?_
            have e1 : pz_mo js je jw P k a b i = pz_mo js je jw P k a b (i + 1) := pz_mo_n (fun z => c61 z.2.2.2)
            rw [e1] at hl
            exact ih15 trivial _ _ _ hw (lv_sub hl [1, 2, 3, 4, 5, 0] rfl)
          · skip
            refine lv_aload_n hx hb dX2_totalWith_64 rfl (lv_at hl 0 rfl) ?_
            refine lv_iload hx hb dX2_totalWith_65 (lv_at hl 5 rfl) ?_
            refine y_selfI (q := (RX2, TX2, 6)) (ci := 1) (As := [.int (nI i)]) (rest := []) ⟨hx, hb, hml, hown, hts⟩ (mM_sum l D ad cd k P js je jw ld1 i hi) (cwV 1 hts (lw_V q273 q275 qs19 q22 q276) rfl rfl rfl (by decide +kernel) ⟨Nat.le_of_ble_eq_true rfl, Nat.le_of_ble_eq_true rfl⟩) hK hw hA rfl rfl rfl hl.1 rfl (Nat.le_of_ble_eq_true rfl) dX2_totalWith_67 ⟨Nat.zero_le _, Nat.zero_le _⟩ (fun r u H locs hq hw => ?_)
            obtain ⟨rfl, rfl⟩ := hq
            have hw : y_W D A s0.heap (mW ad cd (nI k) (pz_th P) js je jw ld1) H locs := hw
            refine lv_istore (lv' := [(6, .int (nI (pz_su jw i 8))), (0, .ref (ad 0)), (1, .int (nI a)), (2, .int (nI b)), (3, .int (nI P)), (4, .int (pz_mo js je jw P k a b i)), (5, .int (nI i))]) hx hb dX2_totalWith_70 hl (by decide) rfl (fun ls hl => ?_)
            refine lv_iload hx hb dX2_totalWith_72 (lv_at hl 0 rfl) ?_
            refine lv_iload hx hb dX2_totalWith_74 (lv_at hl 5 rfl) ?_
            refine lv_icmp_le (tgt := 84) hx hb dX2_totalWith_76 (by decide) (fun c76 => ?_) (fun c76 => ?_)
            · skip
              refine lv_iload hx hb dX2_totalWith_84 (lv_at hl 5 rfl) ?_
              refine y_top (x' := pz_mo js je jw P k a b (i + 1)) (pz_mo_1 ⟨c29, hgt, c54, c61⟩ c76) ?_
              refine lv_istore (lv' := [(4, .int (pz_mo js je jw P k a b (i + 1))), (6, .int (nI (pz_su jw i 8))), (0, .ref (ad 0)), (1, .int (nI a)), (2, .int (nI b)), (3, .int (nI P)), (5, .int (nI i))]) hx hb dX2_totalWith_86 hl (by decide) rfl (fun ls hl => ?_)
              refine lv_iinc (v := nI (i + 1)) (lv' := [(5, .int (nI (i + 1))), (4, .int (pz_mo js je jw P k a b (i + 1))), (6, .int (nI (pz_su jw i 8))), (0, .ref (ad 0)), (1, .int (nI a)), (2, .int (nI b)), (3, .int (nI P))]) hx hb dX2_totalWith_88 hl (k := 6) rfl (nI_1 _) (by decide) rfl (fun ls hl => ?_)
              refine lv_goto (tgt := 15) hx hb dX2_totalWith_91 (by decide) ?_
              exact ih15 trivial _ _ _ hw (lv_sub hl [3, 4, 5, 6, 1, 0] rfl)
            · skip
              refine lv_iload hx hb dX2_totalWith_79 (lv_at hl 0 rfl) ?_
              refine y_top (x' := pz_mo js je jw P k a b (i + 1)) (pz_mo_2 ⟨c29, hgt, c54, c61⟩ c76) ?_
              refine lv_goto (tgt := 86) hx hb dX2_totalWith_81 (by decide) ?_
              refine lv_istore (lv' := [(4, .int (pz_mo js je jw P k a b (i + 1))), (6, .int (nI (pz_su jw i 8))), (0, .ref (ad 0)), (1, .int (nI a)), (2, .int (nI b)), (3, .int (nI P)), (5, .int (nI i))]) hx hb dX2_totalWith_86 hl (by decide) rfl (fun ls hl => ?_)
              refine lv_iinc (v := nI (i + 1)) (lv' := [(5, .int (nI (i + 1))), (4, .int (pz_mo js je jw P k a b (i + 1))), (6, .int (nI (pz_su jw i 8))), (0, .ref (ad 0)), (1, .int (nI a)), (2, .int (nI b)), (3, .int (nI P))]) hx hb dX2_totalWith_88 hl (k := 6) rfl (nI_1 _) (by decide) rfl (fun ls hl => ?_)
              refine lv_goto (tgt := 15) hx hb dX2_totalWith_91 (by decide) ?_
              exact ih15 trivial _ _ _ hw (lv_sub hl [3, 4, 5, 6, 1, 0] rfl)
  · intro hI15 H locs ls hw hl
    have hw : y_W D A s0.heap (mW ad cd (nI k) (pz_th P) js je jw ld1) H locs := hw
    have hl : lv_has ls 7 [(0, .ref (ad 0)), (1, .int (nI a)), (2, .int (nI b)), (3, .int (nI P)), (4, .int (pz_mo js je jw P k a b 256)), (5, .int (nI 256))] := hl
    refine lv_iload hx hb dX2_totalWith_15 (lv_at hl 5 rfl) ?_
    refine lv_sipush (v := 256) hx hb dX2_totalWith_17 (by decide) ?_
    refine lv_icmp_ge (tgt := 94) hx hb dX2_totalWith_20 (by decide) (fun _ => ?_) (fun c9 => absurd (y_le (a := 256)) c9)
    refine lv_iload hx hb dX2_totalWith_94 (lv_at hl 4 rfl) ?_
    exact y_iret (v := pz_mo js je jw P k a b 256) hx hb hr hlocks hK hw rfl (⟨pz_mo_TW hJW.2.1 (pz_w20 hJW), ld1, rfl⟩) dX2_totalWith_96
set_option maxHeartbeats 4000000 in
/-- price(j) -/
theorem mM_price (l : Launch) (D : va_G) (ad : Nat → Nat) (cd : Nat → ClassId) (k P : Nat) (js je jw : Nat → Nat) (ld : pz_F) (j : Int32) (hJW : pz_JW k P js je jw) : y_MI l yX2_price cX2_price 5 .int (y_rm 3 72) D (mT cd) [.ref (ad 0), .int j] (mW ad cd (nI k) (pz_th P) js je jw ld)
    (fun r u => (pz_has P j = 0 → r = -1) ∧ (∀ q, q < 8 → j = nI q → P.testBit q = true → pz_PR js je jw P k q r) ∧ pz_MS ad cd k P js je jw u) := by
  refine y_startI (by decide) (Nat.le_of_ble_eq_true rfl) ?_
  intro p e0 s0 m below meth c A ls hx hb hr hml hown hts hlocks hK hA hw hl
  have hw : y_W D A s0.heap (mW ad cd (nI k) (pz_th P) js je jw ld) s0.heap [] := hw
  have hl : lv_has ls 5 [(0, .ref (ad 0)), (1, .int j)] := hl
  refine lv_aload_n hx hb dX2_price_0 rfl (lv_at hl 0 rfl) ?_
  refine lv_iload_n hx hb dX2_price_1 rfl (lv_at hl 1 rfl) ?_
  refine y_selfI (q := (RX2, TX2, 6)) (ci := 1) (As := [.int j]) (rest := []) ⟨hx, hb, hml, hown, hts⟩ (mM_is l D ad cd k P js je jw ld j) (cwV 1 hts (lw_V q232 q234 qs14 q22 q235) rfl rfl rfl (by decide +kernel) ⟨Nat.le_of_ble_eq_true rfl, Nat.le_of_ble_eq_true rfl⟩) hK hw hA rfl rfl rfl hl.1 rfl (Nat.le_of_ble_eq_true rfl) dX2_price_2 ⟨Nat.zero_le _, Nat.zero_le _⟩ (fun r u H locs hq hw => ?_)
  obtain ⟨rfl, rfl⟩ := hq
  have hw : y_W D A s0.heap (mW ad cd (nI k) (pz_th P) js je jw ld) H locs := hw
  refine lv_if_ne (tgt := 10) hx hb dX2_price_5 (by decide) (fun c5 => ?_) (fun c5 => ?_)
  · skip
    obtain ⟨q, hq8, ej, hbit⟩ := pz_has_yes c5
    refine lv_aload_n hx hb dX2_price_10 rfl (lv_at hl 0 rfl) ?_
    refine y_selfV (q := (RX2, TX2, 6)) (ci := 1) (As := []) (rest := []) ⟨hx, hb, hml, hown, hts⟩ (mM_work l D ad cd k P js je jw ld hJW.2.1 hJW.2.2.1) (cwV 0 hts (lw_V q256 q258 qs15 q22 q259) rfl rfl rfl (by decide +kernel) ⟨Nat.le_of_ble_eq_true rfl, Nat.le_of_ble_eq_true rfl⟩) hK hw hA rfl rfl rfl hl.1 rfl (Nat.le_of_ble_eq_true rfl) dX2_price_11 ⟨Nat.zero_le _, Nat.zero_le _⟩ (fun u H locs hq hw => ?_)
    obtain ⟨ld1, hLD, rfl⟩ := hq
    have hw : y_W D A s0.heap (mW ad cd (nI k) (pz_th P) js je jw ld1) H locs := hw
    refine lv_aload_n hx hb dX2_price_14 rfl (lv_at hl 0 rfl) ?_
    refine m_get hx hb hts hown hK hw rfl 4 (by decide) q208 rfl dX2_price_15 ?_
    refine lv_iload_n hx hb dX2_price_18 rfl (lv_at hl 1 rfl) ?_
    refine y_iald hx hb hK hw 4 3 q rfl rfl ej hq8 (by decide) dX2_price_19 ?_
    refine lv_istore_n (lv' := [(2, .int (nI (jw q))), (0, .ref (ad 0)), (1, .int j)]) hx hb dX2_price_20 rfl hl (by decide) rfl (fun ls hl => ?_)
    refine lv_bipush (v := 21) hx hb dX2_price_21 (by decide) ?_
    refine y_top (x' := nI (pz_lp js je jw P k q 0)) rfl ?_
    refine lv_istore_n (lv' := [(3, .int (nI (pz_lp js je jw P k q 0))), (2, .int (nI (jw q))), (0, .ref (ad 0)), (1, .int j)]) hx hb dX2_price_23 rfl hl (by decide) rfl (fun ls hl => ?_)
    refine lv_bipush (v := nI (20 - 0)) hx hb dX2_price_24 (by decide) ?_
    refine lv_istore (lv' := [(4, .int (nI (20 - 0))), (3, .int (nI (pz_lp js je jw P k q 0))), (2, .int (nI (jw q))), (0, .ref (ad 0)), (1, .int j)]) hx hb dX2_price_26 hl (by decide) rfl (fun ls hl => ?_)
    refine y_for 28 5 20 0 (fun c0 => mW ad cd (nI k) (pz_th P) js je (pz_pw jw q c0) ld1) (fun c0 => [(0, .ref (ad 0)), (1, .int j), (2, .int (nI (jw q))), (3, .int (nI (pz_lp js je jw P k q c0))), (4, .int (nI (20 - c0)))]) (fun c0 => True) (Nat.le_of_ble_eq_true rfl) trivial hw (lv_sub hl [3, 4, 2, 1, 0] rfl) ?_ ?_
    · intro c0 hc0 hI28 H locs ls hw hl ih28
      have hw : y_W D A s0.heap (mW ad cd (nI k) (pz_th P) js je (pz_pw jw q c0) ld1) H locs := hw
      have hl : lv_has ls 5 [(0, .ref (ad 0)), (1, .int j), (2, .int (nI (jw q))), (3, .int (nI (pz_lp js je jw P k q c0))), (4, .int (nI (20 - c0)))] := hl
      refine lv_iload hx hb dX2_price_28 (lv_at hl 4 rfl) ?_
      refine lv_iconst (v := 1) hx hb dX2_price_30 (by decide) ?_
      refine lv_icmp_lt (tgt := 71) hx hb dX2_price_31 (by decide) (fun c9 => absurd c9 (nI_nlt (b := 1) (by omega) (by omega))) (fun _ => ?_)
      refine lv_aload_n hx hb dX2_price_34 rfl (lv_at hl 0 rfl) ?_
      refine m_get hx hb hts hown hK hw rfl 4 (by decide) q208 rfl dX2_price_35 ?_
      refine lv_iload_n hx hb dX2_price_38 rfl (lv_at hl 1 rfl) ?_
      refine lv_iload hx hb dX2_price_39 (lv_at hl 4 rfl) ?_
      refine y_iast (ws' := mW ad cd (nI k) (pz_th P) js je (va_up jw q (20 - c0)) ld1) hx hb hK hw 4 3 q rfl rfl ej hq8 (by decide) (mW_jw.trans (by rw [pz_pw_up])) dX2_price_41 (fun H locs hw => ?_)
      refine lv_aload_n hx hb dX2_price_42 rfl (lv_at hl 0 rfl) ?_
      refine lv_aload_n hx hb dX2_price_43 rfl (lv_at hl 0 rfl) ?_
      refine m_get hx hb hts hown hK hw rfl 0 (by decide) q204 rfl dX2_price_44 ?_
      refine y_selfI (q := (RX2, TX2, 6)) (ci := 1) (As := [.int (nI k)]) (rest := []) ⟨hx, hb, hml, hown, hts⟩ (mM_best l D ad cd k P js je (va_up jw q (20 - c0)) ld1 k (by have := hJW.1; omega) hJW.2.1 (pz_up20 (pz_w20 hJW) (by omega)) hLD) (cwV 1 hts (lw_V q265 q267 qs17 q22 q268) rfl rfl rfl (by decide +kernel) ⟨Nat.le_of_ble_eq_true rfl, Nat.le_of_ble_eq_true rfl⟩) hK hw hA rfl rfl rfl hl.1 rfl (Nat.le_of_ble_eq_true rfl) dX2_price_47 ⟨Nat.zero_le _, Nat.zero_le _⟩ (fun r u H locs hq hw => ?_)
      obtain ⟨rfl, rfl⟩ := hq
      have hw : y_W D A s0.heap (mW ad cd (nI k) (pz_th P) js je (va_up jw q (20 - c0)) ld1) H locs := hw
      refine lv_iload_n hx hb dX2_price_50 rfl (lv_at hl 1 rfl) ?_
      refine lv_ishr hx hb dX2_price_51 ?_
      refine lv_iconst (v := 1) hx hb dX2_price_52 (by decide) ?_
      refine lv_iand hx hb dX2_price_53 ?_
      refine lv_iconst (v := 1) hx hb dX2_price_54 (by decide) ?_
      refine lv_icmp_ne (tgt := 63) hx hb dX2_price_55 (by decide) (fun c55 => ?_) (fun c55 => ?_)
      · skip
        rw [ej] at c55
        have hbB := pz_b1f (pz_BT_lt _ _ _ _ _) hq8 c55
        refine lv_iload_n hx hb dX2_price_63 rfl (lv_at hl 3 rfl) ?_
        refine y_top (x' := nI (pz_lp js je jw P k q (c0 + 1))) (pz_lp_f hbB) ?_
        refine lv_istore_n (lv' := [(3, .int (nI (pz_lp js je jw P k q (c0 + 1)))), (0, .ref (ad 0)), (1, .int j), (2, .int (nI (jw q))), (4, .int (nI (20 - c0)))]) hx hb dX2_price_64 rfl hl (by decide) rfl (fun ls hl => ?_)
        refine lv_iinc (v := nI (20 - (c0 + 1))) (lv' := [(4, .int (nI (20 - (c0 + 1)))), (3, .int (nI (pz_lp js je jw P k q (c0 + 1)))), (0, .ref (ad 0)), (1, .int j), (2, .int (nI (jw q)))]) hx hb dX2_price_65 hl (k := 4) rfl (pz_m1' (by omega)) (by decide) rfl (fun ls hl => ?_)
        refine lv_goto (tgt := 28) hx hb dX2_price_68 (by decide) ?_
        exact ih28 trivial _ _ _ hw (lv_sub hl [2, 3, 4, 1, 0] rfl)
      · skip
        rw [ej] at c55
        have hbB := (pz_b1 _ (pz_BT_lt _ _ _ _ _) q hq8).mp c55
        refine lv_iload hx hb dX2_price_58 (lv_at hl 4 rfl) ?_
        refine y_top (x' := nI (pz_lp js je jw P k q (c0 + 1))) (pz_lp_t hbB) ?_
        refine lv_goto (tgt := 64) hx hb dX2_price_60 (by decide) ?_
        refine lv_istore_n (lv' := [(3, .int (nI (pz_lp js je jw P k q (c0 + 1)))), (0, .ref (ad 0)), (1, .int j), (2, .int (nI (jw q))), (4, .int (nI (20 - c0)))]) hx hb dX2_price_64 rfl hl (by decide) rfl (fun ls hl => ?_)
        refine lv_iinc (v := nI (20 - (c0 + 1))) (lv' := [(4, .int (nI (20 - (c0 + 1)))), (3, .int (nI (pz_lp js je jw P k q (c0 + 1)))), (0, .ref (ad 0)), (1, .int j), (2, .int (nI (jw q)))]) hx hb dX2_price_65 hl (k := 4) rfl (pz_m1' (by omega)) (by decide) rfl (fun ls hl => ?_)
        refine lv_goto (tgt := 28) hx hb dX2_price_68 (by decide) ?_
        exact ih28 trivial _ _ _ hw (lv_sub hl [2, 3, 4, 1, 0] rfl)
    · intro hI28 H locs ls hw hl
      have hw : y_W D A s0.heap (mW ad cd (nI k) (pz_th P) js je (pz_pw jw q 20) ld1) H locs := hw
      have hl : lv_has ls 5 [(0, .ref (ad 0)), (1, .int j), (2, .int (nI (jw q))), (3, .int (nI (pz_lp js je jw P k q 20))), (4, .int (nI (20 - 20)))] := hl
      refine lv_iload hx hb dX2_price_28 (lv_at hl 4 rfl) ?_
      refine lv_iconst (v := 1) hx hb dX2_price_30 (by decide) ?_
      refine lv_icmp_lt (tgt := 71) hx hb dX2_price_31 (by decide) (fun _ => ?_) (fun c9 => absurd (nI_lt (a := 0) (b := 1) (by decide) (by decide)) c9)
      refine lv_aload_n hx hb dX2_price_71 rfl (lv_at hl 0 rfl) ?_
      refine m_get hx hb hts hown hK hw rfl 4 (by decide) q208 rfl dX2_price_72 ?_
      refine lv_iload_n hx hb dX2_price_75 rfl (lv_at hl 1 rfl) ?_
      refine lv_iload_n hx hb dX2_price_76 rfl (lv_at hl 2 rfl) ?_
      refine y_iast (ws' := mW ad cd (nI k) (pz_th P) js je jw ld1) hx hb hK hw 4 3 q rfl rfl ej hq8 (by decide) (mW_jw.trans (by rw [pz_pw_up, pz_up_self])) dX2_price_77 (fun H locs hw => ?_)
      refine lv_iload_n hx hb dX2_price_78 rfl (lv_at hl 3 rfl) ?_
      exact y_iret (v := nI (pz_lp js je jw P k q 20)) hx hb hr hlocks hK hw rfl (⟨fun z => absurd z c5, fun q' hq' e' hb' => (by have eq' : q' = q := pz_nI_inj (by omega) (by omega) (e'.symm.trans ej); subst eq'; exact pz_lp_PR js je jw P k q'), ld1, rfl⟩) dX2_price_79
  · skip
    refine lv_iconst (v := (-1)) hx hb dX2_price_8 (by decide) ?_
    exact y_iret (v := (-1)) hx hb hr hlocks hK hw rfl (⟨fun _ => rfl, fun q hq e hb => absurd c5 (by rw [e]; exact pz_has_n0 hq hb), ld, rfl⟩) dX2_price_9
end
section
/-! the constructors, cell (printed by gen/walks5.py) -/
def pz_clip (x : Int32) : Nat := if x < 0 then 0 else if x ≤ 4 then x.toNatClampNeg else 4
theorem pz_clip_le (x : Int32) : pz_clip x ≤ 4 := by
  unfold pz_clip
  split
  · omega
  · split
    · rename_i h1 h2
      have := Int32.toNatClampNeg_le h2
      have h4 : (4 : Int32).toNatClampNeg = 4 := rfl
      omega
    · omega
theorem pz_clip_0 {x : Int32} (h : ¬ 0 ≤ x) : 0 = nI (pz_clip x) := by
  unfold pz_clip
  rw [if_pos (Int32.not_le.mp h)]
  rfl
theorem pz_clip_4 {x : Int32} (h : 0 ≤ x) (h2 : ¬ x ≤ 4) : 4 = nI (pz_clip x) := by
  unfold pz_clip
  rw [if_neg (Int32.not_lt.mpr h), if_neg h2]
  rfl
theorem pz_clip_x {x : Int32} (h : 0 ≤ x) (h2 : x ≤ 4) : x = nI (pz_clip x) := by
  obtain ⟨C, e, hC⟩ := pz_st_ok (Int32.not_lt.mpr h) (Int32.not_lt.mpr h2)
  unfold pz_clip
  rw [if_neg (Int32.not_lt.mpr h), if_pos h2, e, nI_clamp (by omega)]
abbrev pz_n0 : Nat → Nat := fun _ => 0
abbrev pz_f0 : pz_F := fun _ => 0
def xF0 : List Value := [.int 0, .int 0, .null, .null, .null, .null, .int 0, .int 0, .null, .null, .null, .int 0, .int 0]
def mF0 : List Value := [.int 0, .null, .null, .null, .null, .null]
set_option maxHeartbeats 4000000 in
theorem mX_init (l : Launch) (D : va_G) (h0 sz : Nat) (x : Int32) : Met l yX1_init (ws_ yX1_init cX1_init 2 none) ({ frames := 1, cells := 7, slots := 82, locals := 12 }) (va_Pc [.ref h0, .int x] (y_Pre D [] [(h0, .inr (0, xF0))] sz))
    (va_Qv (fun z : (Nat → Nat) × (Nat → ClassId) => z.1 0 = h0) (fun z t => va_P D y_cl (xW z.1 z.2 (nI (pz_clip x)) 0 0 0 0 0 pz_n0 pz_n0 pz_n0 pz_f0 pz_f0 pz_f0 pz_f0) t.heap ∧ va_K D y_cl (xT z.2) t ∧ va_D (va_A [(h0, .inr (0, xF0))] sz) (xW z.1 z.2 (nI (pz_clip x)) 0 0 0 0 0 pz_n0 pz_n0 pz_n0 pz_f0 pz_f0 pz_f0 pz_f0)) (va_A [(h0, .inr (0, xF0))] sz)) 7 82 (va_A [(h0, .inr (0, xF0))] sz) := by
  refine Met.ofW (cc := cX1_init) (maxL := 2) (ret := none) (by decide) rfl ?_
  intro p e s m args below meth c s₁ B hml hv
  obtain ⟨rfl, hsz, hP, hK, hD0⟩ := hv
  have hx := B.exec
  have hb := B.bytes
  have hr := B.returns
  have hts := atoms_spec (ws := ws_ yX1_init cX1_init 2 none) B.pre
  have hts : ∀ w ∈ lw_all, w.before _ s = true := fun w h => hts w (List.mem_cons_of_mem _ h)
  have hown : s.vm.findClass RX1 = some m.cls := findClass_of_methodNamed B.named
  have hlocks := B.notSynchronized
  have hin : meth.name = "<init>" := (name_of_methodNamed B.named B.method).1
  subst hsz
  have hD := hD0.self (sz := s.heap.size)
  generalize hAe : va_A [(h0, .inr (0, xF0))] s.heap.size = A at hD ⊢
  have hA : ∀ q : Nat, s.heap.size ≤ q → A q := fun q h => by rw [← hAe]; exact Or.inr h
  have hS : va_S A s.heap s.heap [] := va_S.rf
  have hl := lv_entry ([.ref h0, .int x]) (n := 2) (Nat.le_of_ble_eq_true rfl)
  rw [lg_entry_eq]
  generalize (lg_sl ([.ref h0, .int x]) ++ List.replicate (2 - (lg_sl ([.ref h0, .int x])).length) Slot.unset).toArray = ls at hl ⊢
  have hl : lv_has ls 2 [(0, .ref h0), (1, .int x)] := hl
  refine lv_aload_n hx hb dX1_init_0 rfl (lv_at hl 0 rfl) ?_
  refine W.objInit hx hb hown (hts _ q28) (hts _ q29) (hts _ q30) rfl (by rw [hml]; exact hl.1) rfl dX1_init_1 (Nat.le_of_ble_eq_true rfl) (Nat.le_of_ble_eq_true rfl) ?_
  refine W.eq (g2 := F0 m 4 ls []) rfl ?_
  have hP : va_P D y_cl [(h0, .inr (0, [.int 0, .int 0, .null, .null, .null, .null, .int 0, .int 0, .null, .null, .null, .int 0, .int 0]))] s.heap := hP
  have hD : va_D A [(h0, .inr (0, [.int 0, .int 0, .null, .null, .null, .null, .int 0, .int 0, .null, .null, .null, .int 0, .int 0]))] := hD
  refine lv_aload_n hx hb dX1_init_4 rfl (lv_at hl 0 rfl) ?_
  refine lv_bipush (v := 8) hx hb dX1_init_5 (by decide) ?_
  refine va_newa (atype := .byte) (ty := .byte) (a0 := (8, .inl pz_f0)) (N' := 8) hx hb (hts _ q71) rfl hK hP hD hS hA (fun _ => rfl) (by decide) (by decide) (by decide) (Nat.le_of_ble_eq_true rfl) (Nat.le_of_ble_eq_true rfl) dX1_init_7 (fun q1 c1 H hK hP hD hS => ?_)
  refine W.widen (k := 1) (n := 8) (Nat.le_of_ble_eq_true rfl) (Nat.le_of_ble_eq_true rfl) ?_
  have hK : va_K D y_cl [(c1, .byte)] s := hK
  have hP : va_P D y_cl [(h0, .inr (0, [.int 0, .int 0, .null, .null, .null, .null, .int 0, .int 0, .null, .null, .null, .int 0, .int 0])), (q1, .inl (c1, 8, .inl pz_f0))] H := hP
  have hD : va_D A [(h0, .inr (0, [.int 0, .int 0, .null, .null, .null, .null, .int 0, .int 0, .null, .null, .null, .int 0, .int 0])), (q1, .inl (c1, 8, .inl pz_f0))] := hD
  refine va_putF (D := D) (ci := 0) (v := .ref q1) (ty := .array .byte) (C := RX1) (T := TX1) (N := 13) hx hb hts in_X1 tyX1 tyX1_ok nmX1 hown hK hP hD hS 0 rfl rfl 2 (by decide) (hts _ q33) (fun _ h9 => h9) rfl hin rfl (by decide +kernel) rfl rfl (Nat.le_of_ble_eq_true rfl) dX1_init_9 (fun H locs hP hD hS => ?_)
  have hP : va_P D y_cl [(h0, .inr (0, [.int 0, .int 0, .ref q1, .null, .null, .null, .int 0, .int 0, .null, .null, .null, .int 0, .int 0])), (q1, .inl (c1, 8, .inl pz_f0))] H := hP
  have hD : va_D A [(h0, .inr (0, [.int 0, .int 0, .ref q1, .null, .null, .null, .int 0, .int 0, .null, .null, .null, .int 0, .int 0])), (q1, .inl (c1, 8, .inl pz_f0))] := hD
  refine lv_aload_n hx hb dX1_init_12 rfl (lv_at hl 0 rfl) ?_
  refine lv_bipush (v := 8) hx hb dX1_init_13 (by decide) ?_
  refine va_newa (atype := .byte) (ty := .byte) (a0 := (8, .inl pz_f0)) (N' := 8) hx hb (hts _ q71) rfl hK hP hD hS hA (fun _ => rfl) (by decide) (by decide) (by decide) (Nat.le_of_ble_eq_true rfl) (Nat.le_of_ble_eq_true rfl) dX1_init_15 (fun q2 c2 H hK hP hD hS => ?_)
  refine W.widen (k := 2) (n := 16) (Nat.le_of_ble_eq_true rfl) (Nat.le_of_ble_eq_true rfl) ?_
  have hK : va_K D y_cl [(c1, .byte), (c2, .byte)] s := hK
  have hP : va_P D y_cl [(h0, .inr (0, [.int 0, .int 0, .ref q1, .null, .null, .null, .int 0, .int 0, .null, .null, .null, .int 0, .int 0])), (q1, .inl (c1, 8, .inl pz_f0)), (q2, .inl (c2, 8, .inl pz_f0))] H := hP
  have hD : va_D A [(h0, .inr (0, [.int 0, .int 0, .ref q1, .null, .null, .null, .int 0, .int 0, .null, .null, .null, .int 0, .int 0])), (q1, .inl (c1, 8, .inl pz_f0)), (q2, .inl (c2, 8, .inl pz_f0))] := hD
  refine va_putF (D := D) (ci := 0) (v := .ref q2) (ty := .array .byte) (C := RX1) (T := TX1) (N := 13) hx hb hts in_X1 tyX1 tyX1_ok nmX1 hown hK hP hD hS 0 rfl rfl 3 (by decide) (hts _ q34) (fun _ h9 => h9) rfl hin rfl (by decide +kernel) rfl rfl (Nat.le_of_ble_eq_true rfl) dX1_init_17 (fun H locs hP hD hS => ?_)
  have hP : va_P D y_cl [(h0, .inr (0, [.int 0, .int 0, .ref q1, .ref q2, .null, .null, .int 0, .int 0, .null, .null, .null, .int 0, .int 0])), (q1, .inl (c1, 8, .inl pz_f0)), (q2, .inl (c2, 8, .inl pz_f0))] H := hP
  have hD : va_D A [(h0, .inr (0, [.int 0, .int 0, .ref q1, .ref q2, .null, .null, .int 0, .int 0, .null, .null, .null, .int 0, .int 0])), (q1, .inl (c1, 8, .inl pz_f0)), (q2, .inl (c2, 8, .inl pz_f0))] := hD
  refine lv_aload_n hx hb dX1_init_20 rfl (lv_at hl 0 rfl) ?_
  refine lv_bipush (v := 8) hx hb dX1_init_21 (by decide) ?_
  refine va_newa (atype := .byte) (ty := .byte) (a0 := (8, .inl pz_f0)) (N' := 8) hx hb (hts _ q71) rfl hK hP hD hS hA (fun _ => rfl) (by decide) (by decide) (by decide) (Nat.le_of_ble_eq_true rfl) (Nat.le_of_ble_eq_true rfl) dX1_init_23 (fun q3 c3 H hK hP hD hS => ?_)
  refine W.widen (k := 3) (n := 24) (Nat.le_of_ble_eq_true rfl) (Nat.le_of_ble_eq_true rfl) ?_
  have hK : va_K D y_cl [(c1, .byte), (c2, .byte), (c3, .byte)] s := hK
  have hP : va_P D y_cl [(h0, .inr (0, [.int 0, .int 0, .ref q1, .ref q2, .null, .null, .int 0, .int 0, .null, .null, .null, .int 0, .int 0])), (q1, .inl (c1, 8, .inl pz_f0)), (q2, .inl (c2, 8, .inl pz_f0)), (q3, .inl (c3, 8, .inl pz_f0))] H := hP
  have hD : va_D A [(h0, .inr (0, [.int 0, .int 0, .ref q1, .ref q2, .null, .null, .int 0, .int 0, .null, .null, .null, .int 0, .int 0])), (q1, .inl (c1, 8, .inl pz_f0)), (q2, .inl (c2, 8, .inl pz_f0)), (q3, .inl (c3, 8, .inl pz_f0))] := hD
  refine va_putF (D := D) (ci := 0) (v := .ref q3) (ty := .array .byte) (C := RX1) (T := TX1) (N := 13) hx hb hts in_X1 tyX1 tyX1_ok nmX1 hown hK hP hD hS 0 rfl rfl 4 (by decide) (hts _ q35) (fun _ h9 => h9) rfl hin rfl (by decide +kernel) rfl rfl (Nat.le_of_ble_eq_true rfl) dX1_init_25 (fun H locs hP hD hS => ?_)
  have hP : va_P D y_cl [(h0, .inr (0, [.int 0, .int 0, .ref q1, .ref q2, .ref q3, .null, .int 0, .int 0, .null, .null, .null, .int 0, .int 0])), (q1, .inl (c1, 8, .inl pz_f0)), (q2, .inl (c2, 8, .inl pz_f0)), (q3, .inl (c3, 8, .inl pz_f0))] H := hP
  have hD : va_D A [(h0, .inr (0, [.int 0, .int 0, .ref q1, .ref q2, .ref q3, .null, .int 0, .int 0, .null, .null, .null, .int 0, .int 0])), (q1, .inl (c1, 8, .inl pz_f0)), (q2, .inl (c2, 8, .inl pz_f0)), (q3, .inl (c3, 8, .inl pz_f0))] := hD
  refine lv_aload_n hx hb dX1_init_28 rfl (lv_at hl 0 rfl) ?_
  refine lv_bipush (v := 8) hx hb dX1_init_29 (by decide) ?_
  refine va_newa (atype := .int) (ty := .int) (a0 := (8, .inl pz_f0)) (N' := 8) hx hb (hts _ q72) rfl hK hP hD hS hA (fun _ => rfl) (by decide) (by decide) (by decide) (Nat.le_of_ble_eq_true rfl) (Nat.le_of_ble_eq_true rfl) dX1_init_31 (fun q4 c4 H hK hP hD hS => ?_)
  refine W.widen (k := 4) (n := 32) (Nat.le_of_ble_eq_true rfl) (Nat.le_of_ble_eq_true rfl) ?_
  have hK : va_K D y_cl [(c1, .byte), (c2, .byte), (c3, .byte), (c4, .int)] s := hK
  have hP : va_P D y_cl [(h0, .inr (0, [.int 0, .int 0, .ref q1, .ref q2, .ref q3, .null, .int 0, .int 0, .null, .null, .null, .int 0, .int 0])), (q1, .inl (c1, 8, .inl pz_f0)), (q2, .inl (c2, 8, .inl pz_f0)), (q3, .inl (c3, 8, .inl pz_f0)), (q4, .inl (c4, 8, .inl pz_f0))] H := hP
  have hD : va_D A [(h0, .inr (0, [.int 0, .int 0, .ref q1, .ref q2, .ref q3, .null, .int 0, .int 0, .null, .null, .null, .int 0, .int 0])), (q1, .inl (c1, 8, .inl pz_f0)), (q2, .inl (c2, 8, .inl pz_f0)), (q3, .inl (c3, 8, .inl pz_f0)), (q4, .inl (c4, 8, .inl pz_f0))] := hD
  refine va_putF (D := D) (ci := 0) (v := .ref q4) (ty := .array .int) (C := RX1) (T := TX1) (N := 13) hx hb hts in_X1 tyX1 tyX1_ok nmX1 hown hK hP hD hS 0 rfl rfl 5 (by decide) (hts _ q36) (fun _ h9 => h9) rfl hin rfl (by decide +kernel) rfl rfl (Nat.le_of_ble_eq_true rfl) dX1_init_33 (fun H locs hP hD hS => ?_)
  have hP : va_P D y_cl [(h0, .inr (0, [.int 0, .int 0, .ref q1, .ref q2, .ref q3, .ref q4, .int 0, .int 0, .null, .null, .null, .int 0, .int 0])), (q1, .inl (c1, 8, .inl pz_f0)), (q2, .inl (c2, 8, .inl pz_f0)), (q3, .inl (c3, 8, .inl pz_f0)), (q4, .inl (c4, 8, .inl pz_f0))] H := hP
  have hD : va_D A [(h0, .inr (0, [.int 0, .int 0, .ref q1, .ref q2, .ref q3, .ref q4, .int 0, .int 0, .null, .null, .null, .int 0, .int 0])), (q1, .inl (c1, 8, .inl pz_f0)), (q2, .inl (c2, 8, .inl pz_f0)), (q3, .inl (c3, 8, .inl pz_f0)), (q4, .inl (c4, 8, .inl pz_f0))] := hD
  refine lv_aload_n hx hb dX1_init_36 rfl (lv_at hl 0 rfl) ?_
  refine lv_bipush (v := 16) hx hb dX1_init_37 (by decide) ?_
  refine va_newa (atype := .byte) (ty := .byte) (a0 := (16, .inl pz_f0)) (N' := 16) hx hb (hts _ q71) rfl hK hP hD hS hA (fun _ => rfl) (by decide) (by decide) (by decide) (Nat.le_of_ble_eq_true rfl) (Nat.le_of_ble_eq_true rfl) dX1_init_39 (fun q5 c5 H hK hP hD hS => ?_)
  refine W.widen (k := 5) (n := 48) (Nat.le_of_ble_eq_true rfl) (Nat.le_of_ble_eq_true rfl) ?_
  have hK : va_K D y_cl [(c1, .byte), (c2, .byte), (c3, .byte), (c4, .int), (c5, .byte)] s := hK
  have hP : va_P D y_cl [(h0, .inr (0, [.int 0, .int 0, .ref q1, .ref q2, .ref q3, .ref q4, .int 0, .int 0, .null, .null, .null, .int 0, .int 0])), (q1, .inl (c1, 8, .inl pz_f0)), (q2, .inl (c2, 8, .inl pz_f0)), (q3, .inl (c3, 8, .inl pz_f0)), (q4, .inl (c4, 8, .inl pz_f0)), (q5, .inl (c5, 16, .inl pz_f0))] H := hP
  have hD : va_D A [(h0, .inr (0, [.int 0, .int 0, .ref q1, .ref q2, .ref q3, .ref q4, .int 0, .int 0, .null, .null, .null, .int 0, .int 0])), (q1, .inl (c1, 8, .inl pz_f0)), (q2, .inl (c2, 8, .inl pz_f0)), (q3, .inl (c3, 8, .inl pz_f0)), (q4, .inl (c4, 8, .inl pz_f0)), (q5, .inl (c5, 16, .inl pz_f0))] := hD
  refine va_putF (D := D) (ci := 0) (v := .ref q5) (ty := .array .byte) (C := RX1) (T := TX1) (N := 13) hx hb hts in_X1 tyX1 tyX1_ok nmX1 hown hK hP hD hS 0 rfl rfl 8 (by decide) (hts _ q39) (fun _ h9 => h9) rfl hin rfl (by decide +kernel) rfl rfl (Nat.le_of_ble_eq_true rfl) dX1_init_41 (fun H locs hP hD hS => ?_)
  have hP : va_P D y_cl [(h0, .inr (0, [.int 0, .int 0, .ref q1, .ref q2, .ref q3, .ref q4, .int 0, .int 0, .ref q5, .null, .null, .int 0, .int 0])), (q1, .inl (c1, 8, .inl pz_f0)), (q2, .inl (c2, 8, .inl pz_f0)), (q3, .inl (c3, 8, .inl pz_f0)), (q4, .inl (c4, 8, .inl pz_f0)), (q5, .inl (c5, 16, .inl pz_f0))] H := hP
  have hD : va_D A [(h0, .inr (0, [.int 0, .int 0, .ref q1, .ref q2, .ref q3, .ref q4, .int 0, .int 0, .ref q5, .null, .null, .int 0, .int 0])), (q1, .inl (c1, 8, .inl pz_f0)), (q2, .inl (c2, 8, .inl pz_f0)), (q3, .inl (c3, 8, .inl pz_f0)), (q4, .inl (c4, 8, .inl pz_f0)), (q5, .inl (c5, 16, .inl pz_f0))] := hD
  refine lv_aload_n hx hb dX1_init_44 rfl (lv_at hl 0 rfl) ?_
  refine lv_bipush (v := 17) hx hb dX1_init_45 (by decide) ?_
  refine va_newa (atype := .int) (ty := .int) (a0 := (17, .inl pz_f0)) (N' := 17) hx hb (hts _ q72) rfl hK hP hD hS hA (fun _ => rfl) (by decide) (by decide) (by decide) (Nat.le_of_ble_eq_true rfl) (Nat.le_of_ble_eq_true rfl) dX1_init_47 (fun q6 c6 H hK hP hD hS => ?_)
  refine W.widen (k := 6) (n := 65) (Nat.le_of_ble_eq_true rfl) (Nat.le_of_ble_eq_true rfl) ?_
  have hK : va_K D y_cl [(c1, .byte), (c2, .byte), (c3, .byte), (c4, .int), (c5, .byte), (c6, .int)] s := hK
  have hP : va_P D y_cl [(h0, .inr (0, [.int 0, .int 0, .ref q1, .ref q2, .ref q3, .ref q4, .int 0, .int 0, .ref q5, .null, .null, .int 0, .int 0])), (q1, .inl (c1, 8, .inl pz_f0)), (q2, .inl (c2, 8, .inl pz_f0)), (q3, .inl (c3, 8, .inl pz_f0)), (q4, .inl (c4, 8, .inl pz_f0)), (q5, .inl (c5, 16, .inl pz_f0)), (q6, .inl (c6, 17, .inl pz_f0))] H := hP
  have hD : va_D A [(h0, .inr (0, [.int 0, .int 0, .ref q1, .ref q2, .ref q3, .ref q4, .int 0, .int 0, .ref q5, .null, .null, .int 0, .int 0])), (q1, .inl (c1, 8, .inl pz_f0)), (q2, .inl (c2, 8, .inl pz_f0)), (q3, .inl (c3, 8, .inl pz_f0)), (q4, .inl (c4, 8, .inl pz_f0)), (q5, .inl (c5, 16, .inl pz_f0)), (q6, .inl (c6, 17, .inl pz_f0))] := hD
  refine va_putF (D := D) (ci := 0) (v := .ref q6) (ty := .array .int) (C := RX1) (T := TX1) (N := 13) hx hb hts in_X1 tyX1 tyX1_ok nmX1 hown hK hP hD hS 0 rfl rfl 9 (by decide) (hts _ q40) (fun _ h9 => h9) rfl hin rfl (by decide +kernel) rfl rfl (Nat.le_of_ble_eq_true rfl) dX1_init_49 (fun H locs hP hD hS => ?_)
  have hP : va_P D y_cl [(h0, .inr (0, [.int 0, .int 0, .ref q1, .ref q2, .ref q3, .ref q4, .int 0, .int 0, .ref q5, .ref q6, .null, .int 0, .int 0])), (q1, .inl (c1, 8, .inl pz_f0)), (q2, .inl (c2, 8, .inl pz_f0)), (q3, .inl (c3, 8, .inl pz_f0)), (q4, .inl (c4, 8, .inl pz_f0)), (q5, .inl (c5, 16, .inl pz_f0)), (q6, .inl (c6, 17, .inl pz_f0))] H := hP
  have hD : va_D A [(h0, .inr (0, [.int 0, .int 0, .ref q1, .ref q2, .ref q3, .ref q4, .int 0, .int 0, .ref q5, .ref q6, .null, .int 0, .int 0])), (q1, .inl (c1, 8, .inl pz_f0)), (q2, .inl (c2, 8, .inl pz_f0)), (q3, .inl (c3, 8, .inl pz_f0)), (q4, .inl (c4, 8, .inl pz_f0)), (q5, .inl (c5, 16, .inl pz_f0)), (q6, .inl (c6, 17, .inl pz_f0))] := hD
  refine lv_aload_n hx hb dX1_init_52 rfl (lv_at hl 0 rfl) ?_
  refine lv_bipush (v := 17) hx hb dX1_init_53 (by decide) ?_
  refine va_newa (atype := .byte) (ty := .byte) (a0 := (17, .inl pz_f0)) (N' := 17) hx hb (hts _ q71) rfl hK hP hD hS hA (fun _ => rfl) (by decide) (by decide) (by decide) (Nat.le_of_ble_eq_true rfl) (Nat.le_of_ble_eq_true rfl) dX1_init_55 (fun q7 c7 H hK hP hD hS => ?_)
  refine W.widen (k := 7) (n := 82) (Nat.le_of_ble_eq_true rfl) (Nat.le_of_ble_eq_true rfl) ?_
  have hK : va_K D y_cl [(c1, .byte), (c2, .byte), (c3, .byte), (c4, .int), (c5, .byte), (c6, .int), (c7, .byte)] s := hK
  have hP : va_P D y_cl [(h0, .inr (0, [.int 0, .int 0, .ref q1, .ref q2, .ref q3, .ref q4, .int 0, .int 0, .ref q5, .ref q6, .null, .int 0, .int 0])), (q1, .inl (c1, 8, .inl pz_f0)), (q2, .inl (c2, 8, .inl pz_f0)), (q3, .inl (c3, 8, .inl pz_f0)), (q4, .inl (c4, 8, .inl pz_f0)), (q5, .inl (c5, 16, .inl pz_f0)), (q6, .inl (c6, 17, .inl pz_f0)), (q7, .inl (c7, 17, .inl pz_f0))] H := hP
  have hD : va_D A [(h0, .inr (0, [.int 0, .int 0, .ref q1, .ref q2, .ref q3, .ref q4, .int 0, .int 0, .ref q5, .ref q6, .null, .int 0, .int 0])), (q1, .inl (c1, 8, .inl pz_f0)), (q2, .inl (c2, 8, .inl pz_f0)), (q3, .inl (c3, 8, .inl pz_f0)), (q4, .inl (c4, 8, .inl pz_f0)), (q5, .inl (c5, 16, .inl pz_f0)), (q6, .inl (c6, 17, .inl pz_f0)), (q7, .inl (c7, 17, .inl pz_f0))] := hD
  refine va_putF (D := D) (ci := 0) (v := .ref q7) (ty := .array .byte) (C := RX1) (T := TX1) (N := 13) hx hb hts in_X1 tyX1 tyX1_ok nmX1 hown hK hP hD hS 0 rfl rfl 10 (by decide) (hts _ q41) (fun _ h9 => h9) rfl hin rfl (by decide +kernel) rfl rfl (Nat.le_of_ble_eq_true rfl) dX1_init_57 (fun H locs hP hD hS => ?_)
  have hP : va_P D y_cl [(h0, .inr (0, [.int 0, .int 0, .ref q1, .ref q2, .ref q3, .ref q4, .int 0, .int 0, .ref q5, .ref q6, .ref q7, .int 0, .int 0])), (q1, .inl (c1, 8, .inl pz_f0)), (q2, .inl (c2, 8, .inl pz_f0)), (q3, .inl (c3, 8, .inl pz_f0)), (q4, .inl (c4, 8, .inl pz_f0)), (q5, .inl (c5, 16, .inl pz_f0)), (q6, .inl (c6, 17, .inl pz_f0)), (q7, .inl (c7, 17, .inl pz_f0))] H := hP
  have hD : va_D A [(h0, .inr (0, [.int 0, .int 0, .ref q1, .ref q2, .ref q3, .ref q4, .int 0, .int 0, .ref q5, .ref q6, .ref q7, .int 0, .int 0])), (q1, .inl (c1, 8, .inl pz_f0)), (q2, .inl (c2, 8, .inl pz_f0)), (q3, .inl (c3, 8, .inl pz_f0)), (q4, .inl (c4, 8, .inl pz_f0)), (q5, .inl (c5, 16, .inl pz_f0)), (q6, .inl (c6, 17, .inl pz_f0)), (q7, .inl (c7, 17, .inl pz_f0))] := hD
  refine lv_aload_n hx hb dX1_init_60 rfl (lv_at hl 0 rfl) ?_
  refine lv_iload_n hx hb dX1_init_61 rfl (lv_at hl 1 rfl) ?_
  refine lv_if_ge (tgt := 69) hx hb dX1_init_62 (by decide) (fun c1_ => ?_) (fun c1_ => ?_)
  · refine lv_iload_n hx hb dX1_init_69 rfl (lv_at hl 1 rfl) ?_
    refine lv_iconst (v := 4) hx hb dX1_init_70 (by decide) ?_
    refine lv_icmp_le (tgt := 78) hx hb dX1_init_71 (by decide) (fun c2_ => ?_) (fun c2_ => ?_)
    · refine lv_iload_n hx hb dX1_init_78 rfl (lv_at hl 1 rfl) ?_
      refine y_top (x' := nI (pz_clip x)) (pz_clip_x c1_ c2_) ?_
      refine va_put (D := D) (ci := 0) (v := .int (nI (pz_clip x))) (ty := .int) (C := RX1) (T := TX1) (N := 13) hx hb hts in_X1 tyX1 tyX1_ok nmX1 hown hK hP hD hS 0 rfl rfl 0 (by decide) (hts _ q31) (fun _ h9 => h9) rfl (by decide +kernel) rfl rfl (Nat.le_of_ble_eq_true rfl) dX1_init_79 (fun H locs hP hD hS => ?_)
      exact W.vret hx hb hr (fun t ht hW => ⟨⟨((fun k => match k with | 0 => h0 | 1 => q1 | 2 => q2 | 3 => q3 | 4 => q4 | 5 => q5 | 6 => q6 | _ => q7), (fun k => match k with | 1 => c1 | 2 => c2 | 3 => c3 | 4 => c4 | 5 => c5 | 6 => c6 | _ => c7)), rfl, rfl, by rw [ht]; exact hP, va_K.moved hW.alike hK, hD⟩, hS.F ht⟩) hS.2.2 dX1_init_82
    · refine lv_iconst (v := 4) hx hb dX1_init_74 (by decide) ?_
      refine lv_goto (tgt := 79) hx hb dX1_init_75 (by decide) ?_
      refine y_top (x' := nI (pz_clip x)) (pz_clip_4 c1_ c2_) ?_
      refine va_put (D := D) (ci := 0) (v := .int (nI (pz_clip x))) (ty := .int) (C := RX1) (T := TX1) (N := 13) hx hb hts in_X1 tyX1 tyX1_ok nmX1 hown hK hP hD hS 0 rfl rfl 0 (by decide) (hts _ q31) (fun _ h9 => h9) rfl (by decide +kernel) rfl rfl (Nat.le_of_ble_eq_true rfl) dX1_init_79 (fun H locs hP hD hS => ?_)
      exact W.vret hx hb hr (fun t ht hW => ⟨⟨((fun k => match k with | 0 => h0 | 1 => q1 | 2 => q2 | 3 => q3 | 4 => q4 | 5 => q5 | 6 => q6 | _ => q7), (fun k => match k with | 1 => c1 | 2 => c2 | 3 => c3 | 4 => c4 | 5 => c5 | 6 => c6 | _ => c7)), rfl, rfl, by rw [ht]; exact hP, va_K.moved hW.alike hK, hD⟩, hS.F ht⟩) hS.2.2 dX1_init_82
  · refine lv_iconst (v := 0) hx hb dX1_init_65 (by decide) ?_
    refine lv_goto (tgt := 79) hx hb dX1_init_66 (by decide) ?_
    refine y_top (x' := nI (pz_clip x)) (pz_clip_0 c1_) ?_
    refine va_put (D := D) (ci := 0) (v := .int (nI (pz_clip x))) (ty := .int) (C := RX1) (T := TX1) (N := 13) hx hb hts in_X1 tyX1 tyX1_ok nmX1 hown hK hP hD hS 0 rfl rfl 0 (by decide) (hts _ q31) (fun _ h9 => h9) rfl (by decide +kernel) rfl rfl (Nat.le_of_ble_eq_true rfl) dX1_init_79 (fun H locs hP hD hS => ?_)
    exact W.vret hx hb hr (fun t ht hW => ⟨⟨((fun k => match k with | 0 => h0 | 1 => q1 | 2 => q2 | 3 => q3 | 4 => q4 | 5 => q5 | 6 => q6 | _ => q7), (fun k => match k with | 1 => c1 | 2 => c2 | 3 => c3 | 4 => c4 | 5 => c5 | 6 => c6 | _ => c7)), rfl, rfl, by rw [ht]; exact hP, va_K.moved hW.alike hK, hD⟩, hS.F ht⟩) hS.2.2 dX1_init_82
set_option maxHeartbeats 4000000 in
theorem mM_init (l : Launch) (D : va_G) (h0 sz : Nat) (x : Int32) : Met l yX2_init (ws_ yX2_init cX2_init 2 none) ({ frames := 1, cells := 5, slots := 288, locals := 12 }) (va_Pc [.ref h0, .int x] (y_Pre D [] [(h0, .inr (1, mF0))] sz))
    (va_Qv (fun z : (Nat → Nat) × (Nat → ClassId) => z.1 0 = h0) (fun z t => va_P D y_cl (mW z.1 z.2 (nI (pz_clip x)) pz_f0 pz_n0 pz_n0 pz_n0 pz_f0) t.heap ∧ va_K D y_cl (mT z.2) t ∧ va_D (va_A [(h0, .inr (1, mF0))] sz) (mW z.1 z.2 (nI (pz_clip x)) pz_f0 pz_n0 pz_n0 pz_n0 pz_f0)) (va_A [(h0, .inr (1, mF0))] sz)) 5 288 (va_A [(h0, .inr (1, mF0))] sz) := by
  refine Met.ofW (cc := cX2_init) (maxL := 2) (ret := none) (by decide) rfl ?_
  intro p e s m args below meth c s₁ B hml hv
  obtain ⟨rfl, hsz, hP, hK, hD0⟩ := hv
  have hx := B.exec
  have hb := B.bytes
  have hr := B.returns
  have hts := atoms_spec (ws := ws_ yX2_init cX2_init 2 none) B.pre
  have hts : ∀ w ∈ lw_all, w.before _ s = true := fun w h => hts w (List.mem_cons_of_mem _ h)
  have hown : s.vm.findClass RX2 = some m.cls := findClass_of_methodNamed B.named
  have hlocks := B.notSynchronized
  have hin : meth.name = "<init>" := (name_of_methodNamed B.named B.method).1
  subst hsz
  have hD := hD0.self (sz := s.heap.size)
  generalize hAe : va_A [(h0, .inr (1, mF0))] s.heap.size = A at hD ⊢
  have hA : ∀ q : Nat, s.heap.size ≤ q → A q := fun q h => by rw [← hAe]; exact Or.inr h
  have hS : va_S A s.heap s.heap [] := va_S.rf
  have hl := lv_entry ([.ref h0, .int x]) (n := 2) (Nat.le_of_ble_eq_true rfl)
  rw [lg_entry_eq]
  generalize (lg_sl ([.ref h0, .int x]) ++ List.replicate (2 - (lg_sl ([.ref h0, .int x])).length) Slot.unset).toArray = ls at hl ⊢
  have hl : lv_has ls 2 [(0, .ref h0), (1, .int x)] := hl
  refine lv_aload_n hx hb dX2_init_0 rfl (lv_at hl 0 rfl) ?_
  refine W.objInit hx hb hown (hts _ q203) (hts _ q29) (hts _ q30) rfl (by rw [hml]; exact hl.1) rfl dX2_init_1 (Nat.le_of_ble_eq_true rfl) (Nat.le_of_ble_eq_true rfl) ?_
  refine W.eq (g2 := F0 m 4 ls []) rfl ?_
  have hP : va_P D y_cl [(h0, .inr (1, [.int 0, .null, .null, .null, .null, .null]))] s.heap := hP
  have hD : va_D A [(h0, .inr (1, [.int 0, .null, .null, .null, .null, .null]))] := hD
  refine lv_aload_n hx hb dX2_init_4 rfl (lv_at hl 0 rfl) ?_
  refine lv_bipush (v := 8) hx hb dX2_init_5 (by decide) ?_
  refine va_newa (atype := .boolean) (ty := .boolean) (a0 := (8, .inl pz_f0)) (N' := 8) hx hb (hts _ q223) rfl hK hP hD hS hA (fun _ => rfl) (by decide) (by decide) (by decide) (Nat.le_of_ble_eq_true rfl) (Nat.le_of_ble_eq_true rfl) dX2_init_7 (fun q1 c1 H hK hP hD hS => ?_)
  refine W.widen (k := 1) (n := 8) (Nat.le_of_ble_eq_true rfl) (Nat.le_of_ble_eq_true rfl) ?_
  have hK : va_K D y_cl [(c1, .boolean)] s := hK
  have hP : va_P D y_cl [(h0, .inr (1, [.int 0, .null, .null, .null, .null, .null])), (q1, .inl (c1, 8, .inl pz_f0))] H := hP
  have hD : va_D A [(h0, .inr (1, [.int 0, .null, .null, .null, .null, .null])), (q1, .inl (c1, 8, .inl pz_f0))] := hD
  refine va_put (D := D) (ci := 1) (v := .ref q1) (ty := .array .boolean) (C := RX2) (T := TX2) (N := 6) hx hb hts in_X2 tyX2 tyX2_ok nmX2 hown hK hP hD hS 0 rfl rfl 1 (by decide) (hts _ q205) (fun _ h9 => h9) rfl (by decide +kernel) rfl rfl (Nat.le_of_ble_eq_true rfl) dX2_init_9 (fun H locs hP hD hS => ?_)
  have hP : va_P D y_cl [(h0, .inr (1, [.int 0, .ref q1, .null, .null, .null, .null])), (q1, .inl (c1, 8, .inl pz_f0))] H := hP
  have hD : va_D A [(h0, .inr (1, [.int 0, .ref q1, .null, .null, .null, .null])), (q1, .inl (c1, 8, .inl pz_f0))] := hD
  refine lv_aload_n hx hb dX2_init_12 rfl (lv_at hl 0 rfl) ?_
  refine lv_bipush (v := 8) hx hb dX2_init_13 (by decide) ?_
  refine va_newa (atype := .int) (ty := .int) (a0 := (8, .inl pz_f0)) (N' := 8) hx hb (hts _ q72) rfl hK hP hD hS hA (fun _ => rfl) (by decide) (by decide) (by decide) (Nat.le_of_ble_eq_true rfl) (Nat.le_of_ble_eq_true rfl) dX2_init_15 (fun q2 c2 H hK hP hD hS => ?_)
  refine W.widen (k := 2) (n := 16) (Nat.le_of_ble_eq_true rfl) (Nat.le_of_ble_eq_true rfl) ?_
  have hK : va_K D y_cl [(c1, .boolean), (c2, .int)] s := hK
  have hP : va_P D y_cl [(h0, .inr (1, [.int 0, .ref q1, .null, .null, .null, .null])), (q1, .inl (c1, 8, .inl pz_f0)), (q2, .inl (c2, 8, .inl pz_f0))] H := hP
  have hD : va_D A [(h0, .inr (1, [.int 0, .ref q1, .null, .null, .null, .null])), (q1, .inl (c1, 8, .inl pz_f0)), (q2, .inl (c2, 8, .inl pz_f0))] := hD
  refine va_put (D := D) (ci := 1) (v := .ref q2) (ty := .array .int) (C := RX2) (T := TX2) (N := 6) hx hb hts in_X2 tyX2 tyX2_ok nmX2 hown hK hP hD hS 0 rfl rfl 2 (by decide) (hts _ q206) (fun _ h9 => h9) rfl (by decide +kernel) rfl rfl (Nat.le_of_ble_eq_true rfl) dX2_init_17 (fun H locs hP hD hS => ?_)
  have hP : va_P D y_cl [(h0, .inr (1, [.int 0, .ref q1, .ref q2, .null, .null, .null])), (q1, .inl (c1, 8, .inl pz_f0)), (q2, .inl (c2, 8, .inl pz_f0))] H := hP
  have hD : va_D A [(h0, .inr (1, [.int 0, .ref q1, .ref q2, .null, .null, .null])), (q1, .inl (c1, 8, .inl pz_f0)), (q2, .inl (c2, 8, .inl pz_f0))] := hD
  refine lv_aload_n hx hb dX2_init_20 rfl (lv_at hl 0 rfl) ?_
  refine lv_bipush (v := 8) hx hb dX2_init_21 (by decide) ?_
  refine va_newa (atype := .int) (ty := .int) (a0 := (8, .inl pz_f0)) (N' := 8) hx hb (hts _ q72) rfl hK hP hD hS hA (fun _ => rfl) (by decide) (by decide) (by decide) (Nat.le_of_ble_eq_true rfl) (Nat.le_of_ble_eq_true rfl) dX2_init_23 (fun q3 c3 H hK hP hD hS => ?_)
  refine W.widen (k := 3) (n := 24) (Nat.le_of_ble_eq_true rfl) (Nat.le_of_ble_eq_true rfl) ?_
  have hK : va_K D y_cl [(c1, .boolean), (c2, .int), (c3, .int)] s := hK
  have hP : va_P D y_cl [(h0, .inr (1, [.int 0, .ref q1, .ref q2, .null, .null, .null])), (q1, .inl (c1, 8, .inl pz_f0)), (q2, .inl (c2, 8, .inl pz_f0)), (q3, .inl (c3, 8, .inl pz_f0))] H := hP
  have hD : va_D A [(h0, .inr (1, [.int 0, .ref q1, .ref q2, .null, .null, .null])), (q1, .inl (c1, 8, .inl pz_f0)), (q2, .inl (c2, 8, .inl pz_f0)), (q3, .inl (c3, 8, .inl pz_f0))] := hD
  refine va_put (D := D) (ci := 1) (v := .ref q3) (ty := .array .int) (C := RX2) (T := TX2) (N := 6) hx hb hts in_X2 tyX2 tyX2_ok nmX2 hown hK hP hD hS 0 rfl rfl 3 (by decide) (hts _ q207) (fun _ h9 => h9) rfl (by decide +kernel) rfl rfl (Nat.le_of_ble_eq_true rfl) dX2_init_25 (fun H locs hP hD hS => ?_)
  have hP : va_P D y_cl [(h0, .inr (1, [.int 0, .ref q1, .ref q2, .ref q3, .null, .null])), (q1, .inl (c1, 8, .inl pz_f0)), (q2, .inl (c2, 8, .inl pz_f0)), (q3, .inl (c3, 8, .inl pz_f0))] H := hP
  have hD : va_D A [(h0, .inr (1, [.int 0, .ref q1, .ref q2, .ref q3, .null, .null])), (q1, .inl (c1, 8, .inl pz_f0)), (q2, .inl (c2, 8, .inl pz_f0)), (q3, .inl (c3, 8, .inl pz_f0))] := hD
  refine lv_aload_n hx hb dX2_init_28 rfl (lv_at hl 0 rfl) ?_
  refine lv_bipush (v := 8) hx hb dX2_init_29 (by decide) ?_
  refine va_newa (atype := .int) (ty := .int) (a0 := (8, .inl pz_f0)) (N' := 8) hx hb (hts _ q72) rfl hK hP hD hS hA (fun _ => rfl) (by decide) (by decide) (by decide) (Nat.le_of_ble_eq_true rfl) (Nat.le_of_ble_eq_true rfl) dX2_init_31 (fun q4 c4 H hK hP hD hS => ?_)
  refine W.widen (k := 4) (n := 32) (Nat.le_of_ble_eq_true rfl) (Nat.le_of_ble_eq_true rfl) ?_
  have hK : va_K D y_cl [(c1, .boolean), (c2, .int), (c3, .int), (c4, .int)] s := hK
  have hP : va_P D y_cl [(h0, .inr (1, [.int 0, .ref q1, .ref q2, .ref q3, .null, .null])), (q1, .inl (c1, 8, .inl pz_f0)), (q2, .inl (c2, 8, .inl pz_f0)), (q3, .inl (c3, 8, .inl pz_f0)), (q4, .inl (c4, 8, .inl pz_f0))] H := hP
  have hD : va_D A [(h0, .inr (1, [.int 0, .ref q1, .ref q2, .ref q3, .null, .null])), (q1, .inl (c1, 8, .inl pz_f0)), (q2, .inl (c2, 8, .inl pz_f0)), (q3, .inl (c3, 8, .inl pz_f0)), (q4, .inl (c4, 8, .inl pz_f0))] := hD
  refine va_put (D := D) (ci := 1) (v := .ref q4) (ty := .array .int) (C := RX2) (T := TX2) (N := 6) hx hb hts in_X2 tyX2 tyX2_ok nmX2 hown hK hP hD hS 0 rfl rfl 4 (by decide) (hts _ q208) (fun _ h9 => h9) rfl (by decide +kernel) rfl rfl (Nat.le_of_ble_eq_true rfl) dX2_init_33 (fun H locs hP hD hS => ?_)
  have hP : va_P D y_cl [(h0, .inr (1, [.int 0, .ref q1, .ref q2, .ref q3, .ref q4, .null])), (q1, .inl (c1, 8, .inl pz_f0)), (q2, .inl (c2, 8, .inl pz_f0)), (q3, .inl (c3, 8, .inl pz_f0)), (q4, .inl (c4, 8, .inl pz_f0))] H := hP
  have hD : va_D A [(h0, .inr (1, [.int 0, .ref q1, .ref q2, .ref q3, .ref q4, .null])), (q1, .inl (c1, 8, .inl pz_f0)), (q2, .inl (c2, 8, .inl pz_f0)), (q3, .inl (c3, 8, .inl pz_f0)), (q4, .inl (c4, 8, .inl pz_f0))] := hD
  refine lv_aload_n hx hb dX2_init_36 rfl (lv_at hl 0 rfl) ?_
  refine lv_sipush (v := 256) hx hb dX2_init_37 (by decide) ?_
  refine va_newa (atype := .int) (ty := .int) (a0 := (256, .inl pz_f0)) (N' := 256) hx hb (hts _ q72) rfl hK hP hD hS hA (fun _ => rfl) (by decide) (by decide) (by decide) (Nat.le_of_ble_eq_true rfl) (Nat.le_of_ble_eq_true rfl) dX2_init_40 (fun q5 c5 H hK hP hD hS => ?_)
  refine W.widen (k := 5) (n := 288) (Nat.le_of_ble_eq_true rfl) (Nat.le_of_ble_eq_true rfl) ?_
  have hK : va_K D y_cl [(c1, .boolean), (c2, .int), (c3, .int), (c4, .int), (c5, .int)] s := hK
  have hP : va_P D y_cl [(h0, .inr (1, [.int 0, .ref q1, .ref q2, .ref q3, .ref q4, .null])), (q1, .inl (c1, 8, .inl pz_f0)), (q2, .inl (c2, 8, .inl pz_f0)), (q3, .inl (c3, 8, .inl pz_f0)), (q4, .inl (c4, 8, .inl pz_f0)), (q5, .inl (c5, 256, .inl pz_f0))] H := hP
  have hD : va_D A [(h0, .inr (1, [.int 0, .ref q1, .ref q2, .ref q3, .ref q4, .null])), (q1, .inl (c1, 8, .inl pz_f0)), (q2, .inl (c2, 8, .inl pz_f0)), (q3, .inl (c3, 8, .inl pz_f0)), (q4, .inl (c4, 8, .inl pz_f0)), (q5, .inl (c5, 256, .inl pz_f0))] := hD
  refine va_put (D := D) (ci := 1) (v := .ref q5) (ty := .array .int) (C := RX2) (T := TX2) (N := 6) hx hb hts in_X2 tyX2 tyX2_ok nmX2 hown hK hP hD hS 0 rfl rfl 5 (by decide) (hts _ q209) (fun _ h9 => h9) rfl (by decide +kernel) rfl rfl (Nat.le_of_ble_eq_true rfl) dX2_init_42 (fun H locs hP hD hS => ?_)
  have hP : va_P D y_cl [(h0, .inr (1, [.int 0, .ref q1, .ref q2, .ref q3, .ref q4, .ref q5])), (q1, .inl (c1, 8, .inl pz_f0)), (q2, .inl (c2, 8, .inl pz_f0)), (q3, .inl (c3, 8, .inl pz_f0)), (q4, .inl (c4, 8, .inl pz_f0)), (q5, .inl (c5, 256, .inl pz_f0))] H := hP
  have hD : va_D A [(h0, .inr (1, [.int 0, .ref q1, .ref q2, .ref q3, .ref q4, .ref q5])), (q1, .inl (c1, 8, .inl pz_f0)), (q2, .inl (c2, 8, .inl pz_f0)), (q3, .inl (c3, 8, .inl pz_f0)), (q4, .inl (c4, 8, .inl pz_f0)), (q5, .inl (c5, 256, .inl pz_f0))] := hD
  refine lv_aload_n hx hb dX2_init_45 rfl (lv_at hl 0 rfl) ?_
  refine lv_iload_n hx hb dX2_init_46 rfl (lv_at hl 1 rfl) ?_
  refine lv_if_ge (tgt := 54) hx hb dX2_init_47 (by decide) (fun c1_ => ?_) (fun c1_ => ?_)
  · refine lv_iload_n hx hb dX2_init_54 rfl (lv_at hl 1 rfl) ?_
    refine lv_iconst (v := 4) hx hb dX2_init_55 (by decide) ?_
    refine lv_icmp_le (tgt := 63) hx hb dX2_init_56 (by decide) (fun c2_ => ?_) (fun c2_ => ?_)
    · refine lv_iload_n hx hb dX2_init_63 rfl (lv_at hl 1 rfl) ?_
      refine y_top (x' := nI (pz_clip x)) (pz_clip_x c1_ c2_) ?_
      refine va_put (D := D) (ci := 1) (v := .int (nI (pz_clip x))) (ty := .int) (C := RX2) (T := TX2) (N := 6) hx hb hts in_X2 tyX2 tyX2_ok nmX2 hown hK hP hD hS 0 rfl rfl 0 (by decide) (hts _ q204) (fun _ h9 => h9) rfl (by decide +kernel) rfl rfl (Nat.le_of_ble_eq_true rfl) dX2_init_64 (fun H locs hP hD hS => ?_)
      exact W.vret hx hb hr (fun t ht hW => ⟨⟨((fun k => match k with | 0 => h0 | 1 => q1 | 2 => q2 | 3 => q3 | 4 => q4 | _ => q5), (fun k => match k with | 1 => c1 | 2 => c2 | 3 => c3 | 4 => c4 | _ => c5)), rfl, rfl, by rw [ht]; exact hP, va_K.moved hW.alike hK, hD⟩, hS.F ht⟩) hS.2.2 dX2_init_67
    · refine lv_iconst (v := 4) hx hb dX2_init_59 (by decide) ?_
      refine lv_goto (tgt := 64) hx hb dX2_init_60 (by decide) ?_
      refine y_top (x' := nI (pz_clip x)) (pz_clip_4 c1_ c2_) ?_
      refine va_put (D := D) (ci := 1) (v := .int (nI (pz_clip x))) (ty := .int) (C := RX2) (T := TX2) (N := 6) hx hb hts in_X2 tyX2 tyX2_ok nmX2 hown hK hP hD hS 0 rfl rfl 0 (by decide) (hts _ q204) (fun _ h9 => h9) rfl (by decide +kernel) rfl rfl (Nat.le_of_ble_eq_true rfl) dX2_init_64 (fun H locs hP hD hS => ?_)
      exact W.vret hx hb hr (fun t ht hW => ⟨⟨((fun k => match k with | 0 => h0 | 1 => q1 | 2 => q2 | 3 => q3 | 4 => q4 | _ => q5), (fun k => match k with | 1 => c1 | 2 => c2 | 3 => c3 | 4 => c4 | _ => c5)), rfl, rfl, by rw [ht]; exact hP, va_K.moved hW.alike hK, hD⟩, hS.F ht⟩) hS.2.2 dX2_init_67
  · refine lv_iconst (v := 0) hx hb dX2_init_50 (by decide) ?_
    refine lv_goto (tgt := 64) hx hb dX2_init_51 (by decide) ?_
    refine y_top (x' := nI (pz_clip x)) (pz_clip_0 c1_) ?_
    refine va_put (D := D) (ci := 1) (v := .int (nI (pz_clip x))) (ty := .int) (C := RX2) (T := TX2) (N := 6) hx hb hts in_X2 tyX2 tyX2_ok nmX2 hown hK hP hD hS 0 rfl rfl 0 (by decide) (hts _ q204) (fun _ h9 => h9) rfl (by decide +kernel) rfl rfl (Nat.le_of_ble_eq_true rfl) dX2_init_64 (fun H locs hP hD hS => ?_)
    exact W.vret hx hb hr (fun t ht hW => ⟨⟨((fun k => match k with | 0 => h0 | 1 => q1 | 2 => q2 | 3 => q3 | 4 => q4 | _ => q5), (fun k => match k with | 1 => c1 | 2 => c2 | 3 => c3 | 4 => c4 | _ => c5)), rfl, rfl, by rw [ht]; exact hP, va_K.moved hW.alike hK, hD⟩, hS.F ht⟩) hS.2.2 dX2_init_67
/-- the script's reading -/
theorem y_sld {p : Program} {l : Launch} {e : Env} {R : Room} {s : State} {m : MethodId} {args : Array Value} {below : List Frame} {meth : Method} {c : Code} {H : Heap} {locs : List Loc} {cells slots : Nat} {Q : State → Prop} {cc : ByteArray} {pc : Nat} {ls : Array Slot} {rest : List Value} {A : Nat → Prop} {H0 : Heap} {i : Int32} (hx : p.tables.exec = Jvm.exec) (hb : c.code = cc) {b L : Nat} {xs : Nat → Int32} (hX : va_X b L xs s H0) (hbl : b < H0.size) (hbA : ¬ A b) (hS : va_S A H0 H locs) (k : Nat) (hi : i = nI k) (hk : k < L) (hL : L < 2 ^ 31) (hdg : decode cc pc = .ok (.iaload, 1))
    (kk : W p l e R s m args below meth c H locs cells slots Q (F0 m (pc + 1) ls (.int (xs k) :: rest))) : W p l e R s m args below meth c H locs cells slots Q (F0 m pc ls (.int i :: .ref b :: rest)) := by
  subst hi
  refine va_sld hx hb hX hbl hbA hS (vp_in_nI hk hL) hdg ?_
  rw [nI_clamp (by omega)]
  exact kk
set_option maxHeartbeats 4000000 in
theorem mL_cell (l : Launch) (b L sz : Nat) (xs : Nat → Int32) (hL : L ≤ 257) : Met l yX0_cell (ws_ yX0_cell cX0_cell 2 (some .int)) (y_rm 0 0) (va_Pc [.ref b, .int 0] (fun U => U.heap.size = sz ∧ b < sz ∧ va_X b L xs U U.heap))
    (va_Qi (fun r (_ : Unit) => r = if 0 < L then xs 0 else 0) (fun _ _ => True) (fun q => sz ≤ q)) 0 0 (fun q => sz ≤ q) := by
  refine Met.ofW (cc := cX0_cell) (maxL := 2) (ret := some .int) (by decide) rfl ?_
  intro p e s m args below meth c s₁ B hml hv
  obtain ⟨rfl, hsz, hbs, hX⟩ := hv
  have hx := B.exec
  have hb := B.bytes
  have hr := B.returns
  have hlocks := B.notSynchronized
  subst hsz
  have hS : va_S (fun q => s.heap.size ≤ q) s.heap s.heap [] := va_S.rf
  have hbA : ¬ (fun q => s.heap.size ≤ q) b := Nat.not_le.mpr hbs
  have hl := lv_entry ([.ref b, .int 0]) (n := 2) (Nat.le_of_ble_eq_true rfl)
  rw [lg_entry_eq]
  generalize (lg_sl ([.ref b, .int 0]) ++ List.replicate (2 - (lg_sl ([.ref b, .int 0])).length) Slot.unset).toArray = ls at hl ⊢
  have hl : lv_has ls 2 [(0, .ref b), (1, .int 0)] := hl
  refine lv_iload_n hx hb dX0_cell_0 rfl (lv_at hl 1 rfl) ?_
  refine lv_aload_n hx hb dX0_cell_1 rfl (lv_at hl 0 rfl) ?_
  refine va_slen hx hb hX hbs hbA hS dX0_cell_2 ?_
  refine lv_icmp_ge (tgt := 12) hx hb dX0_cell_3 (by decide) (fun c3 => ?_) (fun c3 => ?_)
  · have h0 : ¬ 0 < L := fun q => (nI_ge (a := 0) (b := L) q (by omega)) c3
    refine lv_iconst (v := 0) hx hb dX0_cell_12 (by decide) ?_
    exact W.iret (v := 0) hx hb hr (fun t ht hW => ⟨⟨0, (), rfl, by rw [if_neg h0], trivial⟩, hS.F ht⟩) hS.2.2 dX0_cell_13
  · have h0 : 0 < L := by
      apply Classical.byContradiction
      intro q
      exact c3 (nI_le (a := L) (b := 0) (by omega) (by decide))
    refine lv_aload_n hx hb dX0_cell_6 rfl (lv_at hl 0 rfl) ?_
    refine lv_iload_n hx hb dX0_cell_7 rfl (lv_at hl 1 rfl) ?_
    refine y_sld hx hb hX hbs hbA hS 0 rfl h0 (by omega) dX0_cell_8 ?_
    refine lv_goto (tgt := 13) hx hb dX0_cell_9 (by decide) ?_
    exact W.iret (v := xs 0) hx hb hr (fun t ht hW => ⟨⟨xs 0, (), rfl, by rw [if_pos h0], trivial⟩, hS.F ht⟩) hS.2.2 dX0_cell_13
end
section
-- ===== end of PART A; then your names; then what follows =====
/-! THE CLAIM OUT OF ONE WALK OF THE LAW'S BODY. Your part is whole_start (and what it stands on); all else here is the same for every law, but numbers. -/
def R_law : String := "TrackMarketLaw"
def lw_P (b : Addr) (xs : List Int32) (args : Array Value) (s : State) : Prop := args = #[.ref b] ∧ s.IntsAt b xs ∧ xs.length ≤ 257 ∧ (Jvm.Cond.and given_1 narrow_1).before args s = true
def lw_Q (_ : Array Value) (s : State) (o : Outcome) (t : State) : Prop := o = .returned (some (.int 1)) ∧ Framed s o t [] 600000 7290000
def lw_Z (below : List Frame) (a : Array Value) (s : State) : State → Prop := fun t => ∃ o, t.status = .running ∧ Ended t below o ∧ lw_Q a s o t
/-- the law's own end, with 1 on the stack, nothing written that was there before, its room as the claim has it -/
theorem lw_ret {p : Program} {l : Launch} {e : Env} {s : State} {m : MethodId} {below : List Frame} {meth : Method} {c : Code} {b : Nat} (hx : p.tables.exec = Jvm.exec) (hb : c.code = code) (hr : meth.sig.returnType = ret) (hlocks : meth.locks = false) {pc : Nat} {H : Heap} {ls : Array Slot} (hdg : decode code pc = .ok (.ireturn, 1)) : W p l e room_1 s m #[Value.ref b] below meth c H [] 600000 7290000 (lw_Z below #[Value.ref b] s) (F0 m pc ls [.int 1]) := by
  intro T hT X
  obtain ⟨fs, hret, hrun, hended, hW, hframe⟩ := X.leave (v := some (.int 1)) (hlocks := hlocks) (fun h => by rw [hr] at h; cases h)
  have hmeth' : T.vm.method? m = some meth := X.method'
  refine ⟨T.setFrames fs, ?_, .returned (some (.int 1)), hrun, hended, rfl, ⟨_, rfl⟩, hW, hframe⟩
  jvm_step X.here [X.here.top, hx, hb, hdg, hmeth', hr, ret, narrow_b1]
  (try refine ⟨rfl, ?_⟩); (try refine ⟨rfl, ?_⟩)
  first | (intro acts; rw [hret _ acts rfl rfl rfl]) | rw [hret _ _ rfl rfl rfl]
  exact Steps.refl _
/-- what holds at the law's entry: the machine, the code, the tables' words (any of lw_tbl by 'hts w (by decide +kernel)'), the script of L ints xs at the cell b, what the Statement gives of the start (any of its parts by flat_of_before) -/
def lw_At (p : Program) (s : State) (m : MethodId) (meth : Method) (c : Code) (b L : Nat) (xs : Nat → Int32) : Prop :=
  p.tables.exec = Jvm.exec ∧ c.code = code ∧ meth.sig.returnType = ret ∧ c.maxLocals = 4 ∧ s.vm.findClass R_law = some m.cls ∧ (∀ w ∈ lw_tbl, w.before #[Value.ref b] s = true) ∧ va_X b L xs s s.heap ∧ b < s.heap.size ∧ meth.locks = false ∧ (Jvm.Cond.and given_1 narrow_1).before #[Value.ref b] s = true
end
section
/-! the law's loop (printed by gen/walks6.py) -/
theorem pz_JW_BR {k P : Nat} {js je jw : Nat → Nat} {a b c r : Int32} {P' : Nat} {js' je' jw' : Nat → Nat} (h : pz_JW k P js je jw) (hb : pz_BR P js je jw a b c r P' js' je' jw') : pz_JW k P' js' je' jw' := by
  rcases hb with ⟨-, -, rfl, rfl, rfl, rfl⟩ | ⟨-, -, -, rfl, rfl, rfl, rfl⟩ | ⟨-, j, A, B, C, g1, -, -, -, g5, g6, g7, g8, -, rfl, rfl, rfl, rfl⟩
  · exact h
  · exact h
  · obtain ⟨h1, h2, h3, h4⟩ := h
    refine ⟨h1, pz_set_lt h2 g1.1, fun i hi => ?_, fun i hi hbi => ?_⟩
    · have := h3 i hi
      unfold va_up
      by_cases e : i = j
      · rw [if_pos e, if_pos e, if_pos e]
        omega
      · rw [if_neg e, if_neg e, if_neg e]
        exact this
    · unfold va_up
      by_cases e : i = j
      · rw [if_pos e, if_pos e]
        omega
      · rw [pz_set_ne e] at hbi
        rw [if_neg e, if_neg e]
        exact h4 i hi hbi
theorem pz_JW_TK {k P : Nat} {js je jw : Nat → Nat} {j r : Int32} {P' : Nat} (h : pz_JW k P js je jw) (hb : pz_TK P j r P') : pz_JW k P' js je jw := by
  rcases hb with ⟨-, -, rfl⟩ | ⟨-, -, q, hq, -, rfl⟩
  · exact h
  · obtain ⟨h1, h2, h3, h4⟩ := h
    refine ⟨h1, pz_clr_lt h2, h3, fun i hi hbi => ?_⟩
    by_cases e : i = q
    · rw [e, pz_clr_self hq] at hbi
      cases hbi
    · rw [pz_clr_ne h2 hq e] at hbi
      exact h4 i hi hbi
theorem pz_JW_RV {k P : Nat} {js je jw jw' : Nat → Nat} {j w r : Int32} (h : pz_JW k P js je jw) (hb : pz_RV P jw j w r jw') : pz_JW k P js je jw' := by
  rcases hb with ⟨-, -, rfl⟩ | ⟨-, -, q, C, hq, -, -, -, g5, rfl⟩
  · exact h
  · obtain ⟨h1, h2, h3, h4⟩ := h
    refine ⟨h1, h2, fun i hi => ?_, h4⟩
    have := h3 i hi
    exact ⟨this.1, this.2.1, pz_up20 (fun j hj => (h3 j hj).2.2) g5 i hi⟩
theorem pz_JW_ST {k P k' : Nat} {js je jw : Nat → Nat} {n r : Int32} (h : pz_JW k P js je jw) (hb : pz_ST k n r k') : pz_JW k' P js je jw := by
  rcases hb with ⟨-, -, rfl⟩ | ⟨-, -, -, h5⟩
  · exact h
  · exact ⟨h5, h.2⟩
theorem pz_lim {L i : Nat} (hL : L ≤ 257) (hi : i < 2 ^ 20) : nI L - 4 < nI i ↔ L < i + 4 := by
  rw [show (4 : Int32) = nI 4 from rfl, Int32.lt_iff_toInt_lt, nI_toInt (by omega), pk_sub_toInt (by omega) (by omega)]
  omega
def pz_Wd (adx adm : Nat → Nat) (cdx cdm : Nat → ClassId) (ws : va_W) : Prop := ∃ (k P : Nat) (js je jw : Nat → Nat) (u v : va_W), ws = u ++ v ∧ pz_JW k P js je jw ∧ pz_XS adx cdx k P js je jw u ∧ pz_MS adm cdm k P js je jw v
theorem y_forE {p : Program} {l : Launch} {e : Env} {R : Room} {s : State} {m : MethodId} {args : Array Value} {below : List Frame} {meth : Method} {c : Code} {H : Heap} {locs : List Loc} {cells slots : Nat} {Q : State → Prop} {ls : Array Slot} {D : va_G} {A : Nat → Prop} {H0 : Heap} {ws : va_W} (hd nL N : Nat) (Wd : va_W → Prop) (lvF : Nat → List (Nat × Value)) (h0 : Wd ws) (hw : y_W D A H0 ws H locs) (hl : lv_has ls nL (lvF 0))
    (body : ∀ (j : Nat), j < N → ∀ (ws : va_W), Wd ws → ∀ (H : Heap) (locs : List Loc) (ls : Array Slot), y_W D A H0 ws H locs → lv_has ls nL (lvF j) → (∀ (ws : va_W), Wd ws → ∀ (H : Heap) (locs : List Loc) (ls : Array Slot), y_W D A H0 ws H locs → lv_has ls nL (lvF (j + 1)) → W p l e R s m args below meth c H locs cells slots Q (F0 m hd ls [])) → W p l e R s m args below meth c H locs cells slots Q (F0 m hd ls []))
    (exit : ∀ (ws : va_W), Wd ws → ∀ (H : Heap) (locs : List Loc) (ls : Array Slot), y_W D A H0 ws H locs → lv_has ls nL (lvF N) → W p l e R s m args below meth c H locs cells slots Q (F0 m hd ls [])) : W p l e R s m args below meth c H locs cells slots Q (F0 m hd ls []) := by
  have key : ∀ (k j : Nat), j + k = N → ∀ (ws : va_W), Wd ws → ∀ (H : Heap) (locs : List Loc) (ls : Array Slot), y_W D A H0 ws H locs → lv_has ls nL (lvF j) → W p l e R s m args below meth c H locs cells slots Q (F0 m hd ls []) := by
    intro k
    induction k with
    | zero =>
      intro j hjk ws hI H locs ls hw hl
      have : j = N := by omega
      subst this
      exact exit ws hI H locs ls hw hl
    | succ k ih =>
      intro j hjk ws hI H locs ls hw hl
      exact body j (by omega) ws hI H locs ls hw hl (fun ws hI' H locs ls hw hl => ih (j + 1) (by omega) ws hI' H locs ls hw hl)
  exact key N 0 (by omega) ws h0 H locs ls hw hl
set_option maxHeartbeats 4000000 in
theorem law_loop {p : Program} {l : Launch} {e : Env} {s : State} {m : MethodId} {below : List Frame} {meth : Method} {c : Code} {D : va_G} {b L : Nat} {xs : Nat → Int32} {adx adm : Nat → Nat} {cdx cdm : Nat → ClassId} (hL : L ≤ 257) (hx : p.tables.exec = Jvm.exec) (hb : c.code = cL_law) (hr : meth.sig.returnType = ret) (hlocks : meth.locks = false) (hml : c.maxLocals = 4) (hown : s.vm.findClass RX0 = some m.cls) (hts : ∀ w ∈ lw_all, w.before #[Value.ref b] s = true) (hX : va_X b L xs s s.heap) (hbl : b < s.heap.size)
    (hKx : va_K D y_cl (xT cdx) s) (hKm : va_K D y_cl (mT cdm) s) {ws0 : va_W} (hWd : pz_Wd adx adm cdx cdm ws0) {H : Heap} {locs : List Loc} {ls : Array Slot} (hw : y_W D (fun q => s.heap.size ≤ q) s.heap ws0 H locs) (hl : lv_has ls 4 [(0, .ref b), (1, .ref (adx 0)), (2, .ref (adm 0)), (3, .int (nI (1 + 4 * 0)))]) :
    W p l e room_1 s m #[Value.ref b] below meth c H locs 14 389 (lw_Z below #[Value.ref b] s) (F0 m 28 ls []) := by
  have hA : ∀ q : Nat, s.heap.size ≤ q → (fun q => s.heap.size ≤ q) q := fun _ h => h
  have hbA : ¬ (fun q => s.heap.size ≤ q) b := Nat.not_le.mpr hbl
  refine y_forE 28 4 ((L - 1) / 4) (pz_Wd adx adm cdx cdm) (fun n => [(0, .ref b), (1, .ref (adx 0)), (2, .ref (adm 0)), (3, .int (nI (1 + 4 * n)))]) hWd hw hl ?_ ?_
  · intro n hn ws hWd H locs ls hw hl ih
    have hn5 : 4 * n + 5 ≤ L := by omega
    have hl : lv_has ls 4 [(0, .ref b), (1, .ref (adx 0)), (2, .ref (adm 0)), (3, .int (nI (1 + 4 * n)))] := hl
    have nxt : ∀ (k P : Nat) (js je jw : Nat → Nat), pz_JW k P js je jw → ∀ (u v : va_W), pz_XS adx cdx k P js je jw u → pz_MS adm cdm k P js je jw v → ∀ (H : Heap) (locs : List Loc), y_W D (fun q => s.heap.size ≤ q) s.heap (u ++ v) H locs → W p l e room_1 s m #[Value.ref b] below meth c H locs 14 389 (lw_Z below #[Value.ref b] s) (F0 m 441 ls []) := by
      intro k P js je jw hJW u v hu hv H locs hw
      refine lv_iinc (v := nI (1 + 4 * (n + 1))) (lv' := [(3, .int (nI (1 + 4 * (n + 1)))), (0, .ref b), (1, .ref (adx 0)), (2, .ref (adm 0))]) hx hb dL_law_441 hl (k := 3) rfl (nI_add (1 + 4 * n) 4) (by decide) rfl (fun ls hl => ?_)
      refine lv_goto (tgt := 28) hx hb dL_law_444 (by decide) ?_
      exact ih _ ⟨k, P, js, je, jw, u, v, rfl, hJW, hu, hv⟩ _ _ _ hw (lv_sub hl [1, 2, 3, 0] rfl)
    obtain ⟨k, P, js, je, jw, u, v, rfl, hJW, hXS, hMS⟩ := hWd
    refine lv_iload_n hx hb dL_law_28 rfl (lv_at hl 3 rfl) ?_
    refine lv_aload_n hx hb dL_law_29 rfl (lv_at hl 0 rfl) ?_
    refine va_slen hx hb hX hbl hbA hw.2.2 dL_law_30 ?_
    refine lv_iconst (v := 4) hx hb dL_law_31 (by decide) ?_
    refine lv_isub hx hb dL_law_32 ?_
    refine lv_icmp_gt (tgt := 447) hx hb dL_law_33 (by decide) (fun c9 => absurd ((pz_lim hL (by omega)).mp c9) (by omega)) (fun _ => ?_)
    refine lv_aload_n hx hb dL_law_36 rfl (lv_at hl 0 rfl) ?_
    refine lv_iload_n hx hb dL_law_37 rfl (lv_at hl 3 rfl) ?_
    refine y_sld hx hb hX hbl hbA hw.2.2 (1 + 4 * n) rfl (by omega) (by omega) dL_law_38 ?_
    refine lv_bipush (v := 15) hx hb dL_law_39 (by decide) ?_
    refine lv_iand hx hb dL_law_41 ?_
    obtain ⟨j, hj, ej⟩ := pk_andE (xs (1 + 4 * n)) (m := 15) 4 (by decide)
    refine y_top ej ?_
    have hj16 : j < 16 := hj
    rcases (by omega : j = 0 ∨ j = 1 ∨ j = 2 ∨ j = 3 ∨ j = 4 ∨ j = 5 ∨ j = 6 ∨ j = 7 ∨ j = 8 ∨ j = 9 ∨ j = 10 ∨ j = 11 ∨ j = 12 ∨ j = 13 ∨ j = 14 ∨ j = 15) with rfl | rfl | rfl | rfl | rfl | rfl | rfl | rfl | rfl | rfl | rfl | rfl | rfl | rfl | rfl | rfl
    · refine lv_tableIn (off := 74) (tgt := 116) (x := nI 0) hx hb dL_law_42 (by decide) (by decide) (by decide) (by decide) ?_
      obtain ⟨us, ud, kn, ch, ga, wa, re, sp, rfl, hKn⟩ := hXS
      obtain ⟨ld, rfl⟩ := hMS
      refine lv_aload_n hx hb dL_law_116 rfl (lv_at hl 1 rfl) ?_
      refine lv_aload_n hx hb dL_law_117 rfl (lv_at hl 0 rfl) ?_
      refine lv_iload_n hx hb dL_law_118 rfl (lv_at hl 3 rfl) ?_
      refine lv_iconst (v := 1) hx hb dL_law_119 (by decide) ?_
      refine lv_iadd hx hb dL_law_120 ?_
      refine y_top (x' := nI (1 + 4 * n + 1)) (nI_add (1 + 4 * n) 1) ?_
      refine y_sld hx hb hX hbl hbA hw.2.2 (1 + 4 * n + 1) rfl (by omega) (by omega) dL_law_121 ?_
      refine lv_aload_n hx hb dL_law_122 rfl (lv_at hl 0 rfl) ?_
      refine lv_iload_n hx hb dL_law_123 rfl (lv_at hl 3 rfl) ?_
      refine lv_iconst (v := 2) hx hb dL_law_124 (by decide) ?_
      refine lv_iadd hx hb dL_law_125 ?_
      refine y_top (x' := nI (1 + 4 * n + 2)) (nI_add (1 + 4 * n) 2) ?_
      refine y_sld hx hb hX hbl hbA hw.2.2 (1 + 4 * n + 2) rfl (by omega) (by omega) dL_law_126 ?_
      refine lv_aload_n hx hb dL_law_127 rfl (lv_at hl 0 rfl) ?_
      refine lv_iload_n hx hb dL_law_128 rfl (lv_at hl 3 rfl) ?_
      refine lv_iconst (v := 3) hx hb dL_law_129 (by decide) ?_
      refine lv_iadd hx hb dL_law_130 ?_
      refine y_top (x' := nI (1 + 4 * n + 3)) (nI_add (1 + 4 * n) 3) ?_
      refine y_sld hx hb hX hbl hbA hw.2.2 (1 + 4 * n + 3) rfl (by omega) (by omega) dL_law_131 ?_
      refine y_callI (q := (RX1, TX1, 13)) (ci := 0) (As := [.int (xs (1 + 4 * n + 1)), .int (xs (1 + 4 * n + 2)), .int (xs (1 + 4 * n + 3))]) (rest := []) (wc := xW adx cdx (nI k) (nI P) us ud kn ch js je jw ga wa re sp) (wr := mW adm cdm (nI k) (pz_th P) js je jw ld) ⟨hx, hb, hml, hown, hts⟩ (mX_bring l D adx cdx k P us ud kn ch js je jw ga wa re sp (xs (1 + 4 * n + 1)) (xs (1 + 4 * n + 2)) (xs (1 + 4 * n + 3)) hJW hKn) (cwV 3 hts (lw_V q73 q74 q75 q21 q76) rfl rfl rfl (by decide +kernel) ⟨Nat.le_of_ble_eq_true rfl, Nat.le_of_ble_eq_true rfl⟩) hKx hw hA [0, 1, 2, 3, 4, 5, 6, 7] [8, 9, 10, 11, 12, 13] rfl rfl (by decide) (by decide) (by decide) rfl rfl rfl hl.1 rfl (Nat.le_of_ble_eq_true rfl) dL_law_132 ⟨Nat.le_of_ble_eq_true rfl, Nat.le_of_ble_eq_true rfl⟩ (fun r1 u1 H locs hq1 hw => ?_)
      obtain ⟨P1, js1, je1, jw1, hR1, us1, ud1, kn1, ch1, ga1, wa1, re1, sp1, rfl, hKn1⟩ := hq1
      have hw : y_W D (fun q => s.heap.size ≤ q) s.heap (mW adm cdm (nI k) (pz_th P) js je jw ld ++ xW adx cdx (nI k) (nI P1) us1 ud1 kn1 ch1 js1 je1 jw1 ga1 wa1 re1 sp1) H locs := hw
      refine lv_aload_n hx hb dL_law_135 rfl (lv_at hl 2 rfl) ?_
      refine lv_aload_n hx hb dL_law_136 rfl (lv_at hl 0 rfl) ?_
      refine lv_iload_n hx hb dL_law_137 rfl (lv_at hl 3 rfl) ?_
      refine lv_iconst (v := 1) hx hb dL_law_138 (by decide) ?_
      refine lv_iadd hx hb dL_law_139 ?_
      refine y_top (x' := nI (1 + 4 * n + 1)) (nI_add (1 + 4 * n) 1) ?_
      refine y_sld hx hb hX hbl hbA hw.2.2 (1 + 4 * n + 1) rfl (by omega) (by omega) dL_law_140 ?_
      refine lv_aload_n hx hb dL_law_141 rfl (lv_at hl 0 rfl) ?_
      refine lv_iload_n hx hb dL_law_142 rfl (lv_at hl 3 rfl) ?_
      refine lv_iconst (v := 2) hx hb dL_law_143 (by decide) ?_
      refine lv_iadd hx hb dL_law_144 ?_
      refine y_top (x' := nI (1 + 4 * n + 2)) (nI_add (1 + 4 * n) 2) ?_
      refine y_sld hx hb hX hbl hbA hw.2.2 (1 + 4 * n + 2) rfl (by omega) (by omega) dL_law_145 ?_
      refine lv_aload_n hx hb dL_law_146 rfl (lv_at hl 0 rfl) ?_
      refine lv_iload_n hx hb dL_law_147 rfl (lv_at hl 3 rfl) ?_
      refine lv_iconst (v := 3) hx hb dL_law_148 (by decide) ?_
      refine lv_iadd hx hb dL_law_149 ?_
      refine y_top (x' := nI (1 + 4 * n + 3)) (nI_add (1 + 4 * n) 3) ?_
      refine y_sld hx hb hX hbl hbA hw.2.2 (1 + 4 * n + 3) rfl (by omega) (by omega) dL_law_150 ?_
      refine y_callI (q := (RX2, TX2, 6)) (ci := 1) (As := [.int (xs (1 + 4 * n + 1)), .int (xs (1 + 4 * n + 2)), .int (xs (1 + 4 * n + 3))]) (rest := [.int r1]) (wc := mW adm cdm (nI k) (pz_th P) js je jw ld) (wr := xW adx cdx (nI k) (nI P1) us1 ud1 kn1 ch1 js1 je1 jw1 ga1 wa1 re1 sp1) ⟨hx, hb, hml, hown, hts⟩ (mM_bring l D adm cdm k P js je jw ld (xs (1 + 4 * n + 1)) (xs (1 + 4 * n + 2)) (xs (1 + 4 * n + 3)) hJW) (cwV 3 hts (lw_V q224 q225 q226 q22 q227) rfl rfl rfl (by decide +kernel) ⟨Nat.le_of_ble_eq_true rfl, Nat.le_of_ble_eq_true rfl⟩) hKm hw hA [0, 1, 2, 3, 4, 5] [6, 7, 8, 9, 10, 11, 12, 13] rfl rfl (by decide) (by decide) (by decide) rfl rfl rfl hl.1 rfl (Nat.le_of_ble_eq_true rfl) dL_law_151 ⟨Nat.le_of_ble_eq_true rfl, Nat.le_of_ble_eq_true rfl⟩ (fun r2 u2 H locs hq2 hw => ?_)
      obtain ⟨P2, js2, je2, jw2, hR2, ld2, rfl⟩ := hq2
      obtain ⟨er, rfl, rfl, rfl, rfl⟩ := pz_BR_u hR1 hR2
      refine lv_icmp_eq (tgt := 441) hx hb dL_law_154 (by decide) (fun _ => ?_) (fun c9 => absurd (er) c9)
      exact nxt k P1 js1 je1 jw1 (pz_JW_BR hJW hR1) _ _ ⟨us1, ud1, kn1, ch1, ga1, wa1, re1, sp1, rfl, hKn1⟩ ⟨_, rfl⟩ H locs hw
    · refine lv_tableIn (off := 117) (tgt := 159) (x := nI 1) hx hb dL_law_42 (by decide) (by decide) (by decide) (by decide) ?_
      obtain ⟨us, ud, kn, ch, ga, wa, re, sp, rfl, hKn⟩ := hXS
      obtain ⟨ld, rfl⟩ := hMS
      refine lv_aload_n hx hb dL_law_159 rfl (lv_at hl 1 rfl) ?_
      refine lv_aload_n hx hb dL_law_160 rfl (lv_at hl 0 rfl) ?_
      refine lv_iload_n hx hb dL_law_161 rfl (lv_at hl 3 rfl) ?_
      refine lv_iconst (v := 1) hx hb dL_law_162 (by decide) ?_
      refine lv_iadd hx hb dL_law_163 ?_
      refine y_top (x' := nI (1 + 4 * n + 1)) (nI_add (1 + 4 * n) 1) ?_
      refine y_sld hx hb hX hbl hbA hw.2.2 (1 + 4 * n + 1) rfl (by omega) (by omega) dL_law_164 ?_
      refine y_callI (q := (RX1, TX1, 13)) (ci := 0) (As := [.int (xs (1 + 4 * n + 1))]) (rest := []) (wc := xW adx cdx (nI k) (nI P) us ud kn ch js je jw ga wa re sp) (wr := mW adm cdm (nI k) (pz_th P) js je jw ld) ⟨hx, hb, hml, hown, hts⟩ (mX_take l D adx cdx k P us ud kn ch js je jw ga wa re sp (xs (1 + 4 * n + 1)) hJW hKn) (cwV 1 hts (lw_V q81 q82 q83 q21 q84) rfl rfl rfl (by decide +kernel) ⟨Nat.le_of_ble_eq_true rfl, Nat.le_of_ble_eq_true rfl⟩) hKx hw hA [0, 1, 2, 3, 4, 5, 6, 7] [8, 9, 10, 11, 12, 13] rfl rfl (by decide) (by decide) (by decide) rfl rfl rfl hl.1 rfl (Nat.le_of_ble_eq_true rfl) dL_law_165 ⟨Nat.le_of_ble_eq_true rfl, Nat.le_of_ble_eq_true rfl⟩ (fun r1 u1 H locs hq1 hw => ?_)
      obtain ⟨P1, hR1, us1, ud1, kn1, ch1, ga1, wa1, re1, sp1, rfl, hKn1⟩ := hq1
      have hw : y_W D (fun q => s.heap.size ≤ q) s.heap (mW adm cdm (nI k) (pz_th P) js je jw ld ++ xW adx cdx (nI k) (nI P1) us1 ud1 kn1 ch1 js je jw ga1 wa1 re1 sp1) H locs := hw
      refine lv_aload_n hx hb dL_law_168 rfl (lv_at hl 2 rfl) ?_
      refine lv_aload_n hx hb dL_law_169 rfl (lv_at hl 0 rfl) ?_
      refine lv_iload_n hx hb dL_law_170 rfl (lv_at hl 3 rfl) ?_
      refine lv_iconst (v := 1) hx hb dL_law_171 (by decide) ?_
      refine lv_iadd hx hb dL_law_172 ?_
      refine y_top (x' := nI (1 + 4 * n + 1)) (nI_add (1 + 4 * n) 1) ?_
      refine y_sld hx hb hX hbl hbA hw.2.2 (1 + 4 * n + 1) rfl (by omega) (by omega) dL_law_173 ?_
      refine y_callI (q := (RX2, TX2, 6)) (ci := 1) (As := [.int (xs (1 + 4 * n + 1))]) (rest := [.int r1]) (wc := mW adm cdm (nI k) (pz_th P) js je jw ld) (wr := xW adx cdx (nI k) (nI P1) us1 ud1 kn1 ch1 js je jw ga1 wa1 re1 sp1) ⟨hx, hb, hml, hown, hts⟩ (mM_take l D adm cdm k P js je jw ld (xs (1 + 4 * n + 1)) hJW) (cwV 1 hts (lw_V q228 q229 q230 q22 q231) rfl rfl rfl (by decide +kernel) ⟨Nat.le_of_ble_eq_true rfl, Nat.le_of_ble_eq_true rfl⟩) hKm hw hA [0, 1, 2, 3, 4, 5] [6, 7, 8, 9, 10, 11, 12, 13] rfl rfl (by decide) (by decide) (by decide) rfl rfl rfl hl.1 rfl (Nat.le_of_ble_eq_true rfl) dL_law_174 ⟨Nat.le_of_ble_eq_true rfl, Nat.le_of_ble_eq_true rfl⟩ (fun r2 u2 H locs hq2 hw => ?_)
      obtain ⟨P2, hR2, ld2, rfl⟩ := hq2
      obtain ⟨er, rfl⟩ := pz_TK_u hR1 hR2
      refine lv_icmp_eq (tgt := 441) hx hb dL_law_177 (by decide) (fun _ => ?_) (fun c9 => absurd (er) c9)
      exact nxt k P1 js je jw (pz_JW_TK hJW hR1) _ _ ⟨us1, ud1, kn1, ch1, ga1, wa1, re1, sp1, rfl, hKn1⟩ ⟨_, rfl⟩ H locs hw
    · refine lv_tableIn (off := 140) (tgt := 182) (x := nI 2) hx hb dL_law_42 (by decide) (by decide) (by decide) (by decide) ?_
      obtain ⟨us, ud, kn, ch, ga, wa, re, sp, rfl, hKn⟩ := hXS
      obtain ⟨ld, rfl⟩ := hMS
      refine lv_aload_n hx hb dL_law_182 rfl (lv_at hl 1 rfl) ?_
      refine lv_aload_n hx hb dL_law_183 rfl (lv_at hl 0 rfl) ?_
      refine lv_iload_n hx hb dL_law_184 rfl (lv_at hl 3 rfl) ?_
      refine lv_iconst (v := 1) hx hb dL_law_185 (by decide) ?_
      refine lv_iadd hx hb dL_law_186 ?_
      refine y_top (x' := nI (1 + 4 * n + 1)) (nI_add (1 + 4 * n) 1) ?_
      refine y_sld hx hb hX hbl hbA hw.2.2 (1 + 4 * n + 1) rfl (by omega) (by omega) dL_law_187 ?_
      refine lv_aload_n hx hb dL_law_188 rfl (lv_at hl 0 rfl) ?_
      refine lv_iload_n hx hb dL_law_189 rfl (lv_at hl 3 rfl) ?_
      refine lv_iconst (v := 2) hx hb dL_law_190 (by decide) ?_
      refine lv_iadd hx hb dL_law_191 ?_
      refine y_top (x' := nI (1 + 4 * n + 2)) (nI_add (1 + 4 * n) 2) ?_
      refine y_sld hx hb hX hbl hbA hw.2.2 (1 + 4 * n + 2) rfl (by omega) (by omega) dL_law_192 ?_
      refine y_callI (q := (RX1, TX1, 13)) (ci := 0) (As := [.int (xs (1 + 4 * n + 1)), .int (xs (1 + 4 * n + 2))]) (rest := []) (wc := xW adx cdx (nI k) (nI P) us ud kn ch js je jw ga wa re sp) (wr := mW adm cdm (nI k) (pz_th P) js je jw ld) ⟨hx, hb, hml, hown, hts⟩ (mX_revalue l D adx cdx k P us ud kn ch js je jw ga wa re sp (xs (1 + 4 * n + 1)) (xs (1 + 4 * n + 2)) hJW hKn) (cwV 2 hts (lw_V q85 q86 q87 q21 q88) rfl rfl rfl (by decide +kernel) ⟨Nat.le_of_ble_eq_true rfl, Nat.le_of_ble_eq_true rfl⟩) hKx hw hA [0, 1, 2, 3, 4, 5, 6, 7] [8, 9, 10, 11, 12, 13] rfl rfl (by decide) (by decide) (by decide) rfl rfl rfl hl.1 rfl (Nat.le_of_ble_eq_true rfl) dL_law_193 ⟨Nat.le_of_ble_eq_true rfl, Nat.le_of_ble_eq_true rfl⟩ (fun r1 u1 H locs hq1 hw => ?_)
      obtain ⟨jw1, hR1, us1, ud1, kn1, ch1, ga1, wa1, re1, sp1, rfl, hKn1⟩ := hq1
      have hw : y_W D (fun q => s.heap.size ≤ q) s.heap (mW adm cdm (nI k) (pz_th P) js je jw ld ++ xW adx cdx (nI k) (nI P) us1 ud1 kn1 ch1 js je jw1 ga1 wa1 re1 sp1) H locs := hw
      refine lv_aload_n hx hb dL_law_196 rfl (lv_at hl 2 rfl) ?_
      refine lv_aload_n hx hb dL_law_197 rfl (lv_at hl 0 rfl) ?_
      refine lv_iload_n hx hb dL_law_198 rfl (lv_at hl 3 rfl) ?_
      refine lv_iconst (v := 1) hx hb dL_law_199 (by decide) ?_
      refine lv_iadd hx hb dL_law_200 ?_
      refine y_top (x' := nI (1 + 4 * n + 1)) (nI_add (1 + 4 * n) 1) ?_
      refine y_sld hx hb hX hbl hbA hw.2.2 (1 + 4 * n + 1) rfl (by omega) (by omega) dL_law_201 ?_
      refine lv_aload_n hx hb dL_law_202 rfl (lv_at hl 0 rfl) ?_
      refine lv_iload_n hx hb dL_law_203 rfl (lv_at hl 3 rfl) ?_
      refine lv_iconst (v := 2) hx hb dL_law_204 (by decide) ?_
      refine lv_iadd hx hb dL_law_205 ?_
      refine y_top (x' := nI (1 + 4 * n + 2)) (nI_add (1 + 4 * n) 2) ?_
      refine y_sld hx hb hX hbl hbA hw.2.2 (1 + 4 * n + 2) rfl (by omega) (by omega) dL_law_206 ?_
      refine y_callI (q := (RX2, TX2, 6)) (ci := 1) (As := [.int (xs (1 + 4 * n + 1)), .int (xs (1 + 4 * n + 2))]) (rest := [.int r1]) (wc := mW adm cdm (nI k) (pz_th P) js je jw ld) (wr := xW adx cdx (nI k) (nI P) us1 ud1 kn1 ch1 js je jw1 ga1 wa1 re1 sp1) ⟨hx, hb, hml, hown, hts⟩ (mM_revalue l D adm cdm k P js je jw ld (xs (1 + 4 * n + 1)) (xs (1 + 4 * n + 2)) hJW) (cwV 2 hts (lw_V q236 q237 q238 q22 q239) rfl rfl rfl (by decide +kernel) ⟨Nat.le_of_ble_eq_true rfl, Nat.le_of_ble_eq_true rfl⟩) hKm hw hA [0, 1, 2, 3, 4, 5] [6, 7, 8, 9, 10, 11, 12, 13] rfl rfl (by decide) (by decide) (by decide) rfl rfl rfl hl.1 rfl (Nat.le_of_ble_eq_true rfl) dL_law_207 ⟨Nat.le_of_ble_eq_true rfl, Nat.le_of_ble_eq_true rfl⟩ (fun r2 u2 H locs hq2 hw => ?_)
      obtain ⟨jw2, hR2, ld2, rfl⟩ := hq2
      obtain ⟨er, rfl⟩ := pz_RV_u hR1 hR2
      refine lv_icmp_eq (tgt := 441) hx hb dL_law_210 (by decide) (fun _ => ?_) (fun c9 => absurd (er) c9)
      exact nxt k P js je jw1 (pz_JW_RV hJW hR1) _ _ ⟨us1, ud1, kn1, ch1, ga1, wa1, re1, sp1, rfl, hKn1⟩ ⟨_, rfl⟩ H locs hw
    · refine lv_tableIn (off := 173) (tgt := 215) (x := nI 3) hx hb dL_law_42 (by decide) (by decide) (by decide) (by decide) ?_
      obtain ⟨us, ud, kn, ch, ga, wa, re, sp, rfl, hKn⟩ := hXS
      obtain ⟨ld, rfl⟩ := hMS
      refine lv_aload_n hx hb dL_law_215 rfl (lv_at hl 1 rfl) ?_
      refine lv_aload_n hx hb dL_law_216 rfl (lv_at hl 0 rfl) ?_
      refine lv_iload_n hx hb dL_law_217 rfl (lv_at hl 3 rfl) ?_
      refine lv_iconst (v := 1) hx hb dL_law_218 (by decide) ?_
      refine lv_iadd hx hb dL_law_219 ?_
      refine y_top (x' := nI (1 + 4 * n + 1)) (nI_add (1 + 4 * n) 1) ?_
      refine y_sld hx hb hX hbl hbA hw.2.2 (1 + 4 * n + 1) rfl (by omega) (by omega) dL_law_220 ?_
      refine y_callI (q := (RX1, TX1, 13)) (ci := 0) (As := [.int (xs (1 + 4 * n + 1))]) (rest := []) (wc := xW adx cdx (nI k) (nI P) us ud kn ch js je jw ga wa re sp) (wr := mW adm cdm (nI k) (pz_th P) js je jw ld) ⟨hx, hb, hml, hown, hts⟩ (mX_setTracks l D adx cdx k P us ud kn ch js je jw ga wa re sp (xs (1 + 4 * n + 1)) hJW hKn) (cwV 1 hts (lw_V q89 q90 q91 q21 q92) rfl rfl rfl (by decide +kernel) ⟨Nat.le_of_ble_eq_true rfl, Nat.le_of_ble_eq_true rfl⟩) hKx hw hA [0, 1, 2, 3, 4, 5, 6, 7] [8, 9, 10, 11, 12, 13] rfl rfl (by decide) (by decide) (by decide) rfl rfl rfl hl.1 rfl (Nat.le_of_ble_eq_true rfl) dL_law_221 ⟨Nat.le_of_ble_eq_true rfl, Nat.le_of_ble_eq_true rfl⟩ (fun r1 u1 H locs hq1 hw => ?_)
      obtain ⟨k1, hR1, us1, ud1, kn1, ch1, ga1, wa1, re1, sp1, rfl, hKn1⟩ := hq1
      have hw : y_W D (fun q => s.heap.size ≤ q) s.heap (mW adm cdm (nI k) (pz_th P) js je jw ld ++ xW adx cdx (nI k1) (nI P) us1 ud1 kn1 ch1 js je jw ga1 wa1 re1 sp1) H locs := hw
      refine lv_aload_n hx hb dL_law_224 rfl (lv_at hl 2 rfl) ?_
      refine lv_aload_n hx hb dL_law_225 rfl (lv_at hl 0 rfl) ?_
      refine lv_iload_n hx hb dL_law_226 rfl (lv_at hl 3 rfl) ?_
      refine lv_iconst (v := 1) hx hb dL_law_227 (by decide) ?_
      refine lv_iadd hx hb dL_law_228 ?_
      refine y_top (x' := nI (1 + 4 * n + 1)) (nI_add (1 + 4 * n) 1) ?_
      refine y_sld hx hb hX hbl hbA hw.2.2 (1 + 4 * n + 1) rfl (by omega) (by omega) dL_law_229 ?_
      refine y_callI (q := (RX2, TX2, 6)) (ci := 1) (As := [.int (xs (1 + 4 * n + 1))]) (rest := [.int r1]) (wc := mW adm cdm (nI k) (pz_th P) js je jw ld) (wr := xW adx cdx (nI k1) (nI P) us1 ud1 kn1 ch1 js je jw ga1 wa1 re1 sp1) ⟨hx, hb, hml, hown, hts⟩ (mM_setTracks l D adm cdm k P js je jw ld (xs (1 + 4 * n + 1)) hJW) (cwV 1 hts (lw_V q240 q241 q242 q22 q243) rfl rfl rfl (by decide +kernel) ⟨Nat.le_of_ble_eq_true rfl, Nat.le_of_ble_eq_true rfl⟩) hKm hw hA [0, 1, 2, 3, 4, 5] [6, 7, 8, 9, 10, 11, 12, 13] rfl rfl (by decide) (by decide) (by decide) rfl rfl rfl hl.1 rfl (Nat.le_of_ble_eq_true rfl) dL_law_230 ⟨Nat.le_of_ble_eq_true rfl, Nat.le_of_ble_eq_true rfl⟩ (fun r2 u2 H locs hq2 hw => ?_)
      obtain ⟨k2, hR2, ld2, rfl⟩ := hq2
      obtain ⟨er, rfl⟩ := pz_ST_u hR1 hR2
      refine lv_icmp_eq (tgt := 441) hx hb dL_law_233 (by decide) (fun _ => ?_) (fun c9 => absurd (er) c9)
      exact nxt k1 P js je jw (pz_JW_ST hJW hR1) _ _ ⟨us1, ud1, kn1, ch1, ga1, wa1, re1, sp1, rfl, hKn1⟩ ⟨_, rfl⟩ H locs hw
    · refine lv_tableIn (off := 196) (tgt := 238) (x := nI 4) hx hb dL_law_42 (by decide) (by decide) (by decide) (by decide) ?_
      obtain ⟨us, ud, kn, ch, ga, wa, re, sp, rfl, hKn⟩ := hXS
      obtain ⟨ld, rfl⟩ := hMS
      refine lv_aload_n hx hb dL_law_238 rfl (lv_at hl 1 rfl) ?_
      refine y_callI (q := (RX1, TX1, 13)) (ci := 0) (As := []) (rest := []) (wc := xW adx cdx (nI k) (nI P) us ud kn ch js je jw ga wa re sp) (wr := mW adm cdm (nI k) (pz_th P) js je jw ld) ⟨hx, hb, hml, hown, hts⟩ (mX_tracks l D adx cdx k P us ud kn ch js je jw ga wa re sp hJW hKn) (cwV 0 hts (lw_V q93 q94 q95 q21 q96) rfl rfl rfl (by decide +kernel) ⟨Nat.le_of_ble_eq_true rfl, Nat.le_of_ble_eq_true rfl⟩) hKx hw hA [0, 1, 2, 3, 4, 5, 6, 7] [8, 9, 10, 11, 12, 13] rfl rfl (by decide) (by decide) (by decide) rfl rfl rfl hl.1 rfl (Nat.le_of_ble_eq_true rfl) dL_law_239 ⟨Nat.le_of_ble_eq_true rfl, Nat.le_of_ble_eq_true rfl⟩ (fun r1 u1 H locs hq1 hw => ?_)
      obtain ⟨e1, us1, ud1, kn1, ch1, ga1, wa1, re1, sp1, rfl, hKn1⟩ := hq1
      have hw : y_W D (fun q => s.heap.size ≤ q) s.heap (mW adm cdm (nI k) (pz_th P) js je jw ld ++ xW adx cdx (nI k) (nI P) us1 ud1 kn1 ch1 js je jw ga1 wa1 re1 sp1) H locs := hw
      refine lv_aload_n hx hb dL_law_242 rfl (lv_at hl 2 rfl) ?_
      refine y_callI (q := (RX2, TX2, 6)) (ci := 1) (As := []) (rest := [.int r1]) (wc := mW adm cdm (nI k) (pz_th P) js je jw ld) (wr := xW adx cdx (nI k) (nI P) us1 ud1 kn1 ch1 js je jw ga1 wa1 re1 sp1) ⟨hx, hb, hml, hown, hts⟩ (mM_tracks l D adm cdm k P js je jw ld hJW) (cwV 0 hts (lw_V q244 q245 q246 q22 q247) rfl rfl rfl (by decide +kernel) ⟨Nat.le_of_ble_eq_true rfl, Nat.le_of_ble_eq_true rfl⟩) hKm hw hA [0, 1, 2, 3, 4, 5] [6, 7, 8, 9, 10, 11, 12, 13] rfl rfl (by decide) (by decide) (by decide) rfl rfl rfl hl.1 rfl (Nat.le_of_ble_eq_true rfl) dL_law_243 ⟨Nat.le_of_ble_eq_true rfl, Nat.le_of_ble_eq_true rfl⟩ (fun r2 u2 H locs hq2 hw => ?_)
      obtain ⟨e2, ld2, rfl⟩ := hq2
      refine lv_icmp_eq (tgt := 441) hx hb dL_law_246 (by decide) (fun _ => ?_) (fun c9 => absurd (e1.trans e2.symm) c9)
      exact nxt k P js je jw hJW _ _ ⟨us1, ud1, kn1, ch1, ga1, wa1, re1, sp1, rfl, hKn1⟩ ⟨_, rfl⟩ H locs hw
    · refine lv_tableIn (off := 209) (tgt := 251) (x := nI 5) hx hb dL_law_42 (by decide) (by decide) (by decide) (by decide) ?_
      obtain ⟨us, ud, kn, ch, ga, wa, re, sp, rfl, hKn⟩ := hXS
      obtain ⟨ld, rfl⟩ := hMS
      refine lv_aload_n hx hb dL_law_251 rfl (lv_at hl 1 rfl) ?_
      refine y_callI (q := (RX1, TX1, 13)) (ci := 0) (As := []) (rest := []) (wc := xW adx cdx (nI k) (nI P) us ud kn ch js je jw ga wa re sp) (wr := mW adm cdm (nI k) (pz_th P) js je jw ld) ⟨hx, hb, hml, hown, hts⟩ (mX_jobs l D adx cdx k P us ud kn ch js je jw ga wa re sp hJW hKn) (cwV 0 hts (lw_V q97 q98 q99 q21 q100) rfl rfl rfl (by decide +kernel) ⟨Nat.le_of_ble_eq_true rfl, Nat.le_of_ble_eq_true rfl⟩) hKx hw hA [0, 1, 2, 3, 4, 5, 6, 7] [8, 9, 10, 11, 12, 13] rfl rfl (by decide) (by decide) (by decide) rfl rfl rfl hl.1 rfl (Nat.le_of_ble_eq_true rfl) dL_law_252 ⟨Nat.le_of_ble_eq_true rfl, Nat.le_of_ble_eq_true rfl⟩ (fun r1 u1 H locs hq1 hw => ?_)
      obtain ⟨e1, us1, ud1, kn1, ch1, ga1, wa1, re1, sp1, rfl, hKn1⟩ := hq1
      have hw : y_W D (fun q => s.heap.size ≤ q) s.heap (mW adm cdm (nI k) (pz_th P) js je jw ld ++ xW adx cdx (nI k) (nI P) us1 ud1 kn1 ch1 js je jw ga1 wa1 re1 sp1) H locs := hw
      refine lv_aload_n hx hb dL_law_255 rfl (lv_at hl 2 rfl) ?_
      refine y_callI (q := (RX2, TX2, 6)) (ci := 1) (As := []) (rest := [.int r1]) (wc := mW adm cdm (nI k) (pz_th P) js je jw ld) (wr := xW adx cdx (nI k) (nI P) us1 ud1 kn1 ch1 js je jw ga1 wa1 re1 sp1) ⟨hx, hb, hml, hown, hts⟩ (mM_jobs l D adm cdm k P js je jw ld hJW.2.1) (cwV 0 hts (lw_V q248 q249 q250 q22 q251) rfl rfl rfl (by decide +kernel) ⟨Nat.le_of_ble_eq_true rfl, Nat.le_of_ble_eq_true rfl⟩) hKm hw hA [0, 1, 2, 3, 4, 5] [6, 7, 8, 9, 10, 11, 12, 13] rfl rfl (by decide) (by decide) (by decide) rfl rfl rfl hl.1 rfl (Nat.le_of_ble_eq_true rfl) dL_law_256 ⟨Nat.le_of_ble_eq_true rfl, Nat.le_of_ble_eq_true rfl⟩ (fun r2 u2 H locs hq2 hw => ?_)
      obtain ⟨e2, rfl⟩ := hq2
      refine lv_icmp_eq (tgt := 441) hx hb dL_law_259 (by decide) (fun _ => ?_) (fun c9 => absurd (e1.trans e2.symm) c9)
      exact nxt k P js je jw hJW _ _ ⟨us1, ud1, kn1, ch1, ga1, wa1, re1, sp1, rfl, hKn1⟩ ⟨_, rfl⟩ H locs hw
    · refine lv_tableIn (off := 222) (tgt := 264) (x := nI 6) hx hb dL_law_42 (by decide) (by decide) (by decide) (by decide) ?_
      obtain ⟨us, ud, kn, ch, ga, wa, re, sp, rfl, hKn⟩ := hXS
      obtain ⟨ld, rfl⟩ := hMS
      refine lv_aload_n hx hb dL_law_264 rfl (lv_at hl 1 rfl) ?_
      refine y_callI (q := (RX1, TX1, 13)) (ci := 0) (As := []) (rest := []) (wc := xW adx cdx (nI k) (nI P) us ud kn ch js je jw ga wa re sp) (wr := mW adm cdm (nI k) (pz_th P) js je jw ld) ⟨hx, hb, hml, hown, hts⟩ (mX_chosen l D adx cdx k P us ud kn ch js je jw ga wa re sp hJW hKn) (cwV 0 hts (lw_V q101 q102 q103 q21 q104) rfl rfl rfl (by decide +kernel) ⟨Nat.le_of_ble_eq_true rfl, Nat.le_of_ble_eq_true rfl⟩) hKx hw hA [0, 1, 2, 3, 4, 5, 6, 7] [8, 9, 10, 11, 12, 13] rfl rfl (by decide) (by decide) (by decide) rfl rfl rfl hl.1 rfl (Nat.le_of_ble_eq_true rfl) dL_law_265 ⟨Nat.le_of_ble_eq_true rfl, Nat.le_of_ble_eq_true rfl⟩ (fun r1 u1 H locs hq1 hw => ?_)
      obtain ⟨e1, us1, ud1, kn1, ch1, ga1, wa1, re1, sp1, rfl, hKn1⟩ := hq1
      have hw : y_W D (fun q => s.heap.size ≤ q) s.heap (mW adm cdm (nI k) (pz_th P) js je jw ld ++ xW adx cdx (nI k) (nI P) us1 ud1 kn1 ch1 js je jw ga1 wa1 re1 sp1) H locs := hw
      refine lv_aload_n hx hb dL_law_268 rfl (lv_at hl 2 rfl) ?_
      refine y_callI (q := (RX2, TX2, 6)) (ci := 1) (As := []) (rest := [.int r1]) (wc := mW adm cdm (nI k) (pz_th P) js je jw ld) (wr := xW adx cdx (nI k) (nI P) us1 ud1 kn1 ch1 js je jw ga1 wa1 re1 sp1) ⟨hx, hb, hml, hown, hts⟩ (mM_chosen l D adm cdm k P js je jw ld hJW) (cwV 0 hts (lw_V q252 q253 q254 q22 q255) rfl rfl rfl (by decide +kernel) ⟨Nat.le_of_ble_eq_true rfl, Nat.le_of_ble_eq_true rfl⟩) hKm hw hA [0, 1, 2, 3, 4, 5] [6, 7, 8, 9, 10, 11, 12, 13] rfl rfl (by decide) (by decide) (by decide) rfl rfl rfl hl.1 rfl (Nat.le_of_ble_eq_true rfl) dL_law_269 ⟨Nat.le_of_ble_eq_true rfl, Nat.le_of_ble_eq_true rfl⟩ (fun r2 u2 H locs hq2 hw => ?_)
      obtain ⟨e2, ld2, rfl⟩ := hq2
      refine lv_icmp_eq (tgt := 441) hx hb dL_law_272 (by decide) (fun _ => ?_) (fun c9 => absurd (e1.trans e2.symm) c9)
      exact nxt k P js je jw hJW _ _ ⟨us1, ud1, kn1, ch1, ga1, wa1, re1, sp1, rfl, hKn1⟩ ⟨_, rfl⟩ H locs hw
    · refine lv_tableIn (off := 235) (tgt := 277) (x := nI 7) hx hb dL_law_42 (by decide) (by decide) (by decide) (by decide) ?_
      obtain ⟨us, ud, kn, ch, ga, wa, re, sp, rfl, hKn⟩ := hXS
      obtain ⟨ld, rfl⟩ := hMS
      refine lv_aload_n hx hb dL_law_277 rfl (lv_at hl 1 rfl) ?_
      refine y_callI (q := (RX1, TX1, 13)) (ci := 0) (As := []) (rest := []) (wc := xW adx cdx (nI k) (nI P) us ud kn ch js je jw ga wa re sp) (wr := mW adm cdm (nI k) (pz_th P) js je jw ld) ⟨hx, hb, hml, hown, hts⟩ (mX_total l D adx cdx k P us ud kn ch js je jw ga wa re sp hJW hKn) (cwV 0 hts (lw_V q138 q139 q140 q21 q141) rfl rfl rfl (by decide +kernel) ⟨Nat.le_of_ble_eq_true rfl, Nat.le_of_ble_eq_true rfl⟩) hKx hw hA [0, 1, 2, 3, 4, 5, 6, 7] [8, 9, 10, 11, 12, 13] rfl rfl (by decide) (by decide) (by decide) rfl rfl rfl hl.1 rfl (Nat.le_of_ble_eq_true rfl) dL_law_278 ⟨Nat.le_of_ble_eq_true rfl, Nat.le_of_ble_eq_true rfl⟩ (fun r1 u1 H locs hq1 hw => ?_)
      obtain ⟨e1, us1, ud1, kn1, ch1, ga1, wa1, re1, sp1, rfl, hKn1⟩ := hq1
      have hw : y_W D (fun q => s.heap.size ≤ q) s.heap (mW adm cdm (nI k) (pz_th P) js je jw ld ++ xW adx cdx (nI k) (nI P) us1 ud1 kn1 ch1 js je jw ga1 wa1 re1 sp1) H locs := hw
      refine lv_aload_n hx hb dL_law_281 rfl (lv_at hl 2 rfl) ?_
      refine y_callI (q := (RX2, TX2, 6)) (ci := 1) (As := []) (rest := [.int r1]) (wc := mW adm cdm (nI k) (pz_th P) js je jw ld) (wr := xW adx cdx (nI k) (nI P) us1 ud1 kn1 ch1 js je jw ga1 wa1 re1 sp1) ⟨hx, hb, hml, hown, hts⟩ (mM_total l D adm cdm k P js je jw ld hJW) (cwV 0 hts (lw_V q277 q278 q279 q22 q280) rfl rfl rfl (by decide +kernel) ⟨Nat.le_of_ble_eq_true rfl, Nat.le_of_ble_eq_true rfl⟩) hKm hw hA [0, 1, 2, 3, 4, 5] [6, 7, 8, 9, 10, 11, 12, 13] rfl rfl (by decide) (by decide) (by decide) rfl rfl rfl hl.1 rfl (Nat.le_of_ble_eq_true rfl) dL_law_282 ⟨Nat.le_of_ble_eq_true rfl, Nat.le_of_ble_eq_true rfl⟩ (fun r2 u2 H locs hq2 hw => ?_)
      obtain ⟨e2, ld2, rfl⟩ := hq2
      refine lv_icmp_eq (tgt := 441) hx hb dL_law_285 (by decide) (fun _ => ?_) (fun c9 => absurd (e1.trans e2.symm) c9)
      exact nxt k P js je jw hJW _ _ ⟨us1, ud1, kn1, ch1, ga1, wa1, re1, sp1, rfl, hKn1⟩ ⟨_, rfl⟩ H locs hw
    · refine lv_tableIn (off := 248) (tgt := 290) (x := nI 8) hx hb dL_law_42 (by decide) (by decide) (by decide) (by decide) ?_
      obtain ⟨us, ud, kn, ch, ga, wa, re, sp, rfl, hKn⟩ := hXS
      obtain ⟨ld, rfl⟩ := hMS
      obtain ⟨a1, ha1, ea1⟩ := wb_of32 (xs (1 + 4 * n + 1))
      refine lv_aload_n hx hb dL_law_290 rfl (lv_at hl 1 rfl) ?_
      refine lv_aload_n hx hb dL_law_291 rfl (lv_at hl 0 rfl) ?_
      refine lv_iload_n hx hb dL_law_292 rfl (lv_at hl 3 rfl) ?_
      refine lv_iconst (v := 1) hx hb dL_law_293 (by decide) ?_
      refine lv_iadd hx hb dL_law_294 ?_
      refine y_top (x' := nI (1 + 4 * n + 1)) (nI_add (1 + 4 * n) 1) ?_
      refine y_sld hx hb hX hbl hbA hw.2.2 (1 + 4 * n + 1) rfl (by omega) (by omega) dL_law_295 ?_
      refine y_top (x' := nI a1) ea1 ?_
      refine y_callI (q := (RX1, TX1, 13)) (ci := 0) (As := [.int (nI a1)]) (rest := []) (wc := xW adx cdx (nI k) (nI P) us ud kn ch js je jw ga wa re sp) (wr := mW adm cdm (nI k) (pz_th P) js je jw ld) ⟨hx, hb, hml, hown, hts⟩ (mX_fits l D adx cdx k P us ud kn ch js je jw ga wa re sp a1 ha1 hJW hKn) (cwV 1 hts (lw_V q149 q150 q151 q21 q152) rfl rfl rfl (by decide +kernel) ⟨Nat.le_of_ble_eq_true rfl, Nat.le_of_ble_eq_true rfl⟩) hKx hw hA [0, 1, 2, 3, 4, 5, 6, 7] [8, 9, 10, 11, 12, 13] rfl rfl (by decide) (by decide) (by decide) rfl rfl rfl hl.1 rfl (Nat.le_of_ble_eq_true rfl) dL_law_296 ⟨Nat.le_of_ble_eq_true rfl, Nat.le_of_ble_eq_true rfl⟩ (fun r1 u1 H locs hq1 hw => ?_)
      obtain ⟨e1, us1, ud1, kn1, ch1, ga1, wa1, re1, sp1, rfl, hKn1⟩ := hq1
      have hw : y_W D (fun q => s.heap.size ≤ q) s.heap (mW adm cdm (nI k) (pz_th P) js je jw ld ++ xW adx cdx (nI k) (nI P) us1 ud1 kn1 ch1 js je jw ga1 wa1 re1 sp1) H locs := hw
      refine lv_aload_n hx hb dL_law_299 rfl (lv_at hl 2 rfl) ?_
      refine lv_aload_n hx hb dL_law_300 rfl (lv_at hl 0 rfl) ?_
      refine lv_iload_n hx hb dL_law_301 rfl (lv_at hl 3 rfl) ?_
      refine lv_iconst (v := 1) hx hb dL_law_302 (by decide) ?_
      refine lv_iadd hx hb dL_law_303 ?_
      refine y_top (x' := nI (1 + 4 * n + 1)) (nI_add (1 + 4 * n) 1) ?_
      refine y_sld hx hb hX hbl hbA hw.2.2 (1 + 4 * n + 1) rfl (by omega) (by omega) dL_law_304 ?_
      refine y_top (x' := nI a1) ea1 ?_
      refine y_callI (q := (RX2, TX2, 6)) (ci := 1) (As := [.int (nI a1)]) (rest := [.int r1]) (wc := mW adm cdm (nI k) (pz_th P) js je jw ld) (wr := xW adx cdx (nI k) (nI P) us1 ud1 kn1 ch1 js je jw ga1 wa1 re1 sp1) ⟨hx, hb, hml, hown, hts⟩ (mM_fits l D adm cdm k P js je jw ld a1 ha1 hJW) (cwV 1 hts (lw_V q282 q283 q284 q22 q285) rfl rfl rfl (by decide +kernel) ⟨Nat.le_of_ble_eq_true rfl, Nat.le_of_ble_eq_true rfl⟩) hKm hw hA [0, 1, 2, 3, 4, 5] [6, 7, 8, 9, 10, 11, 12, 13] rfl rfl (by decide) (by decide) (by decide) rfl rfl rfl hl.1 rfl (Nat.le_of_ble_eq_true rfl) dL_law_305 ⟨Nat.le_of_ble_eq_true rfl, Nat.le_of_ble_eq_true rfl⟩ (fun r2 u2 H locs hq2 hw => ?_)
      obtain ⟨e2, ld2, rfl⟩ := hq2
      refine lv_icmp_eq (tgt := 441) hx hb dL_law_308 (by decide) (fun _ => ?_) (fun c9 => absurd (e1.trans e2.symm) c9)
      exact nxt k P js je jw hJW _ _ ⟨us1, ud1, kn1, ch1, ga1, wa1, re1, sp1, rfl, hKn1⟩ ⟨_, rfl⟩ H locs hw
    · refine lv_tableIn (off := 271) (tgt := 313) (x := nI 9) hx hb dL_law_42 (by decide) (by decide) (by decide) (by decide) ?_
      obtain ⟨us, ud, kn, ch, ga, wa, re, sp, rfl, hKn⟩ := hXS
      obtain ⟨ld, rfl⟩ := hMS
      obtain ⟨a1, ha1, ea1⟩ := wb_of32 (xs (1 + 4 * n + 1))
      refine lv_aload_n hx hb dL_law_313 rfl (lv_at hl 1 rfl) ?_
      refine lv_aload_n hx hb dL_law_314 rfl (lv_at hl 0 rfl) ?_
      refine lv_iload_n hx hb dL_law_315 rfl (lv_at hl 3 rfl) ?_
      refine lv_iconst (v := 1) hx hb dL_law_316 (by decide) ?_
      refine lv_iadd hx hb dL_law_317 ?_
      refine y_top (x' := nI (1 + 4 * n + 1)) (nI_add (1 + 4 * n) 1) ?_
      refine y_sld hx hb hX hbl hbA hw.2.2 (1 + 4 * n + 1) rfl (by omega) (by omega) dL_law_318 ?_
      refine y_top (x' := nI a1) ea1 ?_
      refine y_callI (q := (RX1, TX1, 13)) (ci := 0) (As := [.int (nI a1)]) (rest := []) (wc := xW adx cdx (nI k) (nI P) us ud kn ch js je jw ga wa re sp) (wr := mW adm cdm (nI k) (pz_th P) js je jw ld) ⟨hx, hb, hml, hown, hts⟩ (mX_tracksFor l D adx cdx k P us ud kn ch js je jw ga wa re sp a1 hJW hKn) (cwV 1 hts (lw_V q161 q162 q163 q21 q164) rfl rfl rfl (by decide +kernel) ⟨Nat.le_of_ble_eq_true rfl, Nat.le_of_ble_eq_true rfl⟩) hKx hw hA [0, 1, 2, 3, 4, 5, 6, 7] [8, 9, 10, 11, 12, 13] rfl rfl (by decide) (by decide) (by decide) rfl rfl rfl hl.1 rfl (Nat.le_of_ble_eq_true rfl) dL_law_319 ⟨Nat.le_of_ble_eq_true rfl, Nat.le_of_ble_eq_true rfl⟩ (fun r1 u1 H locs hq1 hw => ?_)
      obtain ⟨e1, us1, ud1, kn1, ch1, ga1, wa1, re1, sp1, rfl, hKn1⟩ := hq1
      have hw : y_W D (fun q => s.heap.size ≤ q) s.heap (mW adm cdm (nI k) (pz_th P) js je jw ld ++ xW adx cdx (nI k) (nI P) us1 ud1 kn1 ch1 js je jw ga1 wa1 re1 sp1) H locs := hw
      refine lv_aload_n hx hb dL_law_322 rfl (lv_at hl 2 rfl) ?_
      refine lv_aload_n hx hb dL_law_323 rfl (lv_at hl 0 rfl) ?_
      refine lv_iload_n hx hb dL_law_324 rfl (lv_at hl 3 rfl) ?_
      refine lv_iconst (v := 1) hx hb dL_law_325 (by decide) ?_
      refine lv_iadd hx hb dL_law_326 ?_
      refine y_top (x' := nI (1 + 4 * n + 1)) (nI_add (1 + 4 * n) 1) ?_
      refine y_sld hx hb hX hbl hbA hw.2.2 (1 + 4 * n + 1) rfl (by omega) (by omega) dL_law_327 ?_
      refine y_top (x' := nI a1) ea1 ?_
      refine y_callI (q := (RX2, TX2, 6)) (ci := 1) (As := [.int (nI a1)]) (rest := [.int r1]) (wc := mW adm cdm (nI k) (pz_th P) js je jw ld) (wr := xW adx cdx (nI k) (nI P) us1 ud1 kn1 ch1 js je jw ga1 wa1 re1 sp1) ⟨hx, hb, hml, hown, hts⟩ (mM_tracksFor l D adm cdm k P js je jw ld a1 hJW) (cwV 1 hts (lw_V q286 q287 q288 q22 q289) rfl rfl rfl (by decide +kernel) ⟨Nat.le_of_ble_eq_true rfl, Nat.le_of_ble_eq_true rfl⟩) hKm hw hA [0, 1, 2, 3, 4, 5] [6, 7, 8, 9, 10, 11, 12, 13] rfl rfl (by decide) (by decide) (by decide) rfl rfl rfl hl.1 rfl (Nat.le_of_ble_eq_true rfl) dL_law_328 ⟨Nat.le_of_ble_eq_true rfl, Nat.le_of_ble_eq_true rfl⟩ (fun r2 u2 H locs hq2 hw => ?_)
      obtain ⟨e2, ld2, rfl⟩ := hq2
      refine lv_icmp_eq (tgt := 441) hx hb dL_law_331 (by decide) (fun _ => ?_) (fun c9 => absurd (e1.trans e2.symm) c9)
      exact nxt k P js je jw hJW _ _ ⟨us1, ud1, kn1, ch1, ga1, wa1, re1, sp1, rfl, hKn1⟩ ⟨_, rfl⟩ H locs hw
    · refine lv_tableIn (off := 294) (tgt := 336) (x := nI 10) hx hb dL_law_42 (by decide) (by decide) (by decide) (by decide) ?_
      obtain ⟨us, ud, kn, ch, ga, wa, re, sp, rfl, hKn⟩ := hXS
      obtain ⟨ld, rfl⟩ := hMS
      refine lv_aload_n hx hb dL_law_336 rfl (lv_at hl 1 rfl) ?_
      refine lv_aload_n hx hb dL_law_337 rfl (lv_at hl 0 rfl) ?_
      refine lv_iload_n hx hb dL_law_338 rfl (lv_at hl 3 rfl) ?_
      refine lv_iconst (v := 1) hx hb dL_law_339 (by decide) ?_
      refine lv_iadd hx hb dL_law_340 ?_
      refine y_top (x' := nI (1 + 4 * n + 1)) (nI_add (1 + 4 * n) 1) ?_
      refine y_sld hx hb hX hbl hbA hw.2.2 (1 + 4 * n + 1) rfl (by omega) (by omega) dL_law_341 ?_
      refine y_callI (q := (RX1, TX1, 13)) (ci := 0) (As := [.int (xs (1 + 4 * n + 1))]) (rest := []) (wc := xW adx cdx (nI k) (nI P) us ud kn ch js je jw ga wa re sp) (wr := mW adm cdm (nI k) (pz_th P) js je jw ld) ⟨hx, hb, hml, hown, hts⟩ (mX_price l D adx cdx k P us ud kn ch js je jw ga wa re sp (xs (1 + 4 * n + 1)) hJW hKn) (cwV 1 hts (lw_V q165 q166 q167 q21 q168) rfl rfl rfl (by decide +kernel) ⟨Nat.le_of_ble_eq_true rfl, Nat.le_of_ble_eq_true rfl⟩) hKx hw hA [0, 1, 2, 3, 4, 5, 6, 7] [8, 9, 10, 11, 12, 13] rfl rfl (by decide) (by decide) (by decide) rfl rfl rfl hl.1 rfl (Nat.le_of_ble_eq_true rfl) dL_law_342 ⟨Nat.le_of_ble_eq_true rfl, Nat.le_of_ble_eq_true rfl⟩ (fun r1 u1 H locs hq1 hw => ?_)
      obtain ⟨hn1, hp1, us1, ud1, kn1, ch1, ga1, wa1, re1, sp1, rfl, hKn1⟩ := hq1
      have hw : y_W D (fun q => s.heap.size ≤ q) s.heap (mW adm cdm (nI k) (pz_th P) js je jw ld ++ xW adx cdx (nI k) (nI P) us1 ud1 kn1 ch1 js je jw ga1 wa1 re1 sp1) H locs := hw
      refine lv_aload_n hx hb dL_law_345 rfl (lv_at hl 2 rfl) ?_
      refine lv_aload_n hx hb dL_law_346 rfl (lv_at hl 0 rfl) ?_
      refine lv_iload_n hx hb dL_law_347 rfl (lv_at hl 3 rfl) ?_
      refine lv_iconst (v := 1) hx hb dL_law_348 (by decide) ?_
      refine lv_iadd hx hb dL_law_349 ?_
      refine y_top (x' := nI (1 + 4 * n + 1)) (nI_add (1 + 4 * n) 1) ?_
      refine y_sld hx hb hX hbl hbA hw.2.2 (1 + 4 * n + 1) rfl (by omega) (by omega) dL_law_350 ?_
      refine y_callI (q := (RX2, TX2, 6)) (ci := 1) (As := [.int (xs (1 + 4 * n + 1))]) (rest := [.int r1]) (wc := mW adm cdm (nI k) (pz_th P) js je jw ld) (wr := xW adx cdx (nI k) (nI P) us1 ud1 kn1 ch1 js je jw ga1 wa1 re1 sp1) ⟨hx, hb, hml, hown, hts⟩ (mM_price l D adm cdm k P js je jw ld (xs (1 + 4 * n + 1)) hJW) (cwV 1 hts (lw_V q290 q291 q292 q22 q293) rfl rfl rfl (by decide +kernel) ⟨Nat.le_of_ble_eq_true rfl, Nat.le_of_ble_eq_true rfl⟩) hKm hw hA [0, 1, 2, 3, 4, 5] [6, 7, 8, 9, 10, 11, 12, 13] rfl rfl (by decide) (by decide) (by decide) rfl rfl rfl hl.1 rfl (Nat.le_of_ble_eq_true rfl) dL_law_351 ⟨Nat.le_of_ble_eq_true rfl, Nat.le_of_ble_eq_true rfl⟩ (fun r2 u2 H locs hq2 hw => ?_)
      obtain ⟨hn2, hp2, ld2, rfl⟩ := hq2
      have er : r1 = r2 := by
        by_cases hh : pz_has P (xs (1 + 4 * n + 1)) = 0
        · rw [hn1 hh, hn2 hh]
        · obtain ⟨q, hq8, ej, hbit⟩ := pz_has_yes hh
          exact pz_PR_u (hp1 q hq8 ej hbit) (hp2 q hq8 ej hbit)
      refine lv_icmp_eq (tgt := 441) hx hb dL_law_354 (by decide) (fun _ => ?_) (fun c9 => absurd (er) c9)
      exact nxt k P js je jw hJW _ _ ⟨us1, ud1, kn1, ch1, ga1, wa1, re1, sp1, rfl, hKn1⟩ ⟨_, rfl⟩ H locs hw
    · refine lv_tableIn (off := 317) (tgt := 359) (x := nI 11) hx hb dL_law_42 (by decide) (by decide) (by decide) (by decide) ?_
      obtain ⟨us, ud, kn, ch, ga, wa, re, sp, rfl, hKn⟩ := hXS
      obtain ⟨ld, rfl⟩ := hMS
      obtain ⟨a1, ha1, ea1⟩ := wb_of32 (xs (1 + 4 * n + 1))
      obtain ⟨a2, ha2, ea2⟩ := wb_of32 (xs (1 + 4 * n + 2))
      refine lv_aload_n hx hb dL_law_359 rfl (lv_at hl 1 rfl) ?_
      refine lv_aload_n hx hb dL_law_360 rfl (lv_at hl 0 rfl) ?_
      refine lv_iload_n hx hb dL_law_361 rfl (lv_at hl 3 rfl) ?_
      refine lv_iconst (v := 1) hx hb dL_law_362 (by decide) ?_
      refine lv_iadd hx hb dL_law_363 ?_
      refine y_top (x' := nI (1 + 4 * n + 1)) (nI_add (1 + 4 * n) 1) ?_
      refine y_sld hx hb hX hbl hbA hw.2.2 (1 + 4 * n + 1) rfl (by omega) (by omega) dL_law_364 ?_
      refine y_top (x' := nI a1) ea1 ?_
      refine lv_aload_n hx hb dL_law_365 rfl (lv_at hl 0 rfl) ?_
      refine lv_iload_n hx hb dL_law_366 rfl (lv_at hl 3 rfl) ?_
      refine lv_iconst (v := 2) hx hb dL_law_367 (by decide) ?_
      refine lv_iadd hx hb dL_law_368 ?_
      refine y_top (x' := nI (1 + 4 * n + 2)) (nI_add (1 + 4 * n) 2) ?_
      refine y_sld hx hb hX hbl hbA hw.2.2 (1 + 4 * n + 2) rfl (by omega) (by omega) dL_law_369 ?_
      refine y_top (x' := nI a2) ea2 ?_
      refine y_callI (q := (RX1, TX1, 13)) (ci := 0) (As := [.int (nI a1), .int (nI a2)]) (rest := []) (wc := xW adx cdx (nI k) (nI P) us ud kn ch js je jw ga wa re sp) (wr := mW adm cdm (nI k) (pz_th P) js je jw ld) ⟨hx, hb, hml, hown, hts⟩ (mX_totalWith l D adx cdx k P us ud kn ch js je jw ga wa re sp a1 a2 ha2 hJW hKn) (cwV 2 hts (lw_V q174 q175 q176 q21 q177) rfl rfl rfl (by decide +kernel) ⟨Nat.le_of_ble_eq_true rfl, Nat.le_of_ble_eq_true rfl⟩) hKx hw hA [0, 1, 2, 3, 4, 5, 6, 7] [8, 9, 10, 11, 12, 13] rfl rfl (by decide) (by decide) (by decide) rfl rfl rfl hl.1 rfl (Nat.le_of_ble_eq_true rfl) dL_law_370 ⟨Nat.le_of_ble_eq_true rfl, Nat.le_of_ble_eq_true rfl⟩ (fun r1 u1 H locs hq1 hw => ?_)
      obtain ⟨e1, us1, ud1, kn1, ch1, ga1, wa1, re1, sp1, rfl, hKn1⟩ := hq1
      have hw : y_W D (fun q => s.heap.size ≤ q) s.heap (mW adm cdm (nI k) (pz_th P) js je jw ld ++ xW adx cdx (nI k) (nI P) us1 ud1 kn1 ch1 js je jw ga1 wa1 re1 sp1) H locs := hw
      refine lv_aload_n hx hb dL_law_373 rfl (lv_at hl 2 rfl) ?_
      refine lv_aload_n hx hb dL_law_374 rfl (lv_at hl 0 rfl) ?_
      refine lv_iload_n hx hb dL_law_375 rfl (lv_at hl 3 rfl) ?_
      refine lv_iconst (v := 1) hx hb dL_law_376 (by decide) ?_
      refine lv_iadd hx hb dL_law_377 ?_
      refine y_top (x' := nI (1 + 4 * n + 1)) (nI_add (1 + 4 * n) 1) ?_
      refine y_sld hx hb hX hbl hbA hw.2.2 (1 + 4 * n + 1) rfl (by omega) (by omega) dL_law_378 ?_
      refine y_top (x' := nI a1) ea1 ?_
      refine lv_aload_n hx hb dL_law_379 rfl (lv_at hl 0 rfl) ?_
      refine lv_iload_n hx hb dL_law_380 rfl (lv_at hl 3 rfl) ?_
      refine lv_iconst (v := 2) hx hb dL_law_381 (by decide) ?_
      refine lv_iadd hx hb dL_law_382 ?_
      refine y_top (x' := nI (1 + 4 * n + 2)) (nI_add (1 + 4 * n) 2) ?_
      refine y_sld hx hb hX hbl hbA hw.2.2 (1 + 4 * n + 2) rfl (by omega) (by omega) dL_law_383 ?_
      refine y_top (x' := nI a2) ea2 ?_
      refine y_callI (q := (RX2, TX2, 6)) (ci := 1) (As := [.int (nI a1), .int (nI a2)]) (rest := [.int r1]) (wc := mW adm cdm (nI k) (pz_th P) js je jw ld) (wr := xW adx cdx (nI k) (nI P) us1 ud1 kn1 ch1 js je jw ga1 wa1 re1 sp1) ⟨hx, hb, hml, hown, hts⟩ (mM_totalWith l D adm cdm k P js je jw ld a1 a2 hJW) (cwV 2 hts (lw_V q294 q295 q296 q22 q297) rfl rfl rfl (by decide +kernel) ⟨Nat.le_of_ble_eq_true rfl, Nat.le_of_ble_eq_true rfl⟩) hKm hw hA [0, 1, 2, 3, 4, 5] [6, 7, 8, 9, 10, 11, 12, 13] rfl rfl (by decide) (by decide) (by decide) rfl rfl rfl hl.1 rfl (Nat.le_of_ble_eq_true rfl) dL_law_384 ⟨Nat.le_of_ble_eq_true rfl, Nat.le_of_ble_eq_true rfl⟩ (fun r2 u2 H locs hq2 hw => ?_)
      obtain ⟨e2, ld2, rfl⟩ := hq2
      refine lv_icmp_eq (tgt := 441) hx hb dL_law_387 (by decide) (fun _ => ?_) (fun c9 => absurd (pz_TW_u e1 e2) c9)
      exact nxt k P js je jw hJW _ _ ⟨us1, ud1, kn1, ch1, ga1, wa1, re1, sp1, rfl, hKn1⟩ ⟨_, rfl⟩ H locs hw
    · refine lv_tableIn (off := 350) (tgt := 392) (x := nI 12) hx hb dL_law_42 (by decide) (by decide) (by decide) (by decide) ?_
      obtain ⟨us, ud, kn, ch, ga, wa, re, sp, rfl, hKn⟩ := hXS
      obtain ⟨ld, rfl⟩ := hMS
      refine lv_aload_n hx hb dL_law_392 rfl (lv_at hl 1 rfl) ?_
      refine y_callI (q := (RX1, TX1, 13)) (ci := 0) (As := []) (rest := []) (wc := xW adx cdx (nI k) (nI P) us ud kn ch js je jw ga wa re sp) (wr := mW adm cdm (nI k) (pz_th P) js je jw ld) ⟨hx, hb, hml, hown, hts⟩ (mX_gain l D adx cdx k P us ud kn ch js je jw ga wa re sp hJW hKn) (cwV 0 hts (lw_V q178 q179 q180 q21 q181) rfl rfl rfl (by decide +kernel) ⟨Nat.le_of_ble_eq_true rfl, Nat.le_of_ble_eq_true rfl⟩) hKx hw hA [0, 1, 2, 3, 4, 5, 6, 7] [8, 9, 10, 11, 12, 13] rfl rfl (by decide) (by decide) (by decide) rfl rfl rfl hl.1 rfl (Nat.le_of_ble_eq_true rfl) dL_law_393 ⟨Nat.le_of_ble_eq_true rfl, Nat.le_of_ble_eq_true rfl⟩ (fun r1 u1 H locs hq1 hw => ?_)
      obtain ⟨e1, us1, ud1, kn1, ch1, ga1, wa1, re1, sp1, rfl, hKn1⟩ := hq1
      have hw : y_W D (fun q => s.heap.size ≤ q) s.heap (mW adm cdm (nI k) (pz_th P) js je jw ld ++ xW adx cdx (nI k) (nI P) us1 ud1 kn1 ch1 js je jw ga1 wa1 re1 sp1) H locs := hw
      refine lv_aload_n hx hb dL_law_396 rfl (lv_at hl 2 rfl) ?_
      refine y_callI (q := (RX2, TX2, 6)) (ci := 1) (As := []) (rest := [.int r1]) (wc := mW adm cdm (nI k) (pz_th P) js je jw ld) (wr := xW adx cdx (nI k) (nI P) us1 ud1 kn1 ch1 js je jw ga1 wa1 re1 sp1) ⟨hx, hb, hml, hown, hts⟩ (mM_gain l D adm cdm k P js je jw ld hJW) (cwV 0 hts (lw_V q298 q299 q300 q22 q301) rfl rfl rfl (by decide +kernel) ⟨Nat.le_of_ble_eq_true rfl, Nat.le_of_ble_eq_true rfl⟩) hKm hw hA [0, 1, 2, 3, 4, 5] [6, 7, 8, 9, 10, 11, 12, 13] rfl rfl (by decide) (by decide) (by decide) rfl rfl rfl hl.1 rfl (Nat.le_of_ble_eq_true rfl) dL_law_397 ⟨Nat.le_of_ble_eq_true rfl, Nat.le_of_ble_eq_true rfl⟩ (fun r2 u2 H locs hq2 hw => ?_)
      obtain ⟨e2, ld2, rfl⟩ := hq2
      refine lv_icmp_eq (tgt := 441) hx hb dL_law_400 (by decide) (fun _ => ?_) (fun c9 => absurd (e1.trans e2.symm) c9)
      exact nxt k P js je jw hJW _ _ ⟨us1, ud1, kn1, ch1, ga1, wa1, re1, sp1, rfl, hKn1⟩ ⟨_, rfl⟩ H locs hw
    · refine lv_tableIn (off := 363) (tgt := 405) (x := nI 13) hx hb dL_law_42 (by decide) (by decide) (by decide) (by decide) ?_
      obtain ⟨us, ud, kn, ch, ga, wa, re, sp, rfl, hKn⟩ := hXS
      obtain ⟨ld, rfl⟩ := hMS
      refine lv_aload_n hx hb dL_law_405 rfl (lv_at hl 1 rfl) ?_
      refine y_callI (q := (RX1, TX1, 13)) (ci := 0) (As := []) (rest := []) (wc := xW adx cdx (nI k) (nI P) us ud kn ch js je jw ga wa re sp) (wr := mW adm cdm (nI k) (pz_th P) js je jw ld) ⟨hx, hb, hml, hown, hts⟩ (mX_loss l D adx cdx k P us ud kn ch js je jw ga wa re sp hJW hKn) (cwV 0 hts (lw_V q187 q188 q189 q21 q190) rfl rfl rfl (by decide +kernel) ⟨Nat.le_of_ble_eq_true rfl, Nat.le_of_ble_eq_true rfl⟩) hKx hw hA [0, 1, 2, 3, 4, 5, 6, 7] [8, 9, 10, 11, 12, 13] rfl rfl (by decide) (by decide) (by decide) rfl rfl rfl hl.1 rfl (Nat.le_of_ble_eq_true rfl) dL_law_406 ⟨Nat.le_of_ble_eq_true rfl, Nat.le_of_ble_eq_true rfl⟩ (fun r1 u1 H locs hq1 hw => ?_)
      obtain ⟨e1, us1, ud1, kn1, ch1, ga1, wa1, re1, sp1, rfl, hKn1⟩ := hq1
      have hw : y_W D (fun q => s.heap.size ≤ q) s.heap (mW adm cdm (nI k) (pz_th P) js je jw ld ++ xW adx cdx (nI k) (nI P) us1 ud1 kn1 ch1 js je jw ga1 wa1 re1 sp1) H locs := hw
      refine lv_aload_n hx hb dL_law_409 rfl (lv_at hl 2 rfl) ?_
      refine y_callI (q := (RX2, TX2, 6)) (ci := 1) (As := []) (rest := [.int r1]) (wc := mW adm cdm (nI k) (pz_th P) js je jw ld) (wr := xW adx cdx (nI k) (nI P) us1 ud1 kn1 ch1 js je jw ga1 wa1 re1 sp1) ⟨hx, hb, hml, hown, hts⟩ (mM_loss l D adm cdm k P js je jw ld hJW) (cwV 0 hts (lw_V q302 q303 q304 q22 q305) rfl rfl rfl (by decide +kernel) ⟨Nat.le_of_ble_eq_true rfl, Nat.le_of_ble_eq_true rfl⟩) hKm hw hA [0, 1, 2, 3, 4, 5] [6, 7, 8, 9, 10, 11, 12, 13] rfl rfl (by decide) (by decide) (by decide) rfl rfl rfl hl.1 rfl (Nat.le_of_ble_eq_true rfl) dL_law_410 ⟨Nat.le_of_ble_eq_true rfl, Nat.le_of_ble_eq_true rfl⟩ (fun r2 u2 H locs hq2 hw => ?_)
      obtain ⟨e2, ld2, rfl⟩ := hq2
      refine lv_icmp_eq (tgt := 441) hx hb dL_law_413 (by decide) (fun _ => ?_) (fun c9 => absurd (e1.trans e2.symm) c9)
      exact nxt k P js je jw hJW _ _ ⟨us1, ud1, kn1, ch1, ga1, wa1, re1, sp1, rfl, hKn1⟩ ⟨_, rfl⟩ H locs hw
    · refine lv_tableIn (off := 376) (tgt := 418) (x := nI 14) hx hb dL_law_42 (by decide) (by decide) (by decide) (by decide) ?_
      obtain ⟨us, ud, kn, ch, ga, wa, re, sp, rfl, hKn⟩ := hXS
      obtain ⟨ld, rfl⟩ := hMS
      refine lv_aload_n hx hb dL_law_418 rfl (lv_at hl 1 rfl) ?_
      refine lv_aload_n hx hb dL_law_419 rfl (lv_at hl 0 rfl) ?_
      refine lv_iload_n hx hb dL_law_420 rfl (lv_at hl 3 rfl) ?_
      refine lv_iconst (v := 1) hx hb dL_law_421 (by decide) ?_
      refine lv_iadd hx hb dL_law_422 ?_
      refine y_top (x' := nI (1 + 4 * n + 1)) (nI_add (1 + 4 * n) 1) ?_
      refine y_sld hx hb hX hbl hbA hw.2.2 (1 + 4 * n + 1) rfl (by omega) (by omega) dL_law_423 ?_
      refine y_callI (q := (RX1, TX1, 13)) (ci := 0) (As := [.int (xs (1 + 4 * n + 1))]) (rest := []) (wc := xW adx cdx (nI k) (nI P) us ud kn ch js je jw ga wa re sp) (wr := mW adm cdm (nI k) (pz_th P) js je jw ld) ⟨hx, hb, hml, hown, hts⟩ (mX_busy l D adx cdx k P us ud kn ch js je jw ga wa re sp (xs (1 + 4 * n + 1)) hJW hKn) (cwV 1 hts (lw_V q191 q192 q193 q21 q194) rfl rfl rfl (by decide +kernel) ⟨Nat.le_of_ble_eq_true rfl, Nat.le_of_ble_eq_true rfl⟩) hKx hw hA [0, 1, 2, 3, 4, 5, 6, 7] [8, 9, 10, 11, 12, 13] rfl rfl (by decide) (by decide) (by decide) rfl rfl rfl hl.1 rfl (Nat.le_of_ble_eq_true rfl) dL_law_424 ⟨Nat.le_of_ble_eq_true rfl, Nat.le_of_ble_eq_true rfl⟩ (fun r1 u1 H locs hq1 hw => ?_)
      obtain ⟨e1, us1, ud1, kn1, ch1, ga1, wa1, re1, sp1, rfl, hKn1⟩ := hq1
      have hw : y_W D (fun q => s.heap.size ≤ q) s.heap (mW adm cdm (nI k) (pz_th P) js je jw ld ++ xW adx cdx (nI k) (nI P) us1 ud1 kn1 ch1 js je jw ga1 wa1 re1 sp1) H locs := hw
      refine lv_aload_n hx hb dL_law_427 rfl (lv_at hl 2 rfl) ?_
      refine lv_aload_n hx hb dL_law_428 rfl (lv_at hl 0 rfl) ?_
      refine lv_iload_n hx hb dL_law_429 rfl (lv_at hl 3 rfl) ?_
      refine lv_iconst (v := 1) hx hb dL_law_430 (by decide) ?_
      refine lv_iadd hx hb dL_law_431 ?_
      refine y_top (x' := nI (1 + 4 * n + 1)) (nI_add (1 + 4 * n) 1) ?_
      refine y_sld hx hb hX hbl hbA hw.2.2 (1 + 4 * n + 1) rfl (by omega) (by omega) dL_law_432 ?_
      refine y_callI (q := (RX2, TX2, 6)) (ci := 1) (As := [.int (xs (1 + 4 * n + 1))]) (rest := [.int r1]) (wc := mW adm cdm (nI k) (pz_th P) js je jw ld) (wr := xW adx cdx (nI k) (nI P) us1 ud1 kn1 ch1 js je jw ga1 wa1 re1 sp1) ⟨hx, hb, hml, hown, hts⟩ (mM_busy l D adm cdm k P js je jw ld (xs (1 + 4 * n + 1)) hJW) (cwV 1 hts (lw_V q306 q307 q308 q22 q309) rfl rfl rfl (by decide +kernel) ⟨Nat.le_of_ble_eq_true rfl, Nat.le_of_ble_eq_true rfl⟩) hKm hw hA [0, 1, 2, 3, 4, 5] [6, 7, 8, 9, 10, 11, 12, 13] rfl rfl (by decide) (by decide) (by decide) rfl rfl rfl hl.1 rfl (Nat.le_of_ble_eq_true rfl) dL_law_433 ⟨Nat.le_of_ble_eq_true rfl, Nat.le_of_ble_eq_true rfl⟩ (fun r2 u2 H locs hq2 hw => ?_)
      obtain ⟨e2, ld2, rfl⟩ := hq2
      refine lv_icmp_eq (tgt := 441) hx hb dL_law_436 (by decide) (fun _ => ?_) (fun c9 => absurd (e1.trans e2.symm) c9)
      exact nxt k P js je jw hJW _ _ ⟨us1, ud1, kn1, ch1, ga1, wa1, re1, sp1, rfl, hKn1⟩ ⟨_, rfl⟩ H locs hw
    · refine lv_tableOut (tgt := 441) (x := nI 15) hx hb dL_law_42 (by decide) (by decide) ?_
      exact nxt k P js je jw hJW u v hXS hMS H locs hw
  · intro ws hWd H locs ls hw hl
    have hl : lv_has ls 4 [(0, .ref b), (1, .ref (adx 0)), (2, .ref (adm 0)), (3, .int (nI (1 + 4 * ((L - 1) / 4))))] := hl
    refine lv_iload_n hx hb dL_law_28 rfl (lv_at hl 3 rfl) ?_
    refine lv_aload_n hx hb dL_law_29 rfl (lv_at hl 0 rfl) ?_
    refine va_slen hx hb hX hbl hbA hw.2.2 dL_law_30 ?_
    refine lv_iconst (v := 4) hx hb dL_law_31 (by decide) ?_
    refine lv_isub hx hb dL_law_32 ?_
    refine lv_icmp_gt (tgt := 447) hx hb dL_law_33 (by decide) (fun _ => ?_) (fun c9 => absurd ((pz_lim hL (by omega)).mpr (by omega)) c9)
    refine lv_iconst (v := 1) hx hb dL_law_447 (by decide) ?_
    refine va_forget (fun q hq => hw.2.2.2.2 q hq) ?_
    refine W.widen (k := 600000) (n := 7290000) (Nat.le_of_ble_eq_true rfl) (Nat.le_of_ble_eq_true rfl) ?_
    exact lw_ret hx hb hr hlocks dL_law_448
end
section
/-! the law from its entry -/
theorem pz_th_0 : pz_f0 = pz_th 0 := by
  funext j
  unfold pz_th
  rw [Nat.zero_testBit, if_neg (by decide)]
theorem pz_JW_0 (x : Int32) : pz_JW (pz_clip x) 0 pz_n0 pz_n0 pz_n0 := ⟨pz_clip_le x, by decide, fun _ _ => ⟨Nat.zero_le _, Nat.zero_le _, Nat.zero_le _⟩, fun j _ h => by rw [Nat.zero_testBit] at h; cases h⟩
set_option maxHeartbeats 4000000 in
/-- the call of cell -/
theorem y_cell {p : Program} {l : Launch} {e : Env} {s : State} {m : MethodId} {below : List Frame} {meth : Method} {c : Code} {H : Heap} {locs : List Loc} {cells slots : Nat} {Q : State → Prop} {pc : Nat} {ls : Array Slot} {rest : List Value} {D : va_G} {ws : va_W} {b L : Nat} {xs : Nat → Int32} (hx : p.tables.exec = Jvm.exec) (hb : c.code = cL_law) (hml : c.maxLocals = 4) (hown : s.vm.findClass RX0 = some m.cls) (hts : ∀ w ∈ lw_all, w.before #[Value.ref b] s = true) (hX : va_X b L xs s s.heap) (hbl : b < s.heap.size) (hL : L ≤ 257) (hw : y_W D (fun q => s.heap.size ≤ q) s.heap ws H locs) (hsz : ls.size = 4) (hcat : (rest.map fun v => v.category).sum ≤ 8) (hdg : decode cL_law pc = .ok (.invokestatic 9, 3)) (hcs : cells ≤ room_1.cells ∧ slots ≤ room_1.slots)
    (kk : ∀ (H : Heap) (locs : List Loc), y_W D (fun q => s.heap.size ≤ q) s.heap ws H locs → W p l e room_1 s m #[Value.ref b] below meth c H locs cells slots Q (F0 m (pc + 3) ls (.int (if 0 < L then xs 0 else 0) :: rest))) : W p l e room_1 s m #[Value.ref b] below meth c H locs cells slots Q (F0 m pc ls (.int 0 :: .ref b :: rest)) := by
  obtain ⟨hP, hD, hS⟩ := hw
  have hHb : H[b]? = s.heap[b]? := hS.2.1 b hbl (Nat.not_le.mpr hbl)
  refine va_calli (va_runS (As := [.ref b, .int 0]) (rest := rest) ⟨hx, hb, hml, hown, hts⟩ (mL_cell l b L H.size xs hL) (va_cwS 2 hts (lw_S q195 q196 q20 q197) rfl rfl rfl (by decide +kernel) ⟨Nat.le_of_ble_eq_true rfl, Nat.le_of_ble_eq_true rfl⟩) ⟨fun a U g mk q => ?_, fun U hU hW => ⟨rfl, by rw [hU], Nat.lt_of_lt_of_le hbl hS.1, ?_⟩⟩ rfl rfl hsz rfl (lv_room hcat) hdg hcs) hS (fun q h1 h2 => absurd h2 (Nat.not_le.mpr h1)) (fun q h => Nat.le_trans hS.1 h) (fun r u t H1 locs1 ht hvm hp hB hz1 hk1 hS1 => ?_)
  · obtain ⟨q0, q1, q2, q3⟩ := q
    exact ⟨q0, q1, q2, va_X.moved (u := U) (U := U.calling g mk a) (Vm.Alike.refl U.vm) q3⟩
  · rw [hU]
    exact (hX.kept hHb).moved hW.alike
  · have hp : r = if 0 < L then xs 0 else 0 := hp
    subst hp
    exact kk H1 locs1 ⟨hP.kept (fun k z hk => hk1 z.1 (hP k z hk).lt (Nat.not_le.mpr (hP k z hk).lt)), hD, hS1⟩
-- ===== YOUR PART BEGINS =====
set_option maxHeartbeats 4000000 in
/-- from the entry, for every script of at most 257 ints, the law comes to its end with true -/
theorem whole_start {p : Program} {e : Env} {s : State} {m : MethodId} {below : List Frame} {meth : Method} {c : Code} (l : Launch) {b L : Nat} {xs : Nat → Int32} (hL : L ≤ 257) (C0 : lw_At p s m meth c b L xs) : W p l e room_1 s m #[Value.ref b] below meth c s.heap [] 0 0 (lw_Z below #[Value.ref b] s) (entryFrame m ([Value.ref b] : List Value).toArray 4) := by
  obtain ⟨hx, hb, hr, hml, hown, hts0, hX, hbl, hlocks, hgv⟩ := C0
  have hown : s.vm.findClass RX0 = some m.cls := hown
  have hb : c.code = cL_law := hb
  have hts : ∀ w ∈ lw_all, w.before #[Value.ref b] s = true := fun w h => hts0 w (lw_all_tbl h)
  obtain ⟨c0_, iS0, hKn0⟩ := u_known (C := RX1) (T := TX1) (N := 13) (n := 13) hts0 (fun w h => lw_all_tbl (in_X1 w h)) (hts0 _ (lw_all_tbl q24))
  obtain ⟨c1_, iS1, hKn1⟩ := u_known (C := RX2) (T := TX2) (N := 6) (n := 6) hts0 (fun w h => lw_all_tbl (in_X2 w h)) (hts0 _ (lw_all_tbl q199))
  obtain ⟨D, hK⟩ : ∃ D : va_G, va_K D y_cl [] s := by
    refine ⟨(fun k => if k = 0 then c0_ else c1_, fun k => if k = 0 then iS0 else iS1), fun k q hq => ?_, fun k q hk => by cases hk⟩
    match k, hq with
    | 0, hq => cases hq; exact hKn0
    | 1, hq => cases hq; exact hKn1
    | k + 2, hq => simp [y_cl] at hq
  have hP : va_P D y_cl [] s.heap := fun k z hk => by cases hk
  have hD : va_D (fun q => s.heap.size ≤ q) [] := ⟨fun _ _ _ _ h => (by cases h), fun _ _ h => (by cases h)⟩
  have hS : va_S (fun q => s.heap.size ≤ q) s.heap s.heap [] := va_S.rf
  have hA : ∀ q : Nat, s.heap.size ≤ q → (fun q => s.heap.size ≤ q) q := fun _ h => h
  have hl := lv_entry ([.ref b]) (n := 4) (Nat.le_of_ble_eq_true rfl)
  rw [lg_entry_eq]
  generalize (lg_sl ([.ref b]) ++ List.replicate (4 - (lg_sl ([.ref b])).length) Slot.unset).toArray = ls at hl ⊢
  have hl : lv_has ls 4 [(0, .ref b)] := hl
  -- new TrackMarket
  refine va_new (ci := 0) (fs := xF0) (C := RX1) (T := TX1) (N := 13) hx hb hts in_X1 tyX1 tyX1_ok hown (hts _ q23) (hts _ q24) (hts _ q21) hK hP hD hS hA rfl (fun j hj => by rcases (by omega : j = 0 ∨ j = 1 ∨ j = 2 ∨ j = 3 ∨ j = 4 ∨ j = 5 ∨ j = 6 ∨ j = 7 ∨ j = 8 ∨ j = 9 ∨ j = 10 ∨ j = 11 ∨ j = 12) with rfl | rfl | rfl | rfl | rfl | rfl | rfl | rfl | rfl | rfl | rfl | rfl | rfl <;> rfl) (Nat.le_of_ble_eq_true rfl) (Nat.le_of_ble_eq_true rfl) dL_law_0 (fun qx H hP hD hS => ?_)
  refine W.widen (k := 1) (n := 13) (Nat.le_of_ble_eq_true rfl) (Nat.le_of_ble_eq_true rfl) ?_
  have hw : y_W D (fun q => s.heap.size ≤ q) s.heap [(qx, .inr (0, xF0))] H [] := ⟨hP, hD, hS⟩
  refine lv_dup hx hb dL_law_3 rfl ?_
  refine lv_aload_n hx hb dL_law_4 rfl (lv_at hl 0 rfl) ?_
  refine lv_iconst (v := 0) hx hb dL_law_5 (by decide) ?_
  refine y_cell hx hb hml hown hts hX hbl hL hw hl.1 (Nat.le_of_ble_eq_true rfl) dL_law_6 ⟨Nat.le_of_ble_eq_true rfl, Nat.le_of_ble_eq_true rfl⟩ (fun H locs hw => ?_)
  generalize hx0 : (if 0 < L then xs 0 else 0) = x0
  obtain ⟨hP, hD, hS⟩ := hw
  have hFc := va_free (wc := [(qx, .inr (0, xF0))]) hD hS hA [0] rfl
  refine va_callv (va_runI (As := [.int x0]) (rest := [.ref qx]) ⟨hx, hb, hml, hown, hts⟩ (mX_init l D qx H.size x0) (cwI 1 hts (lw_meth q27) rfl rfl rfl (hts _ q21) (hts _ q25) (hts _ q26) rfl (by decide +kernel) ⟨Nat.le_of_ble_eq_true rfl, Nat.le_of_ble_eq_true rfl⟩) ⟨y_blind, fun U hU hW => ⟨rfl, by rw [hU], by rw [hU]; exact hP, va_K.moved hW.alike hK, hD.weaken (fun _ _ _ _ => trivial)⟩⟩ rfl rfl hl.1 rfl (lv_room (Nat.le_of_ble_eq_true rfl)) dL_law_9 ⟨Nat.le_of_ble_eq_true rfl, Nat.le_of_ble_eq_true rfl⟩) hS (fun q _ h => hFc q h) hFc (fun z t H1 locs ht hvm hz hB hz1 hk1 hS => ?_)
  obtain ⟨adx, cdx⟩ := z
  have hz : adx 0 = qx := hz
  subst hz
  obtain ⟨hP1, hKx, hD1⟩ := hB
  rw [ht] at hP1
  have hKx : va_K D y_cl (xT cdx) s := va_K.moved hvm.symm hKx
  have hD : va_D (fun q => s.heap.size ≤ q) (xW adx cdx (nI (pz_clip x0)) 0 0 0 0 0 pz_n0 pz_n0 pz_n0 pz_f0 pz_f0 pz_f0 pz_f0) := hD1.weaken (fun _ z _ h => hFc z.1 h)
  have hP : va_P D y_cl (xW adx cdx (nI (pz_clip x0)) 0 0 0 0 0 pz_n0 pz_n0 pz_n0 pz_f0 pz_f0 pz_f0 pz_f0) H1 := hP1
  refine W.widen (k := 8) (n := 95) (Nat.le_of_ble_eq_true rfl) (Nat.le_of_ble_eq_true rfl) ?_
  refine lv_astore_n (lv' := [(1, .ref (adx 0)), (0, .ref b)]) hx hb dL_law_12 rfl hl (by decide) rfl (fun ls hl => ?_)
  -- new TrackMarketModel
  refine va_new (ci := 1) (fs := mF0) (C := RX2) (T := TX2) (N := 6) hx hb hts in_X2 tyX2 tyX2_ok hown (hts _ q198) (hts _ q199) (hts _ q22) hK hP hD hS hA rfl (fun j hj => by rcases (by omega : j = 0 ∨ j = 1 ∨ j = 2 ∨ j = 3 ∨ j = 4 ∨ j = 5) with rfl | rfl | rfl | rfl | rfl | rfl <;> rfl) (Nat.le_of_ble_eq_true rfl) (Nat.le_of_ble_eq_true rfl) dL_law_13 (fun qm H hP hD hS => ?_)
  refine W.widen (k := 9) (n := 101) (Nat.le_of_ble_eq_true rfl) (Nat.le_of_ble_eq_true rfl) ?_
  have hw : y_W D (fun q => s.heap.size ≤ q) s.heap (xW adx cdx (nI (pz_clip x0)) 0 0 0 0 0 pz_n0 pz_n0 pz_n0 pz_f0 pz_f0 pz_f0 pz_f0 ++ [(qm, .inr (1, mF0))]) H locs := ⟨hP, hD, hS⟩
  refine lv_dup hx hb dL_law_16 rfl ?_
  refine lv_aload_n hx hb dL_law_17 rfl (lv_at hl 1 rfl) ?_
  refine lv_iconst (v := 0) hx hb dL_law_18 (by decide) ?_
  refine y_cell hx hb hml hown hts hX hbl hL hw hl.1 (Nat.le_of_ble_eq_true rfl) dL_law_19 ⟨Nat.le_of_ble_eq_true rfl, Nat.le_of_ble_eq_true rfl⟩ (fun H locs hw => ?_)
  refine y_top (x' := x0) hx0 ?_
  obtain ⟨hP, hD, hS⟩ := hw
  have hPc := y_sub (wc := [(qm, .inr (1, mF0))]) hP [8] rfl
  have hDc := hD.sub (ws' := [(qm, .inr (1, mF0))]) [8] (by decide) rfl
  have hFc := va_free (wc := [(qm, .inr (1, mF0))]) hD hS hA [8] rfl
  refine va_callv (va_runI (As := [.int x0]) (rest := [.ref qm]) ⟨hx, hb, hml, hown, hts⟩ (mM_init l D qm H.size x0) (cwI 1 hts (lw_meth q202) rfl rfl rfl (hts _ q22) (hts _ q200) (hts _ q201) rfl (by decide +kernel) ⟨Nat.le_of_ble_eq_true rfl, Nat.le_of_ble_eq_true rfl⟩) ⟨y_blind, fun U hU hW => ⟨rfl, by rw [hU], by rw [hU]; exact hPc, va_K.moved hW.alike hK, hDc.weaken (fun _ _ _ _ => trivial)⟩⟩ rfl rfl hl.1 rfl (lv_room (Nat.le_of_ble_eq_true rfl)) dL_law_22 ⟨Nat.le_of_ble_eq_true rfl, Nat.le_of_ble_eq_true rfl⟩) hS (fun q _ h => hFc q h) hFc (fun z t H1 locs ht hvm hz hB hz1 hk1 hS => ?_)
  obtain ⟨adm, cdm⟩ := z
  have hz : adm 0 = qm := hz
  subst hz
  obtain ⟨hP1, hKm, hD1⟩ := hB
  rw [ht] at hP1
  have hKm : va_K D y_cl (mT cdm) s := va_K.moved hvm.symm hKm
  obtain ⟨hP, hD⟩ := va_join (wr := xW adx cdx (nI (pz_clip x0)) 0 0 0 0 0 pz_n0 pz_n0 pz_n0 pz_f0 pz_f0 pz_f0 pz_f0) (w1 := mW adm cdm (nI (pz_clip x0)) pz_f0 pz_n0 pz_n0 pz_n0 pz_f0) hP hD [8] [0, 1, 2, 3, 4, 5, 6, 7] rfl rfl (by decide) (by decide) hk1 hFc hP1 hD1
  refine W.widen (k := 14) (n := 389) (Nat.le_of_ble_eq_true rfl) (Nat.le_of_ble_eq_true rfl) ?_
  refine lv_astore_n (lv' := [(2, .ref (adm 0)), (1, .ref (adx 0)), (0, .ref b)]) hx hb dL_law_25 rfl hl (by decide) rfl (fun ls hl => ?_)
  refine lv_iconst (v := nI (1 + 4 * 0)) hx hb dL_law_26 (by decide) ?_
  refine lv_istore_n (lv' := [(3, .int (nI (1 + 4 * 0))), (2, .ref (adm 0)), (1, .ref (adx 0)), (0, .ref b)]) hx hb dL_law_27 rfl hl (by decide) rfl (fun ls hl => ?_)
  refine law_loop (adx := adx) (adm := adm) (cdx := cdx) (cdm := cdm) hL hx hb hr hlocks hml hown hts hX hbl hKx hKm ⟨pz_clip x0, 0, pz_n0, pz_n0, pz_n0, _, _, rfl, pz_JW_0 x0, ⟨0, 0, 0, 0, pz_f0, pz_f0, pz_f0, pz_f0, rfl, Or.inl rfl⟩, ⟨pz_f0, by rw [← pz_th_0]⟩⟩ ⟨hP, hD, hS⟩ (lv_sub hl [3, 2, 1, 0] rfl)
-- ===== YOUR PART ENDS =====
end
section
set_option maxHeartbeats 4000000 in
theorem lw_walk (l : Launch) (b : Addr) (xs : List Int32) : MetFree l x (headSpec (Jvm.Cond.code x code maxLocals ret :: tables_1) room_1) (lw_P b xs) (fun _ _ _ _ _ => True) lw_Q := by
  refine MetFree.of_bodyS (code := code) (maxLocals := maxLocals) (ret := ret) (by decide) ?_ ?_
  · intro args s m h hn
    obtain ⟨meth, c, h1, h2, h3, h4, h5, h6, -, -⟩ := Cond.code_spec hn (atoms_spec (ws := Jvm.Cond.code x code maxLocals ret :: tables_1) h _ List.mem_cons_self)
    exact ⟨meth, c, h1, h2, h3, h4, h5, h6⟩
  · intro p e s m args below meth c s₁ B hml0 hP _
    obtain ⟨rfl, hx, hbd, hgv⟩ := hP
    obtain ⟨scr, harrAt, hlist, hof, hsmall⟩ := hx
    obtain ⟨hcb, hkn, -, -⟩ := State.arrayAt?_spec harrAt
    have hown : s.vm.findClass R_law = some m.cls := findClass_of_methodNamed B.named
    have hts0 : ∀ c ∈ (Jvm.Cond.code x code maxLocals ret :: tables_1), c.before #[Value.ref b] s = true := atoms_spec (ws := Jvm.Cond.code x code maxLocals ret :: tables_1) B.pre
    have hts : ∀ w ∈ lw_tbl, w.before #[Value.ref b] s = true := k2_hts_sels lw_privs (fun w hw => hts0 w (List.mem_cons_of_mem _ hw)) lw_privs_ok
    have hml : c.maxLocals = 4 := B.maxLocals_eq (hts0 _ List.mem_cons_self)
    have X₀ : Stand p l e room_1 s m #[Value.ref b] below meth c s₁ [] 0 0 := Stand.of_body B
    have hh0 : s₁.heap = s.heap := by rw [B.state]; rfl
    have hsz : scr.slots.size = xs.length := by rw [← Array.length_toList, hlist, List.length_map]
    have hval : ∀ j : Nat, j < xs.length → scr.slots[j]? = some (.int (xs.getD j 0)) := fun j hj => by
      rw [← Array.getElem?_toList, hlist]
      simp [hj]
    have hbl : b < s.heap.size := (Array.getElem?_eq_some_iff.mp hcb).1
    have hX : va_X b xs.length (fun j => xs.getD j 0) s s.heap := ⟨scr, hcb, hof, hkn, hsz, hval⟩
    have K : W p l e room_1 s m #[Value.ref b] below meth c s₁.heap [] 0 0 (lw_Z below #[Value.ref b] s) (entryFrame m ([Value.ref b] : List Value).toArray 4) := by
      rw [hh0]
      exact whole_start l hbd ⟨B.exec, B.bytes, B.returns, hml, hown, hts, hX, hbl, B.notSynchronized, hgv⟩
    obtain ⟨t, a1, o, b1, b2, b3⟩ := K s₁ rfl X₀
    exact ⟨t, o, a1, b1, b2, b3⟩
theorem lw_pre_spec {args : Array Value} {s : State} (h : (Jvm.Cond.and given_1 narrow_1).before args s = true) (hr : rest_1_c.before args s = true) : ∃ (b : Addr) (xs : List Int32), lw_P b xs args s := by
  have hs := flat_of_before _ h
  have hq := flat_of_before _ hr
  have hc : (Cond.count 1).before args s = true := hs _ (by decide +kernel)
  have harr : (Cond.arrayOf (.arg 0) .int).before args s = true := hs _ (by decide +kernel)
  have hle : (Cond.le (.length (.arg 0)) (.int 257)).before args s = true := hs _ (by decide +kernel)
  have hlen : (Cond.isInt (.length (.arg 0))).before args s = true := hq _ (by decide +kernel)
  have hall : (Cond.all (.arg 0) (.isInt (.elem (.arg 0) (.index 0)))).before args s = true := hq _ (by decide +kernel)
  obtain ⟨b, xs, hb, hx⟩ := State.ints_of_pre rfl harr hlen hall
  have hsm : xs.length < 2 ^ 31 := hx.choose_spec.2.2.2
  have hev : (Term.length (.arg 0)).eval args s none [] s = some (.int xs.length.toInt32) := hx.length_eval hb
  have hv := Cond.le_ints hev (show (Term.int 257).eval args s none [] s = some (.int 257) from rfl)
  have hd : xs.length.toInt32 ≤ 257 := by
    simpa [Cond.before, Cond.holds, hv] using hle
  have hN : xs.length ≤ 257 := (Int32.ofNat_le_ofNat hsm (by decide)).mp (show Int32.ofNat xs.length ≤ Int32.ofNat 257 from hd)
  exact ⟨b, xs, Cond.one_arg hc (show args[0]? = some (.ref b) from hb), hx, hN, h⟩
theorem lw_comes (l : Launch) : Comes l x (Jvm.Cond.code x code maxLocals ret :: tables_1) room_1 (fun tb e args s => Calls_1 tb e args s ∧ rest_1 tb e args s ∧ Pre_1 tb e args s)
    (fun _ _ args s o t => lw_Q args s o t) := by
  intro p e ha hc hk s m args below hf hfit hheap happ hpre
  obtain ⟨b, xs, hP⟩ := lw_pre_spec hpre.2.2 hpre.2.1
  obtain ⟨k, o, h1, h2, h3, hQ⟩ := lw_walk l b xs p e ha hc hk s m args below hf ((Spec.applies_iff_loose hf).mp happ).1 hP trivial
  exact ⟨k, o, h1, h2, h3, hQ⟩
theorem lw_frame {s t : State} {o : Outcome} {args : Array Value} (h : Framed s o t [] 600000 7290000) :
    Framed s o t (fieldLocs frame_1_writes args s ++ arrayLocs frame_1_arrays args s ++ staticLocs frame_1_statics s) 600000 7290000 := h
theorem lw_limb (L : Cond) (hL : ∀ (args : Array Value) (s t : State), L.after args s (.returned (some (.int 1))) t = true) :
    ArmFor flags0 classFile x code maxLocals ret World_1 tables_1 room_1 Calls_1 rest_1 Pre_1
      (fun tb e a s o t => postC L tb e a s o t ∧ Framed s o t (fieldLocs frame_1_writes a s ++ arrayLocs frame_1_arrays a s ++ staticLocs frame_1_statics s) 600000 7290000) := by
  intro l _ _ _ p e ha hc hk s m args below hf hfit hheap happ hpre
  obtain ⟨k, o, h1, h2, h3, rfl, hF⟩ := lw_comes l p e ha hc hk s m args below hf hfit hheap happ hpre
  exact ⟨k, _, h1, h2, h3, hL args s _, lw_frame hF⟩
theorem i_vc : Claimed_1_1 ∧ Claimed_1_2 := ⟨lw_limb limb_1_1 (fun args s t => by simp [limb_1_1, Cond.after, Cond.holds, Cond.value]), lw_limb limb_1_2 (fun args s t => Cond.after_iff.mpr (by
  first | (rw [show limb_1_2 = Cond.eq .result (.int 1) from rfl, Cond.eq_ints (x := 1) (y := 1) rfl rfl]; simp; done) | (simp [limb_1_2, Cond.value, Term.eval]; done)))⟩
end
