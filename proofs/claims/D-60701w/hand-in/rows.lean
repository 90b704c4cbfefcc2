section
-- ===== PART A: goes FIRST, ahead of the names: the tables' words, and 'selects' of the private methods out of them =====
/-- a private method of a class that the tables say can be made, by its rows of tables_1 -/
def lw_okq (q : MethodName × Nat) : Prop := (q.1.cls ≠ "java/lang/invoke/MethodHandle" ∧ q.1.cls ≠ "java/lang/invoke/VarHandle") ∧ Cond.instantiable q.1.cls q.2 ∈ tables_1 ∧ Cond.privateMethod q.1 ∈ tables_1 ∧ Cond.instanceMethod q.1 ∈ tables_1
set_option maxRecDepth 100000
theorem lw_t1 {w : Cond} (h : w ∈ tables_1_1) : w ∈ tables_1 := List.mem_append_left _ h
theorem lw_t2 {w : Cond} (h : w ∈ tables_1_2) : w ∈ tables_1 := List.mem_append_right _ h
theorem lw_p0 : lw_okq (⟨"PackageAuction", "has", "(I)Z"⟩, 9) := ⟨⟨by decide +kernel, by decide +kernel⟩, lw_t1 (List.mem_of_getElem? (i := 4) rfl), lw_t1 (List.mem_of_getElem? (i := 50) rfl), lw_t1 (List.mem_of_getElem? (i := 51) rfl)⟩
theorem lw_p1 : lw_okq (⟨"PackageAuction", "learn", "()V"⟩, 9) := ⟨⟨by decide +kernel, by decide +kernel⟩, lw_t1 (List.mem_of_getElem? (i := 4) rfl), lw_t1 (List.mem_of_getElem? (i := 78) rfl), lw_t1 (List.mem_of_getElem? (i := 79) rfl)⟩
theorem lw_p2 : lw_okq (⟨"PackageAuction", "bestStep", "(IIZ)I"⟩, 9) := ⟨⟨by decide +kernel, by decide +kernel⟩, lw_t1 (List.mem_of_getElem? (i := 4) rfl), lw_t1 (List.mem_of_getElem? (i := 82) rfl), lw_t1 (List.mem_of_getElem? (i := 83) rfl)⟩
theorem lw_p3 : lw_okq (⟨"PackageAuction", "others", "(IIZ)I"⟩, 9) := ⟨⟨by decide +kernel, by decide +kernel⟩, lw_t1 (List.mem_of_getElem? (i := 4) rfl), lw_t1 (List.mem_of_getElem? (i := 86) rfl), lw_t1 (List.mem_of_getElem? (i := 87) rfl)⟩
theorem lw_p4 : lw_okq (⟨"PackageAuction", "markedAmount", "(I)I"⟩, 9) := ⟨⟨by decide +kernel, by decide +kernel⟩, lw_t1 (List.mem_of_getElem? (i := 4) rfl), lw_t1 (List.mem_of_getElem? (i := 90) rfl), lw_t1 (List.mem_of_getElem? (i := 91) rfl)⟩
theorem lw_p5 : lw_okq (⟨"PackageAuction", "findWinners", "()I"⟩, 9) := ⟨⟨by decide +kernel, by decide +kernel⟩, lw_t1 (List.mem_of_getElem? (i := 4) rfl), lw_t1 (List.mem_of_getElem? (i := 97) rfl), lw_t1 (List.mem_of_getElem? (i := 98) rfl)⟩
theorem lw_p6 : lw_okq (⟨"PackageAuction", "offered", "()I"⟩, 9) := ⟨⟨by decide +kernel, by decide +kernel⟩, lw_t1 (List.mem_of_getElem? (i := 4) rfl), lw_t1 (List.mem_of_getElem? (i := 101) rfl), lw_t1 (List.mem_of_getElem? (i := 102) rfl)⟩
theorem lw_p7 : lw_okq (⟨"PackageAuction", "bidTaken", "(II)I"⟩, 9) := ⟨⟨by decide +kernel, by decide +kernel⟩, lw_t1 (List.mem_of_getElem? (i := 4) rfl), lw_t1 (List.mem_of_getElem? (i := 105) rfl), lw_t1 (List.mem_of_getElem? (i := 106) rfl)⟩
theorem lw_p8 : lw_okq (⟨"PackageAuction", "sumWithout", "(II)I"⟩, 9) := ⟨⟨by decide +kernel, by decide +kernel⟩, lw_t1 (List.mem_of_getElem? (i := 4) rfl), lw_t1 (List.mem_of_getElem? (i := 121) rfl), lw_t1 (List.mem_of_getElem? (i := 122) rfl)⟩
theorem lw_p9 : lw_okq (⟨"PackageAuction", "sumLacking", "(I)I"⟩, 9) := ⟨⟨by decide +kernel, by decide +kernel⟩, lw_t1 (List.mem_of_getElem? (i := 4) rfl), lw_t1 (List.mem_of_getElem? (i := 135) rfl), lw_t1 (List.mem_of_getElem? (i := 136) rfl)⟩
theorem lw_p10 : lw_okq (⟨"PackageAuctionModel", "bidder", "(I)Z"⟩, 5) := ⟨⟨by decide +kernel, by decide +kernel⟩, lw_t1 (List.mem_of_getElem? (i := 151) rfl), lw_t1 (List.mem_of_getElem? (i := 178) rfl), lw_t1 (List.mem_of_getElem? (i := 179) rfl)⟩
theorem lw_p11 : lw_okq (⟨"PackageAuctionModel", "is", "(I)Z"⟩, 5) := ⟨⟨by decide +kernel, by decide +kernel⟩, lw_t1 (List.mem_of_getElem? (i := 151) rfl), lw_t1 (List.mem_of_getElem? (i := 186) rfl), lw_t1 (List.mem_of_getElem? (i := 187) rfl)⟩
theorem lw_p12 : lw_okq (⟨"PackageAuctionModel", "work", "()V"⟩, 5) := ⟨⟨by decide +kernel, by decide +kernel⟩, lw_t1 (List.mem_of_getElem? (i := 151) rfl), lw_t1 (List.mem_of_getElem? (i := 210) rfl), lw_t1 (List.mem_of_getElem? (i := 211) rfl)⟩
theorem lw_p13 : lw_okq (⟨"PackageAuctionModel", "allocates", "(I)Z"⟩, 5) := ⟨⟨by decide +kernel, by decide +kernel⟩, lw_t1 (List.mem_of_getElem? (i := 151) rfl), lw_t1 (List.mem_of_getElem? (i := 214) rfl), lw_t1 (List.mem_of_getElem? (i := 215) rfl)⟩
theorem lw_p14 : lw_okq (⟨"PackageAuctionModel", "best", "(II)I"⟩, 5) := ⟨⟨by decide +kernel, by decide +kernel⟩, lw_t1 (List.mem_of_getElem? (i := 151) rfl), lw_t1 (List.mem_of_getElem? (i := 218) rfl), lw_t1 (List.mem_of_getElem? (i := 219) rfl)⟩
theorem lw_p15 : lw_okq (⟨"PackageAuctionModel", "before", "(II)Z"⟩, 5) := ⟨⟨by decide +kernel, by decide +kernel⟩, lw_t1 (List.mem_of_getElem? (i := 151) rfl), lw_t1 (List.mem_of_getElem? (i := 222) rfl), lw_t1 (List.mem_of_getElem? (i := 223) rfl)⟩
def lw_privs_1 : List (MethodName × Nat) := [(⟨"PackageAuction", "has", "(I)Z"⟩, 9), (⟨"PackageAuction", "learn", "()V"⟩, 9), (⟨"PackageAuction", "bestStep", "(IIZ)I"⟩, 9), (⟨"PackageAuction", "others", "(IIZ)I"⟩, 9), (⟨"PackageAuction", "markedAmount", "(I)I"⟩, 9), (⟨"PackageAuction", "findWinners", "()I"⟩, 9), (⟨"PackageAuction", "offered", "()I"⟩, 9), (⟨"PackageAuction", "bidTaken", "(II)I"⟩, 9), (⟨"PackageAuction", "sumWithout", "(II)I"⟩, 9), (⟨"PackageAuction", "sumLacking", "(I)I"⟩, 9), (⟨"PackageAuctionModel", "bidder", "(I)Z"⟩, 5), (⟨"PackageAuctionModel", "is", "(I)Z"⟩, 5), (⟨"PackageAuctionModel", "work", "()V"⟩, 5), (⟨"PackageAuctionModel", "allocates", "(I)Z"⟩, 5), (⟨"PackageAuctionModel", "best", "(II)I"⟩, 5), (⟨"PackageAuctionModel", "before", "(II)Z"⟩, 5)]
theorem lw_r1 : ∀ q ∈ lw_privs_1, lw_okq q := List.forall_mem_cons.mpr ⟨lw_p0, List.forall_mem_cons.mpr ⟨lw_p1, List.forall_mem_cons.mpr ⟨lw_p2, List.forall_mem_cons.mpr ⟨lw_p3, List.forall_mem_cons.mpr ⟨lw_p4, List.forall_mem_cons.mpr ⟨lw_p5, List.forall_mem_cons.mpr ⟨lw_p6, List.forall_mem_cons.mpr ⟨lw_p7, List.forall_mem_cons.mpr ⟨lw_p8, List.forall_mem_cons.mpr ⟨lw_p9, List.forall_mem_cons.mpr ⟨lw_p10, List.forall_mem_cons.mpr ⟨lw_p11, List.forall_mem_cons.mpr ⟨lw_p12, List.forall_mem_cons.mpr ⟨lw_p13, List.forall_mem_cons.mpr ⟨lw_p14, List.forall_mem_cons.mpr ⟨lw_p15, fun _ h => absurd h List.not_mem_nil⟩⟩⟩⟩⟩⟩⟩⟩⟩⟩⟩⟩⟩⟩⟩⟩
theorem lw_p16 : lw_okq (⟨"PackageAuctionModel", "sum", "(I)I"⟩, 5) := ⟨⟨by decide +kernel, by decide +kernel⟩, lw_t1 (List.mem_of_getElem? (i := 151) rfl), lw_t1 (List.mem_of_getElem? (i := 226) rfl), lw_t1 (List.mem_of_getElem? (i := 227) rfl)⟩
theorem lw_p17 : lw_okq (⟨"PackageAuctionModel", "of", "(I)I"⟩, 5) := ⟨⟨by decide +kernel, by decide +kernel⟩, lw_t1 (List.mem_of_getElem? (i := 151) rfl), lw_t2 (List.mem_of_getElem? (i := 3) rfl), lw_t2 (List.mem_of_getElem? (i := 4) rfl)⟩
def lw_privs_2 : List (MethodName × Nat) := [(⟨"PackageAuctionModel", "sum", "(I)I"⟩, 5), (⟨"PackageAuctionModel", "of", "(I)I"⟩, 5)]
theorem lw_r2 : ∀ q ∈ lw_privs_2, lw_okq q := List.forall_mem_cons.mpr ⟨lw_p16, List.forall_mem_cons.mpr ⟨lw_p17, fun _ h => absurd h List.not_mem_nil⟩⟩
def lw_privs : List (MethodName × Nat) := lw_privs_1 ++ (lw_privs_2)
def lw_tbl : List Cond := k2_sels lw_privs ++ tables_1
theorem lw_privs_ok : ∀ q ∈ lw_privs, lw_okq q := by
  show ∀ q ∈ lw_privs_1 ++ (lw_privs_2), lw_okq q
  exact List.forall_mem_append.mpr ⟨lw_r1, lw_r2⟩
-- ===== ONE list of words for every method: the tables' words that hold all through a run =====
def lw_all : List Cond := lw_tbl.filter goodWord
/-- a word of the tables by its place: claim/WORDS.tsv -/
theorem lw_w {w : Cond} (i : Nat) (h : lw_tbl[i]? = some w) (g : goodWord w = true) : w ∈ lw_all := List.mem_filter.mpr ⟨List.mem_of_getElem? h, g⟩
theorem lw_all_tbl {w : Cond} (h : w ∈ lw_all) : w ∈ lw_tbl := (List.mem_filter.mp h).1
theorem lw_self : GoodIn lw_all lw_all := fun w h => ⟨h, good_of_word (List.mem_filter.mp h).2⟩
/-- a class's field words, by their places -/
theorem lw_in (ws : List Cond) (ps : List Nat) (hp : ws = ps.filterMap (fun i => lw_tbl[i]?)) (hg : ws.all goodWord = true) : ∀ w ∈ ws, w ∈ lw_all := by
  intro w h
  have h1 := List.all_eq_true.mp hg w h
  rw [hp] at h
  obtain ⟨i, -, hi⟩ := List.mem_filterMap.mp h
  exact lw_w i hi h1
/-- the words of a contract for the method y with code b, L locals, answer r -/
abbrev ws_ (y : MethodName) (b : ByteArray) (L : Nat) (r : Option FieldType) : List Cond := Cond.code y b L r :: lw_all
theorem lw_meth {y : MethodName} {b : ByteArray} {L : Nat} {r : Option FieldType} (h : Cond.code y b L r ∈ lw_all) : GoodIn lw_all (ws_ y b L r) := by
  intro w hw
  rcases List.mem_cons.mp hw with e | e
  · rw [e]
    exact lw_self _ h
  · exact lw_self _ e
theorem lw_app {a c : List Cond} (ha : ∀ w ∈ a, w ∈ lw_all) (hc : GoodIn lw_all c) : GoodIn lw_all (a ++ c) := by
  intro w hw
  rcases List.mem_append.mp hw with e | e
  · exact lw_self w (ha w e)
  · exact hc w e
/-- what a call through an object asks: cwV n hts (lw_V ..) -/
theorem lw_V {own : String} {idx : Nat} {C : String} {y : MethodName} {b : ByteArray} {L : Nat} {r : Option FieldType} (h1 : Cond.methodLink own idx y ∈ lw_all) (h2 : Cond.instanceMethod y ∈ lw_all) (h3 : Cond.selects C y y ∈ lw_all) (h4 : Cond.initialized C ∈ lw_all) (h5 : Cond.code y b L r ∈ lw_all) : GoodIn lw_all (wsV own idx C y (ws_ y b L r)) := by
  refine lw_app ?_ (lw_meth h5)
  intro w hw
  simp only [List.mem_cons, List.not_mem_nil, or_false] at hw
  rcases hw with e | e | e | e
  · rw [e]; exact h1
  · rw [e]; exact h2
  · rw [e]; exact h3
  · rw [e]; exact h4
/-- what a static call asks: va_cwS n hts (lw_S ..) -/
theorem lw_S {own : String} {idx : Nat} {y : MethodName} {b : ByteArray} {L : Nat} {r : Option FieldType} (h1 : Cond.methodLink own idx y ∈ lw_all) (h2 : Cond.static y ∈ lw_all) (h3 : Cond.initialized y.cls ∈ lw_all) (h4 : Cond.code y b L r ∈ lw_all) : GoodIn lw_all (va_wsS own idx y (ws_ y b L r)) := by
  refine lw_app ?_ (lw_meth h4)
  intro w hw
  simp only [List.mem_cons, List.not_mem_nil, or_false] at hw
  rcases hw with e | e | e
  · rw [e]; exact h1
  · rw [e]; exact h2
  · rw [e]; exact h3
/-- the words of a contract for a method WITH HANDLERS (hh: its table) -/
abbrev wsW_ (y : MethodName) (b : ByteArray) (L : Nat) (r : Option FieldType) (hh : List (Nat × Nat × Nat × Nat)) : List Cond := Cond.codeWith y b L r hh :: lw_all
theorem lw_methW {y : MethodName} {b : ByteArray} {L : Nat} {r : Option FieldType} {hh : List (Nat × Nat × Nat × Nat)} (h : Cond.codeWith y b L r hh ∈ lw_all) : GoodIn lw_all (wsW_ y b L r hh) := by
  intro w hw
  rcases List.mem_cons.mp hw with e | e
  · rw [e]
    exact lw_self _ h
  · exact lw_self _ e
/-- any list of words by their places (lw_in), good -/
theorem lw_good {ws : List Cond} (h : ∀ w ∈ ws, w ∈ lw_all) : GoodIn lw_all ws := fun w hw => lw_self w (h w hw)
/-- what a call of a method with handlers asks: vx_cwVW n hts (lw_VW ..), vx_cwSW n hts (lw_SW ..) -/
theorem lw_VW {own : String} {idx : Nat} {C : String} {y : MethodName} {b : ByteArray} {L : Nat} {r : Option FieldType} {hh : List (Nat × Nat × Nat × Nat)} (h1 : Cond.methodLink own idx y ∈ lw_all) (h2 : Cond.instanceMethod y ∈ lw_all) (h3 : Cond.selects C y y ∈ lw_all) (h4 : Cond.initialized C ∈ lw_all) (h5 : Cond.codeWith y b L r hh ∈ lw_all) : GoodIn lw_all (wsV own idx C y (wsW_ y b L r hh)) := by
  refine lw_app ?_ (lw_methW h5)
  intro w hw
  simp only [List.mem_cons, List.not_mem_nil, or_false] at hw
  rcases hw with e | e | e | e
  · rw [e]; exact h1
  · rw [e]; exact h2
  · rw [e]; exact h3
  · rw [e]; exact h4
theorem lw_SW {own : String} {idx : Nat} {y : MethodName} {b : ByteArray} {L : Nat} {r : Option FieldType} {hh : List (Nat × Nat × Nat × Nat)} (h1 : Cond.methodLink own idx y ∈ lw_all) (h2 : Cond.static y ∈ lw_all) (h3 : Cond.initialized y.cls ∈ lw_all) (h4 : Cond.codeWith y b L r hh ∈ lw_all) : GoodIn lw_all (va_wsS own idx y (wsW_ y b L r hh)) := by
  refine lw_app ?_ (lw_methW h4)
  intro w hw
  simp only [List.mem_cons, List.not_mem_nil, or_false] at hw
  rcases hw with e | e | e
  · rw [e]; exact h1
  · rw [e]; exact h2
  · rw [e]; exact h3
/-- a word by its place in its run of the tables -/
theorem lw_at {r : List Cond} (hr : ∀ w ∈ r, w ∈ lw_tbl) {w : Cond} (i : Nat) (h : r[i]? = some w) : w ∈ lw_tbl := hr w (List.mem_of_getElem? h)
theorem lw_g {w : Cond} (h : w ∈ lw_tbl) (g : goodWord w = true) : w ∈ lw_all := List.mem_filter.mpr ⟨h, g⟩
theorem lw_ms : ∀ w ∈ k2_sels lw_privs, w ∈ lw_tbl := fun w h => show w ∈ k2_sels lw_privs ++ tables_1 from List.mem_append_left _ h
theorem lw_m1 : ∀ w ∈ tables_1_1, w ∈ lw_tbl := fun w h => show w ∈ k2_sels lw_privs ++ tables_1 from List.mem_append_right (k2_sels lw_privs) (show w ∈ tables_1 from List.mem_append_left _ h)
theorem lw_m2 : ∀ w ∈ tables_1_2, w ∈ lw_tbl := fun w h => show w ∈ k2_sels lw_privs ++ tables_1 from List.mem_append_right (k2_sels lw_privs) (show w ∈ tables_1 from List.mem_append_right _ h)
theorem qs0 : (Cond.selects "PackageAuction" ⟨"PackageAuction", "has", "(I)Z"⟩ ⟨"PackageAuction", "has", "(I)Z"⟩) ∈ lw_all := lw_g (lw_at lw_ms 0 rfl) rfl
theorem qs1 : (Cond.selects "PackageAuction" ⟨"PackageAuction", "learn", "()V"⟩ ⟨"PackageAuction", "learn", "()V"⟩) ∈ lw_all := lw_g (lw_at lw_ms 1 rfl) rfl
theorem qs2 : (Cond.selects "PackageAuction" ⟨"PackageAuction", "bestStep", "(IIZ)I"⟩ ⟨"PackageAuction", "bestStep", "(IIZ)I"⟩) ∈ lw_all := lw_g (lw_at lw_ms 2 rfl) rfl
theorem qs3 : (Cond.selects "PackageAuction" ⟨"PackageAuction", "others", "(IIZ)I"⟩ ⟨"PackageAuction", "others", "(IIZ)I"⟩) ∈ lw_all := lw_g (lw_at lw_ms 3 rfl) rfl
theorem qs4 : (Cond.selects "PackageAuction" ⟨"PackageAuction", "markedAmount", "(I)I"⟩ ⟨"PackageAuction", "markedAmount", "(I)I"⟩) ∈ lw_all := lw_g (lw_at lw_ms 4 rfl) rfl
theorem qs5 : (Cond.selects "PackageAuction" ⟨"PackageAuction", "findWinners", "()I"⟩ ⟨"PackageAuction", "findWinners", "()I"⟩) ∈ lw_all := lw_g (lw_at lw_ms 5 rfl) rfl
theorem qs6 : (Cond.selects "PackageAuction" ⟨"PackageAuction", "offered", "()I"⟩ ⟨"PackageAuction", "offered", "()I"⟩) ∈ lw_all := lw_g (lw_at lw_ms 6 rfl) rfl
theorem qs7 : (Cond.selects "PackageAuction" ⟨"PackageAuction", "bidTaken", "(II)I"⟩ ⟨"PackageAuction", "bidTaken", "(II)I"⟩) ∈ lw_all := lw_g (lw_at lw_ms 7 rfl) rfl
theorem qs8 : (Cond.selects "PackageAuction" ⟨"PackageAuction", "sumWithout", "(II)I"⟩ ⟨"PackageAuction", "sumWithout", "(II)I"⟩) ∈ lw_all := lw_g (lw_at lw_ms 8 rfl) rfl
theorem qs9 : (Cond.selects "PackageAuction" ⟨"PackageAuction", "sumLacking", "(I)I"⟩ ⟨"PackageAuction", "sumLacking", "(I)I"⟩) ∈ lw_all := lw_g (lw_at lw_ms 9 rfl) rfl
theorem qs10 : (Cond.selects "PackageAuctionModel" ⟨"PackageAuctionModel", "bidder", "(I)Z"⟩ ⟨"PackageAuctionModel", "bidder", "(I)Z"⟩) ∈ lw_all := lw_g (lw_at lw_ms 10 rfl) rfl
theorem qs11 : (Cond.selects "PackageAuctionModel" ⟨"PackageAuctionModel", "is", "(I)Z"⟩ ⟨"PackageAuctionModel", "is", "(I)Z"⟩) ∈ lw_all := lw_g (lw_at lw_ms 11 rfl) rfl
theorem qs12 : (Cond.selects "PackageAuctionModel" ⟨"PackageAuctionModel", "work", "()V"⟩ ⟨"PackageAuctionModel", "work", "()V"⟩) ∈ lw_all := lw_g (lw_at lw_ms 12 rfl) rfl
theorem qs13 : (Cond.selects "PackageAuctionModel" ⟨"PackageAuctionModel", "allocates", "(I)Z"⟩ ⟨"PackageAuctionModel", "allocates", "(I)Z"⟩) ∈ lw_all := lw_g (lw_at lw_ms 13 rfl) rfl
theorem qs14 : (Cond.selects "PackageAuctionModel" ⟨"PackageAuctionModel", "best", "(II)I"⟩ ⟨"PackageAuctionModel", "best", "(II)I"⟩) ∈ lw_all := lw_g (lw_at lw_ms 14 rfl) rfl
theorem qs15 : (Cond.selects "PackageAuctionModel" ⟨"PackageAuctionModel", "before", "(II)Z"⟩ ⟨"PackageAuctionModel", "before", "(II)Z"⟩) ∈ lw_all := lw_g (lw_at lw_ms 15 rfl) rfl
theorem qs16 : (Cond.selects "PackageAuctionModel" ⟨"PackageAuctionModel", "sum", "(I)I"⟩ ⟨"PackageAuctionModel", "sum", "(I)I"⟩) ∈ lw_all := lw_g (lw_at lw_ms 16 rfl) rfl
theorem qs17 : (Cond.selects "PackageAuctionModel" ⟨"PackageAuctionModel", "of", "(I)I"⟩ ⟨"PackageAuctionModel", "of", "(I)I"⟩) ∈ lw_all := lw_g (lw_at lw_ms 17 rfl) rfl
end
section
/-! java/lang/Object -/
set_option maxRecDepth 100000
def RJ0 : String := "java/lang/Object"
abbrev cJ0_init : ByteArray := object_method_1_code
def yJ0_init : MethodName := ⟨RJ0, "<init>", "()V"⟩
theorem dJ0_init_0 : decode cJ0_init 0 = .ok (.return_, 1) := by decide +kernel
theorem q27 : (Jvm.Cond.instanceMethod ({ cls := "java/lang/Object", name := "<init>", desc := "()V" } : Jvm.MethodName)) ∈ lw_all := lw_g (lw_at lw_m1 9 rfl) rfl
theorem q28 : (Jvm.Cond.code ({ cls := "java/lang/Object", name := "<init>", desc := "()V" } : Jvm.MethodName) object_method_1_code (1 : Nat) (Option.none : Option Jvm.ClassFile.FieldType)) ∈ lw_all := lw_g (lw_at lw_m1 10 rfl) rfl
theorem q57 : (Jvm.Cond.arrayClass Jvm.ClassFile.FieldType.short) ∈ lw_all := lw_g (lw_at lw_m1 39 rfl) rfl
set_option maxRecDepth 100000
theorem q58 : (Jvm.Cond.arrayClass Jvm.ClassFile.FieldType.byte) ∈ lw_all := lw_g (lw_at lw_m1 40 rfl) rfl
theorem q59 : (Jvm.Cond.arrayClass Jvm.ClassFile.FieldType.int) ∈ lw_all := lw_g (lw_at lw_m1 41 rfl) rfl
theorem q190 : (Jvm.Cond.arrayClass Jvm.ClassFile.FieldType.boolean) ∈ lw_all := lw_g (lw_at lw_m1 172 rfl) rfl
/-! PackageAuction -/
set_option maxRecDepth 100000
def RX0 : String := "PackageAuction"
def TX0 : u_T := fun k => match k with
  | 0 => ("PackageAuction", "present", "I", false)
  | 1 => ("PackageAuction", "bundles", "[S", true)
  | 2 => ("PackageAuction", "bidders", "[B", true)
  | 3 => ("PackageAuction", "amounts", "[B", true)
  | 4 => ("PackageAuction", "withheldSet", "I", false)
  | 5 => ("PackageAuction", "known", "Z", false)
  | 6 => ("PackageAuction", "before", "[I", true)
  | 7 => ("PackageAuction", "onward", "[I", true)
  | _ => ("PackageAuction", "winnerSet", "I", false)
def tyX0 : Nat → FieldType := fun k => match k with
  | 0 => .int
  | 1 => .array .short
  | 2 => .array .byte
  | 3 => .array .byte
  | 4 => .int
  | 5 => .boolean
  | 6 => .array .int
  | 7 => .array .int
  | _ => .int
abbrev wsX00 : List Cond := u_ws RX0 TX0 9
theorem nmX0 : ∀ a, a < 9 → ∀ b, b < 9 → a ≠ b → (TX0 a).2.1 ≠ (TX0 b).2.1 := by decide +kernel
theorem tyX0_ok : ∀ k, k < 9 → parseFieldDescriptor (TX0 k).2.2.1 = some (tyX0 k) := by decide +kernel
abbrev cX0_init : ByteArray := prog_1_method_1_code
def yX0_init : MethodName := ⟨RX0, "<init>", "()V"⟩
theorem dX0_init_0 : decode cX0_init 0 = .ok (.aload_n 0, 1) := by decide +kernel
theorem dX0_init_1 : decode cX0_init 1 = .ok (.invokespecial 1, 3) := by decide +kernel
theorem dX0_init_4 : decode cX0_init 4 = .ok (.aload_n 0, 1) := by decide +kernel
theorem dX0_init_5 : decode cX0_init 5 = .ok (.bipush 8, 2) := by decide +kernel
theorem dX0_init_7 : decode cX0_init 7 = .ok (.newarray .short, 2) := by decide +kernel
theorem dX0_init_9 : decode cX0_init 9 = .ok (.putfield 7, 3) := by decide +kernel
theorem dX0_init_12 : decode cX0_init 12 = .ok (.aload_n 0, 1) := by decide +kernel
theorem dX0_init_13 : decode cX0_init 13 = .ok (.bipush 8, 2) := by decide +kernel
theorem dX0_init_15 : decode cX0_init 15 = .ok (.newarray .byte, 2) := by decide +kernel
theorem dX0_init_17 : decode cX0_init 17 = .ok (.putfield 13, 3) := by decide +kernel
theorem dX0_init_20 : decode cX0_init 20 = .ok (.aload_n 0, 1) := by decide +kernel
theorem dX0_init_21 : decode cX0_init 21 = .ok (.bipush 8, 2) := by decide +kernel
theorem dX0_init_23 : decode cX0_init 23 = .ok (.newarray .byte, 2) := by decide +kernel
theorem dX0_init_25 : decode cX0_init 25 = .ok (.putfield 17, 3) := by decide +kernel
theorem dX0_init_28 : decode cX0_init 28 = .ok (.aload_n 0, 1) := by decide +kernel
theorem dX0_init_29 : decode cX0_init 29 = .ok (.sipush 1280, 3) := by decide +kernel
theorem dX0_init_32 : decode cX0_init 32 = .ok (.newarray .int, 2) := by decide +kernel
theorem dX0_init_34 : decode cX0_init 34 = .ok (.putfield 20, 3) := by decide +kernel
theorem dX0_init_37 : decode cX0_init 37 = .ok (.aload_n 0, 1) := by decide +kernel
theorem dX0_init_38 : decode cX0_init 38 = .ok (.sipush 1280, 3) := by decide +kernel
theorem dX0_init_41 : decode cX0_init 41 = .ok (.newarray .int, 2) := by decide +kernel
theorem dX0_init_43 : decode cX0_init 43 = .ok (.putfield 24, 3) := by decide +kernel
theorem dX0_init_46 : decode cX0_init 46 = .ok (.return_, 1) := by decide +kernel
abbrev cX0_bid : ByteArray := prog_1_method_4_code
def yX0_bid : MethodName := ⟨RX0, "bid", "(III)I"⟩
theorem dX0_bid_0 : decode cX0_bid 0 = .ok (.iload_n 1, 1) := by decide +kernel
theorem dX0_bid_1 : decode cX0_bid 1 = .ok (.iconst 1, 1) := by decide +kernel
theorem dX0_bid_2 : decode cX0_bid 2 = .ok (.if_icmp .lt 28, 3) := by decide +kernel
theorem dX0_bid_5 : decode cX0_bid 5 = .ok (.iload_n 1, 1) := by decide +kernel
theorem dX0_bid_6 : decode cX0_bid 6 = .ok (.sipush 256, 3) := by decide +kernel
theorem dX0_bid_9 : decode cX0_bid 9 = .ok (.if_icmp .ge 21, 3) := by decide +kernel
theorem dX0_bid_12 : decode cX0_bid 12 = .ok (.iload_n 2, 1) := by decide +kernel
theorem dX0_bid_13 : decode cX0_bid 13 = .ok (.invokestatic 31, 3) := by decide +kernel
theorem dX0_bid_16 : decode cX0_bid 16 = .ok (.ifCond .eq 14, 3) := by decide +kernel
theorem dX0_bid_19 : decode cX0_bid 19 = .ok (.iload_n 3, 1) := by decide +kernel
theorem dX0_bid_20 : decode cX0_bid 20 = .ok (.iconst 1, 1) := by decide +kernel
theorem dX0_bid_21 : decode cX0_bid 21 = .ok (.if_icmp .lt 9, 3) := by decide +kernel
theorem dX0_bid_24 : decode cX0_bid 24 = .ok (.iload_n 3, 1) := by decide +kernel
theorem dX0_bid_25 : decode cX0_bid 25 = .ok (.bipush 50, 2) := by decide +kernel
theorem dX0_bid_27 : decode cX0_bid 27 = .ok (.if_icmp .le 5, 3) := by decide +kernel
theorem dX0_bid_30 : decode cX0_bid 30 = .ok (.iconst (-1), 1) := by decide +kernel
theorem dX0_bid_31 : decode cX0_bid 31 = .ok (.ireturn, 1) := by decide +kernel
theorem dX0_bid_32 : decode cX0_bid 32 = .ok (.iconst 0, 1) := by decide +kernel
theorem dX0_bid_33 : decode cX0_bid 33 = .ok (.istore 4, 2) := by decide +kernel
theorem dX0_bid_35 : decode cX0_bid 35 = .ok (.iload 4, 2) := by decide +kernel
theorem dX0_bid_37 : decode cX0_bid 37 = .ok (.bipush 8, 2) := by decide +kernel
theorem dX0_bid_39 : decode cX0_bid 39 = .ok (.if_icmp .ge 66, 3) := by decide +kernel
theorem dX0_bid_42 : decode cX0_bid 42 = .ok (.aload_n 0, 1) := by decide +kernel
theorem dX0_bid_43 : decode cX0_bid 43 = .ok (.iload 4, 2) := by decide +kernel
theorem dX0_bid_45 : decode cX0_bid 45 = .ok (.invokevirtual 35, 3) := by decide +kernel
theorem dX0_bid_48 : decode cX0_bid 48 = .ok (.ifCond .ne 51, 3) := by decide +kernel
theorem dX0_bid_51 : decode cX0_bid 51 = .ok (.aload_n 0, 1) := by decide +kernel
theorem dX0_bid_52 : decode cX0_bid 52 = .ok (.dup, 1) := by decide +kernel
theorem dX0_bid_53 : decode cX0_bid 53 = .ok (.getfield 27, 3) := by decide +kernel
theorem dX0_bid_56 : decode cX0_bid 56 = .ok (.iconst 1, 1) := by decide +kernel
theorem dX0_bid_57 : decode cX0_bid 57 = .ok (.iload 4, 2) := by decide +kernel
theorem dX0_bid_59 : decode cX0_bid 59 = .ok (.ishl, 1) := by decide +kernel
theorem dX0_bid_60 : decode cX0_bid 60 = .ok (.ior, 1) := by decide +kernel
theorem dX0_bid_61 : decode cX0_bid 61 = .ok (.putfield 27, 3) := by decide +kernel
theorem dX0_bid_64 : decode cX0_bid 64 = .ok (.aload_n 0, 1) := by decide +kernel
theorem dX0_bid_65 : decode cX0_bid 65 = .ok (.getfield 7, 3) := by decide +kernel
theorem dX0_bid_68 : decode cX0_bid 68 = .ok (.iload 4, 2) := by decide +kernel
theorem dX0_bid_70 : decode cX0_bid 70 = .ok (.iload_n 1, 1) := by decide +kernel
theorem dX0_bid_71 : decode cX0_bid 71 = .ok (.i2s, 1) := by decide +kernel
theorem dX0_bid_72 : decode cX0_bid 72 = .ok (.sastore, 1) := by decide +kernel
theorem dX0_bid_73 : decode cX0_bid 73 = .ok (.aload_n 0, 1) := by decide +kernel
theorem dX0_bid_74 : decode cX0_bid 74 = .ok (.getfield 13, 3) := by decide +kernel
theorem dX0_bid_77 : decode cX0_bid 77 = .ok (.iload 4, 2) := by decide +kernel
theorem dX0_bid_79 : decode cX0_bid 79 = .ok (.iload_n 2, 1) := by decide +kernel
theorem dX0_bid_80 : decode cX0_bid 80 = .ok (.i2b, 1) := by decide +kernel
theorem dX0_bid_81 : decode cX0_bid 81 = .ok (.bastore, 1) := by decide +kernel
theorem dX0_bid_82 : decode cX0_bid 82 = .ok (.aload_n 0, 1) := by decide +kernel
theorem dX0_bid_83 : decode cX0_bid 83 = .ok (.getfield 17, 3) := by decide +kernel
theorem dX0_bid_86 : decode cX0_bid 86 = .ok (.iload 4, 2) := by decide +kernel
theorem dX0_bid_88 : decode cX0_bid 88 = .ok (.iload_n 3, 1) := by decide +kernel
theorem dX0_bid_89 : decode cX0_bid 89 = .ok (.i2b, 1) := by decide +kernel
theorem dX0_bid_90 : decode cX0_bid 90 = .ok (.bastore, 1) := by decide +kernel
theorem dX0_bid_91 : decode cX0_bid 91 = .ok (.aload_n 0, 1) := by decide +kernel
theorem dX0_bid_92 : decode cX0_bid 92 = .ok (.iconst 0, 1) := by decide +kernel
theorem dX0_bid_93 : decode cX0_bid 93 = .ok (.putfield 38, 3) := by decide +kernel
theorem dX0_bid_96 : decode cX0_bid 96 = .ok (.iload 4, 2) := by decide +kernel
theorem dX0_bid_98 : decode cX0_bid 98 = .ok (.ireturn, 1) := by decide +kernel
theorem dX0_bid_99 : decode cX0_bid 99 = .ok (.iinc 4 1, 3) := by decide +kernel
theorem dX0_bid_102 : decode cX0_bid 102 = .ok (.goto (-67), 3) := by decide +kernel
theorem dX0_bid_105 : decode cX0_bid 105 = .ok (.bipush (-2), 2) := by decide +kernel
theorem dX0_bid_107 : decode cX0_bid 107 = .ok (.ireturn, 1) := by decide +kernel
abbrev cX0_isBidder : ByteArray := prog_1_method_3_code
def yX0_isBidder : MethodName := ⟨RX0, "isBidder", "(I)Z"⟩
theorem dX0_isBidder_0 : decode cX0_isBidder 0 = .ok (.iload_n 0, 1) := by decide +kernel
theorem dX0_isBidder_1 : decode cX0_isBidder 1 = .ok (.ifCond .lt 12, 3) := by decide +kernel
theorem dX0_isBidder_4 : decode cX0_isBidder 4 = .ok (.iload_n 0, 1) := by decide +kernel
theorem dX0_isBidder_5 : decode cX0_isBidder 5 = .ok (.iconst 4, 1) := by decide +kernel
theorem dX0_isBidder_6 : decode cX0_isBidder 6 = .ok (.if_icmp .ge 7, 3) := by decide +kernel
theorem dX0_isBidder_9 : decode cX0_isBidder 9 = .ok (.iconst 1, 1) := by decide +kernel
theorem dX0_isBidder_10 : decode cX0_isBidder 10 = .ok (.goto 4, 3) := by decide +kernel
theorem dX0_isBidder_13 : decode cX0_isBidder 13 = .ok (.iconst 0, 1) := by decide +kernel
theorem dX0_isBidder_14 : decode cX0_isBidder 14 = .ok (.ireturn, 1) := by decide +kernel
abbrev cX0_has : ByteArray := prog_1_method_2_code
def yX0_has : MethodName := ⟨RX0, "has", "(I)Z"⟩
theorem dX0_has_0 : decode cX0_has 0 = .ok (.iload_n 1, 1) := by decide +kernel
theorem dX0_has_1 : decode cX0_has 1 = .ok (.ifCond .lt 24, 3) := by decide +kernel
theorem dX0_has_4 : decode cX0_has 4 = .ok (.iload_n 1, 1) := by decide +kernel
theorem dX0_has_5 : decode cX0_has 5 = .ok (.bipush 8, 2) := by decide +kernel
theorem dX0_has_7 : decode cX0_has 7 = .ok (.if_icmp .ge 18, 3) := by decide +kernel
theorem dX0_has_10 : decode cX0_has 10 = .ok (.aload_n 0, 1) := by decide +kernel
theorem dX0_has_11 : decode cX0_has 11 = .ok (.getfield 27, 3) := by decide +kernel
theorem dX0_has_14 : decode cX0_has 14 = .ok (.iload_n 1, 1) := by decide +kernel
theorem dX0_has_15 : decode cX0_has 15 = .ok (.ishr, 1) := by decide +kernel
theorem dX0_has_16 : decode cX0_has 16 = .ok (.iconst 1, 1) := by decide +kernel
theorem dX0_has_17 : decode cX0_has 17 = .ok (.iand, 1) := by decide +kernel
theorem dX0_has_18 : decode cX0_has 18 = .ok (.ifCond .eq 7, 3) := by decide +kernel
theorem dX0_has_21 : decode cX0_has 21 = .ok (.iconst 1, 1) := by decide +kernel
theorem dX0_has_22 : decode cX0_has 22 = .ok (.goto 4, 3) := by decide +kernel
theorem dX0_has_25 : decode cX0_has 25 = .ok (.iconst 0, 1) := by decide +kernel
theorem dX0_has_26 : decode cX0_has 26 = .ok (.ireturn, 1) := by decide +kernel
abbrev cX0_retract : ByteArray := prog_1_method_5_code
def yX0_retract : MethodName := ⟨RX0, "retract", "(I)Z"⟩
theorem dX0_retract_0 : decode cX0_retract 0 = .ok (.aload_n 0, 1) := by decide +kernel
theorem dX0_retract_1 : decode cX0_retract 1 = .ok (.iload_n 1, 1) := by decide +kernel
theorem dX0_retract_2 : decode cX0_retract 2 = .ok (.invokevirtual 35, 3) := by decide +kernel
theorem dX0_retract_5 : decode cX0_retract 5 = .ok (.ifCond .ne 5, 3) := by decide +kernel
theorem dX0_retract_8 : decode cX0_retract 8 = .ok (.iconst 0, 1) := by decide +kernel
theorem dX0_retract_9 : decode cX0_retract 9 = .ok (.ireturn, 1) := by decide +kernel
theorem dX0_retract_10 : decode cX0_retract 10 = .ok (.aload_n 0, 1) := by decide +kernel
theorem dX0_retract_11 : decode cX0_retract 11 = .ok (.dup, 1) := by decide +kernel
theorem dX0_retract_12 : decode cX0_retract 12 = .ok (.getfield 27, 3) := by decide +kernel
theorem dX0_retract_15 : decode cX0_retract 15 = .ok (.iconst 1, 1) := by decide +kernel
theorem dX0_retract_16 : decode cX0_retract 16 = .ok (.iload_n 1, 1) := by decide +kernel
theorem dX0_retract_17 : decode cX0_retract 17 = .ok (.ishl, 1) := by decide +kernel
theorem dX0_retract_18 : decode cX0_retract 18 = .ok (.iconst (-1), 1) := by decide +kernel
theorem dX0_retract_19 : decode cX0_retract 19 = .ok (.ixor, 1) := by decide +kernel
theorem dX0_retract_20 : decode cX0_retract 20 = .ok (.iand, 1) := by decide +kernel
theorem dX0_retract_21 : decode cX0_retract 21 = .ok (.putfield 27, 3) := by decide +kernel
theorem dX0_retract_24 : decode cX0_retract 24 = .ok (.aload_n 0, 1) := by decide +kernel
theorem dX0_retract_25 : decode cX0_retract 25 = .ok (.iconst 0, 1) := by decide +kernel
theorem dX0_retract_26 : decode cX0_retract 26 = .ok (.putfield 38, 3) := by decide +kernel
theorem dX0_retract_29 : decode cX0_retract 29 = .ok (.iconst 1, 1) := by decide +kernel
theorem dX0_retract_30 : decode cX0_retract 30 = .ok (.ireturn, 1) := by decide +kernel
abbrev cX0_raise : ByteArray := prog_1_method_6_code
def yX0_raise : MethodName := ⟨RX0, "raise", "(II)Z"⟩
theorem dX0_raise_0 : decode cX0_raise 0 = .ok (.aload_n 0, 1) := by decide +kernel
theorem dX0_raise_1 : decode cX0_raise 1 = .ok (.iload_n 1, 1) := by decide +kernel
theorem dX0_raise_2 : decode cX0_raise 2 = .ok (.invokevirtual 35, 3) := by decide +kernel
theorem dX0_raise_5 : decode cX0_raise 5 = .ok (.ifCond .eq 14, 3) := by decide +kernel
theorem dX0_raise_8 : decode cX0_raise 8 = .ok (.iload_n 2, 1) := by decide +kernel
theorem dX0_raise_9 : decode cX0_raise 9 = .ok (.iconst 1, 1) := by decide +kernel
theorem dX0_raise_10 : decode cX0_raise 10 = .ok (.if_icmp .lt 9, 3) := by decide +kernel
theorem dX0_raise_13 : decode cX0_raise 13 = .ok (.iload_n 2, 1) := by decide +kernel
theorem dX0_raise_14 : decode cX0_raise 14 = .ok (.bipush 50, 2) := by decide +kernel
theorem dX0_raise_16 : decode cX0_raise 16 = .ok (.if_icmp .le 5, 3) := by decide +kernel
theorem dX0_raise_19 : decode cX0_raise 19 = .ok (.iconst 0, 1) := by decide +kernel
theorem dX0_raise_20 : decode cX0_raise 20 = .ok (.ireturn, 1) := by decide +kernel
theorem dX0_raise_21 : decode cX0_raise 21 = .ok (.aload_n 0, 1) := by decide +kernel
theorem dX0_raise_22 : decode cX0_raise 22 = .ok (.getfield 17, 3) := by decide +kernel
theorem dX0_raise_25 : decode cX0_raise 25 = .ok (.iload_n 1, 1) := by decide +kernel
theorem dX0_raise_26 : decode cX0_raise 26 = .ok (.iload_n 2, 1) := by decide +kernel
theorem dX0_raise_27 : decode cX0_raise 27 = .ok (.i2b, 1) := by decide +kernel
theorem dX0_raise_28 : decode cX0_raise 28 = .ok (.bastore, 1) := by decide +kernel
theorem dX0_raise_29 : decode cX0_raise 29 = .ok (.aload_n 0, 1) := by decide +kernel
theorem dX0_raise_30 : decode cX0_raise 30 = .ok (.iconst 0, 1) := by decide +kernel
theorem dX0_raise_31 : decode cX0_raise 31 = .ok (.putfield 38, 3) := by decide +kernel
theorem dX0_raise_34 : decode cX0_raise 34 = .ok (.iconst 1, 1) := by decide +kernel
theorem dX0_raise_35 : decode cX0_raise 35 = .ok (.ireturn, 1) := by decide +kernel
abbrev cX0_withhold : ByteArray := prog_1_method_7_code
def yX0_withhold : MethodName := ⟨RX0, "withhold", "(IZ)Z"⟩
theorem dX0_withhold_0 : decode cX0_withhold 0 = .ok (.iload_n 1, 1) := by decide +kernel
theorem dX0_withhold_1 : decode cX0_withhold 1 = .ok (.ifCond .lt 9, 3) := by decide +kernel
theorem dX0_withhold_4 : decode cX0_withhold 4 = .ok (.iload_n 1, 1) := by decide +kernel
theorem dX0_withhold_5 : decode cX0_withhold 5 = .ok (.bipush 8, 2) := by decide +kernel
theorem dX0_withhold_7 : decode cX0_withhold 7 = .ok (.if_icmp .lt 5, 3) := by decide +kernel
theorem dX0_withhold_10 : decode cX0_withhold 10 = .ok (.iconst 0, 1) := by decide +kernel
theorem dX0_withhold_11 : decode cX0_withhold 11 = .ok (.ireturn, 1) := by decide +kernel
theorem dX0_withhold_12 : decode cX0_withhold 12 = .ok (.aload_n 0, 1) := by decide +kernel
theorem dX0_withhold_13 : decode cX0_withhold 13 = .ok (.iload_n 2, 1) := by decide +kernel
theorem dX0_withhold_14 : decode cX0_withhold 14 = .ok (.ifCond .eq 14, 3) := by decide +kernel
theorem dX0_withhold_17 : decode cX0_withhold 17 = .ok (.aload_n 0, 1) := by decide +kernel
theorem dX0_withhold_18 : decode cX0_withhold 18 = .ok (.getfield 42, 3) := by decide +kernel
theorem dX0_withhold_21 : decode cX0_withhold 21 = .ok (.iconst 1, 1) := by decide +kernel
theorem dX0_withhold_22 : decode cX0_withhold 22 = .ok (.iload_n 1, 1) := by decide +kernel
theorem dX0_withhold_23 : decode cX0_withhold 23 = .ok (.ishl, 1) := by decide +kernel
theorem dX0_withhold_24 : decode cX0_withhold 24 = .ok (.ior, 1) := by decide +kernel
theorem dX0_withhold_25 : decode cX0_withhold 25 = .ok (.goto 13, 3) := by decide +kernel
theorem dX0_withhold_28 : decode cX0_withhold 28 = .ok (.aload_n 0, 1) := by decide +kernel
theorem dX0_withhold_29 : decode cX0_withhold 29 = .ok (.getfield 42, 3) := by decide +kernel
theorem dX0_withhold_32 : decode cX0_withhold 32 = .ok (.iconst 1, 1) := by decide +kernel
theorem dX0_withhold_33 : decode cX0_withhold 33 = .ok (.iload_n 1, 1) := by decide +kernel
theorem dX0_withhold_34 : decode cX0_withhold 34 = .ok (.ishl, 1) := by decide +kernel
theorem dX0_withhold_35 : decode cX0_withhold 35 = .ok (.iconst (-1), 1) := by decide +kernel
theorem dX0_withhold_36 : decode cX0_withhold 36 = .ok (.ixor, 1) := by decide +kernel
theorem dX0_withhold_37 : decode cX0_withhold 37 = .ok (.iand, 1) := by decide +kernel
theorem dX0_withhold_38 : decode cX0_withhold 38 = .ok (.putfield 42, 3) := by decide +kernel
theorem dX0_withhold_41 : decode cX0_withhold 41 = .ok (.aload_n 0, 1) := by decide +kernel
theorem dX0_withhold_42 : decode cX0_withhold 42 = .ok (.iconst 0, 1) := by decide +kernel
theorem dX0_withhold_43 : decode cX0_withhold 43 = .ok (.putfield 38, 3) := by decide +kernel
theorem dX0_withhold_46 : decode cX0_withhold 46 = .ok (.iconst 1, 1) := by decide +kernel
theorem dX0_withhold_47 : decode cX0_withhold 47 = .ok (.ireturn, 1) := by decide +kernel
abbrev cX0_bids : ByteArray := prog_1_method_8_code
def yX0_bids : MethodName := ⟨RX0, "bids", "()I"⟩
theorem dX0_bids_0 : decode cX0_bids 0 = .ok (.aload_n 0, 1) := by decide +kernel
theorem dX0_bids_1 : decode cX0_bids 1 = .ok (.getfield 27, 3) := by decide +kernel
theorem dX0_bids_4 : decode cX0_bids 4 = .ok (.ireturn, 1) := by decide +kernel
abbrev cX0_withheld : ByteArray := prog_1_method_9_code
def yX0_withheld : MethodName := ⟨RX0, "withheld", "()I"⟩
theorem dX0_withheld_0 : decode cX0_withheld 0 = .ok (.aload_n 0, 1) := by decide +kernel
theorem dX0_withheld_1 : decode cX0_withheld 1 = .ok (.getfield 42, 3) := by decide +kernel
theorem dX0_withheld_4 : decode cX0_withheld 4 = .ok (.ireturn, 1) := by decide +kernel
abbrev cX0_winners : ByteArray := prog_1_method_19_code
def yX0_winners : MethodName := ⟨RX0, "winners", "()I"⟩
theorem dX0_winners_0 : decode cX0_winners 0 = .ok (.aload_n 0, 1) := by decide +kernel
theorem dX0_winners_1 : decode cX0_winners 1 = .ok (.invokevirtual 73, 3) := by decide +kernel
theorem dX0_winners_4 : decode cX0_winners 4 = .ok (.aload_n 0, 1) := by decide +kernel
theorem dX0_winners_5 : decode cX0_winners 5 = .ok (.getfield 57, 3) := by decide +kernel
theorem dX0_winners_8 : decode cX0_winners 8 = .ok (.ireturn, 1) := by decide +kernel
abbrev cX0_learn : ByteArray := prog_1_method_13_code
def yX0_learn : MethodName := ⟨RX0, "learn", "()V"⟩
theorem dX0_learn_0 : decode cX0_learn 0 = .ok (.aload_n 0, 1) := by decide +kernel
theorem dX0_learn_1 : decode cX0_learn 1 = .ok (.getfield 38, 3) := by decide +kernel
theorem dX0_learn_4 : decode cX0_learn 4 = .ok (.ifCond .eq 4, 3) := by decide +kernel
theorem dX0_learn_7 : decode cX0_learn 7 = .ok (.return_, 1) := by decide +kernel
theorem dX0_learn_8 : decode cX0_learn 8 = .ok (.aload_n 0, 1) := by decide +kernel
theorem dX0_learn_9 : decode cX0_learn 9 = .ok (.iconst 1, 1) := by decide +kernel
theorem dX0_learn_10 : decode cX0_learn 10 = .ok (.putfield 38, 3) := by decide +kernel
theorem dX0_learn_13 : decode cX0_learn 13 = .ok (.iconst 0, 1) := by decide +kernel
theorem dX0_learn_14 : decode cX0_learn 14 = .ok (.istore_n 1, 1) := by decide +kernel
theorem dX0_learn_15 : decode cX0_learn 15 = .ok (.iload_n 1, 1) := by decide +kernel
theorem dX0_learn_16 : decode cX0_learn 16 = .ok (.sipush 256, 3) := by decide +kernel
theorem dX0_learn_19 : decode cX0_learn 19 = .ok (.if_icmp .ge 27, 3) := by decide +kernel
theorem dX0_learn_22 : decode cX0_learn 22 = .ok (.aload_n 0, 1) := by decide +kernel
theorem dX0_learn_23 : decode cX0_learn 23 = .ok (.getfield 20, 3) := by decide +kernel
theorem dX0_learn_26 : decode cX0_learn 26 = .ok (.iload_n 1, 1) := by decide +kernel
theorem dX0_learn_27 : decode cX0_learn 27 = .ok (.iconst 0, 1) := by decide +kernel
theorem dX0_learn_28 : decode cX0_learn 28 = .ok (.iastore, 1) := by decide +kernel
theorem dX0_learn_29 : decode cX0_learn 29 = .ok (.aload_n 0, 1) := by decide +kernel
theorem dX0_learn_30 : decode cX0_learn 30 = .ok (.getfield 24, 3) := by decide +kernel
theorem dX0_learn_33 : decode cX0_learn 33 = .ok (.sipush 1024, 3) := by decide +kernel
theorem dX0_learn_36 : decode cX0_learn 36 = .ok (.iload_n 1, 1) := by decide +kernel
theorem dX0_learn_37 : decode cX0_learn 37 = .ok (.iadd, 1) := by decide +kernel
theorem dX0_learn_38 : decode cX0_learn 38 = .ok (.iconst 0, 1) := by decide +kernel
theorem dX0_learn_39 : decode cX0_learn 39 = .ok (.iastore, 1) := by decide +kernel
theorem dX0_learn_40 : decode cX0_learn 40 = .ok (.iinc 1 1, 3) := by decide +kernel
theorem dX0_learn_43 : decode cX0_learn 43 = .ok (.goto (-28), 3) := by decide +kernel
theorem dX0_learn_46 : decode cX0_learn 46 = .ok (.iconst 0, 1) := by decide +kernel
theorem dX0_learn_47 : decode cX0_learn 47 = .ok (.istore_n 1, 1) := by decide +kernel
theorem dX0_learn_48 : decode cX0_learn 48 = .ok (.iload_n 1, 1) := by decide +kernel
theorem dX0_learn_49 : decode cX0_learn 49 = .ok (.iconst 4, 1) := by decide +kernel
theorem dX0_learn_50 : decode cX0_learn 50 = .ok (.if_icmp .ge 45, 3) := by decide +kernel
theorem dX0_learn_53 : decode cX0_learn 53 = .ok (.iconst 0, 1) := by decide +kernel
theorem dX0_learn_54 : decode cX0_learn 54 = .ok (.istore_n 2, 1) := by decide +kernel
theorem dX0_learn_55 : decode cX0_learn 55 = .ok (.iload_n 2, 1) := by decide +kernel
theorem dX0_learn_56 : decode cX0_learn 56 = .ok (.sipush 256, 3) := by decide +kernel
theorem dX0_learn_59 : decode cX0_learn 59 = .ok (.if_icmp .ge 30, 3) := by decide +kernel
theorem dX0_learn_62 : decode cX0_learn 62 = .ok (.aload_n 0, 1) := by decide +kernel
theorem dX0_learn_63 : decode cX0_learn 63 = .ok (.getfield 20, 3) := by decide +kernel
theorem dX0_learn_66 : decode cX0_learn 66 = .ok (.iload_n 1, 1) := by decide +kernel
theorem dX0_learn_67 : decode cX0_learn 67 = .ok (.iconst 1, 1) := by decide +kernel
theorem dX0_learn_68 : decode cX0_learn 68 = .ok (.iadd, 1) := by decide +kernel
theorem dX0_learn_69 : decode cX0_learn 69 = .ok (.sipush 256, 3) := by decide +kernel
theorem dX0_learn_72 : decode cX0_learn 72 = .ok (.imul, 1) := by decide +kernel
theorem dX0_learn_73 : decode cX0_learn 73 = .ok (.iload_n 2, 1) := by decide +kernel
theorem dX0_learn_74 : decode cX0_learn 74 = .ok (.iadd, 1) := by decide +kernel
theorem dX0_learn_75 : decode cX0_learn 75 = .ok (.aload_n 0, 1) := by decide +kernel
theorem dX0_learn_76 : decode cX0_learn 76 = .ok (.iload_n 1, 1) := by decide +kernel
theorem dX0_learn_77 : decode cX0_learn 77 = .ok (.iload_n 2, 1) := by decide +kernel
theorem dX0_learn_78 : decode cX0_learn 78 = .ok (.iconst 1, 1) := by decide +kernel
theorem dX0_learn_79 : decode cX0_learn 79 = .ok (.invokevirtual 49, 3) := by decide +kernel
theorem dX0_learn_82 : decode cX0_learn 82 = .ok (.iastore, 1) := by decide +kernel
theorem dX0_learn_83 : decode cX0_learn 83 = .ok (.iinc 2 1, 3) := by decide +kernel
theorem dX0_learn_86 : decode cX0_learn 86 = .ok (.goto (-31), 3) := by decide +kernel
theorem dX0_learn_89 : decode cX0_learn 89 = .ok (.iinc 1 1, 3) := by decide +kernel
theorem dX0_learn_92 : decode cX0_learn 92 = .ok (.goto (-44), 3) := by decide +kernel
theorem dX0_learn_95 : decode cX0_learn 95 = .ok (.iconst 3, 1) := by decide +kernel
theorem dX0_learn_96 : decode cX0_learn 96 = .ok (.istore_n 1, 1) := by decide +kernel
theorem dX0_learn_97 : decode cX0_learn 97 = .ok (.iload_n 1, 1) := by decide +kernel
theorem dX0_learn_98 : decode cX0_learn 98 = .ok (.ifCond .lt 43, 3) := by decide +kernel
theorem dX0_learn_101 : decode cX0_learn 101 = .ok (.iconst 0, 1) := by decide +kernel
theorem dX0_learn_102 : decode cX0_learn 102 = .ok (.istore_n 2, 1) := by decide +kernel
theorem dX0_learn_103 : decode cX0_learn 103 = .ok (.iload_n 2, 1) := by decide +kernel
theorem dX0_learn_104 : decode cX0_learn 104 = .ok (.sipush 256, 3) := by decide +kernel
theorem dX0_learn_107 : decode cX0_learn 107 = .ok (.if_icmp .ge 28, 3) := by decide +kernel
theorem dX0_learn_110 : decode cX0_learn 110 = .ok (.aload_n 0, 1) := by decide +kernel
theorem dX0_learn_111 : decode cX0_learn 111 = .ok (.getfield 24, 3) := by decide +kernel
theorem dX0_learn_114 : decode cX0_learn 114 = .ok (.iload_n 1, 1) := by decide +kernel
theorem dX0_learn_115 : decode cX0_learn 115 = .ok (.sipush 256, 3) := by decide +kernel
theorem dX0_learn_118 : decode cX0_learn 118 = .ok (.imul, 1) := by decide +kernel
theorem dX0_learn_119 : decode cX0_learn 119 = .ok (.iload_n 2, 1) := by decide +kernel
theorem dX0_learn_120 : decode cX0_learn 120 = .ok (.iadd, 1) := by decide +kernel
theorem dX0_learn_121 : decode cX0_learn 121 = .ok (.aload_n 0, 1) := by decide +kernel
theorem dX0_learn_122 : decode cX0_learn 122 = .ok (.iload_n 1, 1) := by decide +kernel
theorem dX0_learn_123 : decode cX0_learn 123 = .ok (.iload_n 2, 1) := by decide +kernel
theorem dX0_learn_124 : decode cX0_learn 124 = .ok (.iconst 0, 1) := by decide +kernel
theorem dX0_learn_125 : decode cX0_learn 125 = .ok (.invokevirtual 49, 3) := by decide +kernel
theorem dX0_learn_128 : decode cX0_learn 128 = .ok (.iastore, 1) := by decide +kernel
theorem dX0_learn_129 : decode cX0_learn 129 = .ok (.iinc 2 1, 3) := by decide +kernel
theorem dX0_learn_132 : decode cX0_learn 132 = .ok (.goto (-29), 3) := by decide +kernel
theorem dX0_learn_135 : decode cX0_learn 135 = .ok (.iinc 1 (-1), 3) := by decide +kernel
theorem dX0_learn_138 : decode cX0_learn 138 = .ok (.goto (-41), 3) := by decide +kernel
theorem dX0_learn_141 : decode cX0_learn 141 = .ok (.aload_n 0, 1) := by decide +kernel
theorem dX0_learn_142 : decode cX0_learn 142 = .ok (.aload_n 0, 1) := by decide +kernel
theorem dX0_learn_143 : decode cX0_learn 143 = .ok (.invokevirtual 53, 3) := by decide +kernel
theorem dX0_learn_146 : decode cX0_learn 146 = .ok (.putfield 57, 3) := by decide +kernel
theorem dX0_learn_149 : decode cX0_learn 149 = .ok (.return_, 1) := by decide +kernel
abbrev cX0_bestStep : ByteArray := prog_1_method_14_code
def yX0_bestStep : MethodName := ⟨RX0, "bestStep", "(IIZ)I"⟩
theorem dX0_bestStep_0 : decode cX0_bestStep 0 = .ok (.aload_n 0, 1) := by decide +kernel
theorem dX0_bestStep_1 : decode cX0_bestStep 1 = .ok (.iload_n 1, 1) := by decide +kernel
theorem dX0_bestStep_2 : decode cX0_bestStep 2 = .ok (.iload_n 2, 1) := by decide +kernel
theorem dX0_bestStep_3 : decode cX0_bestStep 3 = .ok (.iload_n 3, 1) := by decide +kernel
theorem dX0_bestStep_4 : decode cX0_bestStep 4 = .ok (.invokevirtual 60, 3) := by decide +kernel
theorem dX0_bestStep_7 : decode cX0_bestStep 7 = .ok (.istore 4, 2) := by decide +kernel
theorem dX0_bestStep_9 : decode cX0_bestStep 9 = .ok (.iconst 0, 1) := by decide +kernel
theorem dX0_bestStep_10 : decode cX0_bestStep 10 = .ok (.istore 5, 2) := by decide +kernel
theorem dX0_bestStep_12 : decode cX0_bestStep 12 = .ok (.iload 5, 2) := by decide +kernel
theorem dX0_bestStep_14 : decode cX0_bestStep 14 = .ok (.bipush 8, 2) := by decide +kernel
theorem dX0_bestStep_16 : decode cX0_bestStep 16 = .ok (.if_icmp .ge 85, 3) := by decide +kernel
theorem dX0_bestStep_19 : decode cX0_bestStep 19 = .ok (.aload_n 0, 1) := by decide +kernel
theorem dX0_bestStep_20 : decode cX0_bestStep 20 = .ok (.iload 5, 2) := by decide +kernel
theorem dX0_bestStep_22 : decode cX0_bestStep 22 = .ok (.invokevirtual 35, 3) := by decide +kernel
theorem dX0_bestStep_25 : decode cX0_bestStep 25 = .ok (.ifCond .eq 70, 3) := by decide +kernel
theorem dX0_bestStep_28 : decode cX0_bestStep 28 = .ok (.aload_n 0, 1) := by decide +kernel
theorem dX0_bestStep_29 : decode cX0_bestStep 29 = .ok (.getfield 13, 3) := by decide +kernel
theorem dX0_bestStep_32 : decode cX0_bestStep 32 = .ok (.iload 5, 2) := by decide +kernel
theorem dX0_bestStep_34 : decode cX0_bestStep 34 = .ok (.baload, 1) := by decide +kernel
theorem dX0_bestStep_35 : decode cX0_bestStep 35 = .ok (.iload_n 1, 1) := by decide +kernel
theorem dX0_bestStep_36 : decode cX0_bestStep 36 = .ok (.if_icmp .ne 59, 3) := by decide +kernel
theorem dX0_bestStep_39 : decode cX0_bestStep 39 = .ok (.aload_n 0, 1) := by decide +kernel
theorem dX0_bestStep_40 : decode cX0_bestStep 40 = .ok (.getfield 7, 3) := by decide +kernel
theorem dX0_bestStep_43 : decode cX0_bestStep 43 = .ok (.iload 5, 2) := by decide +kernel
theorem dX0_bestStep_45 : decode cX0_bestStep 45 = .ok (.saload, 1) := by decide +kernel
theorem dX0_bestStep_46 : decode cX0_bestStep 46 = .ok (.iload_n 2, 1) := by decide +kernel
theorem dX0_bestStep_47 : decode cX0_bestStep 47 = .ok (.iconst (-1), 1) := by decide +kernel
theorem dX0_bestStep_48 : decode cX0_bestStep 48 = .ok (.ixor, 1) := by decide +kernel
theorem dX0_bestStep_49 : decode cX0_bestStep 49 = .ok (.iand, 1) := by decide +kernel
theorem dX0_bestStep_50 : decode cX0_bestStep 50 = .ok (.ifCond .ne 45, 3) := by decide +kernel
theorem dX0_bestStep_53 : decode cX0_bestStep 53 = .ok (.aload_n 0, 1) := by decide +kernel
theorem dX0_bestStep_54 : decode cX0_bestStep 54 = .ok (.iload 5, 2) := by decide +kernel
theorem dX0_bestStep_56 : decode cX0_bestStep 56 = .ok (.invokevirtual 63, 3) := by decide +kernel
theorem dX0_bestStep_59 : decode cX0_bestStep 59 = .ok (.aload_n 0, 1) := by decide +kernel
theorem dX0_bestStep_60 : decode cX0_bestStep 60 = .ok (.iload_n 1, 1) := by decide +kernel
theorem dX0_bestStep_61 : decode cX0_bestStep 61 = .ok (.iload_n 2, 1) := by decide +kernel
theorem dX0_bestStep_62 : decode cX0_bestStep 62 = .ok (.aload_n 0, 1) := by decide +kernel
theorem dX0_bestStep_63 : decode cX0_bestStep 63 = .ok (.getfield 7, 3) := by decide +kernel
theorem dX0_bestStep_66 : decode cX0_bestStep 66 = .ok (.iload 5, 2) := by decide +kernel
theorem dX0_bestStep_68 : decode cX0_bestStep 68 = .ok (.saload, 1) := by decide +kernel
theorem dX0_bestStep_69 : decode cX0_bestStep 69 = .ok (.iconst (-1), 1) := by decide +kernel
theorem dX0_bestStep_70 : decode cX0_bestStep 70 = .ok (.ixor, 1) := by decide +kernel
theorem dX0_bestStep_71 : decode cX0_bestStep 71 = .ok (.iand, 1) := by decide +kernel
theorem dX0_bestStep_72 : decode cX0_bestStep 72 = .ok (.iload_n 3, 1) := by decide +kernel
theorem dX0_bestStep_73 : decode cX0_bestStep 73 = .ok (.invokevirtual 60, 3) := by decide +kernel
theorem dX0_bestStep_76 : decode cX0_bestStep 76 = .ok (.iadd, 1) := by decide +kernel
theorem dX0_bestStep_77 : decode cX0_bestStep 77 = .ok (.istore 6, 2) := by decide +kernel
theorem dX0_bestStep_79 : decode cX0_bestStep 79 = .ok (.iload 6, 2) := by decide +kernel
theorem dX0_bestStep_81 : decode cX0_bestStep 81 = .ok (.iload 4, 2) := by decide +kernel
theorem dX0_bestStep_83 : decode cX0_bestStep 83 = .ok (.if_icmp .le 8, 3) := by decide +kernel
theorem dX0_bestStep_86 : decode cX0_bestStep 86 = .ok (.iload 6, 2) := by decide +kernel
theorem dX0_bestStep_88 : decode cX0_bestStep 88 = .ok (.goto 5, 3) := by decide +kernel
theorem dX0_bestStep_91 : decode cX0_bestStep 91 = .ok (.iload 4, 2) := by decide +kernel
theorem dX0_bestStep_93 : decode cX0_bestStep 93 = .ok (.istore 4, 2) := by decide +kernel
theorem dX0_bestStep_95 : decode cX0_bestStep 95 = .ok (.iinc 5 1, 3) := by decide +kernel
theorem dX0_bestStep_98 : decode cX0_bestStep 98 = .ok (.goto (-86), 3) := by decide +kernel
theorem dX0_bestStep_101 : decode cX0_bestStep 101 = .ok (.iload 4, 2) := by decide +kernel
theorem dX0_bestStep_103 : decode cX0_bestStep 103 = .ok (.ireturn, 1) := by decide +kernel
abbrev cX0_others : ByteArray := prog_1_method_15_code
def yX0_others : MethodName := ⟨RX0, "others", "(IIZ)I"⟩
theorem dX0_others_0 : decode cX0_others 0 = .ok (.iload_n 3, 1) := by decide +kernel
theorem dX0_others_1 : decode cX0_others 1 = .ok (.ifCond .eq 18, 3) := by decide +kernel
theorem dX0_others_4 : decode cX0_others 4 = .ok (.aload_n 0, 1) := by decide +kernel
theorem dX0_others_5 : decode cX0_others 5 = .ok (.getfield 20, 3) := by decide +kernel
theorem dX0_others_8 : decode cX0_others 8 = .ok (.iload_n 1, 1) := by decide +kernel
theorem dX0_others_9 : decode cX0_others 9 = .ok (.sipush 256, 3) := by decide +kernel
theorem dX0_others_12 : decode cX0_others 12 = .ok (.imul, 1) := by decide +kernel
theorem dX0_others_13 : decode cX0_others 13 = .ok (.iload_n 2, 1) := by decide +kernel
theorem dX0_others_14 : decode cX0_others 14 = .ok (.iadd, 1) := by decide +kernel
theorem dX0_others_15 : decode cX0_others 15 = .ok (.iaload, 1) := by decide +kernel
theorem dX0_others_16 : decode cX0_others 16 = .ok (.goto 17, 3) := by decide +kernel
theorem dX0_others_19 : decode cX0_others 19 = .ok (.aload_n 0, 1) := by decide +kernel
theorem dX0_others_20 : decode cX0_others 20 = .ok (.getfield 24, 3) := by decide +kernel
theorem dX0_others_23 : decode cX0_others 23 = .ok (.iload_n 1, 1) := by decide +kernel
theorem dX0_others_24 : decode cX0_others 24 = .ok (.iconst 1, 1) := by decide +kernel
theorem dX0_others_25 : decode cX0_others 25 = .ok (.iadd, 1) := by decide +kernel
theorem dX0_others_26 : decode cX0_others 26 = .ok (.sipush 256, 3) := by decide +kernel
theorem dX0_others_29 : decode cX0_others 29 = .ok (.imul, 1) := by decide +kernel
theorem dX0_others_30 : decode cX0_others 30 = .ok (.iload_n 2, 1) := by decide +kernel
theorem dX0_others_31 : decode cX0_others 31 = .ok (.iadd, 1) := by decide +kernel
theorem dX0_others_32 : decode cX0_others 32 = .ok (.iaload, 1) := by decide +kernel
theorem dX0_others_33 : decode cX0_others 33 = .ok (.ireturn, 1) := by decide +kernel
abbrev cX0_markedAmount : ByteArray := prog_1_method_11_code
def yX0_markedAmount : MethodName := ⟨RX0, "markedAmount", "(I)I"⟩
theorem dX0_markedAmount_0 : decode cX0_markedAmount 0 = .ok (.aload_n 0, 1) := by decide +kernel
theorem dX0_markedAmount_1 : decode cX0_markedAmount 1 = .ok (.getfield 17, 3) := by decide +kernel
theorem dX0_markedAmount_4 : decode cX0_markedAmount 4 = .ok (.iload_n 1, 1) := by decide +kernel
theorem dX0_markedAmount_5 : decode cX0_markedAmount 5 = .ok (.baload, 1) := by decide +kernel
theorem dX0_markedAmount_6 : decode cX0_markedAmount 6 = .ok (.sipush 256, 3) := by decide +kernel
theorem dX0_markedAmount_9 : decode cX0_markedAmount 9 = .ok (.imul, 1) := by decide +kernel
theorem dX0_markedAmount_10 : decode cX0_markedAmount 10 = .ok (.iload_n 1, 1) := by decide +kernel
theorem dX0_markedAmount_11 : decode cX0_markedAmount 11 = .ok (.invokestatic 45, 3) := by decide +kernel
theorem dX0_markedAmount_14 : decode cX0_markedAmount 14 = .ok (.iadd, 1) := by decide +kernel
theorem dX0_markedAmount_15 : decode cX0_markedAmount 15 = .ok (.ireturn, 1) := by decide +kernel
abbrev cX0_mark : ByteArray := prog_1_method_10_code
def yX0_mark : MethodName := ⟨RX0, "mark", "(I)I"⟩
theorem dX0_mark_0 : decode cX0_mark 0 = .ok (.iconst 1, 1) := by decide +kernel
theorem dX0_mark_1 : decode cX0_mark 1 = .ok (.bipush 7, 2) := by decide +kernel
theorem dX0_mark_3 : decode cX0_mark 3 = .ok (.iload_n 0, 1) := by decide +kernel
theorem dX0_mark_4 : decode cX0_mark 4 = .ok (.isub, 1) := by decide +kernel
theorem dX0_mark_5 : decode cX0_mark 5 = .ok (.ishl, 1) := by decide +kernel
theorem dX0_mark_6 : decode cX0_mark 6 = .ok (.ireturn, 1) := by decide +kernel
abbrev cX0_findWinners : ByteArray := prog_1_method_16_code
def yX0_findWinners : MethodName := ⟨RX0, "findWinners", "()I"⟩
theorem dX0_findWinners_0 : decode cX0_findWinners 0 = .ok (.aload_n 0, 1) := by decide +kernel
theorem dX0_findWinners_1 : decode cX0_findWinners 1 = .ok (.invokevirtual 66, 3) := by decide +kernel
theorem dX0_findWinners_4 : decode cX0_findWinners 4 = .ok (.istore_n 1, 1) := by decide +kernel
theorem dX0_findWinners_5 : decode cX0_findWinners 5 = .ok (.iconst 0, 1) := by decide +kernel
theorem dX0_findWinners_6 : decode cX0_findWinners 6 = .ok (.istore_n 2, 1) := by decide +kernel
theorem dX0_findWinners_7 : decode cX0_findWinners 7 = .ok (.iconst 3, 1) := by decide +kernel
theorem dX0_findWinners_8 : decode cX0_findWinners 8 = .ok (.istore_n 3, 1) := by decide +kernel
theorem dX0_findWinners_9 : decode cX0_findWinners 9 = .ok (.iload_n 3, 1) := by decide +kernel
theorem dX0_findWinners_10 : decode cX0_findWinners 10 = .ok (.ifCond .lt 41, 3) := by decide +kernel
theorem dX0_findWinners_13 : decode cX0_findWinners 13 = .ok (.aload_n 0, 1) := by decide +kernel
theorem dX0_findWinners_14 : decode cX0_findWinners 14 = .ok (.iload_n 3, 1) := by decide +kernel
theorem dX0_findWinners_15 : decode cX0_findWinners 15 = .ok (.iload_n 1, 1) := by decide +kernel
theorem dX0_findWinners_16 : decode cX0_findWinners 16 = .ok (.invokevirtual 69, 3) := by decide +kernel
theorem dX0_findWinners_19 : decode cX0_findWinners 19 = .ok (.istore 4, 2) := by decide +kernel
theorem dX0_findWinners_21 : decode cX0_findWinners 21 = .ok (.iload 4, 2) := by decide +kernel
theorem dX0_findWinners_23 : decode cX0_findWinners 23 = .ok (.ifCond .lt 22, 3) := by decide +kernel
theorem dX0_findWinners_26 : decode cX0_findWinners 26 = .ok (.iload_n 2, 1) := by decide +kernel
theorem dX0_findWinners_27 : decode cX0_findWinners 27 = .ok (.iconst 1, 1) := by decide +kernel
theorem dX0_findWinners_28 : decode cX0_findWinners 28 = .ok (.iload 4, 2) := by decide +kernel
theorem dX0_findWinners_30 : decode cX0_findWinners 30 = .ok (.ishl, 1) := by decide +kernel
theorem dX0_findWinners_31 : decode cX0_findWinners 31 = .ok (.ior, 1) := by decide +kernel
theorem dX0_findWinners_32 : decode cX0_findWinners 32 = .ok (.istore_n 2, 1) := by decide +kernel
theorem dX0_findWinners_33 : decode cX0_findWinners 33 = .ok (.iload_n 1, 1) := by decide +kernel
theorem dX0_findWinners_34 : decode cX0_findWinners 34 = .ok (.aload_n 0, 1) := by decide +kernel
theorem dX0_findWinners_35 : decode cX0_findWinners 35 = .ok (.getfield 7, 3) := by decide +kernel
theorem dX0_findWinners_38 : decode cX0_findWinners 38 = .ok (.iload 4, 2) := by decide +kernel
theorem dX0_findWinners_40 : decode cX0_findWinners 40 = .ok (.saload, 1) := by decide +kernel
theorem dX0_findWinners_41 : decode cX0_findWinners 41 = .ok (.iconst (-1), 1) := by decide +kernel
theorem dX0_findWinners_42 : decode cX0_findWinners 42 = .ok (.ixor, 1) := by decide +kernel
theorem dX0_findWinners_43 : decode cX0_findWinners 43 = .ok (.iand, 1) := by decide +kernel
theorem dX0_findWinners_44 : decode cX0_findWinners 44 = .ok (.istore_n 1, 1) := by decide +kernel
theorem dX0_findWinners_45 : decode cX0_findWinners 45 = .ok (.iinc 3 (-1), 3) := by decide +kernel
theorem dX0_findWinners_48 : decode cX0_findWinners 48 = .ok (.goto (-39), 3) := by decide +kernel
theorem dX0_findWinners_51 : decode cX0_findWinners 51 = .ok (.iload_n 2, 1) := by decide +kernel
theorem dX0_findWinners_52 : decode cX0_findWinners 52 = .ok (.ireturn, 1) := by decide +kernel
abbrev cX0_offered : ByteArray := prog_1_method_12_code
def yX0_offered : MethodName := ⟨RX0, "offered", "()I"⟩
theorem dX0_offered_0 : decode cX0_offered 0 = .ok (.sipush 255, 3) := by decide +kernel
theorem dX0_offered_3 : decode cX0_offered 3 = .ok (.aload_n 0, 1) := by decide +kernel
theorem dX0_offered_4 : decode cX0_offered 4 = .ok (.getfield 42, 3) := by decide +kernel
theorem dX0_offered_7 : decode cX0_offered 7 = .ok (.iconst (-1), 1) := by decide +kernel
theorem dX0_offered_8 : decode cX0_offered 8 = .ok (.ixor, 1) := by decide +kernel
theorem dX0_offered_9 : decode cX0_offered 9 = .ok (.iand, 1) := by decide +kernel
theorem dX0_offered_10 : decode cX0_offered 10 = .ok (.ireturn, 1) := by decide +kernel
abbrev cX0_bidTaken : ByteArray := prog_1_method_17_code
def yX0_bidTaken : MethodName := ⟨RX0, "bidTaken", "(II)I"⟩
theorem dX0_bidTaken_0 : decode cX0_bidTaken 0 = .ok (.aload_n 0, 1) := by decide +kernel
theorem dX0_bidTaken_1 : decode cX0_bidTaken 1 = .ok (.getfield 20, 3) := by decide +kernel
theorem dX0_bidTaken_4 : decode cX0_bidTaken 4 = .ok (.iload_n 1, 1) := by decide +kernel
theorem dX0_bidTaken_5 : decode cX0_bidTaken 5 = .ok (.iconst 1, 1) := by decide +kernel
theorem dX0_bidTaken_6 : decode cX0_bidTaken 6 = .ok (.iadd, 1) := by decide +kernel
theorem dX0_bidTaken_7 : decode cX0_bidTaken 7 = .ok (.sipush 256, 3) := by decide +kernel
theorem dX0_bidTaken_10 : decode cX0_bidTaken 10 = .ok (.imul, 1) := by decide +kernel
theorem dX0_bidTaken_11 : decode cX0_bidTaken 11 = .ok (.iload_n 2, 1) := by decide +kernel
theorem dX0_bidTaken_12 : decode cX0_bidTaken 12 = .ok (.iadd, 1) := by decide +kernel
theorem dX0_bidTaken_13 : decode cX0_bidTaken 13 = .ok (.iaload, 1) := by decide +kernel
theorem dX0_bidTaken_14 : decode cX0_bidTaken 14 = .ok (.istore_n 3, 1) := by decide +kernel
theorem dX0_bidTaken_15 : decode cX0_bidTaken 15 = .ok (.iload_n 3, 1) := by decide +kernel
theorem dX0_bidTaken_16 : decode cX0_bidTaken 16 = .ok (.aload_n 0, 1) := by decide +kernel
theorem dX0_bidTaken_17 : decode cX0_bidTaken 17 = .ok (.getfield 20, 3) := by decide +kernel
theorem dX0_bidTaken_20 : decode cX0_bidTaken 20 = .ok (.iload_n 1, 1) := by decide +kernel
theorem dX0_bidTaken_21 : decode cX0_bidTaken 21 = .ok (.sipush 256, 3) := by decide +kernel
theorem dX0_bidTaken_24 : decode cX0_bidTaken 24 = .ok (.imul, 1) := by decide +kernel
theorem dX0_bidTaken_25 : decode cX0_bidTaken 25 = .ok (.iload_n 2, 1) := by decide +kernel
theorem dX0_bidTaken_26 : decode cX0_bidTaken 26 = .ok (.iadd, 1) := by decide +kernel
theorem dX0_bidTaken_27 : decode cX0_bidTaken 27 = .ok (.iaload, 1) := by decide +kernel
theorem dX0_bidTaken_28 : decode cX0_bidTaken 28 = .ok (.if_icmp .ne 5, 3) := by decide +kernel
theorem dX0_bidTaken_31 : decode cX0_bidTaken 31 = .ok (.iconst (-1), 1) := by decide +kernel
theorem dX0_bidTaken_32 : decode cX0_bidTaken 32 = .ok (.ireturn, 1) := by decide +kernel
theorem dX0_bidTaken_33 : decode cX0_bidTaken 33 = .ok (.iconst 0, 1) := by decide +kernel
theorem dX0_bidTaken_34 : decode cX0_bidTaken 34 = .ok (.istore 4, 2) := by decide +kernel
theorem dX0_bidTaken_36 : decode cX0_bidTaken 36 = .ok (.iload 4, 2) := by decide +kernel
theorem dX0_bidTaken_38 : decode cX0_bidTaken 38 = .ok (.bipush 8, 2) := by decide +kernel
theorem dX0_bidTaken_40 : decode cX0_bidTaken 40 = .ok (.if_icmp .ge 83, 3) := by decide +kernel
theorem dX0_bidTaken_43 : decode cX0_bidTaken 43 = .ok (.aload_n 0, 1) := by decide +kernel
theorem dX0_bidTaken_44 : decode cX0_bidTaken 44 = .ok (.iload 4, 2) := by decide +kernel
theorem dX0_bidTaken_46 : decode cX0_bidTaken 46 = .ok (.invokevirtual 35, 3) := by decide +kernel
theorem dX0_bidTaken_49 : decode cX0_bidTaken 49 = .ok (.ifCond .eq 68, 3) := by decide +kernel
theorem dX0_bidTaken_52 : decode cX0_bidTaken 52 = .ok (.aload_n 0, 1) := by decide +kernel
theorem dX0_bidTaken_53 : decode cX0_bidTaken 53 = .ok (.getfield 13, 3) := by decide +kernel
theorem dX0_bidTaken_56 : decode cX0_bidTaken 56 = .ok (.iload 4, 2) := by decide +kernel
theorem dX0_bidTaken_58 : decode cX0_bidTaken 58 = .ok (.baload, 1) := by decide +kernel
theorem dX0_bidTaken_59 : decode cX0_bidTaken 59 = .ok (.iload_n 1, 1) := by decide +kernel
theorem dX0_bidTaken_60 : decode cX0_bidTaken 60 = .ok (.if_icmp .ne 57, 3) := by decide +kernel
theorem dX0_bidTaken_63 : decode cX0_bidTaken 63 = .ok (.aload_n 0, 1) := by decide +kernel
theorem dX0_bidTaken_64 : decode cX0_bidTaken 64 = .ok (.getfield 7, 3) := by decide +kernel
theorem dX0_bidTaken_67 : decode cX0_bidTaken 67 = .ok (.iload 4, 2) := by decide +kernel
theorem dX0_bidTaken_69 : decode cX0_bidTaken 69 = .ok (.saload, 1) := by decide +kernel
theorem dX0_bidTaken_70 : decode cX0_bidTaken 70 = .ok (.iload_n 2, 1) := by decide +kernel
theorem dX0_bidTaken_71 : decode cX0_bidTaken 71 = .ok (.iconst (-1), 1) := by decide +kernel
theorem dX0_bidTaken_72 : decode cX0_bidTaken 72 = .ok (.ixor, 1) := by decide +kernel
theorem dX0_bidTaken_73 : decode cX0_bidTaken 73 = .ok (.iand, 1) := by decide +kernel
theorem dX0_bidTaken_74 : decode cX0_bidTaken 74 = .ok (.ifCond .ne 43, 3) := by decide +kernel
theorem dX0_bidTaken_77 : decode cX0_bidTaken 77 = .ok (.aload_n 0, 1) := by decide +kernel
theorem dX0_bidTaken_78 : decode cX0_bidTaken 78 = .ok (.getfield 20, 3) := by decide +kernel
theorem dX0_bidTaken_81 : decode cX0_bidTaken 81 = .ok (.iload_n 1, 1) := by decide +kernel
theorem dX0_bidTaken_82 : decode cX0_bidTaken 82 = .ok (.sipush 256, 3) := by decide +kernel
theorem dX0_bidTaken_85 : decode cX0_bidTaken 85 = .ok (.imul, 1) := by decide +kernel
theorem dX0_bidTaken_86 : decode cX0_bidTaken 86 = .ok (.iload_n 2, 1) := by decide +kernel
theorem dX0_bidTaken_87 : decode cX0_bidTaken 87 = .ok (.aload_n 0, 1) := by decide +kernel
theorem dX0_bidTaken_88 : decode cX0_bidTaken 88 = .ok (.getfield 7, 3) := by decide +kernel
theorem dX0_bidTaken_91 : decode cX0_bidTaken 91 = .ok (.iload 4, 2) := by decide +kernel
theorem dX0_bidTaken_93 : decode cX0_bidTaken 93 = .ok (.saload, 1) := by decide +kernel
theorem dX0_bidTaken_94 : decode cX0_bidTaken 94 = .ok (.iconst (-1), 1) := by decide +kernel
theorem dX0_bidTaken_95 : decode cX0_bidTaken 95 = .ok (.ixor, 1) := by decide +kernel
theorem dX0_bidTaken_96 : decode cX0_bidTaken 96 = .ok (.iand, 1) := by decide +kernel
theorem dX0_bidTaken_97 : decode cX0_bidTaken 97 = .ok (.iadd, 1) := by decide +kernel
theorem dX0_bidTaken_98 : decode cX0_bidTaken 98 = .ok (.iaload, 1) := by decide +kernel
theorem dX0_bidTaken_99 : decode cX0_bidTaken 99 = .ok (.istore 5, 2) := by decide +kernel
theorem dX0_bidTaken_101 : decode cX0_bidTaken 101 = .ok (.aload_n 0, 1) := by decide +kernel
theorem dX0_bidTaken_102 : decode cX0_bidTaken 102 = .ok (.iload 4, 2) := by decide +kernel
theorem dX0_bidTaken_104 : decode cX0_bidTaken 104 = .ok (.invokevirtual 63, 3) := by decide +kernel
theorem dX0_bidTaken_107 : decode cX0_bidTaken 107 = .ok (.iload 5, 2) := by decide +kernel
theorem dX0_bidTaken_109 : decode cX0_bidTaken 109 = .ok (.iadd, 1) := by decide +kernel
theorem dX0_bidTaken_110 : decode cX0_bidTaken 110 = .ok (.iload_n 3, 1) := by decide +kernel
theorem dX0_bidTaken_111 : decode cX0_bidTaken 111 = .ok (.if_icmp .ne 6, 3) := by decide +kernel
theorem dX0_bidTaken_114 : decode cX0_bidTaken 114 = .ok (.iload 4, 2) := by decide +kernel
theorem dX0_bidTaken_116 : decode cX0_bidTaken 116 = .ok (.ireturn, 1) := by decide +kernel
theorem dX0_bidTaken_117 : decode cX0_bidTaken 117 = .ok (.iinc 4 1, 3) := by decide +kernel
theorem dX0_bidTaken_120 : decode cX0_bidTaken 120 = .ok (.goto (-84), 3) := by decide +kernel
theorem dX0_bidTaken_123 : decode cX0_bidTaken 123 = .ok (.iconst (-1), 1) := by decide +kernel
theorem dX0_bidTaken_124 : decode cX0_bidTaken 124 = .ok (.ireturn, 1) := by decide +kernel
abbrev cX0_revenue : ByteArray := prog_1_method_20_code
def yX0_revenue : MethodName := ⟨RX0, "revenue", "()I"⟩
theorem dX0_revenue_0 : decode cX0_revenue 0 = .ok (.aload_n 0, 1) := by decide +kernel
theorem dX0_revenue_1 : decode cX0_revenue 1 = .ok (.invokevirtual 73, 3) := by decide +kernel
theorem dX0_revenue_4 : decode cX0_revenue 4 = .ok (.aload_n 0, 1) := by decide +kernel
theorem dX0_revenue_5 : decode cX0_revenue 5 = .ok (.invokevirtual 66, 3) := by decide +kernel
theorem dX0_revenue_8 : decode cX0_revenue 8 = .ok (.istore_n 1, 1) := by decide +kernel
theorem dX0_revenue_9 : decode cX0_revenue 9 = .ok (.aload_n 0, 1) := by decide +kernel
theorem dX0_revenue_10 : decode cX0_revenue 10 = .ok (.getfield 20, 3) := by decide +kernel
theorem dX0_revenue_13 : decode cX0_revenue 13 = .ok (.sipush 1024, 3) := by decide +kernel
theorem dX0_revenue_16 : decode cX0_revenue 16 = .ok (.iload_n 1, 1) := by decide +kernel
theorem dX0_revenue_17 : decode cX0_revenue 17 = .ok (.iadd, 1) := by decide +kernel
theorem dX0_revenue_18 : decode cX0_revenue 18 = .ok (.iaload, 1) := by decide +kernel
theorem dX0_revenue_19 : decode cX0_revenue 19 = .ok (.bipush 8, 2) := by decide +kernel
theorem dX0_revenue_21 : decode cX0_revenue 21 = .ok (.ishr, 1) := by decide +kernel
theorem dX0_revenue_22 : decode cX0_revenue 22 = .ok (.ireturn, 1) := by decide +kernel
abbrev cX0_sold : ByteArray := prog_1_method_21_code
def yX0_sold : MethodName := ⟨RX0, "sold", "()I"⟩
theorem dX0_sold_0 : decode cX0_sold 0 = .ok (.aload_n 0, 1) := by decide +kernel
theorem dX0_sold_1 : decode cX0_sold 1 = .ok (.invokevirtual 73, 3) := by decide +kernel
theorem dX0_sold_4 : decode cX0_sold 4 = .ok (.iconst 0, 1) := by decide +kernel
theorem dX0_sold_5 : decode cX0_sold 5 = .ok (.istore_n 1, 1) := by decide +kernel
theorem dX0_sold_6 : decode cX0_sold 6 = .ok (.iconst 0, 1) := by decide +kernel
theorem dX0_sold_7 : decode cX0_sold 7 = .ok (.istore_n 2, 1) := by decide +kernel
theorem dX0_sold_8 : decode cX0_sold 8 = .ok (.iload_n 2, 1) := by decide +kernel
theorem dX0_sold_9 : decode cX0_sold 9 = .ok (.bipush 8, 2) := by decide +kernel
theorem dX0_sold_11 : decode cX0_sold 11 = .ok (.if_icmp .ge 29, 3) := by decide +kernel
theorem dX0_sold_14 : decode cX0_sold 14 = .ok (.aload_n 0, 1) := by decide +kernel
theorem dX0_sold_15 : decode cX0_sold 15 = .ok (.getfield 57, 3) := by decide +kernel
theorem dX0_sold_18 : decode cX0_sold 18 = .ok (.iload_n 2, 1) := by decide +kernel
theorem dX0_sold_19 : decode cX0_sold 19 = .ok (.ishr, 1) := by decide +kernel
theorem dX0_sold_20 : decode cX0_sold 20 = .ok (.iconst 1, 1) := by decide +kernel
theorem dX0_sold_21 : decode cX0_sold 21 = .ok (.iand, 1) := by decide +kernel
theorem dX0_sold_22 : decode cX0_sold 22 = .ok (.ifCond .eq 12, 3) := by decide +kernel
theorem dX0_sold_25 : decode cX0_sold 25 = .ok (.iload_n 1, 1) := by decide +kernel
theorem dX0_sold_26 : decode cX0_sold 26 = .ok (.aload_n 0, 1) := by decide +kernel
theorem dX0_sold_27 : decode cX0_sold 27 = .ok (.getfield 7, 3) := by decide +kernel
theorem dX0_sold_30 : decode cX0_sold 30 = .ok (.iload_n 2, 1) := by decide +kernel
theorem dX0_sold_31 : decode cX0_sold 31 = .ok (.saload, 1) := by decide +kernel
theorem dX0_sold_32 : decode cX0_sold 32 = .ok (.ior, 1) := by decide +kernel
theorem dX0_sold_33 : decode cX0_sold 33 = .ok (.istore_n 1, 1) := by decide +kernel
theorem dX0_sold_34 : decode cX0_sold 34 = .ok (.iinc 2 1, 3) := by decide +kernel
theorem dX0_sold_37 : decode cX0_sold 37 = .ok (.goto (-29), 3) := by decide +kernel
theorem dX0_sold_40 : decode cX0_sold 40 = .ok (.iload_n 1, 1) := by decide +kernel
theorem dX0_sold_41 : decode cX0_sold 41 = .ok (.ireturn, 1) := by decide +kernel
abbrev cX0_revenueWithout : ByteArray := prog_1_method_22_code
def yX0_revenueWithout : MethodName := ⟨RX0, "revenueWithout", "(I)I"⟩
theorem dX0_revenueWithout_0 : decode cX0_revenueWithout 0 = .ok (.iload_n 1, 1) := by decide +kernel
theorem dX0_revenueWithout_1 : decode cX0_revenueWithout 1 = .ok (.invokestatic 31, 3) := by decide +kernel
theorem dX0_revenueWithout_4 : decode cX0_revenueWithout 4 = .ok (.ifCond .ne 5, 3) := by decide +kernel
theorem dX0_revenueWithout_7 : decode cX0_revenueWithout 7 = .ok (.iconst (-1), 1) := by decide +kernel
theorem dX0_revenueWithout_8 : decode cX0_revenueWithout 8 = .ok (.ireturn, 1) := by decide +kernel
theorem dX0_revenueWithout_9 : decode cX0_revenueWithout 9 = .ok (.aload_n 0, 1) := by decide +kernel
theorem dX0_revenueWithout_10 : decode cX0_revenueWithout 10 = .ok (.invokevirtual 73, 3) := by decide +kernel
theorem dX0_revenueWithout_13 : decode cX0_revenueWithout 13 = .ok (.aload_n 0, 1) := by decide +kernel
theorem dX0_revenueWithout_14 : decode cX0_revenueWithout 14 = .ok (.invokevirtual 66, 3) := by decide +kernel
theorem dX0_revenueWithout_17 : decode cX0_revenueWithout 17 = .ok (.istore_n 2, 1) := by decide +kernel
theorem dX0_revenueWithout_18 : decode cX0_revenueWithout 18 = .ok (.aload_n 0, 1) := by decide +kernel
theorem dX0_revenueWithout_19 : decode cX0_revenueWithout 19 = .ok (.iload_n 1, 1) := by decide +kernel
theorem dX0_revenueWithout_20 : decode cX0_revenueWithout 20 = .ok (.iload_n 2, 1) := by decide +kernel
theorem dX0_revenueWithout_21 : decode cX0_revenueWithout 21 = .ok (.invokevirtual 76, 3) := by decide +kernel
theorem dX0_revenueWithout_24 : decode cX0_revenueWithout 24 = .ok (.bipush 8, 2) := by decide +kernel
theorem dX0_revenueWithout_26 : decode cX0_revenueWithout 26 = .ok (.ishr, 1) := by decide +kernel
theorem dX0_revenueWithout_27 : decode cX0_revenueWithout 27 = .ok (.ireturn, 1) := by decide +kernel
abbrev cX0_sumWithout : ByteArray := prog_1_method_18_code
def yX0_sumWithout : MethodName := ⟨RX0, "sumWithout", "(II)I"⟩
theorem dX0_sumWithout_0 : decode cX0_sumWithout 0 = .ok (.iconst 0, 1) := by decide +kernel
theorem dX0_sumWithout_1 : decode cX0_sumWithout 1 = .ok (.istore_n 3, 1) := by decide +kernel
theorem dX0_sumWithout_2 : decode cX0_sumWithout 2 = .ok (.iconst 0, 1) := by decide +kernel
theorem dX0_sumWithout_3 : decode cX0_sumWithout 3 = .ok (.istore 4, 2) := by decide +kernel
theorem dX0_sumWithout_5 : decode cX0_sumWithout 5 = .ok (.iload 4, 2) := by decide +kernel
theorem dX0_sumWithout_7 : decode cX0_sumWithout 7 = .ok (.sipush 256, 3) := by decide +kernel
theorem dX0_sumWithout_10 : decode cX0_sumWithout 10 = .ok (.if_icmp .ge 66, 3) := by decide +kernel
theorem dX0_sumWithout_13 : decode cX0_sumWithout 13 = .ok (.iload 4, 2) := by decide +kernel
theorem dX0_sumWithout_15 : decode cX0_sumWithout 15 = .ok (.iload_n 2, 1) := by decide +kernel
theorem dX0_sumWithout_16 : decode cX0_sumWithout 16 = .ok (.iconst (-1), 1) := by decide +kernel
theorem dX0_sumWithout_17 : decode cX0_sumWithout 17 = .ok (.ixor, 1) := by decide +kernel
theorem dX0_sumWithout_18 : decode cX0_sumWithout 18 = .ok (.iand, 1) := by decide +kernel
theorem dX0_sumWithout_19 : decode cX0_sumWithout 19 = .ok (.ifCond .ne 51, 3) := by decide +kernel
theorem dX0_sumWithout_22 : decode cX0_sumWithout 22 = .ok (.aload_n 0, 1) := by decide +kernel
theorem dX0_sumWithout_23 : decode cX0_sumWithout 23 = .ok (.getfield 20, 3) := by decide +kernel
theorem dX0_sumWithout_26 : decode cX0_sumWithout 26 = .ok (.iload_n 1, 1) := by decide +kernel
theorem dX0_sumWithout_27 : decode cX0_sumWithout 27 = .ok (.sipush 256, 3) := by decide +kernel
theorem dX0_sumWithout_30 : decode cX0_sumWithout 30 = .ok (.imul, 1) := by decide +kernel
theorem dX0_sumWithout_31 : decode cX0_sumWithout 31 = .ok (.iload 4, 2) := by decide +kernel
theorem dX0_sumWithout_33 : decode cX0_sumWithout 33 = .ok (.iadd, 1) := by decide +kernel
theorem dX0_sumWithout_34 : decode cX0_sumWithout 34 = .ok (.iaload, 1) := by decide +kernel
theorem dX0_sumWithout_35 : decode cX0_sumWithout 35 = .ok (.aload_n 0, 1) := by decide +kernel
theorem dX0_sumWithout_36 : decode cX0_sumWithout 36 = .ok (.getfield 24, 3) := by decide +kernel
theorem dX0_sumWithout_39 : decode cX0_sumWithout 39 = .ok (.iload_n 1, 1) := by decide +kernel
theorem dX0_sumWithout_40 : decode cX0_sumWithout 40 = .ok (.iconst 1, 1) := by decide +kernel
theorem dX0_sumWithout_41 : decode cX0_sumWithout 41 = .ok (.iadd, 1) := by decide +kernel
theorem dX0_sumWithout_42 : decode cX0_sumWithout 42 = .ok (.sipush 256, 3) := by decide +kernel
theorem dX0_sumWithout_45 : decode cX0_sumWithout 45 = .ok (.imul, 1) := by decide +kernel
theorem dX0_sumWithout_46 : decode cX0_sumWithout 46 = .ok (.iload_n 2, 1) := by decide +kernel
theorem dX0_sumWithout_47 : decode cX0_sumWithout 47 = .ok (.iload 4, 2) := by decide +kernel
theorem dX0_sumWithout_49 : decode cX0_sumWithout 49 = .ok (.iconst (-1), 1) := by decide +kernel
theorem dX0_sumWithout_50 : decode cX0_sumWithout 50 = .ok (.ixor, 1) := by decide +kernel
theorem dX0_sumWithout_51 : decode cX0_sumWithout 51 = .ok (.iand, 1) := by decide +kernel
theorem dX0_sumWithout_52 : decode cX0_sumWithout 52 = .ok (.iadd, 1) := by decide +kernel
theorem dX0_sumWithout_53 : decode cX0_sumWithout 53 = .ok (.iaload, 1) := by decide +kernel
theorem dX0_sumWithout_54 : decode cX0_sumWithout 54 = .ok (.iadd, 1) := by decide +kernel
theorem dX0_sumWithout_55 : decode cX0_sumWithout 55 = .ok (.istore 5, 2) := by decide +kernel
theorem dX0_sumWithout_57 : decode cX0_sumWithout 57 = .ok (.iload 5, 2) := by decide +kernel
theorem dX0_sumWithout_59 : decode cX0_sumWithout 59 = .ok (.iload_n 3, 1) := by decide +kernel
theorem dX0_sumWithout_60 : decode cX0_sumWithout 60 = .ok (.if_icmp .le 8, 3) := by decide +kernel
theorem dX0_sumWithout_63 : decode cX0_sumWithout 63 = .ok (.iload 5, 2) := by decide +kernel
theorem dX0_sumWithout_65 : decode cX0_sumWithout 65 = .ok (.goto 4, 3) := by decide +kernel
theorem dX0_sumWithout_68 : decode cX0_sumWithout 68 = .ok (.iload_n 3, 1) := by decide +kernel
theorem dX0_sumWithout_69 : decode cX0_sumWithout 69 = .ok (.istore_n 3, 1) := by decide +kernel
theorem dX0_sumWithout_70 : decode cX0_sumWithout 70 = .ok (.iinc 4 1, 3) := by decide +kernel
theorem dX0_sumWithout_73 : decode cX0_sumWithout 73 = .ok (.goto (-68), 3) := by decide +kernel
theorem dX0_sumWithout_76 : decode cX0_sumWithout 76 = .ok (.iload_n 3, 1) := by decide +kernel
theorem dX0_sumWithout_77 : decode cX0_sumWithout 77 = .ok (.ireturn, 1) := by decide +kernel
abbrev cX0_payment : ByteArray := prog_1_method_23_code
def yX0_payment : MethodName := ⟨RX0, "payment", "(I)I"⟩
theorem dX0_payment_0 : decode cX0_payment 0 = .ok (.iload_n 1, 1) := by decide +kernel
theorem dX0_payment_1 : decode cX0_payment 1 = .ok (.invokestatic 31, 3) := by decide +kernel
theorem dX0_payment_4 : decode cX0_payment 4 = .ok (.ifCond .ne 5, 3) := by decide +kernel
theorem dX0_payment_7 : decode cX0_payment 7 = .ok (.iconst (-1), 1) := by decide +kernel
theorem dX0_payment_8 : decode cX0_payment 8 = .ok (.ireturn, 1) := by decide +kernel
theorem dX0_payment_9 : decode cX0_payment 9 = .ok (.aload_n 0, 1) := by decide +kernel
theorem dX0_payment_10 : decode cX0_payment 10 = .ok (.invokevirtual 73, 3) := by decide +kernel
theorem dX0_payment_13 : decode cX0_payment 13 = .ok (.iconst 0, 1) := by decide +kernel
theorem dX0_payment_14 : decode cX0_payment 14 = .ok (.istore_n 2, 1) := by decide +kernel
theorem dX0_payment_15 : decode cX0_payment 15 = .ok (.iload_n 2, 1) := by decide +kernel
theorem dX0_payment_16 : decode cX0_payment 16 = .ok (.bipush 8, 2) := by decide +kernel
theorem dX0_payment_18 : decode cX0_payment 18 = .ok (.if_icmp .ge 50, 3) := by decide +kernel
theorem dX0_payment_21 : decode cX0_payment 21 = .ok (.aload_n 0, 1) := by decide +kernel
theorem dX0_payment_22 : decode cX0_payment 22 = .ok (.getfield 57, 3) := by decide +kernel
theorem dX0_payment_25 : decode cX0_payment 25 = .ok (.iload_n 2, 1) := by decide +kernel
theorem dX0_payment_26 : decode cX0_payment 26 = .ok (.ishr, 1) := by decide +kernel
theorem dX0_payment_27 : decode cX0_payment 27 = .ok (.iconst 1, 1) := by decide +kernel
theorem dX0_payment_28 : decode cX0_payment 28 = .ok (.iand, 1) := by decide +kernel
theorem dX0_payment_29 : decode cX0_payment 29 = .ok (.ifCond .eq 33, 3) := by decide +kernel
theorem dX0_payment_32 : decode cX0_payment 32 = .ok (.aload_n 0, 1) := by decide +kernel
theorem dX0_payment_33 : decode cX0_payment 33 = .ok (.getfield 13, 3) := by decide +kernel
theorem dX0_payment_36 : decode cX0_payment 36 = .ok (.iload_n 2, 1) := by decide +kernel
theorem dX0_payment_37 : decode cX0_payment 37 = .ok (.baload, 1) := by decide +kernel
theorem dX0_payment_38 : decode cX0_payment 38 = .ok (.iload_n 1, 1) := by decide +kernel
theorem dX0_payment_39 : decode cX0_payment 39 = .ok (.if_icmp .ne 23, 3) := by decide +kernel
theorem dX0_payment_42 : decode cX0_payment 42 = .ok (.aload_n 0, 1) := by decide +kernel
theorem dX0_payment_43 : decode cX0_payment 43 = .ok (.invokevirtual 79, 3) := by decide +kernel
theorem dX0_payment_46 : decode cX0_payment 46 = .ok (.aload_n 0, 1) := by decide +kernel
theorem dX0_payment_47 : decode cX0_payment 47 = .ok (.getfield 17, 3) := by decide +kernel
theorem dX0_payment_50 : decode cX0_payment 50 = .ok (.iload_n 2, 1) := by decide +kernel
theorem dX0_payment_51 : decode cX0_payment 51 = .ok (.baload, 1) := by decide +kernel
theorem dX0_payment_52 : decode cX0_payment 52 = .ok (.isub, 1) := by decide +kernel
theorem dX0_payment_53 : decode cX0_payment 53 = .ok (.istore_n 3, 1) := by decide +kernel
theorem dX0_payment_54 : decode cX0_payment 54 = .ok (.aload_n 0, 1) := by decide +kernel
theorem dX0_payment_55 : decode cX0_payment 55 = .ok (.iload_n 1, 1) := by decide +kernel
theorem dX0_payment_56 : decode cX0_payment 56 = .ok (.invokevirtual 82, 3) := by decide +kernel
theorem dX0_payment_59 : decode cX0_payment 59 = .ok (.iload_n 3, 1) := by decide +kernel
theorem dX0_payment_60 : decode cX0_payment 60 = .ok (.isub, 1) := by decide +kernel
theorem dX0_payment_61 : decode cX0_payment 61 = .ok (.ireturn, 1) := by decide +kernel
theorem dX0_payment_62 : decode cX0_payment 62 = .ok (.iinc 2 1, 3) := by decide +kernel
theorem dX0_payment_65 : decode cX0_payment 65 = .ok (.goto (-50), 3) := by decide +kernel
theorem dX0_payment_68 : decode cX0_payment 68 = .ok (.iconst 0, 1) := by decide +kernel
theorem dX0_payment_69 : decode cX0_payment 69 = .ok (.ireturn, 1) := by decide +kernel
abbrev cX0_threshold : ByteArray := prog_1_method_24_code
def yX0_threshold : MethodName := ⟨RX0, "threshold", "(I)I"⟩
theorem dX0_threshold_0 : decode cX0_threshold 0 = .ok (.aload_n 0, 1) := by decide +kernel
theorem dX0_threshold_1 : decode cX0_threshold 1 = .ok (.iload_n 1, 1) := by decide +kernel
theorem dX0_threshold_2 : decode cX0_threshold 2 = .ok (.invokevirtual 35, 3) := by decide +kernel
theorem dX0_threshold_5 : decode cX0_threshold 5 = .ok (.ifCond .ne 5, 3) := by decide +kernel
theorem dX0_threshold_8 : decode cX0_threshold 8 = .ok (.iconst (-1), 1) := by decide +kernel
theorem dX0_threshold_9 : decode cX0_threshold 9 = .ok (.ireturn, 1) := by decide +kernel
theorem dX0_threshold_10 : decode cX0_threshold 10 = .ok (.aload_n 0, 1) := by decide +kernel
theorem dX0_threshold_11 : decode cX0_threshold 11 = .ok (.getfield 7, 3) := by decide +kernel
theorem dX0_threshold_14 : decode cX0_threshold 14 = .ok (.iload_n 1, 1) := by decide +kernel
theorem dX0_threshold_15 : decode cX0_threshold 15 = .ok (.saload, 1) := by decide +kernel
theorem dX0_threshold_16 : decode cX0_threshold 16 = .ok (.aload_n 0, 1) := by decide +kernel
theorem dX0_threshold_17 : decode cX0_threshold 17 = .ok (.getfield 42, 3) := by decide +kernel
theorem dX0_threshold_20 : decode cX0_threshold 20 = .ok (.iand, 1) := by decide +kernel
theorem dX0_threshold_21 : decode cX0_threshold 21 = .ok (.ifCond .eq 6, 3) := by decide +kernel
theorem dX0_threshold_24 : decode cX0_threshold 24 = .ok (.bipush 51, 2) := by decide +kernel
theorem dX0_threshold_26 : decode cX0_threshold 26 = .ok (.ireturn, 1) := by decide +kernel
theorem dX0_threshold_27 : decode cX0_threshold 27 = .ok (.aload_n 0, 1) := by decide +kernel
theorem dX0_threshold_28 : decode cX0_threshold 28 = .ok (.invokevirtual 73, 3) := by decide +kernel
theorem dX0_threshold_31 : decode cX0_threshold 31 = .ok (.aload_n 0, 1) := by decide +kernel
theorem dX0_threshold_32 : decode cX0_threshold 32 = .ok (.invokevirtual 66, 3) := by decide +kernel
theorem dX0_threshold_35 : decode cX0_threshold 35 = .ok (.istore_n 2, 1) := by decide +kernel
theorem dX0_threshold_36 : decode cX0_threshold 36 = .ok (.aload_n 0, 1) := by decide +kernel
theorem dX0_threshold_37 : decode cX0_threshold 37 = .ok (.aload_n 0, 1) := by decide +kernel
theorem dX0_threshold_38 : decode cX0_threshold 38 = .ok (.getfield 13, 3) := by decide +kernel
theorem dX0_threshold_41 : decode cX0_threshold 41 = .ok (.iload_n 1, 1) := by decide +kernel
theorem dX0_threshold_42 : decode cX0_threshold 42 = .ok (.baload, 1) := by decide +kernel
theorem dX0_threshold_43 : decode cX0_threshold 43 = .ok (.iload_n 2, 1) := by decide +kernel
theorem dX0_threshold_44 : decode cX0_threshold 44 = .ok (.aload_n 0, 1) := by decide +kernel
theorem dX0_threshold_45 : decode cX0_threshold 45 = .ok (.getfield 7, 3) := by decide +kernel
theorem dX0_threshold_48 : decode cX0_threshold 48 = .ok (.iload_n 1, 1) := by decide +kernel
theorem dX0_threshold_49 : decode cX0_threshold 49 = .ok (.saload, 1) := by decide +kernel
theorem dX0_threshold_50 : decode cX0_threshold 50 = .ok (.iconst (-1), 1) := by decide +kernel
theorem dX0_threshold_51 : decode cX0_threshold 51 = .ok (.ixor, 1) := by decide +kernel
theorem dX0_threshold_52 : decode cX0_threshold 52 = .ok (.iand, 1) := by decide +kernel
theorem dX0_threshold_53 : decode cX0_threshold 53 = .ok (.invokevirtual 76, 3) := by decide +kernel
theorem dX0_threshold_56 : decode cX0_threshold 56 = .ok (.istore_n 3, 1) := by decide +kernel
theorem dX0_threshold_57 : decode cX0_threshold 57 = .ok (.aload_n 0, 1) := by decide +kernel
theorem dX0_threshold_58 : decode cX0_threshold 58 = .ok (.iload_n 1, 1) := by decide +kernel
theorem dX0_threshold_59 : decode cX0_threshold 59 = .ok (.invokevirtual 85, 3) := by decide +kernel
theorem dX0_threshold_62 : decode cX0_threshold 62 = .ok (.istore 4, 2) := by decide +kernel
theorem dX0_threshold_64 : decode cX0_threshold 64 = .ok (.iconst 1, 1) := by decide +kernel
theorem dX0_threshold_65 : decode cX0_threshold 65 = .ok (.istore 5, 2) := by decide +kernel
theorem dX0_threshold_67 : decode cX0_threshold 67 = .ok (.iload 5, 2) := by decide +kernel
theorem dX0_threshold_69 : decode cX0_threshold 69 = .ok (.bipush 50, 2) := by decide +kernel
theorem dX0_threshold_71 : decode cX0_threshold 71 = .ok (.if_icmp .gt 30, 3) := by decide +kernel
theorem dX0_threshold_74 : decode cX0_threshold 74 = .ok (.iload 5, 2) := by decide +kernel
theorem dX0_threshold_76 : decode cX0_threshold 76 = .ok (.sipush 256, 3) := by decide +kernel
theorem dX0_threshold_79 : decode cX0_threshold 79 = .ok (.imul, 1) := by decide +kernel
theorem dX0_threshold_80 : decode cX0_threshold 80 = .ok (.iload_n 1, 1) := by decide +kernel
theorem dX0_threshold_81 : decode cX0_threshold 81 = .ok (.invokestatic 45, 3) := by decide +kernel
theorem dX0_threshold_84 : decode cX0_threshold 84 = .ok (.iadd, 1) := by decide +kernel
theorem dX0_threshold_85 : decode cX0_threshold 85 = .ok (.iload_n 3, 1) := by decide +kernel
theorem dX0_threshold_86 : decode cX0_threshold 86 = .ok (.iadd, 1) := by decide +kernel
theorem dX0_threshold_87 : decode cX0_threshold 87 = .ok (.iload 4, 2) := by decide +kernel
theorem dX0_threshold_89 : decode cX0_threshold 89 = .ok (.if_icmp .le 6, 3) := by decide +kernel
theorem dX0_threshold_92 : decode cX0_threshold 92 = .ok (.iload 5, 2) := by decide +kernel
theorem dX0_threshold_94 : decode cX0_threshold 94 = .ok (.ireturn, 1) := by decide +kernel
theorem dX0_threshold_95 : decode cX0_threshold 95 = .ok (.iinc 5 1, 3) := by decide +kernel
theorem dX0_threshold_98 : decode cX0_threshold 98 = .ok (.goto (-31), 3) := by decide +kernel
theorem dX0_threshold_101 : decode cX0_threshold 101 = .ok (.bipush 51, 2) := by decide +kernel
theorem dX0_threshold_103 : decode cX0_threshold 103 = .ok (.ireturn, 1) := by decide +kernel
abbrev cX0_sumLacking : ByteArray := prog_1_method_25_code
def yX0_sumLacking : MethodName := ⟨RX0, "sumLacking", "(I)I"⟩
theorem dX0_sumLacking_0 : decode cX0_sumLacking 0 = .ok (.aload_n 0, 1) := by decide +kernel
theorem dX0_sumLacking_1 : decode cX0_sumLacking 1 = .ok (.invokevirtual 66, 3) := by decide +kernel
theorem dX0_sumLacking_4 : decode cX0_sumLacking 4 = .ok (.istore_n 2, 1) := by decide +kernel
theorem dX0_sumLacking_5 : decode cX0_sumLacking 5 = .ok (.aload_n 0, 1) := by decide +kernel
theorem dX0_sumLacking_6 : decode cX0_sumLacking 6 = .ok (.getfield 13, 3) := by decide +kernel
theorem dX0_sumLacking_9 : decode cX0_sumLacking 9 = .ok (.iload_n 1, 1) := by decide +kernel
theorem dX0_sumLacking_10 : decode cX0_sumLacking 10 = .ok (.baload, 1) := by decide +kernel
theorem dX0_sumLacking_11 : decode cX0_sumLacking 11 = .ok (.istore_n 3, 1) := by decide +kernel
theorem dX0_sumLacking_12 : decode cX0_sumLacking 12 = .ok (.aload_n 0, 1) := by decide +kernel
theorem dX0_sumLacking_13 : decode cX0_sumLacking 13 = .ok (.iload_n 3, 1) := by decide +kernel
theorem dX0_sumLacking_14 : decode cX0_sumLacking 14 = .ok (.iload_n 2, 1) := by decide +kernel
theorem dX0_sumLacking_15 : decode cX0_sumLacking 15 = .ok (.invokevirtual 76, 3) := by decide +kernel
theorem dX0_sumLacking_18 : decode cX0_sumLacking 18 = .ok (.istore 4, 2) := by decide +kernel
theorem dX0_sumLacking_20 : decode cX0_sumLacking 20 = .ok (.iconst 0, 1) := by decide +kernel
theorem dX0_sumLacking_21 : decode cX0_sumLacking 21 = .ok (.istore 5, 2) := by decide +kernel
theorem dX0_sumLacking_23 : decode cX0_sumLacking 23 = .ok (.iload 5, 2) := by decide +kernel
theorem dX0_sumLacking_25 : decode cX0_sumLacking 25 = .ok (.bipush 8, 2) := by decide +kernel
theorem dX0_sumLacking_27 : decode cX0_sumLacking 27 = .ok (.if_icmp .ge 90, 3) := by decide +kernel
theorem dX0_sumLacking_30 : decode cX0_sumLacking 30 = .ok (.iload 5, 2) := by decide +kernel
theorem dX0_sumLacking_32 : decode cX0_sumLacking 32 = .ok (.iload_n 1, 1) := by decide +kernel
theorem dX0_sumLacking_33 : decode cX0_sumLacking 33 = .ok (.if_icmp .eq 78, 3) := by decide +kernel
theorem dX0_sumLacking_36 : decode cX0_sumLacking 36 = .ok (.aload_n 0, 1) := by decide +kernel
theorem dX0_sumLacking_37 : decode cX0_sumLacking 37 = .ok (.iload 5, 2) := by decide +kernel
theorem dX0_sumLacking_39 : decode cX0_sumLacking 39 = .ok (.invokevirtual 35, 3) := by decide +kernel
theorem dX0_sumLacking_42 : decode cX0_sumLacking 42 = .ok (.ifCond .eq 69, 3) := by decide +kernel
theorem dX0_sumLacking_45 : decode cX0_sumLacking 45 = .ok (.aload_n 0, 1) := by decide +kernel
theorem dX0_sumLacking_46 : decode cX0_sumLacking 46 = .ok (.getfield 13, 3) := by decide +kernel
theorem dX0_sumLacking_49 : decode cX0_sumLacking 49 = .ok (.iload 5, 2) := by decide +kernel
theorem dX0_sumLacking_51 : decode cX0_sumLacking 51 = .ok (.baload, 1) := by decide +kernel
theorem dX0_sumLacking_52 : decode cX0_sumLacking 52 = .ok (.iload_n 3, 1) := by decide +kernel
theorem dX0_sumLacking_53 : decode cX0_sumLacking 53 = .ok (.if_icmp .ne 58, 3) := by decide +kernel
theorem dX0_sumLacking_56 : decode cX0_sumLacking 56 = .ok (.aload_n 0, 1) := by decide +kernel
theorem dX0_sumLacking_57 : decode cX0_sumLacking 57 = .ok (.getfield 7, 3) := by decide +kernel
theorem dX0_sumLacking_60 : decode cX0_sumLacking 60 = .ok (.iload 5, 2) := by decide +kernel
theorem dX0_sumLacking_62 : decode cX0_sumLacking 62 = .ok (.saload, 1) := by decide +kernel
theorem dX0_sumLacking_63 : decode cX0_sumLacking 63 = .ok (.iload_n 2, 1) := by decide +kernel
theorem dX0_sumLacking_64 : decode cX0_sumLacking 64 = .ok (.iconst (-1), 1) := by decide +kernel
theorem dX0_sumLacking_65 : decode cX0_sumLacking 65 = .ok (.ixor, 1) := by decide +kernel
theorem dX0_sumLacking_66 : decode cX0_sumLacking 66 = .ok (.iand, 1) := by decide +kernel
theorem dX0_sumLacking_67 : decode cX0_sumLacking 67 = .ok (.ifCond .ne 44, 3) := by decide +kernel
theorem dX0_sumLacking_70 : decode cX0_sumLacking 70 = .ok (.aload_n 0, 1) := by decide +kernel
theorem dX0_sumLacking_71 : decode cX0_sumLacking 71 = .ok (.iload 5, 2) := by decide +kernel
theorem dX0_sumLacking_73 : decode cX0_sumLacking 73 = .ok (.invokevirtual 63, 3) := by decide +kernel
theorem dX0_sumLacking_76 : decode cX0_sumLacking 76 = .ok (.aload_n 0, 1) := by decide +kernel
theorem dX0_sumLacking_77 : decode cX0_sumLacking 77 = .ok (.iload_n 3, 1) := by decide +kernel
theorem dX0_sumLacking_78 : decode cX0_sumLacking 78 = .ok (.iload_n 2, 1) := by decide +kernel
theorem dX0_sumLacking_79 : decode cX0_sumLacking 79 = .ok (.aload_n 0, 1) := by decide +kernel
theorem dX0_sumLacking_80 : decode cX0_sumLacking 80 = .ok (.getfield 7, 3) := by decide +kernel
theorem dX0_sumLacking_83 : decode cX0_sumLacking 83 = .ok (.iload 5, 2) := by decide +kernel
theorem dX0_sumLacking_85 : decode cX0_sumLacking 85 = .ok (.saload, 1) := by decide +kernel
theorem dX0_sumLacking_86 : decode cX0_sumLacking 86 = .ok (.iconst (-1), 1) := by decide +kernel
theorem dX0_sumLacking_87 : decode cX0_sumLacking 87 = .ok (.ixor, 1) := by decide +kernel
theorem dX0_sumLacking_88 : decode cX0_sumLacking 88 = .ok (.iand, 1) := by decide +kernel
theorem dX0_sumLacking_89 : decode cX0_sumLacking 89 = .ok (.invokevirtual 76, 3) := by decide +kernel
theorem dX0_sumLacking_92 : decode cX0_sumLacking 92 = .ok (.iadd, 1) := by decide +kernel
theorem dX0_sumLacking_93 : decode cX0_sumLacking 93 = .ok (.istore 6, 2) := by decide +kernel
theorem dX0_sumLacking_95 : decode cX0_sumLacking 95 = .ok (.iload 6, 2) := by decide +kernel
theorem dX0_sumLacking_97 : decode cX0_sumLacking 97 = .ok (.iload 4, 2) := by decide +kernel
theorem dX0_sumLacking_99 : decode cX0_sumLacking 99 = .ok (.if_icmp .le 8, 3) := by decide +kernel
theorem dX0_sumLacking_102 : decode cX0_sumLacking 102 = .ok (.iload 6, 2) := by decide +kernel
theorem dX0_sumLacking_104 : decode cX0_sumLacking 104 = .ok (.goto 5, 3) := by decide +kernel
theorem dX0_sumLacking_107 : decode cX0_sumLacking 107 = .ok (.iload 4, 2) := by decide +kernel
theorem dX0_sumLacking_109 : decode cX0_sumLacking 109 = .ok (.istore 4, 2) := by decide +kernel
theorem dX0_sumLacking_111 : decode cX0_sumLacking 111 = .ok (.iinc 5 1, 3) := by decide +kernel
theorem dX0_sumLacking_114 : decode cX0_sumLacking 114 = .ok (.goto (-91), 3) := by decide +kernel
theorem dX0_sumLacking_117 : decode cX0_sumLacking 117 = .ok (.iload 4, 2) := by decide +kernel
theorem dX0_sumLacking_119 : decode cX0_sumLacking 119 = .ok (.ireturn, 1) := by decide +kernel
abbrev cX0_revenueWith : ByteArray := prog_1_method_26_code
def yX0_revenueWith : MethodName := ⟨RX0, "revenueWith", "(I)I"⟩
theorem dX0_revenueWith_0 : decode cX0_revenueWith 0 = .ok (.aload_n 0, 1) := by decide +kernel
theorem dX0_revenueWith_1 : decode cX0_revenueWith 1 = .ok (.iload_n 1, 1) := by decide +kernel
theorem dX0_revenueWith_2 : decode cX0_revenueWith 2 = .ok (.invokevirtual 35, 3) := by decide +kernel
theorem dX0_revenueWith_5 : decode cX0_revenueWith 5 = .ok (.ifCond .eq 17, 3) := by decide +kernel
theorem dX0_revenueWith_8 : decode cX0_revenueWith 8 = .ok (.aload_n 0, 1) := by decide +kernel
theorem dX0_revenueWith_9 : decode cX0_revenueWith 9 = .ok (.getfield 7, 3) := by decide +kernel
theorem dX0_revenueWith_12 : decode cX0_revenueWith 12 = .ok (.iload_n 1, 1) := by decide +kernel
theorem dX0_revenueWith_13 : decode cX0_revenueWith 13 = .ok (.saload, 1) := by decide +kernel
theorem dX0_revenueWith_14 : decode cX0_revenueWith 14 = .ok (.aload_n 0, 1) := by decide +kernel
theorem dX0_revenueWith_15 : decode cX0_revenueWith 15 = .ok (.getfield 42, 3) := by decide +kernel
theorem dX0_revenueWith_18 : decode cX0_revenueWith 18 = .ok (.iand, 1) := by decide +kernel
theorem dX0_revenueWith_19 : decode cX0_revenueWith 19 = .ok (.ifCond .eq 5, 3) := by decide +kernel
theorem dX0_revenueWith_22 : decode cX0_revenueWith 22 = .ok (.iconst (-1), 1) := by decide +kernel
theorem dX0_revenueWith_23 : decode cX0_revenueWith 23 = .ok (.ireturn, 1) := by decide +kernel
theorem dX0_revenueWith_24 : decode cX0_revenueWith 24 = .ok (.aload_n 0, 1) := by decide +kernel
theorem dX0_revenueWith_25 : decode cX0_revenueWith 25 = .ok (.invokevirtual 73, 3) := by decide +kernel
theorem dX0_revenueWith_28 : decode cX0_revenueWith 28 = .ok (.aload_n 0, 1) := by decide +kernel
theorem dX0_revenueWith_29 : decode cX0_revenueWith 29 = .ok (.invokevirtual 66, 3) := by decide +kernel
theorem dX0_revenueWith_32 : decode cX0_revenueWith 32 = .ok (.aload_n 0, 1) := by decide +kernel
theorem dX0_revenueWith_33 : decode cX0_revenueWith 33 = .ok (.getfield 7, 3) := by decide +kernel
theorem dX0_revenueWith_36 : decode cX0_revenueWith 36 = .ok (.iload_n 1, 1) := by decide +kernel
theorem dX0_revenueWith_37 : decode cX0_revenueWith 37 = .ok (.saload, 1) := by decide +kernel
theorem dX0_revenueWith_38 : decode cX0_revenueWith 38 = .ok (.iconst (-1), 1) := by decide +kernel
theorem dX0_revenueWith_39 : decode cX0_revenueWith 39 = .ok (.ixor, 1) := by decide +kernel
theorem dX0_revenueWith_40 : decode cX0_revenueWith 40 = .ok (.iand, 1) := by decide +kernel
theorem dX0_revenueWith_41 : decode cX0_revenueWith 41 = .ok (.istore_n 2, 1) := by decide +kernel
theorem dX0_revenueWith_42 : decode cX0_revenueWith 42 = .ok (.aload_n 0, 1) := by decide +kernel
theorem dX0_revenueWith_43 : decode cX0_revenueWith 43 = .ok (.aload_n 0, 1) := by decide +kernel
theorem dX0_revenueWith_44 : decode cX0_revenueWith 44 = .ok (.getfield 13, 3) := by decide +kernel
theorem dX0_revenueWith_47 : decode cX0_revenueWith 47 = .ok (.iload_n 1, 1) := by decide +kernel
theorem dX0_revenueWith_48 : decode cX0_revenueWith 48 = .ok (.baload, 1) := by decide +kernel
theorem dX0_revenueWith_49 : decode cX0_revenueWith 49 = .ok (.iload_n 2, 1) := by decide +kernel
theorem dX0_revenueWith_50 : decode cX0_revenueWith 50 = .ok (.invokevirtual 76, 3) := by decide +kernel
theorem dX0_revenueWith_53 : decode cX0_revenueWith 53 = .ok (.istore_n 3, 1) := by decide +kernel
theorem dX0_revenueWith_54 : decode cX0_revenueWith 54 = .ok (.aload_n 0, 1) := by decide +kernel
theorem dX0_revenueWith_55 : decode cX0_revenueWith 55 = .ok (.getfield 17, 3) := by decide +kernel
theorem dX0_revenueWith_58 : decode cX0_revenueWith 58 = .ok (.iload_n 1, 1) := by decide +kernel
theorem dX0_revenueWith_59 : decode cX0_revenueWith 59 = .ok (.baload, 1) := by decide +kernel
theorem dX0_revenueWith_60 : decode cX0_revenueWith 60 = .ok (.iload_n 3, 1) := by decide +kernel
theorem dX0_revenueWith_61 : decode cX0_revenueWith 61 = .ok (.bipush 8, 2) := by decide +kernel
theorem dX0_revenueWith_63 : decode cX0_revenueWith 63 = .ok (.ishr, 1) := by decide +kernel
theorem dX0_revenueWith_64 : decode cX0_revenueWith 64 = .ok (.iadd, 1) := by decide +kernel
theorem dX0_revenueWith_65 : decode cX0_revenueWith 65 = .ok (.ireturn, 1) := by decide +kernel
abbrev cX0_price : ByteArray := prog_1_method_27_code
def yX0_price : MethodName := ⟨RX0, "price", "(I)I"⟩
theorem dX0_price_0 : decode cX0_price 0 = .ok (.iload_n 1, 1) := by decide +kernel
theorem dX0_price_1 : decode cX0_price 1 = .ok (.ifCond .lt 9, 3) := by decide +kernel
theorem dX0_price_4 : decode cX0_price 4 = .ok (.iload_n 1, 1) := by decide +kernel
theorem dX0_price_5 : decode cX0_price 5 = .ok (.bipush 8, 2) := by decide +kernel
theorem dX0_price_7 : decode cX0_price 7 = .ok (.if_icmp .lt 5, 3) := by decide +kernel
theorem dX0_price_10 : decode cX0_price 10 = .ok (.iconst (-1), 1) := by decide +kernel
theorem dX0_price_11 : decode cX0_price 11 = .ok (.ireturn, 1) := by decide +kernel
theorem dX0_price_12 : decode cX0_price 12 = .ok (.aload_n 0, 1) := by decide +kernel
theorem dX0_price_13 : decode cX0_price 13 = .ok (.invokevirtual 73, 3) := by decide +kernel
theorem dX0_price_16 : decode cX0_price 16 = .ok (.aload_n 0, 1) := by decide +kernel
theorem dX0_price_17 : decode cX0_price 17 = .ok (.invokevirtual 66, 3) := by decide +kernel
theorem dX0_price_20 : decode cX0_price 20 = .ok (.iconst 1, 1) := by decide +kernel
theorem dX0_price_21 : decode cX0_price 21 = .ok (.iload_n 1, 1) := by decide +kernel
theorem dX0_price_22 : decode cX0_price 22 = .ok (.ishl, 1) := by decide +kernel
theorem dX0_price_23 : decode cX0_price 23 = .ok (.iconst (-1), 1) := by decide +kernel
theorem dX0_price_24 : decode cX0_price 24 = .ok (.ixor, 1) := by decide +kernel
theorem dX0_price_25 : decode cX0_price 25 = .ok (.iand, 1) := by decide +kernel
theorem dX0_price_26 : decode cX0_price 26 = .ok (.istore_n 2, 1) := by decide +kernel
theorem dX0_price_27 : decode cX0_price 27 = .ok (.aload_n 0, 1) := by decide +kernel
theorem dX0_price_28 : decode cX0_price 28 = .ok (.getfield 20, 3) := by decide +kernel
theorem dX0_price_31 : decode cX0_price 31 = .ok (.sipush 1024, 3) := by decide +kernel
theorem dX0_price_34 : decode cX0_price 34 = .ok (.iload_n 2, 1) := by decide +kernel
theorem dX0_price_35 : decode cX0_price 35 = .ok (.iadd, 1) := by decide +kernel
theorem dX0_price_36 : decode cX0_price 36 = .ok (.iaload, 1) := by decide +kernel
theorem dX0_price_37 : decode cX0_price 37 = .ok (.bipush 8, 2) := by decide +kernel
theorem dX0_price_39 : decode cX0_price 39 = .ok (.ishr, 1) := by decide +kernel
theorem dX0_price_40 : decode cX0_price 40 = .ok (.istore_n 3, 1) := by decide +kernel
theorem dX0_price_41 : decode cX0_price 41 = .ok (.aload_n 0, 1) := by decide +kernel
theorem dX0_price_42 : decode cX0_price 42 = .ok (.invokevirtual 79, 3) := by decide +kernel
theorem dX0_price_45 : decode cX0_price 45 = .ok (.iload_n 3, 1) := by decide +kernel
theorem dX0_price_46 : decode cX0_price 46 = .ok (.isub, 1) := by decide +kernel
theorem dX0_price_47 : decode cX0_price 47 = .ok (.ireturn, 1) := by decide +kernel
abbrev cX0_allocation : ByteArray := prog_1_method_28_code
def yX0_allocation : MethodName := ⟨RX0, "allocation", "(I)Z"⟩
theorem dX0_allocation_0 : decode cX0_allocation 0 = .ok (.iload_n 1, 1) := by decide +kernel
theorem dX0_allocation_1 : decode cX0_allocation 1 = .ok (.aload_n 0, 1) := by decide +kernel
theorem dX0_allocation_2 : decode cX0_allocation 2 = .ok (.getfield 27, 3) := by decide +kernel
theorem dX0_allocation_5 : decode cX0_allocation 5 = .ok (.iconst (-1), 1) := by decide +kernel
theorem dX0_allocation_6 : decode cX0_allocation 6 = .ok (.ixor, 1) := by decide +kernel
theorem dX0_allocation_7 : decode cX0_allocation 7 = .ok (.iand, 1) := by decide +kernel
theorem dX0_allocation_8 : decode cX0_allocation 8 = .ok (.ifCond .eq 5, 3) := by decide +kernel
theorem dX0_allocation_11 : decode cX0_allocation 11 = .ok (.iconst 0, 1) := by decide +kernel
theorem dX0_allocation_12 : decode cX0_allocation 12 = .ok (.ireturn, 1) := by decide +kernel
theorem dX0_allocation_13 : decode cX0_allocation 13 = .ok (.aload_n 0, 1) := by decide +kernel
theorem dX0_allocation_14 : decode cX0_allocation 14 = .ok (.getfield 42, 3) := by decide +kernel
theorem dX0_allocation_17 : decode cX0_allocation 17 = .ok (.istore_n 2, 1) := by decide +kernel
theorem dX0_allocation_18 : decode cX0_allocation 18 = .ok (.iconst 0, 1) := by decide +kernel
theorem dX0_allocation_19 : decode cX0_allocation 19 = .ok (.istore_n 3, 1) := by decide +kernel
theorem dX0_allocation_20 : decode cX0_allocation 20 = .ok (.iconst 0, 1) := by decide +kernel
theorem dX0_allocation_21 : decode cX0_allocation 21 = .ok (.istore 4, 2) := by decide +kernel
theorem dX0_allocation_23 : decode cX0_allocation 23 = .ok (.iload 4, 2) := by decide +kernel
theorem dX0_allocation_25 : decode cX0_allocation 25 = .ok (.bipush 8, 2) := by decide +kernel
theorem dX0_allocation_27 : decode cX0_allocation 27 = .ok (.if_icmp .ge 68, 3) := by decide +kernel
theorem dX0_allocation_30 : decode cX0_allocation 30 = .ok (.iload_n 1, 1) := by decide +kernel
theorem dX0_allocation_31 : decode cX0_allocation 31 = .ok (.iload 4, 2) := by decide +kernel
theorem dX0_allocation_33 : decode cX0_allocation 33 = .ok (.ishr, 1) := by decide +kernel
theorem dX0_allocation_34 : decode cX0_allocation 34 = .ok (.iconst 1, 1) := by decide +kernel
theorem dX0_allocation_35 : decode cX0_allocation 35 = .ok (.iand, 1) := by decide +kernel
theorem dX0_allocation_36 : decode cX0_allocation 36 = .ok (.ifCond .eq 53, 3) := by decide +kernel
theorem dX0_allocation_39 : decode cX0_allocation 39 = .ok (.iload_n 2, 1) := by decide +kernel
theorem dX0_allocation_40 : decode cX0_allocation 40 = .ok (.aload_n 0, 1) := by decide +kernel
theorem dX0_allocation_41 : decode cX0_allocation 41 = .ok (.getfield 7, 3) := by decide +kernel
theorem dX0_allocation_44 : decode cX0_allocation 44 = .ok (.iload 4, 2) := by decide +kernel
theorem dX0_allocation_46 : decode cX0_allocation 46 = .ok (.saload, 1) := by decide +kernel
theorem dX0_allocation_47 : decode cX0_allocation 47 = .ok (.iand, 1) := by decide +kernel
theorem dX0_allocation_48 : decode cX0_allocation 48 = .ok (.ifCond .ne 17, 3) := by decide +kernel
theorem dX0_allocation_51 : decode cX0_allocation 51 = .ok (.iload_n 3, 1) := by decide +kernel
theorem dX0_allocation_52 : decode cX0_allocation 52 = .ok (.aload_n 0, 1) := by decide +kernel
theorem dX0_allocation_53 : decode cX0_allocation 53 = .ok (.getfield 13, 3) := by decide +kernel
theorem dX0_allocation_56 : decode cX0_allocation 56 = .ok (.iload 4, 2) := by decide +kernel
theorem dX0_allocation_58 : decode cX0_allocation 58 = .ok (.baload, 1) := by decide +kernel
theorem dX0_allocation_59 : decode cX0_allocation 59 = .ok (.ishr, 1) := by decide +kernel
theorem dX0_allocation_60 : decode cX0_allocation 60 = .ok (.iconst 1, 1) := by decide +kernel
theorem dX0_allocation_61 : decode cX0_allocation 61 = .ok (.iand, 1) := by decide +kernel
theorem dX0_allocation_62 : decode cX0_allocation 62 = .ok (.ifCond .eq 5, 3) := by decide +kernel
theorem dX0_allocation_65 : decode cX0_allocation 65 = .ok (.iconst 0, 1) := by decide +kernel
theorem dX0_allocation_66 : decode cX0_allocation 66 = .ok (.ireturn, 1) := by decide +kernel
theorem dX0_allocation_67 : decode cX0_allocation 67 = .ok (.iload_n 2, 1) := by decide +kernel
theorem dX0_allocation_68 : decode cX0_allocation 68 = .ok (.aload_n 0, 1) := by decide +kernel
theorem dX0_allocation_69 : decode cX0_allocation 69 = .ok (.getfield 7, 3) := by decide +kernel
theorem dX0_allocation_72 : decode cX0_allocation 72 = .ok (.iload 4, 2) := by decide +kernel
theorem dX0_allocation_74 : decode cX0_allocation 74 = .ok (.saload, 1) := by decide +kernel
theorem dX0_allocation_75 : decode cX0_allocation 75 = .ok (.ior, 1) := by decide +kernel
theorem dX0_allocation_76 : decode cX0_allocation 76 = .ok (.istore_n 2, 1) := by decide +kernel
theorem dX0_allocation_77 : decode cX0_allocation 77 = .ok (.iload_n 3, 1) := by decide +kernel
theorem dX0_allocation_78 : decode cX0_allocation 78 = .ok (.iconst 1, 1) := by decide +kernel
theorem dX0_allocation_79 : decode cX0_allocation 79 = .ok (.aload_n 0, 1) := by decide +kernel
theorem dX0_allocation_80 : decode cX0_allocation 80 = .ok (.getfield 13, 3) := by decide +kernel
theorem dX0_allocation_83 : decode cX0_allocation 83 = .ok (.iload 4, 2) := by decide +kernel
theorem dX0_allocation_85 : decode cX0_allocation 85 = .ok (.baload, 1) := by decide +kernel
theorem dX0_allocation_86 : decode cX0_allocation 86 = .ok (.ishl, 1) := by decide +kernel
theorem dX0_allocation_87 : decode cX0_allocation 87 = .ok (.ior, 1) := by decide +kernel
theorem dX0_allocation_88 : decode cX0_allocation 88 = .ok (.istore_n 3, 1) := by decide +kernel
theorem dX0_allocation_89 : decode cX0_allocation 89 = .ok (.iinc 4 1, 3) := by decide +kernel
theorem dX0_allocation_92 : decode cX0_allocation 92 = .ok (.goto (-69), 3) := by decide +kernel
theorem dX0_allocation_95 : decode cX0_allocation 95 = .ok (.iconst 1, 1) := by decide +kernel
theorem dX0_allocation_96 : decode cX0_allocation 96 = .ok (.ireturn, 1) := by decide +kernel
theorem q19 : (Jvm.Cond.initialized "PackageAuction") ∈ lw_all := lw_g (lw_at lw_m1 1 rfl) rfl
theorem q22 : (Jvm.Cond.instantiable "PackageAuction" (9 : Nat)) ∈ lw_all := lw_g (lw_at lw_m1 4 rfl) rfl
theorem q24 : (Jvm.Cond.instanceMethod ({ cls := "PackageAuction", name := "<init>", desc := "()V" } : Jvm.MethodName)) ∈ lw_all := lw_g (lw_at lw_m1 6 rfl) rfl
theorem q25 : (Jvm.Cond.code ({ cls := "PackageAuction", name := "<init>", desc := "()V" } : Jvm.MethodName) prog_1_method_1_code (1 : Nat) (Option.none : Option Jvm.ClassFile.FieldType)) ∈ lw_all := lw_g (lw_at lw_m1 7 rfl) rfl
theorem q26 : (Jvm.Cond.methodLink "PackageAuction" (1 : Nat) ({ cls := "java/lang/Object", name := "<init>", desc := "()V" } : Jvm.MethodName)) ∈ lw_all := lw_g (lw_at lw_m1 8 rfl) rfl
theorem q29 : (Jvm.Cond.fieldLink "PackageAuction" (27 : Nat) "PackageAuction" "present" "I") ∈ lw_all := lw_g (lw_at lw_m1 11 rfl) rfl
theorem q30 : (Jvm.Cond.fieldLink "PackageAuction" (7 : Nat) "PackageAuction" "bundles" "[S") ∈ lw_all := lw_g (lw_at lw_m1 12 rfl) rfl
theorem q31 : (Jvm.Cond.fieldLink "PackageAuction" (13 : Nat) "PackageAuction" "bidders" "[B") ∈ lw_all := lw_g (lw_at lw_m1 13 rfl) rfl
theorem q32 : (Jvm.Cond.fieldLink "PackageAuction" (17 : Nat) "PackageAuction" "amounts" "[B") ∈ lw_all := lw_g (lw_at lw_m1 14 rfl) rfl
theorem q33 : (Jvm.Cond.fieldLink "PackageAuction" (42 : Nat) "PackageAuction" "withheldSet" "I") ∈ lw_all := lw_g (lw_at lw_m1 15 rfl) rfl
theorem q34 : (Jvm.Cond.fieldLink "PackageAuction" (38 : Nat) "PackageAuction" "known" "Z") ∈ lw_all := lw_g (lw_at lw_m1 16 rfl) rfl
theorem q35 : (Jvm.Cond.fieldLink "PackageAuction" (20 : Nat) "PackageAuction" "before" "[I") ∈ lw_all := lw_g (lw_at lw_m1 17 rfl) rfl
theorem q36 : (Jvm.Cond.fieldLink "PackageAuction" (24 : Nat) "PackageAuction" "onward" "[I") ∈ lw_all := lw_g (lw_at lw_m1 18 rfl) rfl
theorem q37 : (Jvm.Cond.fieldLink "PackageAuction" (57 : Nat) "PackageAuction" "winnerSet" "I") ∈ lw_all := lw_g (lw_at lw_m1 19 rfl) rfl
theorem q38 : (Jvm.Cond.lays "PackageAuction" "PackageAuction" "present" "I") ∈ lw_all := lw_g (lw_at lw_m1 20 rfl) rfl
theorem q39 : (Jvm.Cond.soleField "PackageAuction" "present") ∈ lw_all := lw_g (lw_at lw_m1 21 rfl) rfl
theorem q40 : (Jvm.Cond.laysFinal "PackageAuction" "PackageAuction" "bundles" "[S") ∈ lw_all := lw_g (lw_at lw_m1 22 rfl) rfl
theorem q41 : (Jvm.Cond.soleField "PackageAuction" "bundles") ∈ lw_all := lw_g (lw_at lw_m1 23 rfl) rfl
theorem q42 : (Jvm.Cond.laysFinal "PackageAuction" "PackageAuction" "bidders" "[B") ∈ lw_all := lw_g (lw_at lw_m1 24 rfl) rfl
theorem q43 : (Jvm.Cond.soleField "PackageAuction" "bidders") ∈ lw_all := lw_g (lw_at lw_m1 25 rfl) rfl
theorem q44 : (Jvm.Cond.laysFinal "PackageAuction" "PackageAuction" "amounts" "[B") ∈ lw_all := lw_g (lw_at lw_m1 26 rfl) rfl
theorem q45 : (Jvm.Cond.soleField "PackageAuction" "amounts") ∈ lw_all := lw_g (lw_at lw_m1 27 rfl) rfl
theorem q46 : (Jvm.Cond.lays "PackageAuction" "PackageAuction" "withheldSet" "I") ∈ lw_all := lw_g (lw_at lw_m1 28 rfl) rfl
theorem q47 : (Jvm.Cond.soleField "PackageAuction" "withheldSet") ∈ lw_all := lw_g (lw_at lw_m1 29 rfl) rfl
theorem q48 : (Jvm.Cond.lays "PackageAuction" "PackageAuction" "known" "Z") ∈ lw_all := lw_g (lw_at lw_m1 30 rfl) rfl
theorem q49 : (Jvm.Cond.soleField "PackageAuction" "known") ∈ lw_all := lw_g (lw_at lw_m1 31 rfl) rfl
theorem q50 : (Jvm.Cond.laysFinal "PackageAuction" "PackageAuction" "before" "[I") ∈ lw_all := lw_g (lw_at lw_m1 32 rfl) rfl
theorem q51 : (Jvm.Cond.soleField "PackageAuction" "before") ∈ lw_all := lw_g (lw_at lw_m1 33 rfl) rfl
theorem q52 : (Jvm.Cond.laysFinal "PackageAuction" "PackageAuction" "onward" "[I") ∈ lw_all := lw_g (lw_at lw_m1 34 rfl) rfl
theorem q53 : (Jvm.Cond.soleField "PackageAuction" "onward") ∈ lw_all := lw_g (lw_at lw_m1 35 rfl) rfl
theorem q54 : (Jvm.Cond.lays "PackageAuction" "PackageAuction" "winnerSet" "I") ∈ lw_all := lw_g (lw_at lw_m1 36 rfl) rfl
theorem q55 : (Jvm.Cond.soleField "PackageAuction" "winnerSet") ∈ lw_all := lw_g (lw_at lw_m1 37 rfl) rfl
theorem q56 : (Jvm.Cond.superclass "PackageAuction" "java/lang/Object") ∈ lw_all := lw_g (lw_at lw_m1 38 rfl) rfl
theorem q61 : (Jvm.Cond.instanceMethod ({ cls := "PackageAuction", name := "bid", desc := "(III)I" } : Jvm.MethodName)) ∈ lw_all := lw_g (lw_at lw_m1 43 rfl) rfl
theorem q62 : (Jvm.Cond.selects "PackageAuction" ({ cls := "PackageAuction", name := "bid", desc := "(III)I" } : Jvm.MethodName) ({ cls := "PackageAuction", name := "bid", desc := "(III)I" } : Jvm.MethodName)) ∈ lw_all := lw_g (lw_at lw_m1 44 rfl) rfl
theorem q63 : (Jvm.Cond.code ({ cls := "PackageAuction", name := "bid", desc := "(III)I" } : Jvm.MethodName) prog_1_method_4_code (5 : Nat) (Option.some Jvm.ClassFile.FieldType.int)) ∈ lw_all := lw_g (lw_at lw_m1 45 rfl) rfl
theorem q64 : (Jvm.Cond.methodLink "PackageAuction" (31 : Nat) ({ cls := "PackageAuction", name := "isBidder", desc := "(I)Z" } : Jvm.MethodName)) ∈ lw_all := lw_g (lw_at lw_m1 46 rfl) rfl
theorem q65 : (Jvm.Cond.static ({ cls := "PackageAuction", name := "isBidder", desc := "(I)Z" } : Jvm.MethodName)) ∈ lw_all := lw_g (lw_at lw_m1 47 rfl) rfl
theorem q66 : (Jvm.Cond.code ({ cls := "PackageAuction", name := "isBidder", desc := "(I)Z" } : Jvm.MethodName) prog_1_method_3_code (1 : Nat) (Option.some Jvm.ClassFile.FieldType.boolean)) ∈ lw_all := lw_g (lw_at lw_m1 48 rfl) rfl
theorem q67 : (Jvm.Cond.methodLink "PackageAuction" (35 : Nat) ({ cls := "PackageAuction", name := "has", desc := "(I)Z" } : Jvm.MethodName)) ∈ lw_all := lw_g (lw_at lw_m1 49 rfl) rfl
theorem q68 : (Jvm.Cond.privateMethod ({ cls := "PackageAuction", name := "has", desc := "(I)Z" } : Jvm.MethodName)) ∈ lw_tbl := lw_at lw_m1 50 rfl
theorem q69 : (Jvm.Cond.instanceMethod ({ cls := "PackageAuction", name := "has", desc := "(I)Z" } : Jvm.MethodName)) ∈ lw_all := lw_g (lw_at lw_m1 51 rfl) rfl
theorem q70 : (Jvm.Cond.code ({ cls := "PackageAuction", name := "has", desc := "(I)Z" } : Jvm.MethodName) prog_1_method_2_code (2 : Nat) (Option.some Jvm.ClassFile.FieldType.boolean)) ∈ lw_all := lw_g (lw_at lw_m1 52 rfl) rfl
theorem q72 : (Jvm.Cond.instanceMethod ({ cls := "PackageAuction", name := "retract", desc := "(I)Z" } : Jvm.MethodName)) ∈ lw_all := lw_g (lw_at lw_m1 54 rfl) rfl
theorem q73 : (Jvm.Cond.selects "PackageAuction" ({ cls := "PackageAuction", name := "retract", desc := "(I)Z" } : Jvm.MethodName) ({ cls := "PackageAuction", name := "retract", desc := "(I)Z" } : Jvm.MethodName)) ∈ lw_all := lw_g (lw_at lw_m1 55 rfl) rfl
theorem q74 : (Jvm.Cond.code ({ cls := "PackageAuction", name := "retract", desc := "(I)Z" } : Jvm.MethodName) prog_1_method_5_code (2 : Nat) (Option.some Jvm.ClassFile.FieldType.boolean)) ∈ lw_all := lw_g (lw_at lw_m1 56 rfl) rfl
theorem q76 : (Jvm.Cond.instanceMethod ({ cls := "PackageAuction", name := "raise", desc := "(II)Z" } : Jvm.MethodName)) ∈ lw_all := lw_g (lw_at lw_m1 58 rfl) rfl
theorem q77 : (Jvm.Cond.selects "PackageAuction" ({ cls := "PackageAuction", name := "raise", desc := "(II)Z" } : Jvm.MethodName) ({ cls := "PackageAuction", name := "raise", desc := "(II)Z" } : Jvm.MethodName)) ∈ lw_all := lw_g (lw_at lw_m1 59 rfl) rfl
theorem q78 : (Jvm.Cond.code ({ cls := "PackageAuction", name := "raise", desc := "(II)Z" } : Jvm.MethodName) prog_1_method_6_code (3 : Nat) (Option.some Jvm.ClassFile.FieldType.boolean)) ∈ lw_all := lw_g (lw_at lw_m1 60 rfl) rfl
theorem q80 : (Jvm.Cond.instanceMethod ({ cls := "PackageAuction", name := "withhold", desc := "(IZ)Z" } : Jvm.MethodName)) ∈ lw_all := lw_g (lw_at lw_m1 62 rfl) rfl
theorem q81 : (Jvm.Cond.selects "PackageAuction" ({ cls := "PackageAuction", name := "withhold", desc := "(IZ)Z" } : Jvm.MethodName) ({ cls := "PackageAuction", name := "withhold", desc := "(IZ)Z" } : Jvm.MethodName)) ∈ lw_all := lw_g (lw_at lw_m1 63 rfl) rfl
theorem q82 : (Jvm.Cond.code ({ cls := "PackageAuction", name := "withhold", desc := "(IZ)Z" } : Jvm.MethodName) prog_1_method_7_code (3 : Nat) (Option.some Jvm.ClassFile.FieldType.boolean)) ∈ lw_all := lw_g (lw_at lw_m1 64 rfl) rfl
theorem q84 : (Jvm.Cond.instanceMethod ({ cls := "PackageAuction", name := "bids", desc := "()I" } : Jvm.MethodName)) ∈ lw_all := lw_g (lw_at lw_m1 66 rfl) rfl
theorem q85 : (Jvm.Cond.selects "PackageAuction" ({ cls := "PackageAuction", name := "bids", desc := "()I" } : Jvm.MethodName) ({ cls := "PackageAuction", name := "bids", desc := "()I" } : Jvm.MethodName)) ∈ lw_all := lw_g (lw_at lw_m1 67 rfl) rfl
theorem q86 : (Jvm.Cond.code ({ cls := "PackageAuction", name := "bids", desc := "()I" } : Jvm.MethodName) prog_1_method_8_code (1 : Nat) (Option.some Jvm.ClassFile.FieldType.int)) ∈ lw_all := lw_g (lw_at lw_m1 68 rfl) rfl
theorem q88 : (Jvm.Cond.instanceMethod ({ cls := "PackageAuction", name := "withheld", desc := "()I" } : Jvm.MethodName)) ∈ lw_all := lw_g (lw_at lw_m1 70 rfl) rfl
theorem q89 : (Jvm.Cond.selects "PackageAuction" ({ cls := "PackageAuction", name := "withheld", desc := "()I" } : Jvm.MethodName) ({ cls := "PackageAuction", name := "withheld", desc := "()I" } : Jvm.MethodName)) ∈ lw_all := lw_g (lw_at lw_m1 71 rfl) rfl
theorem q90 : (Jvm.Cond.code ({ cls := "PackageAuction", name := "withheld", desc := "()I" } : Jvm.MethodName) prog_1_method_9_code (1 : Nat) (Option.some Jvm.ClassFile.FieldType.int)) ∈ lw_all := lw_g (lw_at lw_m1 72 rfl) rfl
theorem q92 : (Jvm.Cond.instanceMethod ({ cls := "PackageAuction", name := "winners", desc := "()I" } : Jvm.MethodName)) ∈ lw_all := lw_g (lw_at lw_m1 74 rfl) rfl
theorem q93 : (Jvm.Cond.selects "PackageAuction" ({ cls := "PackageAuction", name := "winners", desc := "()I" } : Jvm.MethodName) ({ cls := "PackageAuction", name := "winners", desc := "()I" } : Jvm.MethodName)) ∈ lw_all := lw_g (lw_at lw_m1 75 rfl) rfl
theorem q94 : (Jvm.Cond.code ({ cls := "PackageAuction", name := "winners", desc := "()I" } : Jvm.MethodName) prog_1_method_19_code (1 : Nat) (Option.some Jvm.ClassFile.FieldType.int)) ∈ lw_all := lw_g (lw_at lw_m1 76 rfl) rfl
theorem q95 : (Jvm.Cond.methodLink "PackageAuction" (73 : Nat) ({ cls := "PackageAuction", name := "learn", desc := "()V" } : Jvm.MethodName)) ∈ lw_all := lw_g (lw_at lw_m1 77 rfl) rfl
theorem q96 : (Jvm.Cond.privateMethod ({ cls := "PackageAuction", name := "learn", desc := "()V" } : Jvm.MethodName)) ∈ lw_tbl := lw_at lw_m1 78 rfl
theorem q97 : (Jvm.Cond.instanceMethod ({ cls := "PackageAuction", name := "learn", desc := "()V" } : Jvm.MethodName)) ∈ lw_all := lw_g (lw_at lw_m1 79 rfl) rfl
theorem q98 : (Jvm.Cond.code ({ cls := "PackageAuction", name := "learn", desc := "()V" } : Jvm.MethodName) prog_1_method_13_code (3 : Nat) (Option.none : Option Jvm.ClassFile.FieldType)) ∈ lw_all := lw_g (lw_at lw_m1 80 rfl) rfl
theorem q99 : (Jvm.Cond.methodLink "PackageAuction" (49 : Nat) ({ cls := "PackageAuction", name := "bestStep", desc := "(IIZ)I" } : Jvm.MethodName)) ∈ lw_all := lw_g (lw_at lw_m1 81 rfl) rfl
theorem q100 : (Jvm.Cond.privateMethod ({ cls := "PackageAuction", name := "bestStep", desc := "(IIZ)I" } : Jvm.MethodName)) ∈ lw_tbl := lw_at lw_m1 82 rfl
theorem q101 : (Jvm.Cond.instanceMethod ({ cls := "PackageAuction", name := "bestStep", desc := "(IIZ)I" } : Jvm.MethodName)) ∈ lw_all := lw_g (lw_at lw_m1 83 rfl) rfl
theorem q102 : (Jvm.Cond.code ({ cls := "PackageAuction", name := "bestStep", desc := "(IIZ)I" } : Jvm.MethodName) prog_1_method_14_code (7 : Nat) (Option.some Jvm.ClassFile.FieldType.int)) ∈ lw_all := lw_g (lw_at lw_m1 84 rfl) rfl
theorem q103 : (Jvm.Cond.methodLink "PackageAuction" (60 : Nat) ({ cls := "PackageAuction", name := "others", desc := "(IIZ)I" } : Jvm.MethodName)) ∈ lw_all := lw_g (lw_at lw_m1 85 rfl) rfl
theorem q104 : (Jvm.Cond.privateMethod ({ cls := "PackageAuction", name := "others", desc := "(IIZ)I" } : Jvm.MethodName)) ∈ lw_tbl := lw_at lw_m1 86 rfl
theorem q105 : (Jvm.Cond.instanceMethod ({ cls := "PackageAuction", name := "others", desc := "(IIZ)I" } : Jvm.MethodName)) ∈ lw_all := lw_g (lw_at lw_m1 87 rfl) rfl
theorem q106 : (Jvm.Cond.code ({ cls := "PackageAuction", name := "others", desc := "(IIZ)I" } : Jvm.MethodName) prog_1_method_15_code (4 : Nat) (Option.some Jvm.ClassFile.FieldType.int)) ∈ lw_all := lw_g (lw_at lw_m1 88 rfl) rfl
theorem q107 : (Jvm.Cond.methodLink "PackageAuction" (63 : Nat) ({ cls := "PackageAuction", name := "markedAmount", desc := "(I)I" } : Jvm.MethodName)) ∈ lw_all := lw_g (lw_at lw_m1 89 rfl) rfl
theorem q108 : (Jvm.Cond.privateMethod ({ cls := "PackageAuction", name := "markedAmount", desc := "(I)I" } : Jvm.MethodName)) ∈ lw_tbl := lw_at lw_m1 90 rfl
theorem q109 : (Jvm.Cond.instanceMethod ({ cls := "PackageAuction", name := "markedAmount", desc := "(I)I" } : Jvm.MethodName)) ∈ lw_all := lw_g (lw_at lw_m1 91 rfl) rfl
theorem q110 : (Jvm.Cond.code ({ cls := "PackageAuction", name := "markedAmount", desc := "(I)I" } : Jvm.MethodName) prog_1_method_11_code (2 : Nat) (Option.some Jvm.ClassFile.FieldType.int)) ∈ lw_all := lw_g (lw_at lw_m1 92 rfl) rfl
theorem q111 : (Jvm.Cond.methodLink "PackageAuction" (45 : Nat) ({ cls := "PackageAuction", name := "mark", desc := "(I)I" } : Jvm.MethodName)) ∈ lw_all := lw_g (lw_at lw_m1 93 rfl) rfl
theorem q112 : (Jvm.Cond.static ({ cls := "PackageAuction", name := "mark", desc := "(I)I" } : Jvm.MethodName)) ∈ lw_all := lw_g (lw_at lw_m1 94 rfl) rfl
theorem q113 : (Jvm.Cond.code ({ cls := "PackageAuction", name := "mark", desc := "(I)I" } : Jvm.MethodName) prog_1_method_10_code (1 : Nat) (Option.some Jvm.ClassFile.FieldType.int)) ∈ lw_all := lw_g (lw_at lw_m1 95 rfl) rfl
theorem q114 : (Jvm.Cond.methodLink "PackageAuction" (53 : Nat) ({ cls := "PackageAuction", name := "findWinners", desc := "()I" } : Jvm.MethodName)) ∈ lw_all := lw_g (lw_at lw_m1 96 rfl) rfl
theorem q115 : (Jvm.Cond.privateMethod ({ cls := "PackageAuction", name := "findWinners", desc := "()I" } : Jvm.MethodName)) ∈ lw_tbl := lw_at lw_m1 97 rfl
theorem q116 : (Jvm.Cond.instanceMethod ({ cls := "PackageAuction", name := "findWinners", desc := "()I" } : Jvm.MethodName)) ∈ lw_all := lw_g (lw_at lw_m1 98 rfl) rfl
theorem q117 : (Jvm.Cond.code ({ cls := "PackageAuction", name := "findWinners", desc := "()I" } : Jvm.MethodName) prog_1_method_16_code (5 : Nat) (Option.some Jvm.ClassFile.FieldType.int)) ∈ lw_all := lw_g (lw_at lw_m1 99 rfl) rfl
theorem q118 : (Jvm.Cond.methodLink "PackageAuction" (66 : Nat) ({ cls := "PackageAuction", name := "offered", desc := "()I" } : Jvm.MethodName)) ∈ lw_all := lw_g (lw_at lw_m1 100 rfl) rfl
theorem q119 : (Jvm.Cond.privateMethod ({ cls := "PackageAuction", name := "offered", desc := "()I" } : Jvm.MethodName)) ∈ lw_tbl := lw_at lw_m1 101 rfl
theorem q120 : (Jvm.Cond.instanceMethod ({ cls := "PackageAuction", name := "offered", desc := "()I" } : Jvm.MethodName)) ∈ lw_all := lw_g (lw_at lw_m1 102 rfl) rfl
theorem q121 : (Jvm.Cond.code ({ cls := "PackageAuction", name := "offered", desc := "()I" } : Jvm.MethodName) prog_1_method_12_code (1 : Nat) (Option.some Jvm.ClassFile.FieldType.int)) ∈ lw_all := lw_g (lw_at lw_m1 103 rfl) rfl
theorem q122 : (Jvm.Cond.methodLink "PackageAuction" (69 : Nat) ({ cls := "PackageAuction", name := "bidTaken", desc := "(II)I" } : Jvm.MethodName)) ∈ lw_all := lw_g (lw_at lw_m1 104 rfl) rfl
theorem q123 : (Jvm.Cond.privateMethod ({ cls := "PackageAuction", name := "bidTaken", desc := "(II)I" } : Jvm.MethodName)) ∈ lw_tbl := lw_at lw_m1 105 rfl
theorem q124 : (Jvm.Cond.instanceMethod ({ cls := "PackageAuction", name := "bidTaken", desc := "(II)I" } : Jvm.MethodName)) ∈ lw_all := lw_g (lw_at lw_m1 106 rfl) rfl
theorem q125 : (Jvm.Cond.code ({ cls := "PackageAuction", name := "bidTaken", desc := "(II)I" } : Jvm.MethodName) prog_1_method_17_code (6 : Nat) (Option.some Jvm.ClassFile.FieldType.int)) ∈ lw_all := lw_g (lw_at lw_m1 107 rfl) rfl
theorem q127 : (Jvm.Cond.instanceMethod ({ cls := "PackageAuction", name := "revenue", desc := "()I" } : Jvm.MethodName)) ∈ lw_all := lw_g (lw_at lw_m1 109 rfl) rfl
theorem q128 : (Jvm.Cond.selects "PackageAuction" ({ cls := "PackageAuction", name := "revenue", desc := "()I" } : Jvm.MethodName) ({ cls := "PackageAuction", name := "revenue", desc := "()I" } : Jvm.MethodName)) ∈ lw_all := lw_g (lw_at lw_m1 110 rfl) rfl
theorem q129 : (Jvm.Cond.code ({ cls := "PackageAuction", name := "revenue", desc := "()I" } : Jvm.MethodName) prog_1_method_20_code (2 : Nat) (Option.some Jvm.ClassFile.FieldType.int)) ∈ lw_all := lw_g (lw_at lw_m1 111 rfl) rfl
theorem q131 : (Jvm.Cond.instanceMethod ({ cls := "PackageAuction", name := "sold", desc := "()I" } : Jvm.MethodName)) ∈ lw_all := lw_g (lw_at lw_m1 113 rfl) rfl
theorem q132 : (Jvm.Cond.selects "PackageAuction" ({ cls := "PackageAuction", name := "sold", desc := "()I" } : Jvm.MethodName) ({ cls := "PackageAuction", name := "sold", desc := "()I" } : Jvm.MethodName)) ∈ lw_all := lw_g (lw_at lw_m1 114 rfl) rfl
theorem q133 : (Jvm.Cond.code ({ cls := "PackageAuction", name := "sold", desc := "()I" } : Jvm.MethodName) prog_1_method_21_code (3 : Nat) (Option.some Jvm.ClassFile.FieldType.int)) ∈ lw_all := lw_g (lw_at lw_m1 115 rfl) rfl
theorem q135 : (Jvm.Cond.instanceMethod ({ cls := "PackageAuction", name := "revenueWithout", desc := "(I)I" } : Jvm.MethodName)) ∈ lw_all := lw_g (lw_at lw_m1 117 rfl) rfl
theorem q136 : (Jvm.Cond.selects "PackageAuction" ({ cls := "PackageAuction", name := "revenueWithout", desc := "(I)I" } : Jvm.MethodName) ({ cls := "PackageAuction", name := "revenueWithout", desc := "(I)I" } : Jvm.MethodName)) ∈ lw_all := lw_g (lw_at lw_m1 118 rfl) rfl
theorem q137 : (Jvm.Cond.code ({ cls := "PackageAuction", name := "revenueWithout", desc := "(I)I" } : Jvm.MethodName) prog_1_method_22_code (3 : Nat) (Option.some Jvm.ClassFile.FieldType.int)) ∈ lw_all := lw_g (lw_at lw_m1 119 rfl) rfl
theorem q138 : (Jvm.Cond.methodLink "PackageAuction" (76 : Nat) ({ cls := "PackageAuction", name := "sumWithout", desc := "(II)I" } : Jvm.MethodName)) ∈ lw_all := lw_g (lw_at lw_m1 120 rfl) rfl
theorem q139 : (Jvm.Cond.privateMethod ({ cls := "PackageAuction", name := "sumWithout", desc := "(II)I" } : Jvm.MethodName)) ∈ lw_tbl := lw_at lw_m1 121 rfl
theorem q140 : (Jvm.Cond.instanceMethod ({ cls := "PackageAuction", name := "sumWithout", desc := "(II)I" } : Jvm.MethodName)) ∈ lw_all := lw_g (lw_at lw_m1 122 rfl) rfl
theorem q141 : (Jvm.Cond.code ({ cls := "PackageAuction", name := "sumWithout", desc := "(II)I" } : Jvm.MethodName) prog_1_method_18_code (6 : Nat) (Option.some Jvm.ClassFile.FieldType.int)) ∈ lw_all := lw_g (lw_at lw_m1 123 rfl) rfl
theorem q143 : (Jvm.Cond.instanceMethod ({ cls := "PackageAuction", name := "payment", desc := "(I)I" } : Jvm.MethodName)) ∈ lw_all := lw_g (lw_at lw_m1 125 rfl) rfl
theorem q144 : (Jvm.Cond.selects "PackageAuction" ({ cls := "PackageAuction", name := "payment", desc := "(I)I" } : Jvm.MethodName) ({ cls := "PackageAuction", name := "payment", desc := "(I)I" } : Jvm.MethodName)) ∈ lw_all := lw_g (lw_at lw_m1 126 rfl) rfl
theorem q145 : (Jvm.Cond.code ({ cls := "PackageAuction", name := "payment", desc := "(I)I" } : Jvm.MethodName) prog_1_method_23_code (4 : Nat) (Option.some Jvm.ClassFile.FieldType.int)) ∈ lw_all := lw_g (lw_at lw_m1 127 rfl) rfl
theorem q146 : (Jvm.Cond.methodLink "PackageAuction" (79 : Nat) ({ cls := "PackageAuction", name := "revenue", desc := "()I" } : Jvm.MethodName)) ∈ lw_all := lw_g (lw_at lw_m1 128 rfl) rfl
theorem q147 : (Jvm.Cond.methodLink "PackageAuction" (82 : Nat) ({ cls := "PackageAuction", name := "revenueWithout", desc := "(I)I" } : Jvm.MethodName)) ∈ lw_all := lw_g (lw_at lw_m1 129 rfl) rfl
theorem q149 : (Jvm.Cond.instanceMethod ({ cls := "PackageAuction", name := "threshold", desc := "(I)I" } : Jvm.MethodName)) ∈ lw_all := lw_g (lw_at lw_m1 131 rfl) rfl
theorem q150 : (Jvm.Cond.selects "PackageAuction" ({ cls := "PackageAuction", name := "threshold", desc := "(I)I" } : Jvm.MethodName) ({ cls := "PackageAuction", name := "threshold", desc := "(I)I" } : Jvm.MethodName)) ∈ lw_all := lw_g (lw_at lw_m1 132 rfl) rfl
theorem q151 : (Jvm.Cond.code ({ cls := "PackageAuction", name := "threshold", desc := "(I)I" } : Jvm.MethodName) prog_1_method_24_code (6 : Nat) (Option.some Jvm.ClassFile.FieldType.int)) ∈ lw_all := lw_g (lw_at lw_m1 133 rfl) rfl
theorem q152 : (Jvm.Cond.methodLink "PackageAuction" (85 : Nat) ({ cls := "PackageAuction", name := "sumLacking", desc := "(I)I" } : Jvm.MethodName)) ∈ lw_all := lw_g (lw_at lw_m1 134 rfl) rfl
theorem q153 : (Jvm.Cond.privateMethod ({ cls := "PackageAuction", name := "sumLacking", desc := "(I)I" } : Jvm.MethodName)) ∈ lw_tbl := lw_at lw_m1 135 rfl
theorem q154 : (Jvm.Cond.instanceMethod ({ cls := "PackageAuction", name := "sumLacking", desc := "(I)I" } : Jvm.MethodName)) ∈ lw_all := lw_g (lw_at lw_m1 136 rfl) rfl
theorem q155 : (Jvm.Cond.code ({ cls := "PackageAuction", name := "sumLacking", desc := "(I)I" } : Jvm.MethodName) prog_1_method_25_code (7 : Nat) (Option.some Jvm.ClassFile.FieldType.int)) ∈ lw_all := lw_g (lw_at lw_m1 137 rfl) rfl
theorem q157 : (Jvm.Cond.instanceMethod ({ cls := "PackageAuction", name := "revenueWith", desc := "(I)I" } : Jvm.MethodName)) ∈ lw_all := lw_g (lw_at lw_m1 139 rfl) rfl
theorem q158 : (Jvm.Cond.selects "PackageAuction" ({ cls := "PackageAuction", name := "revenueWith", desc := "(I)I" } : Jvm.MethodName) ({ cls := "PackageAuction", name := "revenueWith", desc := "(I)I" } : Jvm.MethodName)) ∈ lw_all := lw_g (lw_at lw_m1 140 rfl) rfl
theorem q159 : (Jvm.Cond.code ({ cls := "PackageAuction", name := "revenueWith", desc := "(I)I" } : Jvm.MethodName) prog_1_method_26_code (4 : Nat) (Option.some Jvm.ClassFile.FieldType.int)) ∈ lw_all := lw_g (lw_at lw_m1 141 rfl) rfl
theorem q161 : (Jvm.Cond.instanceMethod ({ cls := "PackageAuction", name := "price", desc := "(I)I" } : Jvm.MethodName)) ∈ lw_all := lw_g (lw_at lw_m1 143 rfl) rfl
theorem q162 : (Jvm.Cond.selects "PackageAuction" ({ cls := "PackageAuction", name := "price", desc := "(I)I" } : Jvm.MethodName) ({ cls := "PackageAuction", name := "price", desc := "(I)I" } : Jvm.MethodName)) ∈ lw_all := lw_g (lw_at lw_m1 144 rfl) rfl
theorem q163 : (Jvm.Cond.code ({ cls := "PackageAuction", name := "price", desc := "(I)I" } : Jvm.MethodName) prog_1_method_27_code (4 : Nat) (Option.some Jvm.ClassFile.FieldType.int)) ∈ lw_all := lw_g (lw_at lw_m1 145 rfl) rfl
theorem q165 : (Jvm.Cond.instanceMethod ({ cls := "PackageAuction", name := "allocation", desc := "(I)Z" } : Jvm.MethodName)) ∈ lw_all := lw_g (lw_at lw_m1 147 rfl) rfl
theorem q166 : (Jvm.Cond.selects "PackageAuction" ({ cls := "PackageAuction", name := "allocation", desc := "(I)Z" } : Jvm.MethodName) ({ cls := "PackageAuction", name := "allocation", desc := "(I)Z" } : Jvm.MethodName)) ∈ lw_all := lw_g (lw_at lw_m1 148 rfl) rfl
theorem q167 : (Jvm.Cond.code ({ cls := "PackageAuction", name := "allocation", desc := "(I)Z" } : Jvm.MethodName) prog_1_method_28_code (5 : Nat) (Option.some Jvm.ClassFile.FieldType.boolean)) ∈ lw_all := lw_g (lw_at lw_m1 149 rfl) rfl
theorem in_X0 : ∀ w ∈ wsX00, w ∈ lw_all := lw_in wsX00 [38, 40, 42, 44, 46, 48, 50, 52, 54] (by decide +kernel) (by decide +kernel)
end
section
/-! PackageAuctionModel -/
set_option maxRecDepth 100000
def RX1 : String := "PackageAuctionModel"
def TX1 : u_T := fun k => match k with
  | 0 => ("PackageAuctionModel", "bundle", "[I", false)
  | 1 => ("PackageAuctionModel", "who", "[I", false)
  | 2 => ("PackageAuctionModel", "offer", "[I", false)
  | 3 => ("PackageAuctionModel", "shut", "I", false)
  | _ => ("PackageAuctionModel", "fine", "[Z", false)
def tyX1 : Nat → FieldType := fun k => match k with
  | 0 => .array .int
  | 1 => .array .int
  | 2 => .array .int
  | 3 => .int
  | _ => .array .boolean
abbrev wsX10 : List Cond := u_ws RX1 TX1 5
theorem nmX1 : ∀ a, a < 5 → ∀ b, b < 5 → a ≠ b → (TX1 a).2.1 ≠ (TX1 b).2.1 := by decide +kernel
theorem tyX1_ok : ∀ k, k < 5 → parseFieldDescriptor (TX1 k).2.2.1 = some (tyX1 k) := by decide +kernel
abbrev cX1_init : ByteArray := prog_3_method_1_code
def yX1_init : MethodName := ⟨RX1, "<init>", "()V"⟩
theorem dX1_init_0 : decode cX1_init 0 = .ok (.aload_n 0, 1) := by decide +kernel
theorem dX1_init_1 : decode cX1_init 1 = .ok (.invokespecial 1, 3) := by decide +kernel
theorem dX1_init_4 : decode cX1_init 4 = .ok (.aload_n 0, 1) := by decide +kernel
theorem dX1_init_5 : decode cX1_init 5 = .ok (.bipush 8, 2) := by decide +kernel
theorem dX1_init_7 : decode cX1_init 7 = .ok (.newarray .int, 2) := by decide +kernel
theorem dX1_init_9 : decode cX1_init 9 = .ok (.putfield 7, 3) := by decide +kernel
theorem dX1_init_12 : decode cX1_init 12 = .ok (.aload_n 0, 1) := by decide +kernel
theorem dX1_init_13 : decode cX1_init 13 = .ok (.bipush 8, 2) := by decide +kernel
theorem dX1_init_15 : decode cX1_init 15 = .ok (.newarray .int, 2) := by decide +kernel
theorem dX1_init_17 : decode cX1_init 17 = .ok (.putfield 13, 3) := by decide +kernel
theorem dX1_init_20 : decode cX1_init 20 = .ok (.aload_n 0, 1) := by decide +kernel
theorem dX1_init_21 : decode cX1_init 21 = .ok (.bipush 8, 2) := by decide +kernel
theorem dX1_init_23 : decode cX1_init 23 = .ok (.newarray .int, 2) := by decide +kernel
theorem dX1_init_25 : decode cX1_init 25 = .ok (.putfield 16, 3) := by decide +kernel
theorem dX1_init_28 : decode cX1_init 28 = .ok (.aload_n 0, 1) := by decide +kernel
theorem dX1_init_29 : decode cX1_init 29 = .ok (.sipush 256, 3) := by decide +kernel
theorem dX1_init_32 : decode cX1_init 32 = .ok (.newarray .boolean, 2) := by decide +kernel
theorem dX1_init_34 : decode cX1_init 34 = .ok (.putfield 19, 3) := by decide +kernel
theorem dX1_init_37 : decode cX1_init 37 = .ok (.return_, 1) := by decide +kernel
abbrev cX1_bid : ByteArray := prog_3_method_4_code
def yX1_bid : MethodName := ⟨RX1, "bid", "(III)I"⟩
theorem dX1_bid_0 : decode cX1_bid 0 = .ok (.iload_n 1, 1) := by decide +kernel
theorem dX1_bid_1 : decode cX1_bid 1 = .ok (.iconst 1, 1) := by decide +kernel
theorem dX1_bid_2 : decode cX1_bid 2 = .ok (.if_icmp .lt 29, 3) := by decide +kernel
theorem dX1_bid_5 : decode cX1_bid 5 = .ok (.iload_n 1, 1) := by decide +kernel
theorem dX1_bid_6 : decode cX1_bid 6 = .ok (.sipush 255, 3) := by decide +kernel
theorem dX1_bid_9 : decode cX1_bid 9 = .ok (.if_icmp .gt 22, 3) := by decide +kernel
theorem dX1_bid_12 : decode cX1_bid 12 = .ok (.aload_n 0, 1) := by decide +kernel
theorem dX1_bid_13 : decode cX1_bid 13 = .ok (.iload_n 2, 1) := by decide +kernel
theorem dX1_bid_14 : decode cX1_bid 14 = .ok (.invokevirtual 23, 3) := by decide +kernel
theorem dX1_bid_17 : decode cX1_bid 17 = .ok (.ifCond .eq 14, 3) := by decide +kernel
theorem dX1_bid_20 : decode cX1_bid 20 = .ok (.iload_n 3, 1) := by decide +kernel
theorem dX1_bid_21 : decode cX1_bid 21 = .ok (.iconst 1, 1) := by decide +kernel
theorem dX1_bid_22 : decode cX1_bid 22 = .ok (.if_icmp .lt 9, 3) := by decide +kernel
theorem dX1_bid_25 : decode cX1_bid 25 = .ok (.iload_n 3, 1) := by decide +kernel
theorem dX1_bid_26 : decode cX1_bid 26 = .ok (.bipush 50, 2) := by decide +kernel
theorem dX1_bid_28 : decode cX1_bid 28 = .ok (.if_icmp .le 5, 3) := by decide +kernel
theorem dX1_bid_31 : decode cX1_bid 31 = .ok (.iconst (-1), 1) := by decide +kernel
theorem dX1_bid_32 : decode cX1_bid 32 = .ok (.ireturn, 1) := by decide +kernel
theorem dX1_bid_33 : decode cX1_bid 33 = .ok (.iconst 0, 1) := by decide +kernel
theorem dX1_bid_34 : decode cX1_bid 34 = .ok (.istore 4, 2) := by decide +kernel
theorem dX1_bid_36 : decode cX1_bid 36 = .ok (.iload 4, 2) := by decide +kernel
theorem dX1_bid_38 : decode cX1_bid 38 = .ok (.bipush 8, 2) := by decide +kernel
theorem dX1_bid_40 : decode cX1_bid 40 = .ok (.if_icmp .ge 46, 3) := by decide +kernel
theorem dX1_bid_43 : decode cX1_bid 43 = .ok (.aload_n 0, 1) := by decide +kernel
theorem dX1_bid_44 : decode cX1_bid 44 = .ok (.getfield 7, 3) := by decide +kernel
theorem dX1_bid_47 : decode cX1_bid 47 = .ok (.iload 4, 2) := by decide +kernel
theorem dX1_bid_49 : decode cX1_bid 49 = .ok (.iaload, 1) := by decide +kernel
theorem dX1_bid_50 : decode cX1_bid 50 = .ok (.ifCond .ne 30, 3) := by decide +kernel
theorem dX1_bid_53 : decode cX1_bid 53 = .ok (.aload_n 0, 1) := by decide +kernel
theorem dX1_bid_54 : decode cX1_bid 54 = .ok (.getfield 7, 3) := by decide +kernel
theorem dX1_bid_57 : decode cX1_bid 57 = .ok (.iload 4, 2) := by decide +kernel
theorem dX1_bid_59 : decode cX1_bid 59 = .ok (.iload_n 1, 1) := by decide +kernel
theorem dX1_bid_60 : decode cX1_bid 60 = .ok (.iastore, 1) := by decide +kernel
theorem dX1_bid_61 : decode cX1_bid 61 = .ok (.aload_n 0, 1) := by decide +kernel
theorem dX1_bid_62 : decode cX1_bid 62 = .ok (.getfield 13, 3) := by decide +kernel
theorem dX1_bid_65 : decode cX1_bid 65 = .ok (.iload 4, 2) := by decide +kernel
theorem dX1_bid_67 : decode cX1_bid 67 = .ok (.iload_n 2, 1) := by decide +kernel
theorem dX1_bid_68 : decode cX1_bid 68 = .ok (.iastore, 1) := by decide +kernel
theorem dX1_bid_69 : decode cX1_bid 69 = .ok (.aload_n 0, 1) := by decide +kernel
theorem dX1_bid_70 : decode cX1_bid 70 = .ok (.getfield 16, 3) := by decide +kernel
theorem dX1_bid_73 : decode cX1_bid 73 = .ok (.iload 4, 2) := by decide +kernel
theorem dX1_bid_75 : decode cX1_bid 75 = .ok (.iload_n 3, 1) := by decide +kernel
theorem dX1_bid_76 : decode cX1_bid 76 = .ok (.iastore, 1) := by decide +kernel
theorem dX1_bid_77 : decode cX1_bid 77 = .ok (.iload 4, 2) := by decide +kernel
theorem dX1_bid_79 : decode cX1_bid 79 = .ok (.ireturn, 1) := by decide +kernel
theorem dX1_bid_80 : decode cX1_bid 80 = .ok (.iinc 4 1, 3) := by decide +kernel
theorem dX1_bid_83 : decode cX1_bid 83 = .ok (.goto (-47), 3) := by decide +kernel
theorem dX1_bid_86 : decode cX1_bid 86 = .ok (.bipush (-2), 2) := by decide +kernel
theorem dX1_bid_88 : decode cX1_bid 88 = .ok (.ireturn, 1) := by decide +kernel
abbrev cX1_bidder : ByteArray := prog_3_method_3_code
def yX1_bidder : MethodName := ⟨RX1, "bidder", "(I)Z"⟩
theorem dX1_bidder_0 : decode cX1_bidder 0 = .ok (.iload_n 1, 1) := by decide +kernel
theorem dX1_bidder_1 : decode cX1_bidder 1 = .ok (.ifCond .lt 12, 3) := by decide +kernel
theorem dX1_bidder_4 : decode cX1_bidder 4 = .ok (.iload_n 1, 1) := by decide +kernel
theorem dX1_bidder_5 : decode cX1_bidder 5 = .ok (.iconst 3, 1) := by decide +kernel
theorem dX1_bidder_6 : decode cX1_bidder 6 = .ok (.if_icmp .gt 7, 3) := by decide +kernel
theorem dX1_bidder_9 : decode cX1_bidder 9 = .ok (.iconst 1, 1) := by decide +kernel
theorem dX1_bidder_10 : decode cX1_bidder 10 = .ok (.goto 4, 3) := by decide +kernel
theorem dX1_bidder_13 : decode cX1_bidder 13 = .ok (.iconst 0, 1) := by decide +kernel
theorem dX1_bidder_14 : decode cX1_bidder 14 = .ok (.ireturn, 1) := by decide +kernel
abbrev cX1_retract : ByteArray := prog_3_method_5_code
def yX1_retract : MethodName := ⟨RX1, "retract", "(I)Z"⟩
theorem dX1_retract_0 : decode cX1_retract 0 = .ok (.aload_n 0, 1) := by decide +kernel
theorem dX1_retract_1 : decode cX1_retract 1 = .ok (.iload_n 1, 1) := by decide +kernel
theorem dX1_retract_2 : decode cX1_retract 2 = .ok (.invokevirtual 27, 3) := by decide +kernel
theorem dX1_retract_5 : decode cX1_retract 5 = .ok (.ifCond .ne 5, 3) := by decide +kernel
theorem dX1_retract_8 : decode cX1_retract 8 = .ok (.iconst 0, 1) := by decide +kernel
theorem dX1_retract_9 : decode cX1_retract 9 = .ok (.ireturn, 1) := by decide +kernel
theorem dX1_retract_10 : decode cX1_retract 10 = .ok (.aload_n 0, 1) := by decide +kernel
theorem dX1_retract_11 : decode cX1_retract 11 = .ok (.getfield 7, 3) := by decide +kernel
theorem dX1_retract_14 : decode cX1_retract 14 = .ok (.iload_n 1, 1) := by decide +kernel
theorem dX1_retract_15 : decode cX1_retract 15 = .ok (.iconst 0, 1) := by decide +kernel
theorem dX1_retract_16 : decode cX1_retract 16 = .ok (.iastore, 1) := by decide +kernel
theorem dX1_retract_17 : decode cX1_retract 17 = .ok (.iconst 1, 1) := by decide +kernel
theorem dX1_retract_18 : decode cX1_retract 18 = .ok (.ireturn, 1) := by decide +kernel
abbrev cX1_is : ByteArray := prog_3_method_2_code
def yX1_is : MethodName := ⟨RX1, "is", "(I)Z"⟩
theorem dX1_is_0 : decode cX1_is 0 = .ok (.iload_n 1, 1) := by decide +kernel
theorem dX1_is_1 : decode cX1_is 1 = .ok (.ifCond .lt 22, 3) := by decide +kernel
theorem dX1_is_4 : decode cX1_is 4 = .ok (.iload_n 1, 1) := by decide +kernel
theorem dX1_is_5 : decode cX1_is 5 = .ok (.bipush 8, 2) := by decide +kernel
theorem dX1_is_7 : decode cX1_is 7 = .ok (.if_icmp .ge 16, 3) := by decide +kernel
theorem dX1_is_10 : decode cX1_is 10 = .ok (.aload_n 0, 1) := by decide +kernel
theorem dX1_is_11 : decode cX1_is 11 = .ok (.getfield 7, 3) := by decide +kernel
theorem dX1_is_14 : decode cX1_is 14 = .ok (.iload_n 1, 1) := by decide +kernel
theorem dX1_is_15 : decode cX1_is 15 = .ok (.iaload, 1) := by decide +kernel
theorem dX1_is_16 : decode cX1_is 16 = .ok (.ifCond .le 7, 3) := by decide +kernel
theorem dX1_is_19 : decode cX1_is 19 = .ok (.iconst 1, 1) := by decide +kernel
theorem dX1_is_20 : decode cX1_is 20 = .ok (.goto 4, 3) := by decide +kernel
theorem dX1_is_23 : decode cX1_is 23 = .ok (.iconst 0, 1) := by decide +kernel
theorem dX1_is_24 : decode cX1_is 24 = .ok (.ireturn, 1) := by decide +kernel
abbrev cX1_raise : ByteArray := prog_3_method_6_code
def yX1_raise : MethodName := ⟨RX1, "raise", "(II)Z"⟩
theorem dX1_raise_0 : decode cX1_raise 0 = .ok (.aload_n 0, 1) := by decide +kernel
theorem dX1_raise_1 : decode cX1_raise 1 = .ok (.iload_n 1, 1) := by decide +kernel
theorem dX1_raise_2 : decode cX1_raise 2 = .ok (.invokevirtual 27, 3) := by decide +kernel
theorem dX1_raise_5 : decode cX1_raise 5 = .ok (.ifCond .eq 14, 3) := by decide +kernel
theorem dX1_raise_8 : decode cX1_raise 8 = .ok (.iload_n 2, 1) := by decide +kernel
theorem dX1_raise_9 : decode cX1_raise 9 = .ok (.iconst 1, 1) := by decide +kernel
theorem dX1_raise_10 : decode cX1_raise 10 = .ok (.if_icmp .lt 9, 3) := by decide +kernel
theorem dX1_raise_13 : decode cX1_raise 13 = .ok (.iload_n 2, 1) := by decide +kernel
theorem dX1_raise_14 : decode cX1_raise 14 = .ok (.bipush 50, 2) := by decide +kernel
theorem dX1_raise_16 : decode cX1_raise 16 = .ok (.if_icmp .le 5, 3) := by decide +kernel
theorem dX1_raise_19 : decode cX1_raise 19 = .ok (.iconst 0, 1) := by decide +kernel
theorem dX1_raise_20 : decode cX1_raise 20 = .ok (.ireturn, 1) := by decide +kernel
theorem dX1_raise_21 : decode cX1_raise 21 = .ok (.aload_n 0, 1) := by decide +kernel
theorem dX1_raise_22 : decode cX1_raise 22 = .ok (.getfield 16, 3) := by decide +kernel
theorem dX1_raise_25 : decode cX1_raise 25 = .ok (.iload_n 1, 1) := by decide +kernel
theorem dX1_raise_26 : decode cX1_raise 26 = .ok (.iload_n 2, 1) := by decide +kernel
theorem dX1_raise_27 : decode cX1_raise 27 = .ok (.iastore, 1) := by decide +kernel
theorem dX1_raise_28 : decode cX1_raise 28 = .ok (.iconst 1, 1) := by decide +kernel
theorem dX1_raise_29 : decode cX1_raise 29 = .ok (.ireturn, 1) := by decide +kernel
abbrev cX1_withhold : ByteArray := prog_3_method_7_code
def yX1_withhold : MethodName := ⟨RX1, "withhold", "(IZ)Z"⟩
theorem dX1_withhold_0 : decode cX1_withhold 0 = .ok (.iload_n 1, 1) := by decide +kernel
theorem dX1_withhold_1 : decode cX1_withhold 1 = .ok (.ifCond .lt 9, 3) := by decide +kernel
theorem dX1_withhold_4 : decode cX1_withhold 4 = .ok (.iload_n 1, 1) := by decide +kernel
theorem dX1_withhold_5 : decode cX1_withhold 5 = .ok (.bipush 7, 2) := by decide +kernel
theorem dX1_withhold_7 : decode cX1_withhold 7 = .ok (.if_icmp .le 5, 3) := by decide +kernel
theorem dX1_withhold_10 : decode cX1_withhold 10 = .ok (.iconst 0, 1) := by decide +kernel
theorem dX1_withhold_11 : decode cX1_withhold 11 = .ok (.ireturn, 1) := by decide +kernel
theorem dX1_withhold_12 : decode cX1_withhold 12 = .ok (.aload_n 0, 1) := by decide +kernel
theorem dX1_withhold_13 : decode cX1_withhold 13 = .ok (.iload_n 2, 1) := by decide +kernel
theorem dX1_withhold_14 : decode cX1_withhold 14 = .ok (.ifCond .eq 14, 3) := by decide +kernel
theorem dX1_withhold_17 : decode cX1_withhold 17 = .ok (.aload_n 0, 1) := by decide +kernel
theorem dX1_withhold_18 : decode cX1_withhold 18 = .ok (.getfield 30, 3) := by decide +kernel
theorem dX1_withhold_21 : decode cX1_withhold 21 = .ok (.iconst 1, 1) := by decide +kernel
theorem dX1_withhold_22 : decode cX1_withhold 22 = .ok (.iload_n 1, 1) := by decide +kernel
theorem dX1_withhold_23 : decode cX1_withhold 23 = .ok (.ishl, 1) := by decide +kernel
theorem dX1_withhold_24 : decode cX1_withhold 24 = .ok (.ior, 1) := by decide +kernel
theorem dX1_withhold_25 : decode cX1_withhold 25 = .ok (.goto 13, 3) := by decide +kernel
theorem dX1_withhold_28 : decode cX1_withhold 28 = .ok (.aload_n 0, 1) := by decide +kernel
theorem dX1_withhold_29 : decode cX1_withhold 29 = .ok (.getfield 30, 3) := by decide +kernel
theorem dX1_withhold_32 : decode cX1_withhold 32 = .ok (.iconst 1, 1) := by decide +kernel
theorem dX1_withhold_33 : decode cX1_withhold 33 = .ok (.iload_n 1, 1) := by decide +kernel
theorem dX1_withhold_34 : decode cX1_withhold 34 = .ok (.ishl, 1) := by decide +kernel
theorem dX1_withhold_35 : decode cX1_withhold 35 = .ok (.iconst (-1), 1) := by decide +kernel
theorem dX1_withhold_36 : decode cX1_withhold 36 = .ok (.ixor, 1) := by decide +kernel
theorem dX1_withhold_37 : decode cX1_withhold 37 = .ok (.iand, 1) := by decide +kernel
theorem dX1_withhold_38 : decode cX1_withhold 38 = .ok (.putfield 30, 3) := by decide +kernel
theorem dX1_withhold_41 : decode cX1_withhold 41 = .ok (.iconst 1, 1) := by decide +kernel
theorem dX1_withhold_42 : decode cX1_withhold 42 = .ok (.ireturn, 1) := by decide +kernel
abbrev cX1_bids : ByteArray := prog_3_method_8_code
def yX1_bids : MethodName := ⟨RX1, "bids", "()I"⟩
theorem dX1_bids_0 : decode cX1_bids 0 = .ok (.iconst 0, 1) := by decide +kernel
theorem dX1_bids_1 : decode cX1_bids 1 = .ok (.istore_n 1, 1) := by decide +kernel
theorem dX1_bids_2 : decode cX1_bids 2 = .ok (.iconst 0, 1) := by decide +kernel
theorem dX1_bids_3 : decode cX1_bids 3 = .ok (.istore_n 2, 1) := by decide +kernel
theorem dX1_bids_4 : decode cX1_bids 4 = .ok (.iload_n 2, 1) := by decide +kernel
theorem dX1_bids_5 : decode cX1_bids 5 = .ok (.bipush 8, 2) := by decide +kernel
theorem dX1_bids_7 : decode cX1_bids 7 = .ok (.if_icmp .ge 27, 3) := by decide +kernel
theorem dX1_bids_10 : decode cX1_bids 10 = .ok (.iload_n 1, 1) := by decide +kernel
theorem dX1_bids_11 : decode cX1_bids 11 = .ok (.aload_n 0, 1) := by decide +kernel
theorem dX1_bids_12 : decode cX1_bids 12 = .ok (.iload_n 2, 1) := by decide +kernel
theorem dX1_bids_13 : decode cX1_bids 13 = .ok (.invokevirtual 27, 3) := by decide +kernel
theorem dX1_bids_16 : decode cX1_bids 16 = .ok (.ifCond .eq 9, 3) := by decide +kernel
theorem dX1_bids_19 : decode cX1_bids 19 = .ok (.iconst 1, 1) := by decide +kernel
theorem dX1_bids_20 : decode cX1_bids 20 = .ok (.iload_n 2, 1) := by decide +kernel
theorem dX1_bids_21 : decode cX1_bids 21 = .ok (.ishl, 1) := by decide +kernel
theorem dX1_bids_22 : decode cX1_bids 22 = .ok (.goto 4, 3) := by decide +kernel
theorem dX1_bids_25 : decode cX1_bids 25 = .ok (.iconst 0, 1) := by decide +kernel
theorem dX1_bids_26 : decode cX1_bids 26 = .ok (.ior, 1) := by decide +kernel
theorem dX1_bids_27 : decode cX1_bids 27 = .ok (.istore_n 1, 1) := by decide +kernel
theorem dX1_bids_28 : decode cX1_bids 28 = .ok (.iinc 2 1, 3) := by decide +kernel
theorem dX1_bids_31 : decode cX1_bids 31 = .ok (.goto (-27), 3) := by decide +kernel
theorem dX1_bids_34 : decode cX1_bids 34 = .ok (.iload_n 1, 1) := by decide +kernel
theorem dX1_bids_35 : decode cX1_bids 35 = .ok (.ireturn, 1) := by decide +kernel
abbrev cX1_withheld : ByteArray := prog_3_method_9_code
def yX1_withheld : MethodName := ⟨RX1, "withheld", "()I"⟩
theorem dX1_withheld_0 : decode cX1_withheld 0 = .ok (.aload_n 0, 1) := by decide +kernel
theorem dX1_withheld_1 : decode cX1_withheld 1 = .ok (.getfield 30, 3) := by decide +kernel
theorem dX1_withheld_4 : decode cX1_withheld 4 = .ok (.ireturn, 1) := by decide +kernel
abbrev cX1_winners : ByteArray := prog_3_method_15_code
def yX1_winners : MethodName := ⟨RX1, "winners", "()I"⟩
theorem dX1_winners_0 : decode cX1_winners 0 = .ok (.aload_n 0, 1) := by decide +kernel
theorem dX1_winners_1 : decode cX1_winners 1 = .ok (.invokevirtual 45, 3) := by decide +kernel
theorem dX1_winners_4 : decode cX1_winners 4 = .ok (.aload_n 0, 1) := by decide +kernel
theorem dX1_winners_5 : decode cX1_winners 5 = .ok (.iconst 0, 1) := by decide +kernel
theorem dX1_winners_6 : decode cX1_winners 6 = .ok (.iconst 0, 1) := by decide +kernel
theorem dX1_winners_7 : decode cX1_winners 7 = .ok (.invokevirtual 48, 3) := by decide +kernel
theorem dX1_winners_10 : decode cX1_winners 10 = .ok (.ireturn, 1) := by decide +kernel
abbrev cX1_work : ByteArray := prog_3_method_11_code
def yX1_work : MethodName := ⟨RX1, "work", "()V"⟩
theorem dX1_work_0 : decode cX1_work 0 = .ok (.iconst 0, 1) := by decide +kernel
theorem dX1_work_1 : decode cX1_work 1 = .ok (.istore_n 1, 1) := by decide +kernel
theorem dX1_work_2 : decode cX1_work 2 = .ok (.iload_n 1, 1) := by decide +kernel
theorem dX1_work_3 : decode cX1_work 3 = .ok (.sipush 256, 3) := by decide +kernel
theorem dX1_work_6 : decode cX1_work 6 = .ok (.if_icmp .ge 20, 3) := by decide +kernel
theorem dX1_work_9 : decode cX1_work 9 = .ok (.aload_n 0, 1) := by decide +kernel
theorem dX1_work_10 : decode cX1_work 10 = .ok (.getfield 19, 3) := by decide +kernel
theorem dX1_work_13 : decode cX1_work 13 = .ok (.iload_n 1, 1) := by decide +kernel
theorem dX1_work_14 : decode cX1_work 14 = .ok (.aload_n 0, 1) := by decide +kernel
theorem dX1_work_15 : decode cX1_work 15 = .ok (.iload_n 1, 1) := by decide +kernel
theorem dX1_work_16 : decode cX1_work 16 = .ok (.invokevirtual 34, 3) := by decide +kernel
theorem dX1_work_19 : decode cX1_work 19 = .ok (.bastore, 1) := by decide +kernel
theorem dX1_work_20 : decode cX1_work 20 = .ok (.iinc 1 1, 3) := by decide +kernel
theorem dX1_work_23 : decode cX1_work 23 = .ok (.goto (-21), 3) := by decide +kernel
theorem dX1_work_26 : decode cX1_work 26 = .ok (.return_, 1) := by decide +kernel
abbrev cX1_allocates : ByteArray := prog_3_method_10_code
def yX1_allocates : MethodName := ⟨RX1, "allocates", "(I)Z"⟩
theorem dX1_allocates_0 : decode cX1_allocates 0 = .ok (.iconst 1, 1) := by decide +kernel
theorem dX1_allocates_1 : decode cX1_allocates 1 = .ok (.istore_n 2, 1) := by decide +kernel
theorem dX1_allocates_2 : decode cX1_allocates 2 = .ok (.iconst 0, 1) := by decide +kernel
theorem dX1_allocates_3 : decode cX1_allocates 3 = .ok (.istore_n 3, 1) := by decide +kernel
theorem dX1_allocates_4 : decode cX1_allocates 4 = .ok (.iload_n 3, 1) := by decide +kernel
theorem dX1_allocates_5 : decode cX1_allocates 5 = .ok (.bipush 8, 2) := by decide +kernel
theorem dX1_allocates_7 : decode cX1_allocates 7 = .ok (.if_icmp .ge 147, 3) := by decide +kernel
theorem dX1_allocates_10 : decode cX1_allocates 10 = .ok (.iload_n 1, 1) := by decide +kernel
theorem dX1_allocates_11 : decode cX1_allocates 11 = .ok (.iload_n 3, 1) := by decide +kernel
theorem dX1_allocates_12 : decode cX1_allocates 12 = .ok (.ishr, 1) := by decide +kernel
theorem dX1_allocates_13 : decode cX1_allocates 13 = .ok (.iconst 1, 1) := by decide +kernel
theorem dX1_allocates_14 : decode cX1_allocates 14 = .ok (.iand, 1) := by decide +kernel
theorem dX1_allocates_15 : decode cX1_allocates 15 = .ok (.iconst 1, 1) := by decide +kernel
theorem dX1_allocates_16 : decode cX1_allocates 16 = .ok (.if_icmp .ne 7, 3) := by decide +kernel
theorem dX1_allocates_19 : decode cX1_allocates 19 = .ok (.iconst 1, 1) := by decide +kernel
theorem dX1_allocates_20 : decode cX1_allocates 20 = .ok (.goto 4, 3) := by decide +kernel
theorem dX1_allocates_23 : decode cX1_allocates 23 = .ok (.iconst 0, 1) := by decide +kernel
theorem dX1_allocates_24 : decode cX1_allocates 24 = .ok (.istore 4, 2) := by decide +kernel
theorem dX1_allocates_26 : decode cX1_allocates 26 = .ok (.iload_n 2, 1) := by decide +kernel
theorem dX1_allocates_27 : decode cX1_allocates 27 = .ok (.ifCond .eq 34, 3) := by decide +kernel
theorem dX1_allocates_30 : decode cX1_allocates 30 = .ok (.iload 4, 2) := by decide +kernel
theorem dX1_allocates_32 : decode cX1_allocates 32 = .ok (.ifCond .eq 25, 3) := by decide +kernel
theorem dX1_allocates_35 : decode cX1_allocates 35 = .ok (.aload_n 0, 1) := by decide +kernel
theorem dX1_allocates_36 : decode cX1_allocates 36 = .ok (.iload_n 3, 1) := by decide +kernel
theorem dX1_allocates_37 : decode cX1_allocates 37 = .ok (.invokevirtual 27, 3) := by decide +kernel
theorem dX1_allocates_40 : decode cX1_allocates 40 = .ok (.ifCond .eq 21, 3) := by decide +kernel
theorem dX1_allocates_43 : decode cX1_allocates 43 = .ok (.aload_n 0, 1) := by decide +kernel
theorem dX1_allocates_44 : decode cX1_allocates 44 = .ok (.getfield 7, 3) := by decide +kernel
theorem dX1_allocates_47 : decode cX1_allocates 47 = .ok (.iload_n 3, 1) := by decide +kernel
theorem dX1_allocates_48 : decode cX1_allocates 48 = .ok (.iaload, 1) := by decide +kernel
theorem dX1_allocates_49 : decode cX1_allocates 49 = .ok (.aload_n 0, 1) := by decide +kernel
theorem dX1_allocates_50 : decode cX1_allocates 50 = .ok (.getfield 30, 3) := by decide +kernel
theorem dX1_allocates_53 : decode cX1_allocates 53 = .ok (.iand, 1) := by decide +kernel
theorem dX1_allocates_54 : decode cX1_allocates 54 = .ok (.ifCond .ne 7, 3) := by decide +kernel
theorem dX1_allocates_57 : decode cX1_allocates 57 = .ok (.iconst 1, 1) := by decide +kernel
theorem dX1_allocates_58 : decode cX1_allocates 58 = .ok (.goto 4, 3) := by decide +kernel
theorem dX1_allocates_61 : decode cX1_allocates 61 = .ok (.iconst 0, 1) := by decide +kernel
theorem dX1_allocates_62 : decode cX1_allocates 62 = .ok (.istore_n 2, 1) := by decide +kernel
theorem dX1_allocates_63 : decode cX1_allocates 63 = .ok (.iconst 0, 1) := by decide +kernel
theorem dX1_allocates_64 : decode cX1_allocates 64 = .ok (.istore 5, 2) := by decide +kernel
theorem dX1_allocates_66 : decode cX1_allocates 66 = .ok (.iload 5, 2) := by decide +kernel
theorem dX1_allocates_68 : decode cX1_allocates 68 = .ok (.iload_n 3, 1) := by decide +kernel
theorem dX1_allocates_69 : decode cX1_allocates 69 = .ok (.if_icmp .ge 79, 3) := by decide +kernel
theorem dX1_allocates_72 : decode cX1_allocates 72 = .ok (.iload 4, 2) := by decide +kernel
theorem dX1_allocates_74 : decode cX1_allocates 74 = .ok (.ifCond .eq 17, 3) := by decide +kernel
theorem dX1_allocates_77 : decode cX1_allocates 77 = .ok (.iload_n 1, 1) := by decide +kernel
theorem dX1_allocates_78 : decode cX1_allocates 78 = .ok (.iload 5, 2) := by decide +kernel
theorem dX1_allocates_80 : decode cX1_allocates 80 = .ok (.ishr, 1) := by decide +kernel
theorem dX1_allocates_81 : decode cX1_allocates 81 = .ok (.iconst 1, 1) := by decide +kernel
theorem dX1_allocates_82 : decode cX1_allocates 82 = .ok (.iand, 1) := by decide +kernel
theorem dX1_allocates_83 : decode cX1_allocates 83 = .ok (.iconst 1, 1) := by decide +kernel
theorem dX1_allocates_84 : decode cX1_allocates 84 = .ok (.if_icmp .ne 7, 3) := by decide +kernel
theorem dX1_allocates_87 : decode cX1_allocates 87 = .ok (.iconst 1, 1) := by decide +kernel
theorem dX1_allocates_88 : decode cX1_allocates 88 = .ok (.goto 4, 3) := by decide +kernel
theorem dX1_allocates_91 : decode cX1_allocates 91 = .ok (.iconst 0, 1) := by decide +kernel
theorem dX1_allocates_92 : decode cX1_allocates 92 = .ok (.istore 6, 2) := by decide +kernel
theorem dX1_allocates_94 : decode cX1_allocates 94 = .ok (.iload_n 2, 1) := by decide +kernel
theorem dX1_allocates_95 : decode cX1_allocates 95 = .ok (.ifCond .eq 45, 3) := by decide +kernel
theorem dX1_allocates_98 : decode cX1_allocates 98 = .ok (.iload 6, 2) := by decide +kernel
theorem dX1_allocates_100 : decode cX1_allocates 100 = .ok (.ifCond .eq 36, 3) := by decide +kernel
theorem dX1_allocates_103 : decode cX1_allocates 103 = .ok (.aload_n 0, 1) := by decide +kernel
theorem dX1_allocates_104 : decode cX1_allocates 104 = .ok (.getfield 7, 3) := by decide +kernel
theorem dX1_allocates_107 : decode cX1_allocates 107 = .ok (.iload_n 3, 1) := by decide +kernel
theorem dX1_allocates_108 : decode cX1_allocates 108 = .ok (.iaload, 1) := by decide +kernel
theorem dX1_allocates_109 : decode cX1_allocates 109 = .ok (.aload_n 0, 1) := by decide +kernel
theorem dX1_allocates_110 : decode cX1_allocates 110 = .ok (.getfield 7, 3) := by decide +kernel
theorem dX1_allocates_113 : decode cX1_allocates 113 = .ok (.iload 5, 2) := by decide +kernel
theorem dX1_allocates_115 : decode cX1_allocates 115 = .ok (.iaload, 1) := by decide +kernel
theorem dX1_allocates_116 : decode cX1_allocates 116 = .ok (.iand, 1) := by decide +kernel
theorem dX1_allocates_117 : decode cX1_allocates 117 = .ok (.ifCond .ne 23, 3) := by decide +kernel
theorem dX1_allocates_120 : decode cX1_allocates 120 = .ok (.aload_n 0, 1) := by decide +kernel
theorem dX1_allocates_121 : decode cX1_allocates 121 = .ok (.getfield 13, 3) := by decide +kernel
theorem dX1_allocates_124 : decode cX1_allocates 124 = .ok (.iload_n 3, 1) := by decide +kernel
theorem dX1_allocates_125 : decode cX1_allocates 125 = .ok (.iaload, 1) := by decide +kernel
theorem dX1_allocates_126 : decode cX1_allocates 126 = .ok (.aload_n 0, 1) := by decide +kernel
theorem dX1_allocates_127 : decode cX1_allocates 127 = .ok (.getfield 13, 3) := by decide +kernel
theorem dX1_allocates_130 : decode cX1_allocates 130 = .ok (.iload 5, 2) := by decide +kernel
theorem dX1_allocates_132 : decode cX1_allocates 132 = .ok (.iaload, 1) := by decide +kernel
theorem dX1_allocates_133 : decode cX1_allocates 133 = .ok (.if_icmp .eq 7, 3) := by decide +kernel
theorem dX1_allocates_136 : decode cX1_allocates 136 = .ok (.iconst 1, 1) := by decide +kernel
theorem dX1_allocates_137 : decode cX1_allocates 137 = .ok (.goto 4, 3) := by decide +kernel
theorem dX1_allocates_140 : decode cX1_allocates 140 = .ok (.iconst 0, 1) := by decide +kernel
theorem dX1_allocates_141 : decode cX1_allocates 141 = .ok (.istore_n 2, 1) := by decide +kernel
theorem dX1_allocates_142 : decode cX1_allocates 142 = .ok (.iinc 5 1, 3) := by decide +kernel
theorem dX1_allocates_145 : decode cX1_allocates 145 = .ok (.goto (-79), 3) := by decide +kernel
theorem dX1_allocates_148 : decode cX1_allocates 148 = .ok (.iinc 3 1, 3) := by decide +kernel
theorem dX1_allocates_151 : decode cX1_allocates 151 = .ok (.goto (-147), 3) := by decide +kernel
theorem dX1_allocates_154 : decode cX1_allocates 154 = .ok (.iload_n 2, 1) := by decide +kernel
theorem dX1_allocates_155 : decode cX1_allocates 155 = .ok (.ireturn, 1) := by decide +kernel
abbrev cX1_best : ByteArray := prog_3_method_14_code
def yX1_best : MethodName := ⟨RX1, "best", "(II)I"⟩
theorem dX1_best_0 : decode cX1_best 0 = .ok (.iconst (-1), 1) := by decide +kernel
theorem dX1_best_1 : decode cX1_best 1 = .ok (.istore_n 3, 1) := by decide +kernel
theorem dX1_best_2 : decode cX1_best 2 = .ok (.iconst 0, 1) := by decide +kernel
theorem dX1_best_3 : decode cX1_best 3 = .ok (.istore 4, 2) := by decide +kernel
theorem dX1_best_5 : decode cX1_best 5 = .ok (.iload 4, 2) := by decide +kernel
theorem dX1_best_7 : decode cX1_best 7 = .ok (.sipush 256, 3) := by decide +kernel
theorem dX1_best_10 : decode cX1_best 10 = .ok (.if_icmp .ge 52, 3) := by decide +kernel
theorem dX1_best_13 : decode cX1_best 13 = .ok (.aload_n 0, 1) := by decide +kernel
theorem dX1_best_14 : decode cX1_best 14 = .ok (.getfield 19, 3) := by decide +kernel
theorem dX1_best_17 : decode cX1_best 17 = .ok (.iload 4, 2) := by decide +kernel
theorem dX1_best_19 : decode cX1_best 19 = .ok (.baload, 1) := by decide +kernel
theorem dX1_best_20 : decode cX1_best 20 = .ok (.ifCond .eq 36, 3) := by decide +kernel
theorem dX1_best_23 : decode cX1_best 23 = .ok (.iload_n 1, 1) := by decide +kernel
theorem dX1_best_24 : decode cX1_best 24 = .ok (.iload 4, 2) := by decide +kernel
theorem dX1_best_26 : decode cX1_best 26 = .ok (.iconst (-1), 1) := by decide +kernel
theorem dX1_best_27 : decode cX1_best 27 = .ok (.ixor, 1) := by decide +kernel
theorem dX1_best_28 : decode cX1_best 28 = .ok (.iand, 1) := by decide +kernel
theorem dX1_best_29 : decode cX1_best 29 = .ok (.ifCond .ne 27, 3) := by decide +kernel
theorem dX1_best_32 : decode cX1_best 32 = .ok (.iload_n 2, 1) := by decide +kernel
theorem dX1_best_33 : decode cX1_best 33 = .ok (.iload 4, 2) := by decide +kernel
theorem dX1_best_35 : decode cX1_best 35 = .ok (.iand, 1) := by decide +kernel
theorem dX1_best_36 : decode cX1_best 36 = .ok (.ifCond .ne 20, 3) := by decide +kernel
theorem dX1_best_39 : decode cX1_best 39 = .ok (.iload_n 3, 1) := by decide +kernel
theorem dX1_best_40 : decode cX1_best 40 = .ok (.ifCond .lt 13, 3) := by decide +kernel
theorem dX1_best_43 : decode cX1_best 43 = .ok (.aload_n 0, 1) := by decide +kernel
theorem dX1_best_44 : decode cX1_best 44 = .ok (.iload 4, 2) := by decide +kernel
theorem dX1_best_46 : decode cX1_best 46 = .ok (.iload_n 3, 1) := by decide +kernel
theorem dX1_best_47 : decode cX1_best 47 = .ok (.invokevirtual 41, 3) := by decide +kernel
theorem dX1_best_50 : decode cX1_best 50 = .ok (.ifCond .eq 6, 3) := by decide +kernel
theorem dX1_best_53 : decode cX1_best 53 = .ok (.iload 4, 2) := by decide +kernel
theorem dX1_best_55 : decode cX1_best 55 = .ok (.istore_n 3, 1) := by decide +kernel
theorem dX1_best_56 : decode cX1_best 56 = .ok (.iinc 4 1, 3) := by decide +kernel
theorem dX1_best_59 : decode cX1_best 59 = .ok (.goto (-54), 3) := by decide +kernel
theorem dX1_best_62 : decode cX1_best 62 = .ok (.iload_n 3, 1) := by decide +kernel
theorem dX1_best_63 : decode cX1_best 63 = .ok (.ireturn, 1) := by decide +kernel
abbrev cX1_before : ByteArray := prog_3_method_13_code
def yX1_before : MethodName := ⟨RX1, "before", "(II)Z"⟩
theorem dX1_before_0 : decode cX1_before 0 = .ok (.aload_n 0, 1) := by decide +kernel
theorem dX1_before_1 : decode cX1_before 1 = .ok (.iload_n 1, 1) := by decide +kernel
theorem dX1_before_2 : decode cX1_before 2 = .ok (.invokevirtual 37, 3) := by decide +kernel
theorem dX1_before_5 : decode cX1_before 5 = .ok (.istore_n 3, 1) := by decide +kernel
theorem dX1_before_6 : decode cX1_before 6 = .ok (.aload_n 0, 1) := by decide +kernel
theorem dX1_before_7 : decode cX1_before 7 = .ok (.iload_n 2, 1) := by decide +kernel
theorem dX1_before_8 : decode cX1_before 8 = .ok (.invokevirtual 37, 3) := by decide +kernel
theorem dX1_before_11 : decode cX1_before 11 = .ok (.istore 4, 2) := by decide +kernel
theorem dX1_before_13 : decode cX1_before 13 = .ok (.iload_n 3, 1) := by decide +kernel
theorem dX1_before_14 : decode cX1_before 14 = .ok (.iload 4, 2) := by decide +kernel
theorem dX1_before_16 : decode cX1_before 16 = .ok (.if_icmp .eq 15, 3) := by decide +kernel
theorem dX1_before_19 : decode cX1_before 19 = .ok (.iload_n 3, 1) := by decide +kernel
theorem dX1_before_20 : decode cX1_before 20 = .ok (.iload 4, 2) := by decide +kernel
theorem dX1_before_22 : decode cX1_before 22 = .ok (.if_icmp .le 7, 3) := by decide +kernel
theorem dX1_before_25 : decode cX1_before 25 = .ok (.iconst 1, 1) := by decide +kernel
theorem dX1_before_26 : decode cX1_before 26 = .ok (.goto 4, 3) := by decide +kernel
theorem dX1_before_29 : decode cX1_before 29 = .ok (.iconst 0, 1) := by decide +kernel
theorem dX1_before_30 : decode cX1_before 30 = .ok (.ireturn, 1) := by decide +kernel
theorem dX1_before_31 : decode cX1_before 31 = .ok (.iconst 0, 1) := by decide +kernel
theorem dX1_before_32 : decode cX1_before 32 = .ok (.istore 5, 2) := by decide +kernel
theorem dX1_before_34 : decode cX1_before 34 = .ok (.iload 5, 2) := by decide +kernel
theorem dX1_before_36 : decode cX1_before 36 = .ok (.bipush 8, 2) := by decide +kernel
theorem dX1_before_38 : decode cX1_before 38 = .ok (.if_icmp .ge 40, 3) := by decide +kernel
theorem dX1_before_41 : decode cX1_before 41 = .ok (.iload_n 1, 1) := by decide +kernel
theorem dX1_before_42 : decode cX1_before 42 = .ok (.iload 5, 2) := by decide +kernel
theorem dX1_before_44 : decode cX1_before 44 = .ok (.ishr, 1) := by decide +kernel
theorem dX1_before_45 : decode cX1_before 45 = .ok (.iconst 1, 1) := by decide +kernel
theorem dX1_before_46 : decode cX1_before 46 = .ok (.iand, 1) := by decide +kernel
theorem dX1_before_47 : decode cX1_before 47 = .ok (.iload_n 2, 1) := by decide +kernel
theorem dX1_before_48 : decode cX1_before 48 = .ok (.iload 5, 2) := by decide +kernel
theorem dX1_before_50 : decode cX1_before 50 = .ok (.ishr, 1) := by decide +kernel
theorem dX1_before_51 : decode cX1_before 51 = .ok (.iconst 1, 1) := by decide +kernel
theorem dX1_before_52 : decode cX1_before 52 = .ok (.iand, 1) := by decide +kernel
theorem dX1_before_53 : decode cX1_before 53 = .ok (.if_icmp .eq 19, 3) := by decide +kernel
theorem dX1_before_56 : decode cX1_before 56 = .ok (.iload_n 1, 1) := by decide +kernel
theorem dX1_before_57 : decode cX1_before 57 = .ok (.iload 5, 2) := by decide +kernel
theorem dX1_before_59 : decode cX1_before 59 = .ok (.ishr, 1) := by decide +kernel
theorem dX1_before_60 : decode cX1_before 60 = .ok (.iconst 1, 1) := by decide +kernel
theorem dX1_before_61 : decode cX1_before 61 = .ok (.iand, 1) := by decide +kernel
theorem dX1_before_62 : decode cX1_before 62 = .ok (.iconst 1, 1) := by decide +kernel
theorem dX1_before_63 : decode cX1_before 63 = .ok (.if_icmp .ne 7, 3) := by decide +kernel
theorem dX1_before_66 : decode cX1_before 66 = .ok (.iconst 1, 1) := by decide +kernel
theorem dX1_before_67 : decode cX1_before 67 = .ok (.goto 4, 3) := by decide +kernel
theorem dX1_before_70 : decode cX1_before 70 = .ok (.iconst 0, 1) := by decide +kernel
theorem dX1_before_71 : decode cX1_before 71 = .ok (.ireturn, 1) := by decide +kernel
theorem dX1_before_72 : decode cX1_before 72 = .ok (.iinc 5 1, 3) := by decide +kernel
theorem dX1_before_75 : decode cX1_before 75 = .ok (.goto (-41), 3) := by decide +kernel
theorem dX1_before_78 : decode cX1_before 78 = .ok (.iconst 0, 1) := by decide +kernel
theorem dX1_before_79 : decode cX1_before 79 = .ok (.ireturn, 1) := by decide +kernel
abbrev cX1_sum : ByteArray := prog_3_method_12_code
def yX1_sum : MethodName := ⟨RX1, "sum", "(I)I"⟩
theorem dX1_sum_0 : decode cX1_sum 0 = .ok (.iconst 0, 1) := by decide +kernel
theorem dX1_sum_1 : decode cX1_sum 1 = .ok (.istore_n 2, 1) := by decide +kernel
theorem dX1_sum_2 : decode cX1_sum 2 = .ok (.iconst 0, 1) := by decide +kernel
theorem dX1_sum_3 : decode cX1_sum 3 = .ok (.istore_n 3, 1) := by decide +kernel
theorem dX1_sum_4 : decode cX1_sum 4 = .ok (.iload_n 3, 1) := by decide +kernel
theorem dX1_sum_5 : decode cX1_sum 5 = .ok (.bipush 8, 2) := by decide +kernel
theorem dX1_sum_7 : decode cX1_sum 7 = .ok (.if_icmp .ge 31, 3) := by decide +kernel
theorem dX1_sum_10 : decode cX1_sum 10 = .ok (.iload_n 2, 1) := by decide +kernel
theorem dX1_sum_11 : decode cX1_sum 11 = .ok (.iload_n 1, 1) := by decide +kernel
theorem dX1_sum_12 : decode cX1_sum 12 = .ok (.iload_n 3, 1) := by decide +kernel
theorem dX1_sum_13 : decode cX1_sum 13 = .ok (.ishr, 1) := by decide +kernel
theorem dX1_sum_14 : decode cX1_sum 14 = .ok (.iconst 1, 1) := by decide +kernel
theorem dX1_sum_15 : decode cX1_sum 15 = .ok (.iand, 1) := by decide +kernel
theorem dX1_sum_16 : decode cX1_sum 16 = .ok (.iconst 1, 1) := by decide +kernel
theorem dX1_sum_17 : decode cX1_sum 17 = .ok (.if_icmp .ne 12, 3) := by decide +kernel
theorem dX1_sum_20 : decode cX1_sum 20 = .ok (.aload_n 0, 1) := by decide +kernel
theorem dX1_sum_21 : decode cX1_sum 21 = .ok (.getfield 16, 3) := by decide +kernel
theorem dX1_sum_24 : decode cX1_sum 24 = .ok (.iload_n 3, 1) := by decide +kernel
theorem dX1_sum_25 : decode cX1_sum 25 = .ok (.iaload, 1) := by decide +kernel
theorem dX1_sum_26 : decode cX1_sum 26 = .ok (.goto 4, 3) := by decide +kernel
theorem dX1_sum_29 : decode cX1_sum 29 = .ok (.iconst 0, 1) := by decide +kernel
theorem dX1_sum_30 : decode cX1_sum 30 = .ok (.iadd, 1) := by decide +kernel
theorem dX1_sum_31 : decode cX1_sum 31 = .ok (.istore_n 2, 1) := by decide +kernel
theorem dX1_sum_32 : decode cX1_sum 32 = .ok (.iinc 3 1, 3) := by decide +kernel
theorem dX1_sum_35 : decode cX1_sum 35 = .ok (.goto (-31), 3) := by decide +kernel
theorem dX1_sum_38 : decode cX1_sum 38 = .ok (.iload_n 2, 1) := by decide +kernel
theorem dX1_sum_39 : decode cX1_sum 39 = .ok (.ireturn, 1) := by decide +kernel
abbrev cX1_revenue : ByteArray := prog_3_method_16_code
def yX1_revenue : MethodName := ⟨RX1, "revenue", "()I"⟩
theorem dX1_revenue_0 : decode cX1_revenue 0 = .ok (.aload_n 0, 1) := by decide +kernel
theorem dX1_revenue_1 : decode cX1_revenue 1 = .ok (.invokevirtual 52, 3) := by decide +kernel
theorem dX1_revenue_4 : decode cX1_revenue 4 = .ok (.istore_n 1, 1) := by decide +kernel
theorem dX1_revenue_5 : decode cX1_revenue 5 = .ok (.aload_n 0, 1) := by decide +kernel
theorem dX1_revenue_6 : decode cX1_revenue 6 = .ok (.iload_n 1, 1) := by decide +kernel
theorem dX1_revenue_7 : decode cX1_revenue 7 = .ok (.invokevirtual 37, 3) := by decide +kernel
theorem dX1_revenue_10 : decode cX1_revenue 10 = .ok (.ireturn, 1) := by decide +kernel
abbrev cX1_sold : ByteArray := prog_3_method_17_code
def yX1_sold : MethodName := ⟨RX1, "sold", "()I"⟩
theorem dX1_sold_0 : decode cX1_sold 0 = .ok (.aload_n 0, 1) := by decide +kernel
theorem dX1_sold_1 : decode cX1_sold 1 = .ok (.invokevirtual 52, 3) := by decide +kernel
theorem dX1_sold_4 : decode cX1_sold 4 = .ok (.istore_n 1, 1) := by decide +kernel
theorem dX1_sold_5 : decode cX1_sold 5 = .ok (.iconst 0, 1) := by decide +kernel
theorem dX1_sold_6 : decode cX1_sold 6 = .ok (.istore_n 2, 1) := by decide +kernel
theorem dX1_sold_7 : decode cX1_sold 7 = .ok (.iconst 0, 1) := by decide +kernel
theorem dX1_sold_8 : decode cX1_sold 8 = .ok (.istore_n 3, 1) := by decide +kernel
theorem dX1_sold_9 : decode cX1_sold 9 = .ok (.iload_n 3, 1) := by decide +kernel
theorem dX1_sold_10 : decode cX1_sold 10 = .ok (.bipush 8, 2) := by decide +kernel
theorem dX1_sold_12 : decode cX1_sold 12 = .ok (.if_icmp .ge 31, 3) := by decide +kernel
theorem dX1_sold_15 : decode cX1_sold 15 = .ok (.iload_n 1, 1) := by decide +kernel
theorem dX1_sold_16 : decode cX1_sold 16 = .ok (.iload_n 3, 1) := by decide +kernel
theorem dX1_sold_17 : decode cX1_sold 17 = .ok (.ishr, 1) := by decide +kernel
theorem dX1_sold_18 : decode cX1_sold 18 = .ok (.iconst 1, 1) := by decide +kernel
theorem dX1_sold_19 : decode cX1_sold 19 = .ok (.iand, 1) := by decide +kernel
theorem dX1_sold_20 : decode cX1_sold 20 = .ok (.iconst 1, 1) := by decide +kernel
theorem dX1_sold_21 : decode cX1_sold 21 = .ok (.if_icmp .ne 14, 3) := by decide +kernel
theorem dX1_sold_24 : decode cX1_sold 24 = .ok (.iload_n 2, 1) := by decide +kernel
theorem dX1_sold_25 : decode cX1_sold 25 = .ok (.aload_n 0, 1) := by decide +kernel
theorem dX1_sold_26 : decode cX1_sold 26 = .ok (.getfield 7, 3) := by decide +kernel
theorem dX1_sold_29 : decode cX1_sold 29 = .ok (.iload_n 3, 1) := by decide +kernel
theorem dX1_sold_30 : decode cX1_sold 30 = .ok (.iaload, 1) := by decide +kernel
theorem dX1_sold_31 : decode cX1_sold 31 = .ok (.ior, 1) := by decide +kernel
theorem dX1_sold_32 : decode cX1_sold 32 = .ok (.goto 4, 3) := by decide +kernel
theorem dX1_sold_35 : decode cX1_sold 35 = .ok (.iload_n 2, 1) := by decide +kernel
theorem dX1_sold_36 : decode cX1_sold 36 = .ok (.istore_n 2, 1) := by decide +kernel
theorem dX1_sold_37 : decode cX1_sold 37 = .ok (.iinc 3 1, 3) := by decide +kernel
theorem dX1_sold_40 : decode cX1_sold 40 = .ok (.goto (-31), 3) := by decide +kernel
theorem dX1_sold_43 : decode cX1_sold 43 = .ok (.iload_n 2, 1) := by decide +kernel
theorem dX1_sold_44 : decode cX1_sold 44 = .ok (.ireturn, 1) := by decide +kernel
abbrev cX1_revenueWithout : ByteArray := prog_3_method_19_code
def yX1_revenueWithout : MethodName := ⟨RX1, "revenueWithout", "(I)I"⟩
theorem dX1_revenueWithout_0 : decode cX1_revenueWithout 0 = .ok (.aload_n 0, 1) := by decide +kernel
theorem dX1_revenueWithout_1 : decode cX1_revenueWithout 1 = .ok (.iload_n 1, 1) := by decide +kernel
theorem dX1_revenueWithout_2 : decode cX1_revenueWithout 2 = .ok (.invokevirtual 23, 3) := by decide +kernel
theorem dX1_revenueWithout_5 : decode cX1_revenueWithout 5 = .ok (.ifCond .ne 5, 3) := by decide +kernel
theorem dX1_revenueWithout_8 : decode cX1_revenueWithout 8 = .ok (.iconst (-1), 1) := by decide +kernel
theorem dX1_revenueWithout_9 : decode cX1_revenueWithout 9 = .ok (.ireturn, 1) := by decide +kernel
theorem dX1_revenueWithout_10 : decode cX1_revenueWithout 10 = .ok (.aload_n 0, 1) := by decide +kernel
theorem dX1_revenueWithout_11 : decode cX1_revenueWithout 11 = .ok (.invokevirtual 45, 3) := by decide +kernel
theorem dX1_revenueWithout_14 : decode cX1_revenueWithout 14 = .ok (.aload_n 0, 1) := by decide +kernel
theorem dX1_revenueWithout_15 : decode cX1_revenueWithout 15 = .ok (.iconst 0, 1) := by decide +kernel
theorem dX1_revenueWithout_16 : decode cX1_revenueWithout 16 = .ok (.aload_n 0, 1) := by decide +kernel
theorem dX1_revenueWithout_17 : decode cX1_revenueWithout 17 = .ok (.iload_n 1, 1) := by decide +kernel
theorem dX1_revenueWithout_18 : decode cX1_revenueWithout 18 = .ok (.invokevirtual 56, 3) := by decide +kernel
theorem dX1_revenueWithout_21 : decode cX1_revenueWithout 21 = .ok (.invokevirtual 48, 3) := by decide +kernel
theorem dX1_revenueWithout_24 : decode cX1_revenueWithout 24 = .ok (.istore_n 2, 1) := by decide +kernel
theorem dX1_revenueWithout_25 : decode cX1_revenueWithout 25 = .ok (.aload_n 0, 1) := by decide +kernel
theorem dX1_revenueWithout_26 : decode cX1_revenueWithout 26 = .ok (.iload_n 2, 1) := by decide +kernel
theorem dX1_revenueWithout_27 : decode cX1_revenueWithout 27 = .ok (.invokevirtual 37, 3) := by decide +kernel
theorem dX1_revenueWithout_30 : decode cX1_revenueWithout 30 = .ok (.ireturn, 1) := by decide +kernel
abbrev cX1_of : ByteArray := prog_3_method_18_code
def yX1_of : MethodName := ⟨RX1, "of", "(I)I"⟩
theorem dX1_of_0 : decode cX1_of 0 = .ok (.iconst 0, 1) := by decide +kernel
theorem dX1_of_1 : decode cX1_of 1 = .ok (.istore_n 2, 1) := by decide +kernel
theorem dX1_of_2 : decode cX1_of 2 = .ok (.iconst 0, 1) := by decide +kernel
theorem dX1_of_3 : decode cX1_of 3 = .ok (.istore_n 3, 1) := by decide +kernel
theorem dX1_of_4 : decode cX1_of 4 = .ok (.iload_n 3, 1) := by decide +kernel
theorem dX1_of_5 : decode cX1_of 5 = .ok (.bipush 8, 2) := by decide +kernel
theorem dX1_of_7 : decode cX1_of 7 = .ok (.if_icmp .ge 37, 3) := by decide +kernel
theorem dX1_of_10 : decode cX1_of 10 = .ok (.iload_n 2, 1) := by decide +kernel
theorem dX1_of_11 : decode cX1_of 11 = .ok (.aload_n 0, 1) := by decide +kernel
theorem dX1_of_12 : decode cX1_of 12 = .ok (.iload_n 3, 1) := by decide +kernel
theorem dX1_of_13 : decode cX1_of 13 = .ok (.invokevirtual 27, 3) := by decide +kernel
theorem dX1_of_16 : decode cX1_of 16 = .ok (.ifCond .eq 19, 3) := by decide +kernel
theorem dX1_of_19 : decode cX1_of 19 = .ok (.aload_n 0, 1) := by decide +kernel
theorem dX1_of_20 : decode cX1_of 20 = .ok (.getfield 13, 3) := by decide +kernel
theorem dX1_of_23 : decode cX1_of 23 = .ok (.iload_n 3, 1) := by decide +kernel
theorem dX1_of_24 : decode cX1_of 24 = .ok (.iaload, 1) := by decide +kernel
theorem dX1_of_25 : decode cX1_of 25 = .ok (.iload_n 1, 1) := by decide +kernel
theorem dX1_of_26 : decode cX1_of 26 = .ok (.if_icmp .ne 9, 3) := by decide +kernel
theorem dX1_of_29 : decode cX1_of 29 = .ok (.iconst 1, 1) := by decide +kernel
theorem dX1_of_30 : decode cX1_of 30 = .ok (.iload_n 3, 1) := by decide +kernel
theorem dX1_of_31 : decode cX1_of 31 = .ok (.ishl, 1) := by decide +kernel
theorem dX1_of_32 : decode cX1_of 32 = .ok (.goto 4, 3) := by decide +kernel
theorem dX1_of_35 : decode cX1_of 35 = .ok (.iconst 0, 1) := by decide +kernel
theorem dX1_of_36 : decode cX1_of 36 = .ok (.ior, 1) := by decide +kernel
theorem dX1_of_37 : decode cX1_of 37 = .ok (.istore_n 2, 1) := by decide +kernel
theorem dX1_of_38 : decode cX1_of 38 = .ok (.iinc 3 1, 3) := by decide +kernel
theorem dX1_of_41 : decode cX1_of 41 = .ok (.goto (-37), 3) := by decide +kernel
theorem dX1_of_44 : decode cX1_of 44 = .ok (.iload_n 2, 1) := by decide +kernel
theorem dX1_of_45 : decode cX1_of 45 = .ok (.ireturn, 1) := by decide +kernel
abbrev cX1_payment : ByteArray := prog_3_method_20_code
def yX1_payment : MethodName := ⟨RX1, "payment", "(I)I"⟩
theorem dX1_payment_0 : decode cX1_payment 0 = .ok (.aload_n 0, 1) := by decide +kernel
theorem dX1_payment_1 : decode cX1_payment 1 = .ok (.iload_n 1, 1) := by decide +kernel
theorem dX1_payment_2 : decode cX1_payment 2 = .ok (.invokevirtual 23, 3) := by decide +kernel
theorem dX1_payment_5 : decode cX1_payment 5 = .ok (.ifCond .ne 5, 3) := by decide +kernel
theorem dX1_payment_8 : decode cX1_payment 8 = .ok (.iconst (-1), 1) := by decide +kernel
theorem dX1_payment_9 : decode cX1_payment 9 = .ok (.ireturn, 1) := by decide +kernel
theorem dX1_payment_10 : decode cX1_payment 10 = .ok (.aload_n 0, 1) := by decide +kernel
theorem dX1_payment_11 : decode cX1_payment 11 = .ok (.invokevirtual 52, 3) := by decide +kernel
theorem dX1_payment_14 : decode cX1_payment 14 = .ok (.istore_n 2, 1) := by decide +kernel
theorem dX1_payment_15 : decode cX1_payment 15 = .ok (.iload_n 2, 1) := by decide +kernel
theorem dX1_payment_16 : decode cX1_payment 16 = .ok (.aload_n 0, 1) := by decide +kernel
theorem dX1_payment_17 : decode cX1_payment 17 = .ok (.iload_n 1, 1) := by decide +kernel
theorem dX1_payment_18 : decode cX1_payment 18 = .ok (.invokevirtual 56, 3) := by decide +kernel
theorem dX1_payment_21 : decode cX1_payment 21 = .ok (.iand, 1) := by decide +kernel
theorem dX1_payment_22 : decode cX1_payment 22 = .ok (.istore_n 3, 1) := by decide +kernel
theorem dX1_payment_23 : decode cX1_payment 23 = .ok (.iload_n 3, 1) := by decide +kernel
theorem dX1_payment_24 : decode cX1_payment 24 = .ok (.ifCond .ne 7, 3) := by decide +kernel
theorem dX1_payment_27 : decode cX1_payment 27 = .ok (.iconst 0, 1) := by decide +kernel
theorem dX1_payment_28 : decode cX1_payment 28 = .ok (.goto 20, 3) := by decide +kernel
theorem dX1_payment_31 : decode cX1_payment 31 = .ok (.aload_n 0, 1) := by decide +kernel
theorem dX1_payment_32 : decode cX1_payment 32 = .ok (.iload_n 1, 1) := by decide +kernel
theorem dX1_payment_33 : decode cX1_payment 33 = .ok (.invokevirtual 59, 3) := by decide +kernel
theorem dX1_payment_36 : decode cX1_payment 36 = .ok (.aload_n 0, 1) := by decide +kernel
theorem dX1_payment_37 : decode cX1_payment 37 = .ok (.iload_n 2, 1) := by decide +kernel
theorem dX1_payment_38 : decode cX1_payment 38 = .ok (.invokevirtual 37, 3) := by decide +kernel
theorem dX1_payment_41 : decode cX1_payment 41 = .ok (.aload_n 0, 1) := by decide +kernel
theorem dX1_payment_42 : decode cX1_payment 42 = .ok (.iload_n 3, 1) := by decide +kernel
theorem dX1_payment_43 : decode cX1_payment 43 = .ok (.invokevirtual 37, 3) := by decide +kernel
theorem dX1_payment_46 : decode cX1_payment 46 = .ok (.isub, 1) := by decide +kernel
theorem dX1_payment_47 : decode cX1_payment 47 = .ok (.isub, 1) := by decide +kernel
theorem dX1_payment_48 : decode cX1_payment 48 = .ok (.ireturn, 1) := by decide +kernel
abbrev cX1_threshold : ByteArray := prog_3_method_21_code
def yX1_threshold : MethodName := ⟨RX1, "threshold", "(I)I"⟩
theorem dX1_threshold_0 : decode cX1_threshold 0 = .ok (.aload_n 0, 1) := by decide +kernel
theorem dX1_threshold_1 : decode cX1_threshold 1 = .ok (.iload_n 1, 1) := by decide +kernel
theorem dX1_threshold_2 : decode cX1_threshold 2 = .ok (.invokevirtual 27, 3) := by decide +kernel
theorem dX1_threshold_5 : decode cX1_threshold 5 = .ok (.ifCond .ne 5, 3) := by decide +kernel
theorem dX1_threshold_8 : decode cX1_threshold 8 = .ok (.iconst (-1), 1) := by decide +kernel
theorem dX1_threshold_9 : decode cX1_threshold 9 = .ok (.ireturn, 1) := by decide +kernel
theorem dX1_threshold_10 : decode cX1_threshold 10 = .ok (.aload_n 0, 1) := by decide +kernel
theorem dX1_threshold_11 : decode cX1_threshold 11 = .ok (.invokevirtual 45, 3) := by decide +kernel
theorem dX1_threshold_14 : decode cX1_threshold 14 = .ok (.aload_n 0, 1) := by decide +kernel
theorem dX1_threshold_15 : decode cX1_threshold 15 = .ok (.getfield 16, 3) := by decide +kernel
theorem dX1_threshold_18 : decode cX1_threshold 18 = .ok (.iload_n 1, 1) := by decide +kernel
theorem dX1_threshold_19 : decode cX1_threshold 19 = .ok (.iaload, 1) := by decide +kernel
theorem dX1_threshold_20 : decode cX1_threshold 20 = .ok (.istore_n 2, 1) := by decide +kernel
theorem dX1_threshold_21 : decode cX1_threshold 21 = .ok (.bipush 51, 2) := by decide +kernel
theorem dX1_threshold_23 : decode cX1_threshold 23 = .ok (.istore_n 3, 1) := by decide +kernel
theorem dX1_threshold_24 : decode cX1_threshold 24 = .ok (.bipush 50, 2) := by decide +kernel
theorem dX1_threshold_26 : decode cX1_threshold 26 = .ok (.istore 4, 2) := by decide +kernel
theorem dX1_threshold_28 : decode cX1_threshold 28 = .ok (.iload 4, 2) := by decide +kernel
theorem dX1_threshold_30 : decode cX1_threshold 30 = .ok (.iconst 1, 1) := by decide +kernel
theorem dX1_threshold_31 : decode cX1_threshold 31 = .ok (.if_icmp .lt 38, 3) := by decide +kernel
theorem dX1_threshold_34 : decode cX1_threshold 34 = .ok (.aload_n 0, 1) := by decide +kernel
theorem dX1_threshold_35 : decode cX1_threshold 35 = .ok (.getfield 16, 3) := by decide +kernel
theorem dX1_threshold_38 : decode cX1_threshold 38 = .ok (.iload_n 1, 1) := by decide +kernel
theorem dX1_threshold_39 : decode cX1_threshold 39 = .ok (.iload 4, 2) := by decide +kernel
theorem dX1_threshold_41 : decode cX1_threshold 41 = .ok (.iastore, 1) := by decide +kernel
theorem dX1_threshold_42 : decode cX1_threshold 42 = .ok (.aload_n 0, 1) := by decide +kernel
theorem dX1_threshold_43 : decode cX1_threshold 43 = .ok (.iconst 0, 1) := by decide +kernel
theorem dX1_threshold_44 : decode cX1_threshold 44 = .ok (.iconst 0, 1) := by decide +kernel
theorem dX1_threshold_45 : decode cX1_threshold 45 = .ok (.invokevirtual 48, 3) := by decide +kernel
theorem dX1_threshold_48 : decode cX1_threshold 48 = .ok (.iload_n 1, 1) := by decide +kernel
theorem dX1_threshold_49 : decode cX1_threshold 49 = .ok (.ishr, 1) := by decide +kernel
theorem dX1_threshold_50 : decode cX1_threshold 50 = .ok (.iconst 1, 1) := by decide +kernel
theorem dX1_threshold_51 : decode cX1_threshold 51 = .ok (.iand, 1) := by decide +kernel
theorem dX1_threshold_52 : decode cX1_threshold 52 = .ok (.iconst 1, 1) := by decide +kernel
theorem dX1_threshold_53 : decode cX1_threshold 53 = .ok (.if_icmp .ne 8, 3) := by decide +kernel
theorem dX1_threshold_56 : decode cX1_threshold 56 = .ok (.iload 4, 2) := by decide +kernel
theorem dX1_threshold_58 : decode cX1_threshold 58 = .ok (.goto 4, 3) := by decide +kernel
theorem dX1_threshold_61 : decode cX1_threshold 61 = .ok (.iload_n 3, 1) := by decide +kernel
theorem dX1_threshold_62 : decode cX1_threshold 62 = .ok (.istore_n 3, 1) := by decide +kernel
theorem dX1_threshold_63 : decode cX1_threshold 63 = .ok (.iinc 4 (-1), 3) := by decide +kernel
theorem dX1_threshold_66 : decode cX1_threshold 66 = .ok (.goto (-38), 3) := by decide +kernel
theorem dX1_threshold_69 : decode cX1_threshold 69 = .ok (.aload_n 0, 1) := by decide +kernel
theorem dX1_threshold_70 : decode cX1_threshold 70 = .ok (.getfield 16, 3) := by decide +kernel
theorem dX1_threshold_73 : decode cX1_threshold 73 = .ok (.iload_n 1, 1) := by decide +kernel
theorem dX1_threshold_74 : decode cX1_threshold 74 = .ok (.iload_n 2, 1) := by decide +kernel
theorem dX1_threshold_75 : decode cX1_threshold 75 = .ok (.iastore, 1) := by decide +kernel
theorem dX1_threshold_76 : decode cX1_threshold 76 = .ok (.iload_n 3, 1) := by decide +kernel
theorem dX1_threshold_77 : decode cX1_threshold 77 = .ok (.ireturn, 1) := by decide +kernel
abbrev cX1_revenueWith : ByteArray := prog_3_method_22_code
def yX1_revenueWith : MethodName := ⟨RX1, "revenueWith", "(I)I"⟩
theorem dX1_revenueWith_0 : decode cX1_revenueWith 0 = .ok (.aload_n 0, 1) := by decide +kernel
theorem dX1_revenueWith_1 : decode cX1_revenueWith 1 = .ok (.iload_n 1, 1) := by decide +kernel
theorem dX1_revenueWith_2 : decode cX1_revenueWith 2 = .ok (.invokevirtual 27, 3) := by decide +kernel
theorem dX1_revenueWith_5 : decode cX1_revenueWith 5 = .ok (.ifCond .ne 5, 3) := by decide +kernel
theorem dX1_revenueWith_8 : decode cX1_revenueWith 8 = .ok (.iconst (-1), 1) := by decide +kernel
theorem dX1_revenueWith_9 : decode cX1_revenueWith 9 = .ok (.ireturn, 1) := by decide +kernel
theorem dX1_revenueWith_10 : decode cX1_revenueWith 10 = .ok (.aload_n 0, 1) := by decide +kernel
theorem dX1_revenueWith_11 : decode cX1_revenueWith 11 = .ok (.invokevirtual 45, 3) := by decide +kernel
theorem dX1_revenueWith_14 : decode cX1_revenueWith 14 = .ok (.aload_n 0, 1) := by decide +kernel
theorem dX1_revenueWith_15 : decode cX1_revenueWith 15 = .ok (.iconst 1, 1) := by decide +kernel
theorem dX1_revenueWith_16 : decode cX1_revenueWith 16 = .ok (.iload_n 1, 1) := by decide +kernel
theorem dX1_revenueWith_17 : decode cX1_revenueWith 17 = .ok (.ishl, 1) := by decide +kernel
theorem dX1_revenueWith_18 : decode cX1_revenueWith 18 = .ok (.iconst 0, 1) := by decide +kernel
theorem dX1_revenueWith_19 : decode cX1_revenueWith 19 = .ok (.invokevirtual 48, 3) := by decide +kernel
theorem dX1_revenueWith_22 : decode cX1_revenueWith 22 = .ok (.istore_n 2, 1) := by decide +kernel
theorem dX1_revenueWith_23 : decode cX1_revenueWith 23 = .ok (.iload_n 2, 1) := by decide +kernel
theorem dX1_revenueWith_24 : decode cX1_revenueWith 24 = .ok (.ifCond .ge 7, 3) := by decide +kernel
theorem dX1_revenueWith_27 : decode cX1_revenueWith 27 = .ok (.iconst (-1), 1) := by decide +kernel
theorem dX1_revenueWith_28 : decode cX1_revenueWith 28 = .ok (.goto 8, 3) := by decide +kernel
theorem dX1_revenueWith_31 : decode cX1_revenueWith 31 = .ok (.aload_n 0, 1) := by decide +kernel
theorem dX1_revenueWith_32 : decode cX1_revenueWith 32 = .ok (.iload_n 2, 1) := by decide +kernel
theorem dX1_revenueWith_33 : decode cX1_revenueWith 33 = .ok (.invokevirtual 37, 3) := by decide +kernel
theorem dX1_revenueWith_36 : decode cX1_revenueWith 36 = .ok (.ireturn, 1) := by decide +kernel
abbrev cX1_price : ByteArray := prog_3_method_23_code
def yX1_price : MethodName := ⟨RX1, "price", "(I)I"⟩
theorem dX1_price_0 : decode cX1_price 0 = .ok (.iload_n 1, 1) := by decide +kernel
theorem dX1_price_1 : decode cX1_price 1 = .ok (.ifCond .lt 9, 3) := by decide +kernel
theorem dX1_price_4 : decode cX1_price 4 = .ok (.iload_n 1, 1) := by decide +kernel
theorem dX1_price_5 : decode cX1_price 5 = .ok (.bipush 7, 2) := by decide +kernel
theorem dX1_price_7 : decode cX1_price 7 = .ok (.if_icmp .le 5, 3) := by decide +kernel
theorem dX1_price_10 : decode cX1_price 10 = .ok (.iconst (-1), 1) := by decide +kernel
theorem dX1_price_11 : decode cX1_price 11 = .ok (.ireturn, 1) := by decide +kernel
theorem dX1_price_12 : decode cX1_price 12 = .ok (.aload_n 0, 1) := by decide +kernel
theorem dX1_price_13 : decode cX1_price 13 = .ok (.invokevirtual 62, 3) := by decide +kernel
theorem dX1_price_16 : decode cX1_price 16 = .ok (.istore_n 2, 1) := by decide +kernel
theorem dX1_price_17 : decode cX1_price 17 = .ok (.aload_n 0, 1) := by decide +kernel
theorem dX1_price_18 : decode cX1_price 18 = .ok (.getfield 30, 3) := by decide +kernel
theorem dX1_price_21 : decode cX1_price 21 = .ok (.istore_n 3, 1) := by decide +kernel
theorem dX1_price_22 : decode cX1_price 22 = .ok (.aload_n 0, 1) := by decide +kernel
theorem dX1_price_23 : decode cX1_price 23 = .ok (.aload_n 0, 1) := by decide +kernel
theorem dX1_price_24 : decode cX1_price 24 = .ok (.getfield 30, 3) := by decide +kernel
theorem dX1_price_27 : decode cX1_price 27 = .ok (.iconst 1, 1) := by decide +kernel
theorem dX1_price_28 : decode cX1_price 28 = .ok (.iload_n 1, 1) := by decide +kernel
theorem dX1_price_29 : decode cX1_price 29 = .ok (.ishl, 1) := by decide +kernel
theorem dX1_price_30 : decode cX1_price 30 = .ok (.ior, 1) := by decide +kernel
theorem dX1_price_31 : decode cX1_price 31 = .ok (.putfield 30, 3) := by decide +kernel
theorem dX1_price_34 : decode cX1_price 34 = .ok (.aload_n 0, 1) := by decide +kernel
theorem dX1_price_35 : decode cX1_price 35 = .ok (.invokevirtual 62, 3) := by decide +kernel
theorem dX1_price_38 : decode cX1_price 38 = .ok (.istore 4, 2) := by decide +kernel
theorem dX1_price_40 : decode cX1_price 40 = .ok (.aload_n 0, 1) := by decide +kernel
theorem dX1_price_41 : decode cX1_price 41 = .ok (.iload_n 3, 1) := by decide +kernel
theorem dX1_price_42 : decode cX1_price 42 = .ok (.putfield 30, 3) := by decide +kernel
theorem dX1_price_45 : decode cX1_price 45 = .ok (.iload_n 2, 1) := by decide +kernel
theorem dX1_price_46 : decode cX1_price 46 = .ok (.iload 4, 2) := by decide +kernel
theorem dX1_price_48 : decode cX1_price 48 = .ok (.isub, 1) := by decide +kernel
theorem dX1_price_49 : decode cX1_price 49 = .ok (.ireturn, 1) := by decide +kernel
abbrev cX1_allocation : ByteArray := prog_3_method_24_code
def yX1_allocation : MethodName := ⟨RX1, "allocation", "(I)Z"⟩
theorem dX1_allocation_0 : decode cX1_allocation 0 = .ok (.iload_n 1, 1) := by decide +kernel
theorem dX1_allocation_1 : decode cX1_allocation 1 = .ok (.ifCond .lt 22, 3) := by decide +kernel
theorem dX1_allocation_4 : decode cX1_allocation 4 = .ok (.iload_n 1, 1) := by decide +kernel
theorem dX1_allocation_5 : decode cX1_allocation 5 = .ok (.sipush 256, 3) := by decide +kernel
theorem dX1_allocation_8 : decode cX1_allocation 8 = .ok (.if_icmp .ge 15, 3) := by decide +kernel
theorem dX1_allocation_11 : decode cX1_allocation 11 = .ok (.aload_n 0, 1) := by decide +kernel
theorem dX1_allocation_12 : decode cX1_allocation 12 = .ok (.iload_n 1, 1) := by decide +kernel
theorem dX1_allocation_13 : decode cX1_allocation 13 = .ok (.invokevirtual 34, 3) := by decide +kernel
theorem dX1_allocation_16 : decode cX1_allocation 16 = .ok (.ifCond .eq 7, 3) := by decide +kernel
theorem dX1_allocation_19 : decode cX1_allocation 19 = .ok (.iconst 1, 1) := by decide +kernel
theorem dX1_allocation_20 : decode cX1_allocation 20 = .ok (.goto 4, 3) := by decide +kernel
theorem dX1_allocation_23 : decode cX1_allocation 23 = .ok (.iconst 0, 1) := by decide +kernel
theorem dX1_allocation_24 : decode cX1_allocation 24 = .ok (.ireturn, 1) := by decide +kernel
theorem q20 : (Jvm.Cond.initialized "PackageAuctionModel") ∈ lw_all := lw_g (lw_at lw_m1 2 rfl) rfl
theorem q169 : (Jvm.Cond.instantiable "PackageAuctionModel" (5 : Nat)) ∈ lw_all := lw_g (lw_at lw_m1 151 rfl) rfl
theorem q171 : (Jvm.Cond.instanceMethod ({ cls := "PackageAuctionModel", name := "<init>", desc := "()V" } : Jvm.MethodName)) ∈ lw_all := lw_g (lw_at lw_m1 153 rfl) rfl
theorem q172 : (Jvm.Cond.code ({ cls := "PackageAuctionModel", name := "<init>", desc := "()V" } : Jvm.MethodName) prog_3_method_1_code (1 : Nat) (Option.none : Option Jvm.ClassFile.FieldType)) ∈ lw_all := lw_g (lw_at lw_m1 154 rfl) rfl
theorem q173 : (Jvm.Cond.methodLink "PackageAuctionModel" (1 : Nat) ({ cls := "java/lang/Object", name := "<init>", desc := "()V" } : Jvm.MethodName)) ∈ lw_all := lw_g (lw_at lw_m1 155 rfl) rfl
theorem q174 : (Jvm.Cond.fieldLink "PackageAuctionModel" (7 : Nat) "PackageAuctionModel" "bundle" "[I") ∈ lw_all := lw_g (lw_at lw_m1 156 rfl) rfl
theorem q175 : (Jvm.Cond.fieldLink "PackageAuctionModel" (13 : Nat) "PackageAuctionModel" "who" "[I") ∈ lw_all := lw_g (lw_at lw_m1 157 rfl) rfl
theorem q176 : (Jvm.Cond.fieldLink "PackageAuctionModel" (16 : Nat) "PackageAuctionModel" "offer" "[I") ∈ lw_all := lw_g (lw_at lw_m1 158 rfl) rfl
theorem q177 : (Jvm.Cond.fieldLink "PackageAuctionModel" (30 : Nat) "PackageAuctionModel" "shut" "I") ∈ lw_all := lw_g (lw_at lw_m1 159 rfl) rfl
theorem q178 : (Jvm.Cond.fieldLink "PackageAuctionModel" (19 : Nat) "PackageAuctionModel" "fine" "[Z") ∈ lw_all := lw_g (lw_at lw_m1 160 rfl) rfl
theorem q179 : (Jvm.Cond.lays "PackageAuctionModel" "PackageAuctionModel" "bundle" "[I") ∈ lw_all := lw_g (lw_at lw_m1 161 rfl) rfl
theorem q180 : (Jvm.Cond.soleField "PackageAuctionModel" "bundle") ∈ lw_all := lw_g (lw_at lw_m1 162 rfl) rfl
theorem q181 : (Jvm.Cond.lays "PackageAuctionModel" "PackageAuctionModel" "who" "[I") ∈ lw_all := lw_g (lw_at lw_m1 163 rfl) rfl
theorem q182 : (Jvm.Cond.soleField "PackageAuctionModel" "who") ∈ lw_all := lw_g (lw_at lw_m1 164 rfl) rfl
theorem q183 : (Jvm.Cond.lays "PackageAuctionModel" "PackageAuctionModel" "offer" "[I") ∈ lw_all := lw_g (lw_at lw_m1 165 rfl) rfl
theorem q184 : (Jvm.Cond.soleField "PackageAuctionModel" "offer") ∈ lw_all := lw_g (lw_at lw_m1 166 rfl) rfl
theorem q185 : (Jvm.Cond.lays "PackageAuctionModel" "PackageAuctionModel" "shut" "I") ∈ lw_all := lw_g (lw_at lw_m1 167 rfl) rfl
theorem q186 : (Jvm.Cond.soleField "PackageAuctionModel" "shut") ∈ lw_all := lw_g (lw_at lw_m1 168 rfl) rfl
theorem q187 : (Jvm.Cond.lays "PackageAuctionModel" "PackageAuctionModel" "fine" "[Z") ∈ lw_all := lw_g (lw_at lw_m1 169 rfl) rfl
theorem q188 : (Jvm.Cond.soleField "PackageAuctionModel" "fine") ∈ lw_all := lw_g (lw_at lw_m1 170 rfl) rfl
theorem q189 : (Jvm.Cond.superclass "PackageAuctionModel" "java/lang/Object") ∈ lw_all := lw_g (lw_at lw_m1 171 rfl) rfl
theorem q192 : (Jvm.Cond.instanceMethod ({ cls := "PackageAuctionModel", name := "bid", desc := "(III)I" } : Jvm.MethodName)) ∈ lw_all := lw_g (lw_at lw_m1 174 rfl) rfl
theorem q193 : (Jvm.Cond.selects "PackageAuctionModel" ({ cls := "PackageAuctionModel", name := "bid", desc := "(III)I" } : Jvm.MethodName) ({ cls := "PackageAuctionModel", name := "bid", desc := "(III)I" } : Jvm.MethodName)) ∈ lw_all := lw_g (lw_at lw_m1 175 rfl) rfl
theorem q194 : (Jvm.Cond.code ({ cls := "PackageAuctionModel", name := "bid", desc := "(III)I" } : Jvm.MethodName) prog_3_method_4_code (5 : Nat) (Option.some Jvm.ClassFile.FieldType.int)) ∈ lw_all := lw_g (lw_at lw_m1 176 rfl) rfl
theorem q195 : (Jvm.Cond.methodLink "PackageAuctionModel" (23 : Nat) ({ cls := "PackageAuctionModel", name := "bidder", desc := "(I)Z" } : Jvm.MethodName)) ∈ lw_all := lw_g (lw_at lw_m1 177 rfl) rfl
theorem q196 : (Jvm.Cond.privateMethod ({ cls := "PackageAuctionModel", name := "bidder", desc := "(I)Z" } : Jvm.MethodName)) ∈ lw_tbl := lw_at lw_m1 178 rfl
theorem q197 : (Jvm.Cond.instanceMethod ({ cls := "PackageAuctionModel", name := "bidder", desc := "(I)Z" } : Jvm.MethodName)) ∈ lw_all := lw_g (lw_at lw_m1 179 rfl) rfl
theorem q198 : (Jvm.Cond.code ({ cls := "PackageAuctionModel", name := "bidder", desc := "(I)Z" } : Jvm.MethodName) prog_3_method_3_code (2 : Nat) (Option.some Jvm.ClassFile.FieldType.boolean)) ∈ lw_all := lw_g (lw_at lw_m1 180 rfl) rfl
theorem q200 : (Jvm.Cond.instanceMethod ({ cls := "PackageAuctionModel", name := "retract", desc := "(I)Z" } : Jvm.MethodName)) ∈ lw_all := lw_g (lw_at lw_m1 182 rfl) rfl
theorem q201 : (Jvm.Cond.selects "PackageAuctionModel" ({ cls := "PackageAuctionModel", name := "retract", desc := "(I)Z" } : Jvm.MethodName) ({ cls := "PackageAuctionModel", name := "retract", desc := "(I)Z" } : Jvm.MethodName)) ∈ lw_all := lw_g (lw_at lw_m1 183 rfl) rfl
theorem q202 : (Jvm.Cond.code ({ cls := "PackageAuctionModel", name := "retract", desc := "(I)Z" } : Jvm.MethodName) prog_3_method_5_code (2 : Nat) (Option.some Jvm.ClassFile.FieldType.boolean)) ∈ lw_all := lw_g (lw_at lw_m1 184 rfl) rfl
theorem q203 : (Jvm.Cond.methodLink "PackageAuctionModel" (27 : Nat) ({ cls := "PackageAuctionModel", name := "is", desc := "(I)Z" } : Jvm.MethodName)) ∈ lw_all := lw_g (lw_at lw_m1 185 rfl) rfl
theorem q204 : (Jvm.Cond.privateMethod ({ cls := "PackageAuctionModel", name := "is", desc := "(I)Z" } : Jvm.MethodName)) ∈ lw_tbl := lw_at lw_m1 186 rfl
theorem q205 : (Jvm.Cond.instanceMethod ({ cls := "PackageAuctionModel", name := "is", desc := "(I)Z" } : Jvm.MethodName)) ∈ lw_all := lw_g (lw_at lw_m1 187 rfl) rfl
theorem q206 : (Jvm.Cond.code ({ cls := "PackageAuctionModel", name := "is", desc := "(I)Z" } : Jvm.MethodName) prog_3_method_2_code (2 : Nat) (Option.some Jvm.ClassFile.FieldType.boolean)) ∈ lw_all := lw_g (lw_at lw_m1 188 rfl) rfl
theorem q208 : (Jvm.Cond.instanceMethod ({ cls := "PackageAuctionModel", name := "raise", desc := "(II)Z" } : Jvm.MethodName)) ∈ lw_all := lw_g (lw_at lw_m1 190 rfl) rfl
theorem q209 : (Jvm.Cond.selects "PackageAuctionModel" ({ cls := "PackageAuctionModel", name := "raise", desc := "(II)Z" } : Jvm.MethodName) ({ cls := "PackageAuctionModel", name := "raise", desc := "(II)Z" } : Jvm.MethodName)) ∈ lw_all := lw_g (lw_at lw_m1 191 rfl) rfl
theorem q210 : (Jvm.Cond.code ({ cls := "PackageAuctionModel", name := "raise", desc := "(II)Z" } : Jvm.MethodName) prog_3_method_6_code (3 : Nat) (Option.some Jvm.ClassFile.FieldType.boolean)) ∈ lw_all := lw_g (lw_at lw_m1 192 rfl) rfl
theorem q212 : (Jvm.Cond.instanceMethod ({ cls := "PackageAuctionModel", name := "withhold", desc := "(IZ)Z" } : Jvm.MethodName)) ∈ lw_all := lw_g (lw_at lw_m1 194 rfl) rfl
theorem q213 : (Jvm.Cond.selects "PackageAuctionModel" ({ cls := "PackageAuctionModel", name := "withhold", desc := "(IZ)Z" } : Jvm.MethodName) ({ cls := "PackageAuctionModel", name := "withhold", desc := "(IZ)Z" } : Jvm.MethodName)) ∈ lw_all := lw_g (lw_at lw_m1 195 rfl) rfl
theorem q214 : (Jvm.Cond.code ({ cls := "PackageAuctionModel", name := "withhold", desc := "(IZ)Z" } : Jvm.MethodName) prog_3_method_7_code (3 : Nat) (Option.some Jvm.ClassFile.FieldType.boolean)) ∈ lw_all := lw_g (lw_at lw_m1 196 rfl) rfl
theorem q216 : (Jvm.Cond.instanceMethod ({ cls := "PackageAuctionModel", name := "bids", desc := "()I" } : Jvm.MethodName)) ∈ lw_all := lw_g (lw_at lw_m1 198 rfl) rfl
theorem q217 : (Jvm.Cond.selects "PackageAuctionModel" ({ cls := "PackageAuctionModel", name := "bids", desc := "()I" } : Jvm.MethodName) ({ cls := "PackageAuctionModel", name := "bids", desc := "()I" } : Jvm.MethodName)) ∈ lw_all := lw_g (lw_at lw_m1 199 rfl) rfl
theorem q218 : (Jvm.Cond.code ({ cls := "PackageAuctionModel", name := "bids", desc := "()I" } : Jvm.MethodName) prog_3_method_8_code (3 : Nat) (Option.some Jvm.ClassFile.FieldType.int)) ∈ lw_all := lw_g (lw_at lw_m1 200 rfl) rfl
theorem q220 : (Jvm.Cond.instanceMethod ({ cls := "PackageAuctionModel", name := "withheld", desc := "()I" } : Jvm.MethodName)) ∈ lw_all := lw_g (lw_at lw_m1 202 rfl) rfl
theorem q221 : (Jvm.Cond.selects "PackageAuctionModel" ({ cls := "PackageAuctionModel", name := "withheld", desc := "()I" } : Jvm.MethodName) ({ cls := "PackageAuctionModel", name := "withheld", desc := "()I" } : Jvm.MethodName)) ∈ lw_all := lw_g (lw_at lw_m1 203 rfl) rfl
theorem q222 : (Jvm.Cond.code ({ cls := "PackageAuctionModel", name := "withheld", desc := "()I" } : Jvm.MethodName) prog_3_method_9_code (1 : Nat) (Option.some Jvm.ClassFile.FieldType.int)) ∈ lw_all := lw_g (lw_at lw_m1 204 rfl) rfl
theorem q224 : (Jvm.Cond.instanceMethod ({ cls := "PackageAuctionModel", name := "winners", desc := "()I" } : Jvm.MethodName)) ∈ lw_all := lw_g (lw_at lw_m1 206 rfl) rfl
theorem q225 : (Jvm.Cond.selects "PackageAuctionModel" ({ cls := "PackageAuctionModel", name := "winners", desc := "()I" } : Jvm.MethodName) ({ cls := "PackageAuctionModel", name := "winners", desc := "()I" } : Jvm.MethodName)) ∈ lw_all := lw_g (lw_at lw_m1 207 rfl) rfl
theorem q226 : (Jvm.Cond.code ({ cls := "PackageAuctionModel", name := "winners", desc := "()I" } : Jvm.MethodName) prog_3_method_15_code (1 : Nat) (Option.some Jvm.ClassFile.FieldType.int)) ∈ lw_all := lw_g (lw_at lw_m1 208 rfl) rfl
theorem q227 : (Jvm.Cond.methodLink "PackageAuctionModel" (45 : Nat) ({ cls := "PackageAuctionModel", name := "work", desc := "()V" } : Jvm.MethodName)) ∈ lw_all := lw_g (lw_at lw_m1 209 rfl) rfl
theorem q228 : (Jvm.Cond.privateMethod ({ cls := "PackageAuctionModel", name := "work", desc := "()V" } : Jvm.MethodName)) ∈ lw_tbl := lw_at lw_m1 210 rfl
theorem q229 : (Jvm.Cond.instanceMethod ({ cls := "PackageAuctionModel", name := "work", desc := "()V" } : Jvm.MethodName)) ∈ lw_all := lw_g (lw_at lw_m1 211 rfl) rfl
theorem q230 : (Jvm.Cond.code ({ cls := "PackageAuctionModel", name := "work", desc := "()V" } : Jvm.MethodName) prog_3_method_11_code (2 : Nat) (Option.none : Option Jvm.ClassFile.FieldType)) ∈ lw_all := lw_g (lw_at lw_m1 212 rfl) rfl
theorem q231 : (Jvm.Cond.methodLink "PackageAuctionModel" (34 : Nat) ({ cls := "PackageAuctionModel", name := "allocates", desc := "(I)Z" } : Jvm.MethodName)) ∈ lw_all := lw_g (lw_at lw_m1 213 rfl) rfl
theorem q232 : (Jvm.Cond.privateMethod ({ cls := "PackageAuctionModel", name := "allocates", desc := "(I)Z" } : Jvm.MethodName)) ∈ lw_tbl := lw_at lw_m1 214 rfl
theorem q233 : (Jvm.Cond.instanceMethod ({ cls := "PackageAuctionModel", name := "allocates", desc := "(I)Z" } : Jvm.MethodName)) ∈ lw_all := lw_g (lw_at lw_m1 215 rfl) rfl
theorem q234 : (Jvm.Cond.code ({ cls := "PackageAuctionModel", name := "allocates", desc := "(I)Z" } : Jvm.MethodName) prog_3_method_10_code (7 : Nat) (Option.some Jvm.ClassFile.FieldType.boolean)) ∈ lw_all := lw_g (lw_at lw_m1 216 rfl) rfl
theorem q235 : (Jvm.Cond.methodLink "PackageAuctionModel" (48 : Nat) ({ cls := "PackageAuctionModel", name := "best", desc := "(II)I" } : Jvm.MethodName)) ∈ lw_all := lw_g (lw_at lw_m1 217 rfl) rfl
theorem q236 : (Jvm.Cond.privateMethod ({ cls := "PackageAuctionModel", name := "best", desc := "(II)I" } : Jvm.MethodName)) ∈ lw_tbl := lw_at lw_m1 218 rfl
theorem q237 : (Jvm.Cond.instanceMethod ({ cls := "PackageAuctionModel", name := "best", desc := "(II)I" } : Jvm.MethodName)) ∈ lw_all := lw_g (lw_at lw_m1 219 rfl) rfl
theorem q238 : (Jvm.Cond.code ({ cls := "PackageAuctionModel", name := "best", desc := "(II)I" } : Jvm.MethodName) prog_3_method_14_code (5 : Nat) (Option.some Jvm.ClassFile.FieldType.int)) ∈ lw_all := lw_g (lw_at lw_m1 220 rfl) rfl
theorem q239 : (Jvm.Cond.methodLink "PackageAuctionModel" (41 : Nat) ({ cls := "PackageAuctionModel", name := "before", desc := "(II)Z" } : Jvm.MethodName)) ∈ lw_all := lw_g (lw_at lw_m1 221 rfl) rfl
theorem q240 : (Jvm.Cond.privateMethod ({ cls := "PackageAuctionModel", name := "before", desc := "(II)Z" } : Jvm.MethodName)) ∈ lw_tbl := lw_at lw_m1 222 rfl
theorem q241 : (Jvm.Cond.instanceMethod ({ cls := "PackageAuctionModel", name := "before", desc := "(II)Z" } : Jvm.MethodName)) ∈ lw_all := lw_g (lw_at lw_m1 223 rfl) rfl
theorem q242 : (Jvm.Cond.code ({ cls := "PackageAuctionModel", name := "before", desc := "(II)Z" } : Jvm.MethodName) prog_3_method_13_code (6 : Nat) (Option.some Jvm.ClassFile.FieldType.boolean)) ∈ lw_all := lw_g (lw_at lw_m1 224 rfl) rfl
theorem q243 : (Jvm.Cond.methodLink "PackageAuctionModel" (37 : Nat) ({ cls := "PackageAuctionModel", name := "sum", desc := "(I)I" } : Jvm.MethodName)) ∈ lw_all := lw_g (lw_at lw_m1 225 rfl) rfl
theorem q244 : (Jvm.Cond.privateMethod ({ cls := "PackageAuctionModel", name := "sum", desc := "(I)I" } : Jvm.MethodName)) ∈ lw_tbl := lw_at lw_m1 226 rfl
theorem q245 : (Jvm.Cond.instanceMethod ({ cls := "PackageAuctionModel", name := "sum", desc := "(I)I" } : Jvm.MethodName)) ∈ lw_all := lw_g (lw_at lw_m1 227 rfl) rfl
theorem q246 : (Jvm.Cond.code ({ cls := "PackageAuctionModel", name := "sum", desc := "(I)I" } : Jvm.MethodName) prog_3_method_12_code (4 : Nat) (Option.some Jvm.ClassFile.FieldType.int)) ∈ lw_all := lw_g (lw_at lw_m1 228 rfl) rfl
theorem q248 : (Jvm.Cond.instanceMethod ({ cls := "PackageAuctionModel", name := "revenue", desc := "()I" } : Jvm.MethodName)) ∈ lw_all := lw_g (lw_at lw_m1 230 rfl) rfl
theorem q249 : (Jvm.Cond.selects "PackageAuctionModel" ({ cls := "PackageAuctionModel", name := "revenue", desc := "()I" } : Jvm.MethodName) ({ cls := "PackageAuctionModel", name := "revenue", desc := "()I" } : Jvm.MethodName)) ∈ lw_all := lw_g (lw_at lw_m1 231 rfl) rfl
theorem q250 : (Jvm.Cond.code ({ cls := "PackageAuctionModel", name := "revenue", desc := "()I" } : Jvm.MethodName) prog_3_method_16_code (2 : Nat) (Option.some Jvm.ClassFile.FieldType.int)) ∈ lw_all := lw_g (lw_at lw_m1 232 rfl) rfl
theorem q251 : (Jvm.Cond.methodLink "PackageAuctionModel" (52 : Nat) ({ cls := "PackageAuctionModel", name := "winners", desc := "()I" } : Jvm.MethodName)) ∈ lw_all := lw_g (lw_at lw_m1 233 rfl) rfl
theorem q253 : (Jvm.Cond.instanceMethod ({ cls := "PackageAuctionModel", name := "sold", desc := "()I" } : Jvm.MethodName)) ∈ lw_all := lw_g (lw_at lw_m1 235 rfl) rfl
theorem q254 : (Jvm.Cond.selects "PackageAuctionModel" ({ cls := "PackageAuctionModel", name := "sold", desc := "()I" } : Jvm.MethodName) ({ cls := "PackageAuctionModel", name := "sold", desc := "()I" } : Jvm.MethodName)) ∈ lw_all := lw_g (lw_at lw_m1 236 rfl) rfl
theorem q255 : (Jvm.Cond.code ({ cls := "PackageAuctionModel", name := "sold", desc := "()I" } : Jvm.MethodName) prog_3_method_17_code (4 : Nat) (Option.some Jvm.ClassFile.FieldType.int)) ∈ lw_all := lw_g (lw_at lw_m1 237 rfl) rfl
theorem q257 : (Jvm.Cond.instanceMethod ({ cls := "PackageAuctionModel", name := "revenueWithout", desc := "(I)I" } : Jvm.MethodName)) ∈ lw_all := lw_g (lw_at lw_m1 239 rfl) rfl
theorem q258 : (Jvm.Cond.selects "PackageAuctionModel" ({ cls := "PackageAuctionModel", name := "revenueWithout", desc := "(I)I" } : Jvm.MethodName) ({ cls := "PackageAuctionModel", name := "revenueWithout", desc := "(I)I" } : Jvm.MethodName)) ∈ lw_all := lw_g (lw_at lw_m2 0 rfl) rfl
theorem q259 : (Jvm.Cond.code ({ cls := "PackageAuctionModel", name := "revenueWithout", desc := "(I)I" } : Jvm.MethodName) prog_3_method_19_code (3 : Nat) (Option.some Jvm.ClassFile.FieldType.int)) ∈ lw_all := lw_g (lw_at lw_m2 1 rfl) rfl
theorem q260 : (Jvm.Cond.methodLink "PackageAuctionModel" (56 : Nat) ({ cls := "PackageAuctionModel", name := "of", desc := "(I)I" } : Jvm.MethodName)) ∈ lw_all := lw_g (lw_at lw_m2 2 rfl) rfl
theorem q261 : (Jvm.Cond.privateMethod ({ cls := "PackageAuctionModel", name := "of", desc := "(I)I" } : Jvm.MethodName)) ∈ lw_tbl := lw_at lw_m2 3 rfl
theorem q262 : (Jvm.Cond.instanceMethod ({ cls := "PackageAuctionModel", name := "of", desc := "(I)I" } : Jvm.MethodName)) ∈ lw_all := lw_g (lw_at lw_m2 4 rfl) rfl
theorem q263 : (Jvm.Cond.code ({ cls := "PackageAuctionModel", name := "of", desc := "(I)I" } : Jvm.MethodName) prog_3_method_18_code (4 : Nat) (Option.some Jvm.ClassFile.FieldType.int)) ∈ lw_all := lw_g (lw_at lw_m2 5 rfl) rfl
theorem q265 : (Jvm.Cond.instanceMethod ({ cls := "PackageAuctionModel", name := "payment", desc := "(I)I" } : Jvm.MethodName)) ∈ lw_all := lw_g (lw_at lw_m2 7 rfl) rfl
theorem q266 : (Jvm.Cond.selects "PackageAuctionModel" ({ cls := "PackageAuctionModel", name := "payment", desc := "(I)I" } : Jvm.MethodName) ({ cls := "PackageAuctionModel", name := "payment", desc := "(I)I" } : Jvm.MethodName)) ∈ lw_all := lw_g (lw_at lw_m2 8 rfl) rfl
theorem q267 : (Jvm.Cond.code ({ cls := "PackageAuctionModel", name := "payment", desc := "(I)I" } : Jvm.MethodName) prog_3_method_20_code (4 : Nat) (Option.some Jvm.ClassFile.FieldType.int)) ∈ lw_all := lw_g (lw_at lw_m2 9 rfl) rfl
theorem q268 : (Jvm.Cond.methodLink "PackageAuctionModel" (59 : Nat) ({ cls := "PackageAuctionModel", name := "revenueWithout", desc := "(I)I" } : Jvm.MethodName)) ∈ lw_all := lw_g (lw_at lw_m2 10 rfl) rfl
theorem q270 : (Jvm.Cond.instanceMethod ({ cls := "PackageAuctionModel", name := "threshold", desc := "(I)I" } : Jvm.MethodName)) ∈ lw_all := lw_g (lw_at lw_m2 12 rfl) rfl
theorem q271 : (Jvm.Cond.selects "PackageAuctionModel" ({ cls := "PackageAuctionModel", name := "threshold", desc := "(I)I" } : Jvm.MethodName) ({ cls := "PackageAuctionModel", name := "threshold", desc := "(I)I" } : Jvm.MethodName)) ∈ lw_all := lw_g (lw_at lw_m2 13 rfl) rfl
theorem q272 : (Jvm.Cond.code ({ cls := "PackageAuctionModel", name := "threshold", desc := "(I)I" } : Jvm.MethodName) prog_3_method_21_code (5 : Nat) (Option.some Jvm.ClassFile.FieldType.int)) ∈ lw_all := lw_g (lw_at lw_m2 14 rfl) rfl
theorem q274 : (Jvm.Cond.instanceMethod ({ cls := "PackageAuctionModel", name := "revenueWith", desc := "(I)I" } : Jvm.MethodName)) ∈ lw_all := lw_g (lw_at lw_m2 16 rfl) rfl
theorem q275 : (Jvm.Cond.selects "PackageAuctionModel" ({ cls := "PackageAuctionModel", name := "revenueWith", desc := "(I)I" } : Jvm.MethodName) ({ cls := "PackageAuctionModel", name := "revenueWith", desc := "(I)I" } : Jvm.MethodName)) ∈ lw_all := lw_g (lw_at lw_m2 17 rfl) rfl
theorem q276 : (Jvm.Cond.code ({ cls := "PackageAuctionModel", name := "revenueWith", desc := "(I)I" } : Jvm.MethodName) prog_3_method_22_code (3 : Nat) (Option.some Jvm.ClassFile.FieldType.int)) ∈ lw_all := lw_g (lw_at lw_m2 18 rfl) rfl
theorem q278 : (Jvm.Cond.instanceMethod ({ cls := "PackageAuctionModel", name := "price", desc := "(I)I" } : Jvm.MethodName)) ∈ lw_all := lw_g (lw_at lw_m2 20 rfl) rfl
theorem q279 : (Jvm.Cond.selects "PackageAuctionModel" ({ cls := "PackageAuctionModel", name := "price", desc := "(I)I" } : Jvm.MethodName) ({ cls := "PackageAuctionModel", name := "price", desc := "(I)I" } : Jvm.MethodName)) ∈ lw_all := lw_g (lw_at lw_m2 21 rfl) rfl
theorem q280 : (Jvm.Cond.code ({ cls := "PackageAuctionModel", name := "price", desc := "(I)I" } : Jvm.MethodName) prog_3_method_23_code (5 : Nat) (Option.some Jvm.ClassFile.FieldType.int)) ∈ lw_all := lw_g (lw_at lw_m2 22 rfl) rfl
theorem q281 : (Jvm.Cond.methodLink "PackageAuctionModel" (62 : Nat) ({ cls := "PackageAuctionModel", name := "revenue", desc := "()I" } : Jvm.MethodName)) ∈ lw_all := lw_g (lw_at lw_m2 23 rfl) rfl
theorem q283 : (Jvm.Cond.instanceMethod ({ cls := "PackageAuctionModel", name := "allocation", desc := "(I)Z" } : Jvm.MethodName)) ∈ lw_all := lw_g (lw_at lw_m2 25 rfl) rfl
theorem q284 : (Jvm.Cond.selects "PackageAuctionModel" ({ cls := "PackageAuctionModel", name := "allocation", desc := "(I)Z" } : Jvm.MethodName) ({ cls := "PackageAuctionModel", name := "allocation", desc := "(I)Z" } : Jvm.MethodName)) ∈ lw_all := lw_g (lw_at lw_m2 26 rfl) rfl
theorem q285 : (Jvm.Cond.code ({ cls := "PackageAuctionModel", name := "allocation", desc := "(I)Z" } : Jvm.MethodName) prog_3_method_24_code (2 : Nat) (Option.some Jvm.ClassFile.FieldType.boolean)) ∈ lw_all := lw_g (lw_at lw_m2 27 rfl) rfl
theorem in_X1 : ∀ w ∈ wsX10, w ∈ lw_all := lw_in wsX10 [179, 181, 183, 185, 187] (by decide +kernel) (by decide +kernel)
end
section
theorem q18 : (Jvm.Cond.initialized "PackageAuctionLaw") ∈ lw_all := lw_g (lw_at lw_m1 0 rfl) rfl
set_option maxRecDepth 100000
theorem q21 : (Jvm.Cond.classLink "PackageAuctionLaw" (7 : Nat) "PackageAuction") ∈ lw_all := lw_g (lw_at lw_m1 3 rfl) rfl
theorem q23 : (Jvm.Cond.methodLink "PackageAuctionLaw" (9 : Nat) ({ cls := "PackageAuction", name := "<init>", desc := "()V" } : Jvm.MethodName)) ∈ lw_all := lw_g (lw_at lw_m1 5 rfl) rfl
theorem q60 : (Jvm.Cond.methodLink "PackageAuctionLaw" (13 : Nat) ({ cls := "PackageAuction", name := "bid", desc := "(III)I" } : Jvm.MethodName)) ∈ lw_all := lw_g (lw_at lw_m1 42 rfl) rfl
theorem q71 : (Jvm.Cond.methodLink "PackageAuctionLaw" (18 : Nat) ({ cls := "PackageAuction", name := "retract", desc := "(I)Z" } : Jvm.MethodName)) ∈ lw_all := lw_g (lw_at lw_m1 53 rfl) rfl
theorem q75 : (Jvm.Cond.methodLink "PackageAuctionLaw" (23 : Nat) ({ cls := "PackageAuction", name := "raise", desc := "(II)Z" } : Jvm.MethodName)) ∈ lw_all := lw_g (lw_at lw_m1 57 rfl) rfl
theorem q79 : (Jvm.Cond.methodLink "PackageAuctionLaw" (28 : Nat) ({ cls := "PackageAuction", name := "withhold", desc := "(IZ)Z" } : Jvm.MethodName)) ∈ lw_all := lw_g (lw_at lw_m1 61 rfl) rfl
theorem q83 : (Jvm.Cond.methodLink "PackageAuctionLaw" (33 : Nat) ({ cls := "PackageAuction", name := "bids", desc := "()I" } : Jvm.MethodName)) ∈ lw_all := lw_g (lw_at lw_m1 65 rfl) rfl
theorem q87 : (Jvm.Cond.methodLink "PackageAuctionLaw" (38 : Nat) ({ cls := "PackageAuction", name := "withheld", desc := "()I" } : Jvm.MethodName)) ∈ lw_all := lw_g (lw_at lw_m1 69 rfl) rfl
theorem q91 : (Jvm.Cond.methodLink "PackageAuctionLaw" (42 : Nat) ({ cls := "PackageAuction", name := "winners", desc := "()I" } : Jvm.MethodName)) ∈ lw_all := lw_g (lw_at lw_m1 73 rfl) rfl
theorem q126 : (Jvm.Cond.methodLink "PackageAuctionLaw" (46 : Nat) ({ cls := "PackageAuction", name := "revenue", desc := "()I" } : Jvm.MethodName)) ∈ lw_all := lw_g (lw_at lw_m1 108 rfl) rfl
theorem q130 : (Jvm.Cond.methodLink "PackageAuctionLaw" (50 : Nat) ({ cls := "PackageAuction", name := "sold", desc := "()I" } : Jvm.MethodName)) ∈ lw_all := lw_g (lw_at lw_m1 112 rfl) rfl
theorem q134 : (Jvm.Cond.methodLink "PackageAuctionLaw" (54 : Nat) ({ cls := "PackageAuction", name := "revenueWithout", desc := "(I)I" } : Jvm.MethodName)) ∈ lw_all := lw_g (lw_at lw_m1 116 rfl) rfl
theorem q142 : (Jvm.Cond.methodLink "PackageAuctionLaw" (59 : Nat) ({ cls := "PackageAuction", name := "payment", desc := "(I)I" } : Jvm.MethodName)) ∈ lw_all := lw_g (lw_at lw_m1 124 rfl) rfl
theorem q148 : (Jvm.Cond.methodLink "PackageAuctionLaw" (63 : Nat) ({ cls := "PackageAuction", name := "threshold", desc := "(I)I" } : Jvm.MethodName)) ∈ lw_all := lw_g (lw_at lw_m1 130 rfl) rfl
theorem q156 : (Jvm.Cond.methodLink "PackageAuctionLaw" (67 : Nat) ({ cls := "PackageAuction", name := "revenueWith", desc := "(I)I" } : Jvm.MethodName)) ∈ lw_all := lw_g (lw_at lw_m1 138 rfl) rfl
theorem q160 : (Jvm.Cond.methodLink "PackageAuctionLaw" (71 : Nat) ({ cls := "PackageAuction", name := "price", desc := "(I)I" } : Jvm.MethodName)) ∈ lw_all := lw_g (lw_at lw_m1 142 rfl) rfl
theorem q164 : (Jvm.Cond.methodLink "PackageAuctionLaw" (75 : Nat) ({ cls := "PackageAuction", name := "allocation", desc := "(I)Z" } : Jvm.MethodName)) ∈ lw_all := lw_g (lw_at lw_m1 146 rfl) rfl
theorem q168 : (Jvm.Cond.classLink "PackageAuctionLaw" (10 : Nat) "PackageAuctionModel") ∈ lw_all := lw_g (lw_at lw_m1 150 rfl) rfl
theorem q170 : (Jvm.Cond.methodLink "PackageAuctionLaw" (12 : Nat) ({ cls := "PackageAuctionModel", name := "<init>", desc := "()V" } : Jvm.MethodName)) ∈ lw_all := lw_g (lw_at lw_m1 152 rfl) rfl
theorem q191 : (Jvm.Cond.methodLink "PackageAuctionLaw" (17 : Nat) ({ cls := "PackageAuctionModel", name := "bid", desc := "(III)I" } : Jvm.MethodName)) ∈ lw_all := lw_g (lw_at lw_m1 173 rfl) rfl
theorem q199 : (Jvm.Cond.methodLink "PackageAuctionLaw" (22 : Nat) ({ cls := "PackageAuctionModel", name := "retract", desc := "(I)Z" } : Jvm.MethodName)) ∈ lw_all := lw_g (lw_at lw_m1 181 rfl) rfl
theorem q207 : (Jvm.Cond.methodLink "PackageAuctionLaw" (27 : Nat) ({ cls := "PackageAuctionModel", name := "raise", desc := "(II)Z" } : Jvm.MethodName)) ∈ lw_all := lw_g (lw_at lw_m1 189 rfl) rfl
theorem q211 : (Jvm.Cond.methodLink "PackageAuctionLaw" (32 : Nat) ({ cls := "PackageAuctionModel", name := "withhold", desc := "(IZ)Z" } : Jvm.MethodName)) ∈ lw_all := lw_g (lw_at lw_m1 193 rfl) rfl
theorem q215 : (Jvm.Cond.methodLink "PackageAuctionLaw" (37 : Nat) ({ cls := "PackageAuctionModel", name := "bids", desc := "()I" } : Jvm.MethodName)) ∈ lw_all := lw_g (lw_at lw_m1 197 rfl) rfl
theorem q219 : (Jvm.Cond.methodLink "PackageAuctionLaw" (41 : Nat) ({ cls := "PackageAuctionModel", name := "withheld", desc := "()I" } : Jvm.MethodName)) ∈ lw_all := lw_g (lw_at lw_m1 201 rfl) rfl
theorem q223 : (Jvm.Cond.methodLink "PackageAuctionLaw" (45 : Nat) ({ cls := "PackageAuctionModel", name := "winners", desc := "()I" } : Jvm.MethodName)) ∈ lw_all := lw_g (lw_at lw_m1 205 rfl) rfl
theorem q247 : (Jvm.Cond.methodLink "PackageAuctionLaw" (49 : Nat) ({ cls := "PackageAuctionModel", name := "revenue", desc := "()I" } : Jvm.MethodName)) ∈ lw_all := lw_g (lw_at lw_m1 229 rfl) rfl
theorem q252 : (Jvm.Cond.methodLink "PackageAuctionLaw" (53 : Nat) ({ cls := "PackageAuctionModel", name := "sold", desc := "()I" } : Jvm.MethodName)) ∈ lw_all := lw_g (lw_at lw_m1 234 rfl) rfl
theorem q256 : (Jvm.Cond.methodLink "PackageAuctionLaw" (58 : Nat) ({ cls := "PackageAuctionModel", name := "revenueWithout", desc := "(I)I" } : Jvm.MethodName)) ∈ lw_all := lw_g (lw_at lw_m1 238 rfl) rfl
theorem q264 : (Jvm.Cond.methodLink "PackageAuctionLaw" (62 : Nat) ({ cls := "PackageAuctionModel", name := "payment", desc := "(I)I" } : Jvm.MethodName)) ∈ lw_all := lw_g (lw_at lw_m2 6 rfl) rfl
theorem q269 : (Jvm.Cond.methodLink "PackageAuctionLaw" (66 : Nat) ({ cls := "PackageAuctionModel", name := "threshold", desc := "(I)I" } : Jvm.MethodName)) ∈ lw_all := lw_g (lw_at lw_m2 11 rfl) rfl
theorem q273 : (Jvm.Cond.methodLink "PackageAuctionLaw" (70 : Nat) ({ cls := "PackageAuctionModel", name := "revenueWith", desc := "(I)I" } : Jvm.MethodName)) ∈ lw_all := lw_g (lw_at lw_m2 15 rfl) rfl
theorem q277 : (Jvm.Cond.methodLink "PackageAuctionLaw" (74 : Nat) ({ cls := "PackageAuctionModel", name := "price", desc := "(I)I" } : Jvm.MethodName)) ∈ lw_all := lw_g (lw_at lw_m2 19 rfl) rfl
theorem q282 : (Jvm.Cond.methodLink "PackageAuctionLaw" (78 : Nat) ({ cls := "PackageAuctionModel", name := "allocation", desc := "(I)Z" } : Jvm.MethodName)) ∈ lw_all := lw_g (lw_at lw_m2 24 rfl) rfl
/-! the law's own entry -/
set_option maxRecDepth 100000
abbrev cL_law : ByteArray := code
theorem dL_law_0 : decode cL_law 0 = .ok (.new 7, 3) := by decide +kernel
theorem dL_law_3 : decode cL_law 3 = .ok (.dup, 1) := by decide +kernel
theorem dL_law_4 : decode cL_law 4 = .ok (.invokespecial 9, 3) := by decide +kernel
theorem dL_law_7 : decode cL_law 7 = .ok (.astore_n 1, 1) := by decide +kernel
theorem dL_law_8 : decode cL_law 8 = .ok (.new 10, 3) := by decide +kernel
theorem dL_law_11 : decode cL_law 11 = .ok (.dup, 1) := by decide +kernel
theorem dL_law_12 : decode cL_law 12 = .ok (.invokespecial 12, 3) := by decide +kernel
theorem dL_law_15 : decode cL_law 15 = .ok (.astore_n 2, 1) := by decide +kernel
theorem dL_law_16 : decode cL_law 16 = .ok (.iconst 0, 1) := by decide +kernel
theorem dL_law_17 : decode cL_law 17 = .ok (.istore_n 3, 1) := by decide +kernel
theorem dL_law_18 : decode cL_law 18 = .ok (.iload_n 3, 1) := by decide +kernel
theorem dL_law_19 : decode cL_law 19 = .ok (.aload_n 0, 1) := by decide +kernel
theorem dL_law_20 : decode cL_law 20 = .ok (.arraylength, 1) := by decide +kernel
theorem dL_law_21 : decode cL_law 21 = .ok (.iconst 4, 1) := by decide +kernel
theorem dL_law_22 : decode cL_law 22 = .ok (.isub, 1) := by decide +kernel
theorem dL_law_23 : decode cL_law 23 = .ok (.if_icmp .gt 442, 3) := by decide +kernel
theorem dL_law_26 : decode cL_law 26 = .ok (.aload_n 0, 1) := by decide +kernel
theorem dL_law_27 : decode cL_law 27 = .ok (.iload_n 3, 1) := by decide +kernel
theorem dL_law_28 : decode cL_law 28 = .ok (.iaload, 1) := by decide +kernel
theorem dL_law_29 : decode cL_law 29 = .ok (.bipush 15, 2) := by decide +kernel
theorem dL_law_31 : decode cL_law 31 = .ok (.iand, 1) := by decide +kernel
theorem dL_law_32 : decode cL_law 32 = .ok (.tableswitch 427 0 14 #[76, 119, 142, 175, 224, 237, 250, 263, 276, 289, 312, 335, 358, 381, 404], 76) := by decide +kernel
theorem dL_law_108 : decode cL_law 108 = .ok (.aload_n 1, 1) := by decide +kernel
theorem dL_law_109 : decode cL_law 109 = .ok (.aload_n 0, 1) := by decide +kernel
theorem dL_law_110 : decode cL_law 110 = .ok (.iload_n 3, 1) := by decide +kernel
theorem dL_law_111 : decode cL_law 111 = .ok (.iconst 1, 1) := by decide +kernel
theorem dL_law_112 : decode cL_law 112 = .ok (.iadd, 1) := by decide +kernel
theorem dL_law_113 : decode cL_law 113 = .ok (.iaload, 1) := by decide +kernel
theorem dL_law_114 : decode cL_law 114 = .ok (.aload_n 0, 1) := by decide +kernel
theorem dL_law_115 : decode cL_law 115 = .ok (.iload_n 3, 1) := by decide +kernel
theorem dL_law_116 : decode cL_law 116 = .ok (.iconst 2, 1) := by decide +kernel
theorem dL_law_117 : decode cL_law 117 = .ok (.iadd, 1) := by decide +kernel
theorem dL_law_118 : decode cL_law 118 = .ok (.iaload, 1) := by decide +kernel
theorem dL_law_119 : decode cL_law 119 = .ok (.aload_n 0, 1) := by decide +kernel
theorem dL_law_120 : decode cL_law 120 = .ok (.iload_n 3, 1) := by decide +kernel
theorem dL_law_121 : decode cL_law 121 = .ok (.iconst 3, 1) := by decide +kernel
theorem dL_law_122 : decode cL_law 122 = .ok (.iadd, 1) := by decide +kernel
theorem dL_law_123 : decode cL_law 123 = .ok (.iaload, 1) := by decide +kernel
theorem dL_law_124 : decode cL_law 124 = .ok (.invokevirtual 13, 3) := by decide +kernel
theorem dL_law_127 : decode cL_law 127 = .ok (.aload_n 2, 1) := by decide +kernel
theorem dL_law_128 : decode cL_law 128 = .ok (.aload_n 0, 1) := by decide +kernel
theorem dL_law_129 : decode cL_law 129 = .ok (.iload_n 3, 1) := by decide +kernel
theorem dL_law_130 : decode cL_law 130 = .ok (.iconst 1, 1) := by decide +kernel
theorem dL_law_131 : decode cL_law 131 = .ok (.iadd, 1) := by decide +kernel
theorem dL_law_132 : decode cL_law 132 = .ok (.iaload, 1) := by decide +kernel
theorem dL_law_133 : decode cL_law 133 = .ok (.aload_n 0, 1) := by decide +kernel
theorem dL_law_134 : decode cL_law 134 = .ok (.iload_n 3, 1) := by decide +kernel
theorem dL_law_135 : decode cL_law 135 = .ok (.iconst 2, 1) := by decide +kernel
theorem dL_law_136 : decode cL_law 136 = .ok (.iadd, 1) := by decide +kernel
theorem dL_law_137 : decode cL_law 137 = .ok (.iaload, 1) := by decide +kernel
theorem dL_law_138 : decode cL_law 138 = .ok (.aload_n 0, 1) := by decide +kernel
theorem dL_law_139 : decode cL_law 139 = .ok (.iload_n 3, 1) := by decide +kernel
theorem dL_law_140 : decode cL_law 140 = .ok (.iconst 3, 1) := by decide +kernel
theorem dL_law_141 : decode cL_law 141 = .ok (.iadd, 1) := by decide +kernel
theorem dL_law_142 : decode cL_law 142 = .ok (.iaload, 1) := by decide +kernel
theorem dL_law_143 : decode cL_law 143 = .ok (.invokevirtual 17, 3) := by decide +kernel
theorem dL_law_146 : decode cL_law 146 = .ok (.if_icmp .eq 313, 3) := by decide +kernel
theorem dL_law_149 : decode cL_law 149 = .ok (.iconst 0, 1) := by decide +kernel
theorem dL_law_150 : decode cL_law 150 = .ok (.ireturn, 1) := by decide +kernel
theorem dL_law_151 : decode cL_law 151 = .ok (.aload_n 1, 1) := by decide +kernel
theorem dL_law_152 : decode cL_law 152 = .ok (.aload_n 0, 1) := by decide +kernel
theorem dL_law_153 : decode cL_law 153 = .ok (.iload_n 3, 1) := by decide +kernel
theorem dL_law_154 : decode cL_law 154 = .ok (.iconst 1, 1) := by decide +kernel
theorem dL_law_155 : decode cL_law 155 = .ok (.iadd, 1) := by decide +kernel
theorem dL_law_156 : decode cL_law 156 = .ok (.iaload, 1) := by decide +kernel
theorem dL_law_157 : decode cL_law 157 = .ok (.invokevirtual 18, 3) := by decide +kernel
theorem dL_law_160 : decode cL_law 160 = .ok (.aload_n 2, 1) := by decide +kernel
theorem dL_law_161 : decode cL_law 161 = .ok (.aload_n 0, 1) := by decide +kernel
theorem dL_law_162 : decode cL_law 162 = .ok (.iload_n 3, 1) := by decide +kernel
theorem dL_law_163 : decode cL_law 163 = .ok (.iconst 1, 1) := by decide +kernel
theorem dL_law_164 : decode cL_law 164 = .ok (.iadd, 1) := by decide +kernel
theorem dL_law_165 : decode cL_law 165 = .ok (.iaload, 1) := by decide +kernel
theorem dL_law_166 : decode cL_law 166 = .ok (.invokevirtual 22, 3) := by decide +kernel
theorem dL_law_169 : decode cL_law 169 = .ok (.if_icmp .eq 290, 3) := by decide +kernel
theorem dL_law_172 : decode cL_law 172 = .ok (.iconst 0, 1) := by decide +kernel
theorem dL_law_173 : decode cL_law 173 = .ok (.ireturn, 1) := by decide +kernel
theorem dL_law_174 : decode cL_law 174 = .ok (.aload_n 1, 1) := by decide +kernel
theorem dL_law_175 : decode cL_law 175 = .ok (.aload_n 0, 1) := by decide +kernel
theorem dL_law_176 : decode cL_law 176 = .ok (.iload_n 3, 1) := by decide +kernel
theorem dL_law_177 : decode cL_law 177 = .ok (.iconst 1, 1) := by decide +kernel
theorem dL_law_178 : decode cL_law 178 = .ok (.iadd, 1) := by decide +kernel
theorem dL_law_179 : decode cL_law 179 = .ok (.iaload, 1) := by decide +kernel
theorem dL_law_180 : decode cL_law 180 = .ok (.aload_n 0, 1) := by decide +kernel
theorem dL_law_181 : decode cL_law 181 = .ok (.iload_n 3, 1) := by decide +kernel
theorem dL_law_182 : decode cL_law 182 = .ok (.iconst 2, 1) := by decide +kernel
theorem dL_law_183 : decode cL_law 183 = .ok (.iadd, 1) := by decide +kernel
theorem dL_law_184 : decode cL_law 184 = .ok (.iaload, 1) := by decide +kernel
theorem dL_law_185 : decode cL_law 185 = .ok (.invokevirtual 23, 3) := by decide +kernel
theorem dL_law_188 : decode cL_law 188 = .ok (.aload_n 2, 1) := by decide +kernel
theorem dL_law_189 : decode cL_law 189 = .ok (.aload_n 0, 1) := by decide +kernel
theorem dL_law_190 : decode cL_law 190 = .ok (.iload_n 3, 1) := by decide +kernel
theorem dL_law_191 : decode cL_law 191 = .ok (.iconst 1, 1) := by decide +kernel
theorem dL_law_192 : decode cL_law 192 = .ok (.iadd, 1) := by decide +kernel
theorem dL_law_193 : decode cL_law 193 = .ok (.iaload, 1) := by decide +kernel
theorem dL_law_194 : decode cL_law 194 = .ok (.aload_n 0, 1) := by decide +kernel
theorem dL_law_195 : decode cL_law 195 = .ok (.iload_n 3, 1) := by decide +kernel
theorem dL_law_196 : decode cL_law 196 = .ok (.iconst 2, 1) := by decide +kernel
theorem dL_law_197 : decode cL_law 197 = .ok (.iadd, 1) := by decide +kernel
theorem dL_law_198 : decode cL_law 198 = .ok (.iaload, 1) := by decide +kernel
theorem dL_law_199 : decode cL_law 199 = .ok (.invokevirtual 27, 3) := by decide +kernel
theorem dL_law_202 : decode cL_law 202 = .ok (.if_icmp .eq 257, 3) := by decide +kernel
theorem dL_law_205 : decode cL_law 205 = .ok (.iconst 0, 1) := by decide +kernel
theorem dL_law_206 : decode cL_law 206 = .ok (.ireturn, 1) := by decide +kernel
theorem dL_law_207 : decode cL_law 207 = .ok (.aload_n 1, 1) := by decide +kernel
theorem dL_law_208 : decode cL_law 208 = .ok (.aload_n 0, 1) := by decide +kernel
theorem dL_law_209 : decode cL_law 209 = .ok (.iload_n 3, 1) := by decide +kernel
theorem dL_law_210 : decode cL_law 210 = .ok (.iconst 1, 1) := by decide +kernel
theorem dL_law_211 : decode cL_law 211 = .ok (.iadd, 1) := by decide +kernel
theorem dL_law_212 : decode cL_law 212 = .ok (.iaload, 1) := by decide +kernel
theorem dL_law_213 : decode cL_law 213 = .ok (.aload_n 0, 1) := by decide +kernel
theorem dL_law_214 : decode cL_law 214 = .ok (.iload_n 3, 1) := by decide +kernel
theorem dL_law_215 : decode cL_law 215 = .ok (.iconst 2, 1) := by decide +kernel
theorem dL_law_216 : decode cL_law 216 = .ok (.iadd, 1) := by decide +kernel
theorem dL_law_217 : decode cL_law 217 = .ok (.iaload, 1) := by decide +kernel
theorem dL_law_218 : decode cL_law 218 = .ok (.ifCond .eq 7, 3) := by decide +kernel
theorem dL_law_221 : decode cL_law 221 = .ok (.iconst 1, 1) := by decide +kernel
theorem dL_law_222 : decode cL_law 222 = .ok (.goto 4, 3) := by decide +kernel
theorem dL_law_225 : decode cL_law 225 = .ok (.iconst 0, 1) := by decide +kernel
theorem dL_law_226 : decode cL_law 226 = .ok (.invokevirtual 28, 3) := by decide +kernel
theorem dL_law_229 : decode cL_law 229 = .ok (.aload_n 2, 1) := by decide +kernel
theorem dL_law_230 : decode cL_law 230 = .ok (.aload_n 0, 1) := by decide +kernel
theorem dL_law_231 : decode cL_law 231 = .ok (.iload_n 3, 1) := by decide +kernel
theorem dL_law_232 : decode cL_law 232 = .ok (.iconst 1, 1) := by decide +kernel
theorem dL_law_233 : decode cL_law 233 = .ok (.iadd, 1) := by decide +kernel
theorem dL_law_234 : decode cL_law 234 = .ok (.iaload, 1) := by decide +kernel
theorem dL_law_235 : decode cL_law 235 = .ok (.aload_n 0, 1) := by decide +kernel
theorem dL_law_236 : decode cL_law 236 = .ok (.iload_n 3, 1) := by decide +kernel
theorem dL_law_237 : decode cL_law 237 = .ok (.iconst 2, 1) := by decide +kernel
theorem dL_law_238 : decode cL_law 238 = .ok (.iadd, 1) := by decide +kernel
theorem dL_law_239 : decode cL_law 239 = .ok (.iaload, 1) := by decide +kernel
theorem dL_law_240 : decode cL_law 240 = .ok (.ifCond .eq 7, 3) := by decide +kernel
theorem dL_law_243 : decode cL_law 243 = .ok (.iconst 1, 1) := by decide +kernel
theorem dL_law_244 : decode cL_law 244 = .ok (.goto 4, 3) := by decide +kernel
theorem dL_law_247 : decode cL_law 247 = .ok (.iconst 0, 1) := by decide +kernel
theorem dL_law_248 : decode cL_law 248 = .ok (.invokevirtual 32, 3) := by decide +kernel
theorem dL_law_251 : decode cL_law 251 = .ok (.if_icmp .eq 208, 3) := by decide +kernel
theorem dL_law_254 : decode cL_law 254 = .ok (.iconst 0, 1) := by decide +kernel
theorem dL_law_255 : decode cL_law 255 = .ok (.ireturn, 1) := by decide +kernel
theorem dL_law_256 : decode cL_law 256 = .ok (.aload_n 1, 1) := by decide +kernel
theorem dL_law_257 : decode cL_law 257 = .ok (.invokevirtual 33, 3) := by decide +kernel
theorem dL_law_260 : decode cL_law 260 = .ok (.aload_n 2, 1) := by decide +kernel
theorem dL_law_261 : decode cL_law 261 = .ok (.invokevirtual 37, 3) := by decide +kernel
theorem dL_law_264 : decode cL_law 264 = .ok (.if_icmp .eq 195, 3) := by decide +kernel
theorem dL_law_267 : decode cL_law 267 = .ok (.iconst 0, 1) := by decide +kernel
theorem dL_law_268 : decode cL_law 268 = .ok (.ireturn, 1) := by decide +kernel
theorem dL_law_269 : decode cL_law 269 = .ok (.aload_n 1, 1) := by decide +kernel
theorem dL_law_270 : decode cL_law 270 = .ok (.invokevirtual 38, 3) := by decide +kernel
theorem dL_law_273 : decode cL_law 273 = .ok (.aload_n 2, 1) := by decide +kernel
theorem dL_law_274 : decode cL_law 274 = .ok (.invokevirtual 41, 3) := by decide +kernel
theorem dL_law_277 : decode cL_law 277 = .ok (.if_icmp .eq 182, 3) := by decide +kernel
theorem dL_law_280 : decode cL_law 280 = .ok (.iconst 0, 1) := by decide +kernel
theorem dL_law_281 : decode cL_law 281 = .ok (.ireturn, 1) := by decide +kernel
theorem dL_law_282 : decode cL_law 282 = .ok (.aload_n 1, 1) := by decide +kernel
theorem dL_law_283 : decode cL_law 283 = .ok (.invokevirtual 42, 3) := by decide +kernel
theorem dL_law_286 : decode cL_law 286 = .ok (.aload_n 2, 1) := by decide +kernel
theorem dL_law_287 : decode cL_law 287 = .ok (.invokevirtual 45, 3) := by decide +kernel
theorem dL_law_290 : decode cL_law 290 = .ok (.if_icmp .eq 169, 3) := by decide +kernel
theorem dL_law_293 : decode cL_law 293 = .ok (.iconst 0, 1) := by decide +kernel
theorem dL_law_294 : decode cL_law 294 = .ok (.ireturn, 1) := by decide +kernel
theorem dL_law_295 : decode cL_law 295 = .ok (.aload_n 1, 1) := by decide +kernel
theorem dL_law_296 : decode cL_law 296 = .ok (.invokevirtual 46, 3) := by decide +kernel
theorem dL_law_299 : decode cL_law 299 = .ok (.aload_n 2, 1) := by decide +kernel
theorem dL_law_300 : decode cL_law 300 = .ok (.invokevirtual 49, 3) := by decide +kernel
theorem dL_law_303 : decode cL_law 303 = .ok (.if_icmp .eq 156, 3) := by decide +kernel
theorem dL_law_306 : decode cL_law 306 = .ok (.iconst 0, 1) := by decide +kernel
theorem dL_law_307 : decode cL_law 307 = .ok (.ireturn, 1) := by decide +kernel
theorem dL_law_308 : decode cL_law 308 = .ok (.aload_n 1, 1) := by decide +kernel
theorem dL_law_309 : decode cL_law 309 = .ok (.invokevirtual 50, 3) := by decide +kernel
theorem dL_law_312 : decode cL_law 312 = .ok (.aload_n 2, 1) := by decide +kernel
theorem dL_law_313 : decode cL_law 313 = .ok (.invokevirtual 53, 3) := by decide +kernel
theorem dL_law_316 : decode cL_law 316 = .ok (.if_icmp .eq 143, 3) := by decide +kernel
theorem dL_law_319 : decode cL_law 319 = .ok (.iconst 0, 1) := by decide +kernel
theorem dL_law_320 : decode cL_law 320 = .ok (.ireturn, 1) := by decide +kernel
theorem dL_law_321 : decode cL_law 321 = .ok (.aload_n 1, 1) := by decide +kernel
theorem dL_law_322 : decode cL_law 322 = .ok (.aload_n 0, 1) := by decide +kernel
theorem dL_law_323 : decode cL_law 323 = .ok (.iload_n 3, 1) := by decide +kernel
theorem dL_law_324 : decode cL_law 324 = .ok (.iconst 1, 1) := by decide +kernel
theorem dL_law_325 : decode cL_law 325 = .ok (.iadd, 1) := by decide +kernel
theorem dL_law_326 : decode cL_law 326 = .ok (.iaload, 1) := by decide +kernel
theorem dL_law_327 : decode cL_law 327 = .ok (.invokevirtual 54, 3) := by decide +kernel
theorem dL_law_330 : decode cL_law 330 = .ok (.aload_n 2, 1) := by decide +kernel
theorem dL_law_331 : decode cL_law 331 = .ok (.aload_n 0, 1) := by decide +kernel
theorem dL_law_332 : decode cL_law 332 = .ok (.iload_n 3, 1) := by decide +kernel
theorem dL_law_333 : decode cL_law 333 = .ok (.iconst 1, 1) := by decide +kernel
theorem dL_law_334 : decode cL_law 334 = .ok (.iadd, 1) := by decide +kernel
theorem dL_law_335 : decode cL_law 335 = .ok (.iaload, 1) := by decide +kernel
theorem dL_law_336 : decode cL_law 336 = .ok (.invokevirtual 58, 3) := by decide +kernel
theorem dL_law_339 : decode cL_law 339 = .ok (.if_icmp .eq 120, 3) := by decide +kernel
theorem dL_law_342 : decode cL_law 342 = .ok (.iconst 0, 1) := by decide +kernel
theorem dL_law_343 : decode cL_law 343 = .ok (.ireturn, 1) := by decide +kernel
theorem dL_law_344 : decode cL_law 344 = .ok (.aload_n 1, 1) := by decide +kernel
theorem dL_law_345 : decode cL_law 345 = .ok (.aload_n 0, 1) := by decide +kernel
theorem dL_law_346 : decode cL_law 346 = .ok (.iload_n 3, 1) := by decide +kernel
theorem dL_law_347 : decode cL_law 347 = .ok (.iconst 1, 1) := by decide +kernel
theorem dL_law_348 : decode cL_law 348 = .ok (.iadd, 1) := by decide +kernel
theorem dL_law_349 : decode cL_law 349 = .ok (.iaload, 1) := by decide +kernel
theorem dL_law_350 : decode cL_law 350 = .ok (.invokevirtual 59, 3) := by decide +kernel
theorem dL_law_353 : decode cL_law 353 = .ok (.aload_n 2, 1) := by decide +kernel
theorem dL_law_354 : decode cL_law 354 = .ok (.aload_n 0, 1) := by decide +kernel
theorem dL_law_355 : decode cL_law 355 = .ok (.iload_n 3, 1) := by decide +kernel
theorem dL_law_356 : decode cL_law 356 = .ok (.iconst 1, 1) := by decide +kernel
theorem dL_law_357 : decode cL_law 357 = .ok (.iadd, 1) := by decide +kernel
theorem dL_law_358 : decode cL_law 358 = .ok (.iaload, 1) := by decide +kernel
theorem dL_law_359 : decode cL_law 359 = .ok (.invokevirtual 62, 3) := by decide +kernel
theorem dL_law_362 : decode cL_law 362 = .ok (.if_icmp .eq 97, 3) := by decide +kernel
theorem dL_law_365 : decode cL_law 365 = .ok (.iconst 0, 1) := by decide +kernel
theorem dL_law_366 : decode cL_law 366 = .ok (.ireturn, 1) := by decide +kernel
theorem dL_law_367 : decode cL_law 367 = .ok (.aload_n 1, 1) := by decide +kernel
theorem dL_law_368 : decode cL_law 368 = .ok (.aload_n 0, 1) := by decide +kernel
theorem dL_law_369 : decode cL_law 369 = .ok (.iload_n 3, 1) := by decide +kernel
theorem dL_law_370 : decode cL_law 370 = .ok (.iconst 1, 1) := by decide +kernel
theorem dL_law_371 : decode cL_law 371 = .ok (.iadd, 1) := by decide +kernel
theorem dL_law_372 : decode cL_law 372 = .ok (.iaload, 1) := by decide +kernel
theorem dL_law_373 : decode cL_law 373 = .ok (.invokevirtual 63, 3) := by decide +kernel
theorem dL_law_376 : decode cL_law 376 = .ok (.aload_n 2, 1) := by decide +kernel
theorem dL_law_377 : decode cL_law 377 = .ok (.aload_n 0, 1) := by decide +kernel
theorem dL_law_378 : decode cL_law 378 = .ok (.iload_n 3, 1) := by decide +kernel
theorem dL_law_379 : decode cL_law 379 = .ok (.iconst 1, 1) := by decide +kernel
theorem dL_law_380 : decode cL_law 380 = .ok (.iadd, 1) := by decide +kernel
theorem dL_law_381 : decode cL_law 381 = .ok (.iaload, 1) := by decide +kernel
theorem dL_law_382 : decode cL_law 382 = .ok (.invokevirtual 66, 3) := by decide +kernel
theorem dL_law_385 : decode cL_law 385 = .ok (.if_icmp .eq 74, 3) := by decide +kernel
theorem dL_law_388 : decode cL_law 388 = .ok (.iconst 0, 1) := by decide +kernel
theorem dL_law_389 : decode cL_law 389 = .ok (.ireturn, 1) := by decide +kernel
theorem dL_law_390 : decode cL_law 390 = .ok (.aload_n 1, 1) := by decide +kernel
theorem dL_law_391 : decode cL_law 391 = .ok (.aload_n 0, 1) := by decide +kernel
theorem dL_law_392 : decode cL_law 392 = .ok (.iload_n 3, 1) := by decide +kernel
theorem dL_law_393 : decode cL_law 393 = .ok (.iconst 1, 1) := by decide +kernel
theorem dL_law_394 : decode cL_law 394 = .ok (.iadd, 1) := by decide +kernel
theorem dL_law_395 : decode cL_law 395 = .ok (.iaload, 1) := by decide +kernel
theorem dL_law_396 : decode cL_law 396 = .ok (.invokevirtual 67, 3) := by decide +kernel
theorem dL_law_399 : decode cL_law 399 = .ok (.aload_n 2, 1) := by decide +kernel
theorem dL_law_400 : decode cL_law 400 = .ok (.aload_n 0, 1) := by decide +kernel
theorem dL_law_401 : decode cL_law 401 = .ok (.iload_n 3, 1) := by decide +kernel
theorem dL_law_402 : decode cL_law 402 = .ok (.iconst 1, 1) := by decide +kernel
theorem dL_law_403 : decode cL_law 403 = .ok (.iadd, 1) := by decide +kernel
theorem dL_law_404 : decode cL_law 404 = .ok (.iaload, 1) := by decide +kernel
theorem dL_law_405 : decode cL_law 405 = .ok (.invokevirtual 70, 3) := by decide +kernel
theorem dL_law_408 : decode cL_law 408 = .ok (.if_icmp .eq 51, 3) := by decide +kernel
theorem dL_law_411 : decode cL_law 411 = .ok (.iconst 0, 1) := by decide +kernel
theorem dL_law_412 : decode cL_law 412 = .ok (.ireturn, 1) := by decide +kernel
theorem dL_law_413 : decode cL_law 413 = .ok (.aload_n 1, 1) := by decide +kernel
theorem dL_law_414 : decode cL_law 414 = .ok (.aload_n 0, 1) := by decide +kernel
theorem dL_law_415 : decode cL_law 415 = .ok (.iload_n 3, 1) := by decide +kernel
theorem dL_law_416 : decode cL_law 416 = .ok (.iconst 1, 1) := by decide +kernel
theorem dL_law_417 : decode cL_law 417 = .ok (.iadd, 1) := by decide +kernel
theorem dL_law_418 : decode cL_law 418 = .ok (.iaload, 1) := by decide +kernel
theorem dL_law_419 : decode cL_law 419 = .ok (.invokevirtual 71, 3) := by decide +kernel
theorem dL_law_422 : decode cL_law 422 = .ok (.aload_n 2, 1) := by decide +kernel
theorem dL_law_423 : decode cL_law 423 = .ok (.aload_n 0, 1) := by decide +kernel
theorem dL_law_424 : decode cL_law 424 = .ok (.iload_n 3, 1) := by decide +kernel
theorem dL_law_425 : decode cL_law 425 = .ok (.iconst 1, 1) := by decide +kernel
theorem dL_law_426 : decode cL_law 426 = .ok (.iadd, 1) := by decide +kernel
theorem dL_law_427 : decode cL_law 427 = .ok (.iaload, 1) := by decide +kernel
theorem dL_law_428 : decode cL_law 428 = .ok (.invokevirtual 74, 3) := by decide +kernel
theorem dL_law_431 : decode cL_law 431 = .ok (.if_icmp .eq 28, 3) := by decide +kernel
theorem dL_law_434 : decode cL_law 434 = .ok (.iconst 0, 1) := by decide +kernel
theorem dL_law_435 : decode cL_law 435 = .ok (.ireturn, 1) := by decide +kernel
theorem dL_law_436 : decode cL_law 436 = .ok (.aload_n 1, 1) := by decide +kernel
theorem dL_law_437 : decode cL_law 437 = .ok (.aload_n 0, 1) := by decide +kernel
theorem dL_law_438 : decode cL_law 438 = .ok (.iload_n 3, 1) := by decide +kernel
theorem dL_law_439 : decode cL_law 439 = .ok (.iconst 1, 1) := by decide +kernel
theorem dL_law_440 : decode cL_law 440 = .ok (.iadd, 1) := by decide +kernel
theorem dL_law_441 : decode cL_law 441 = .ok (.iaload, 1) := by decide +kernel
theorem dL_law_442 : decode cL_law 442 = .ok (.invokevirtual 75, 3) := by decide +kernel
theorem dL_law_445 : decode cL_law 445 = .ok (.aload_n 2, 1) := by decide +kernel
theorem dL_law_446 : decode cL_law 446 = .ok (.aload_n 0, 1) := by decide +kernel
theorem dL_law_447 : decode cL_law 447 = .ok (.iload_n 3, 1) := by decide +kernel
theorem dL_law_448 : decode cL_law 448 = .ok (.iconst 1, 1) := by decide +kernel
theorem dL_law_449 : decode cL_law 449 = .ok (.iadd, 1) := by decide +kernel
theorem dL_law_450 : decode cL_law 450 = .ok (.iaload, 1) := by decide +kernel
theorem dL_law_451 : decode cL_law 451 = .ok (.invokevirtual 78, 3) := by decide +kernel
theorem dL_law_454 : decode cL_law 454 = .ok (.if_icmp .eq 5, 3) := by decide +kernel
theorem dL_law_457 : decode cL_law 457 = .ok (.iconst 0, 1) := by decide +kernel
theorem dL_law_458 : decode cL_law 458 = .ok (.ireturn, 1) := by decide +kernel
theorem dL_law_459 : decode cL_law 459 = .ok (.iinc 3 4, 3) := by decide +kernel
theorem dL_law_462 : decode cL_law 462 = .ok (.goto (-444), 3) := by decide +kernel
theorem dL_law_465 : decode cL_law 465 = .ok (.iconst 1, 1) := by decide +kernel
theorem dL_law_466 : decode cL_law 466 = .ok (.ireturn, 1) := by decide +kernel
end
section
/-! numbers and bits: nI under the machine's operations -/
set_option maxRecDepth 100000
def bt (x : Int32) (i : Nat) : Bool := x.toBitVec.getLsbD i
theorem b_ext {x y : Int32} (h : ∀ i, i < 32 → bt x i = bt y i) : x = y := Int32.toBitVec_inj.mp (BitVec.eq_of_getLsbD_eq (fun i hi => h i hi))
theorem b_or (x y : Int32) (i : Nat) : bt (x ||| y) i = (bt x i || bt y i) := by unfold bt; rw [Int32.toBitVec_or, BitVec.getLsbD_or]
theorem b_and (x y : Int32) (i : Nat) : bt (x &&& y) i = (bt x i && bt y i) := by unfold bt; rw [Int32.toBitVec_and, BitVec.getLsbD_and]
theorem b_xor (x y : Int32) (i : Nat) : bt (x ^^^ y) i = (bt x i ^^ bt y i) := by unfold bt; rw [Int32.toBitVec_xor, BitVec.getLsbD_xor]
theorem b_m1 : ∀ i, i < 32 → bt (-1) i = true := by decide +kernel
theorem s_l : ∀ n, n < 32 → ((nI n &&& 31).toBitVec.smod 32).toNat = n := by decide +kernel
theorem b_sshr (n : Nat) (hn : n < 32) (x : Int32) {i : Nat} (hi : i < 32) : bt (x >>> (nI n &&& 31)) i = if n + i < 32 then bt x (n + i) else bt x 31 := by
  unfold bt
  rw [Int32.toBitVec_shiftRight]
  show (x.toBitVec.sshiftRight ((nI n &&& 31).toBitVec.smod 32).toNat).getLsbD i = _
  rw [s_l n hn, BitVec.getLsbD_sshiftRight, BitVec.msb_eq_getLsbD_last]
  simp [hi]
theorem bt_nI (a : Nat) {i : Nat} (h : i < 32) : bt (nI a) i = a.testBit i := by
  show (BitVec.ofNat 32 a).getLsbD i = _
  rw [BitVec.getLsbD_ofNat]
  simp [h]
theorem nx_and (a b : Nat) : nI a &&& nI b = nI (a &&& b) := by
  apply b_ext
  intro i hi
  rw [b_and, bt_nI a hi, bt_nI b hi, bt_nI _ hi, Nat.testBit_and]
theorem nx_or (a b : Nat) : nI a ||| nI b = nI (a ||| b) := by
  apply b_ext
  intro i hi
  rw [b_or, bt_nI a hi, bt_nI b hi, bt_nI _ hi, Nat.testBit_or]
/-- a boolean as the machine has it -/
def bI (b : Bool) : Int32 := if b = true then 1 else 0
theorem bI_t : bI true = 1 := rfl
theorem bI_f : bI false = 0 := rfl
theorem bI_0 {b : Bool} : bI b = 0 ↔ b = false := by cases b <;> decide
theorem bI_n0 {b : Bool} : ¬ bI b = 0 ↔ b = true := by cases b <;> decide
theorem bI_1 {b : Bool} : bI b = nI 1 ↔ b = true := by cases b <;> decide
theorem bI_eq {a b : Bool} : bI a = bI b ↔ a = b := by cases a <;> cases b <;> decide
theorem bI_nar (b : Bool) : narrow .boolean (.int (bI b)) = .int (bI b) := by cases b <;> rfl
theorem bI_vp (b : Bool) : vp_nar .boolean (bI b) = bI b := by cases b <;> rfl
/-- a without b, as sets of bits -/
def nd (a b : Nat) : Nat := a ^^^ (a &&& b)
theorem nd_bit (a b i : Nat) : (nd a b).testBit i = (a.testBit i && !b.testBit i) := by
  unfold nd
  rw [Nat.testBit_xor, Nat.testBit_and]
  cases a.testBit i <;> cases b.testBit i <;> rfl
theorem nd_le (a b : Nat) : nd a b ≤ a := by
  have h : nd a b = nd a b &&& a := by
    apply Nat.eq_of_testBit_eq
    intro i
    rw [Nat.testBit_and, nd_bit]
    cases a.testBit i <;> cases b.testBit i <;> rfl
  rw [h]
  exact Nat.and_le_right
theorem nd_lt {a b n : Nat} (h : a < n) : nd a b < n := Nat.lt_of_le_of_lt (nd_le a b) h
theorem nd_nI (a b : Nat) : nI a &&& (nI b ^^^ (-1)) = nI (nd a b) := by
  apply b_ext
  intro i hi
  rw [b_and, b_xor, b_m1 i hi, bt_nI a hi, bt_nI b hi, bt_nI _ hi, nd_bit]
  cases a.testBit i <;> cases b.testBit i <;> rfl
theorem nd_0 {a b : Nat} : nd a b = 0 ↔ ∀ i, a.testBit i = true → b.testBit i = true := by
  constructor
  · intro h i hi
    have h1 : (nd a b).testBit i = false := by rw [h, Nat.zero_testBit]
    rw [nd_bit, hi] at h1
    cases hb : b.testBit i with
    | true => rfl
    | false => rw [hb] at h1; exact absurd h1 (by decide)
  · intro h
    apply Nat.eq_of_testBit_eq
    intro i
    rw [nd_bit, Nat.zero_testBit]
    cases ha : a.testBit i with
    | false => rfl
    | true => rw [h i ha]; rfl
theorem and_0 {a b : Nat} : a &&& b = 0 ↔ ∀ i, ¬ (a.testBit i = true ∧ b.testBit i = true) := by
  constructor
  · intro h i hi
    have h1 : (a &&& b).testBit i = false := by rw [h, Nat.zero_testBit]
    rw [Nat.testBit_and, hi.1, hi.2] at h1
    exact absurd h1 (by decide)
  · intro h
    apply Nat.eq_of_testBit_eq
    intro i
    rw [Nat.testBit_and, Nat.zero_testBit]
    cases ha : a.testBit i with
    | false => rfl
    | true =>
      cases hb : b.testBit i with
      | false => rfl
      | true => exact absurd ⟨ha, hb⟩ (h i)
theorem and_lt {a b n : Nat} (h : a < n) : a &&& b < n := Nat.lt_of_le_of_lt Nat.and_le_left h
theorem sh1 : ∀ b, b < 31 → nI 1 <<< (nI b &&& 31) = nI (2 ^ b) := by decide +kernel
theorem nI_shr {a b : Nat} (ha : a < 2 ^ 31) (hb : b < 32) : nI a >>> (nI b &&& 31) = nI (a / 2 ^ b) := pk_shrN ha _ b (s_l b hb)
theorem nI_bit {a b : Nat} (ha : a < 2 ^ 31) (hb : b < 32) : (nI a >>> (nI b &&& 31)) &&& nI 1 = bI (a.testBit b) := by
  rw [nI_shr ha hb, nx_and, Nat.and_one_is_mod, Nat.testBit_eq_decide_div_mod_eq]
  rcases Nat.mod_two_eq_zero_or_one (a / 2 ^ b) with h | h <;> rw [h] <;> rfl
theorem nI_byte : ∀ n, n < 128 → (nI n).toInt8.toInt32 = nI n := by decide +kernel
theorem nI_short : ∀ n, n < 256 → (nI n).toInt16.toInt32 = nI n := by decide +kernel
theorem nI_vb : ∀ n, n < 128 → vp_nar .byte (nI n) = nI n := fun n h => by rw [vp_nar_byte, nI_byte n h]
theorem nI_vs : ∀ n, n < 256 → vp_nar .short (nI n) = nI n := fun n h => by rw [vp_nar_short, nI_short n h]
/-- one place of a function changed -/
def uN (f : Nat → Nat) (k x : Nat) : Nat → Nat := fun j => if j = k then x else f j
theorem uN_s {f : Nat → Nat} {k x : Nat} : uN f k x k = x := if_pos rfl
theorem uN_n {f : Nat → Nat} {k x j : Nat} (h : j ≠ k) : uN f k x j = f j := if_neg h
/-- an array of small numbers -/
def aN (f : Nat → Nat) : Nat → Int32 := fun j => nI (f j)
theorem aN_u (f : Nat → Nat) (k x : Nat) : upd (aN f) k (nI x) = aN (uN f k x) := by
  funext j
  unfold upd aN uN
  by_cases h : j = k
  · rw [if_pos h, if_pos h]
  · rw [if_neg h, if_neg h]
theorem aN_0 : (fun _ : Nat => (0 : Int32)) = aN (fun _ => 0) := rfl
/-- counting down to -1 -/
def dn : Nat → Int32
  | 0 => -1
  | k + 1 => nI k
theorem dn_m (k : Nat) : nI k + (-1) = dn k := by
  cases k with
  | zero => rfl
  | succ k => exact pk_m1 k
/-- none is -1 -/
def oI : Option Nat → Int32
  | none => -1
  | some k => nI k
theorem oI_neg : ¬ (0 : Int32) ≤ oI none := by decide
/-- an index from outside: out of range or a number below n -/
theorem ix_cases (x : Int32) {n : Nat} (hn : n < 2 ^ 31) : (x < 0 ∨ nI n ≤ x) ∨ ∃ j : Nat, j < n ∧ x = nI j := by
  rcases pk_ix x hn with h | h | h
  · exact Or.inl (Or.inl h)
  · exact Or.inl (Or.inr h)
  · exact Or.inr h
end
section
/-! worlds of the two classes; rows in numbers; calls that only read; calls that write their own world -/
set_option maxRecDepth 100000
abbrev vwCl : List vw_C := [(RX0, TX0, 9), (RX1, TX1, 5)]
/-- the class's cells: h addresses, d array classes; P which bids stand, B packages, K bidders, A amounts, S withheld items, kn known, be on tables, wi winners -/
abbrev w0 (h : Nat → Nat) (d : Nat → ClassId) (P : Nat) (B K A : Nat → Nat) (S : Nat) (kn : Bool) (be on : Nat → Int32) (wi : Int32) : va_W :=
  [(h 0, .inr (0, [.int (nI P), .ref (h 1), .ref (h 2), .ref (h 3), .int (nI S), .int (bI kn), .ref (h 4), .ref (h 5), .int wi])), (h 1, .inl (d 1, 8, .inl (aN B))), (h 2, .inl (d 2, 8, .inl (aN K))), (h 3, .inl (d 3, 8, .inl (aN A))), (h 4, .inl (d 4, 1280, .inl be)), (h 5, .inl (d 5, 1280, .inl on))]
abbrev t0 (d : Nat → ClassId) : List (ClassId × FieldType) := [(d 1, .short), (d 2, .byte), (d 3, .byte), (d 4, .int), (d 5, .int)]
abbrev as0 (h : Nat → Nat) : List Nat := [h 0, h 1, h 2, h 3, h 4, h 5]
/-- the reference's cells: M packages (0: no bid) -/
abbrev w1 (h : Nat → Nat) (d : Nat → ClassId) (M K A : Nat → Nat) (S : Nat) (fi : Nat → Int32) : va_W :=
  [(h 0, .inr (1, [.ref (h 1), .ref (h 2), .ref (h 3), .int (nI S), .ref (h 4)])), (h 1, .inl (d 1, 8, .inl (aN M))), (h 2, .inl (d 2, 8, .inl (aN K))), (h 3, .inl (d 3, 8, .inl (aN A))), (h 4, .inl (d 4, 256, .inl fi))]
abbrev t1 (d : Nat → ClassId) : List (ClassId × FieldType) := [(d 1, .int), (d 2, .int), (d 3, .int), (d 4, .boolean)]
abbrev as1 (h : Nat → Nat) : List Nat := [h 0, h 1, h 2, h 3, h 4]
abbrev rmF (fr lo : Nat) : Room := { frames := fr, cells := 0, slots := 0, locals := lo }
section RWS
variable {p : Program} {l : Launch} {e : Env} {R : Room} {s : State} {m : MethodId} {args : Array Value} {below : List Frame} {meth : Method} {c : Code} {H : Heap} {locs : List Loc} {cells slots : Nat} {Q : State → Prop} {cc : ByteArray} {pc : Nat} {ls : Array Slot} {rest : List Value}
theorem rtq {x y : Int32} (h : x = y) (k : W p l e R s m args below meth c H locs cells slots Q (F0 m pc ls (.int y :: rest))) : W p l e R s m args below meth c H locs cells slots Q (F0 m pc ls (.int x :: rest)) := by
  subst h
  exact k

theorem ic_ge (hx : p.tables.exec = Jvm.exec) (hb : c.code = cc) {x y : Nat} {off : Int} {tgt : Nat} (hdg : decode cc pc = .ok (.if_icmp .ge off, 3)) (ht : (pc : Int) + off = (tgt : Int)) (h1 : x < 2 ^ 31) (h2 : y < 2 ^ 31) (kt : y ≤ x → W p l e R s m args below meth c H locs cells slots Q (F0 m tgt ls rest)) (kf : x < y → W p l e R s m args below meth c H locs cells slots Q (F0 m (pc + 3) ls rest)) : W p l e R s m args below meth c H locs cells slots Q (F0 m pc ls (.int (nI y) :: .int (nI x) :: rest)) :=
  lv_icmp_ge hx hb hdg ht (fun q => kt ((nI_leI h2 h1).mp q)) (fun q => kf (Nat.not_le.mp (fun z => q ((nI_leI h2 h1).mpr z))))
theorem ic_lt (hx : p.tables.exec = Jvm.exec) (hb : c.code = cc) {x y : Nat} {off : Int} {tgt : Nat} (hdg : decode cc pc = .ok (.if_icmp .lt off, 3)) (ht : (pc : Int) + off = (tgt : Int)) (h1 : x < 2 ^ 31) (h2 : y < 2 ^ 31) (kt : x < y → W p l e R s m args below meth c H locs cells slots Q (F0 m tgt ls rest)) (kf : y ≤ x → W p l e R s m args below meth c H locs cells slots Q (F0 m (pc + 3) ls rest)) : W p l e R s m args below meth c H locs cells slots Q (F0 m pc ls (.int (nI y) :: .int (nI x) :: rest)) :=
  lv_icmp_lt hx hb hdg ht (fun q => kt ((nI_ltI h1 h2).mp q)) (fun q => kf (Nat.not_lt.mp (fun z => q ((nI_ltI h1 h2).mpr z))))
theorem ic_gt (hx : p.tables.exec = Jvm.exec) (hb : c.code = cc) {x y : Nat} {off : Int} {tgt : Nat} (hdg : decode cc pc = .ok (.if_icmp .gt off, 3)) (ht : (pc : Int) + off = (tgt : Int)) (h1 : x < 2 ^ 31) (h2 : y < 2 ^ 31) (kt : y < x → W p l e R s m args below meth c H locs cells slots Q (F0 m tgt ls rest)) (kf : x ≤ y → W p l e R s m args below meth c H locs cells slots Q (F0 m (pc + 3) ls rest)) : W p l e R s m args below meth c H locs cells slots Q (F0 m pc ls (.int (nI y) :: .int (nI x) :: rest)) :=
  lv_icmp_gt hx hb hdg ht (fun q => kt ((nI_ltI h2 h1).mp q)) (fun q => kf (Nat.not_lt.mp (fun z => q ((nI_ltI h2 h1).mpr z))))
theorem ic_le (hx : p.tables.exec = Jvm.exec) (hb : c.code = cc) {x y : Nat} {off : Int} {tgt : Nat} (hdg : decode cc pc = .ok (.if_icmp .le off, 3)) (ht : (pc : Int) + off = (tgt : Int)) (h1 : x < 2 ^ 31) (h2 : y < 2 ^ 31) (kt : x ≤ y → W p l e R s m args below meth c H locs cells slots Q (F0 m tgt ls rest)) (kf : y < x → W p l e R s m args below meth c H locs cells slots Q (F0 m (pc + 3) ls rest)) : W p l e R s m args below meth c H locs cells slots Q (F0 m pc ls (.int (nI y) :: .int (nI x) :: rest)) :=
  lv_icmp_le hx hb hdg ht (fun q => kt ((nI_leI h1 h2).mp q)) (fun q => kf (Nat.not_le.mp (fun z => q ((nI_leI h1 h2).mpr z))))
theorem ic_eq (hx : p.tables.exec = Jvm.exec) (hb : c.code = cc) {x y : Nat} {off : Int} {tgt : Nat} (hdg : decode cc pc = .ok (.if_icmp .eq off, 3)) (ht : (pc : Int) + off = (tgt : Int)) (h1 : x < 2 ^ 31) (h2 : y < 2 ^ 31) (kt : x = y → W p l e R s m args below meth c H locs cells slots Q (F0 m tgt ls rest)) (kf : x ≠ y → W p l e R s m args below meth c H locs cells slots Q (F0 m (pc + 3) ls rest)) : W p l e R s m args below meth c H locs cells slots Q (F0 m pc ls (.int (nI y) :: .int (nI x) :: rest)) :=
  lv_icmp_eq hx hb hdg ht (fun q => kt ((nI_eq h1 h2).mp q)) (fun q => kf (fun z => q ((nI_eq h1 h2).mpr z)))
theorem ic_ne (hx : p.tables.exec = Jvm.exec) (hb : c.code = cc) {x y : Nat} {off : Int} {tgt : Nat} (hdg : decode cc pc = .ok (.if_icmp .ne off, 3)) (ht : (pc : Int) + off = (tgt : Int)) (h1 : x < 2 ^ 31) (h2 : y < 2 ^ 31) (kt : x ≠ y → W p l e R s m args below meth c H locs cells slots Q (F0 m tgt ls rest)) (kf : x = y → W p l e R s m args below meth c H locs cells slots Q (F0 m (pc + 3) ls rest)) : W p l e R s m args below meth c H locs cells slots Q (F0 m pc ls (.int (nI y) :: .int (nI x) :: rest)) :=
  lv_icmp_ne hx hb hdg ht (fun q => kt (fun z => q ((nI_eq h1 h2).mpr z))) (fun q => kf ((nI_eq h1 h2).mp q))
theorem if_eqN (hx : p.tables.exec = Jvm.exec) (hb : c.code = cc) {x : Nat} {off : Int} {tgt : Nat} (hdg : decode cc pc = .ok (.ifCond .eq off, 3)) (ht : (pc : Int) + off = (tgt : Int)) (h1 : x < 2 ^ 31) (kt : x = 0 → W p l e R s m args below meth c H locs cells slots Q (F0 m tgt ls rest)) (kf : x ≠ 0 → W p l e R s m args below meth c H locs cells slots Q (F0 m (pc + 3) ls rest)) : W p l e R s m args below meth c H locs cells slots Q (F0 m pc ls (.int (nI x) :: rest)) :=
  lv_if_eq hx hb hdg ht (fun q => kt ((nI_eq h1 (by decide)).mp (q.trans nI_0.symm))) (fun q => kf (fun z => q (by rw [z]; exact nI_0)))
theorem if_neN (hx : p.tables.exec = Jvm.exec) (hb : c.code = cc) {x : Nat} {off : Int} {tgt : Nat} (hdg : decode cc pc = .ok (.ifCond .ne off, 3)) (ht : (pc : Int) + off = (tgt : Int)) (h1 : x < 2 ^ 31) (kt : x ≠ 0 → W p l e R s m args below meth c H locs cells slots Q (F0 m tgt ls rest)) (kf : x = 0 → W p l e R s m args below meth c H locs cells slots Q (F0 m (pc + 3) ls rest)) : W p l e R s m args below meth c H locs cells slots Q (F0 m pc ls (.int (nI x) :: rest)) :=
  lv_if_ne hx hb hdg ht (fun q => kt (fun z => q (by rw [z]; exact nI_0))) (fun q => kf ((nI_eq h1 (by decide)).mp (q.trans nI_0.symm)))
theorem if_leN (hx : p.tables.exec = Jvm.exec) (hb : c.code = cc) {x : Nat} {off : Int} {tgt : Nat} (hdg : decode cc pc = .ok (.ifCond .le off, 3)) (ht : (pc : Int) + off = (tgt : Int)) (h1 : x < 2 ^ 31) (kt : x = 0 → W p l e R s m args below meth c H locs cells slots Q (F0 m tgt ls rest)) (kf : 0 < x → W p l e R s m args below meth c H locs cells slots Q (F0 m (pc + 3) ls rest)) : W p l e R s m args below meth c H locs cells slots Q (F0 m pc ls (.int (nI x) :: rest)) :=
  lv_if_le hx hb hdg ht (fun q => kt (Nat.eq_zero_of_le_zero (Nat.not_lt.mp (fun z => nI_nle z h1 q)))) (fun q => kf (Nat.pos_of_ne_zero (fun z => q (by rw [z]; decide))))
theorem if_ltN (hx : p.tables.exec = Jvm.exec) (hb : c.code = cc) {x : Nat} {off : Int} {tgt : Nat} (hdg : decode cc pc = .ok (.ifCond .lt off, 3)) (ht : (pc : Int) + off = (tgt : Int)) (h1 : x < 2 ^ 31) (kf : W p l e R s m args below meth c H locs cells slots Q (F0 m (pc + 3) ls rest)) : W p l e R s m args below meth c H locs cells slots Q (F0 m pc ls (.int (nI x) :: rest)) :=
  lv_if_lt hx hb hdg ht (fun q => absurd q (nI_pos h1)) (fun _ => kf)
theorem if_ltM (hx : p.tables.exec = Jvm.exec) (hb : c.code = cc) {off : Int} {tgt : Nat} (hdg : decode cc pc = .ok (.ifCond .lt off, 3)) (ht : (pc : Int) + off = (tgt : Int)) (kt : W p l e R s m args below meth c H locs cells slots Q (F0 m tgt ls rest)) : W p l e R s m args below meth c H locs cells slots Q (F0 m pc ls (.int (-1) :: rest)) :=
  lv_if_lt hx hb hdg ht (fun _ => kt) (fun q => absurd (by decide) q)
theorem if_geN (hx : p.tables.exec = Jvm.exec) (hb : c.code = cc) {x : Nat} {off : Int} {tgt : Nat} (hdg : decode cc pc = .ok (.ifCond .ge off, 3)) (ht : (pc : Int) + off = (tgt : Int)) (h1 : x < 2 ^ 31) (kt : W p l e R s m args below meth c H locs cells slots Q (F0 m tgt ls rest)) : W p l e R s m args below meth c H locs cells slots Q (F0 m pc ls (.int (nI x) :: rest)) :=
  lv_if_ge hx hb hdg ht (fun _ => kt) (fun q => absurd (nI_pos' h1) q)
theorem if_geM (hx : p.tables.exec = Jvm.exec) (hb : c.code = cc) {off : Int} {tgt : Nat} (hdg : decode cc pc = .ok (.ifCond .ge off, 3)) (ht : (pc : Int) + off = (tgt : Int)) (kf : W p l e R s m args below meth c H locs cells slots Q (F0 m (pc + 3) ls rest)) : W p l e R s m args below meth c H locs cells slots Q (F0 m pc ls (.int (-1) :: rest)) :=
  lv_if_ge hx hb hdg ht (fun q => absurd q (by decide)) (fun _ => kf)
theorem if_eqB (hx : p.tables.exec = Jvm.exec) (hb : c.code = cc) {x : Bool} {off : Int} {tgt : Nat} (hdg : decode cc pc = .ok (.ifCond .eq off, 3)) (ht : (pc : Int) + off = (tgt : Int)) (kt : x = false → W p l e R s m args below meth c H locs cells slots Q (F0 m tgt ls rest)) (kf : x = true → W p l e R s m args below meth c H locs cells slots Q (F0 m (pc + 3) ls rest)) : W p l e R s m args below meth c H locs cells slots Q (F0 m pc ls (.int (bI x) :: rest)) :=
  lv_if_eq hx hb hdg ht (fun q => kt (bI_0.mp q)) (fun q => kf (bI_n0.mp q))
theorem if_neB (hx : p.tables.exec = Jvm.exec) (hb : c.code = cc) {x : Bool} {off : Int} {tgt : Nat} (hdg : decode cc pc = .ok (.ifCond .ne off, 3)) (ht : (pc : Int) + off = (tgt : Int)) (kt : x = true → W p l e R s m args below meth c H locs cells slots Q (F0 m tgt ls rest)) (kf : x = false → W p l e R s m args below meth c H locs cells slots Q (F0 m (pc + 3) ls rest)) : W p l e R s m args below meth c H locs cells slots Q (F0 m pc ls (.int (bI x) :: rest)) :=
  lv_if_ne hx hb hdg ht (fun q => kt (bI_n0.mp q)) (fun q => kf (bI_0.mp q))
theorem ic_neB (hx : p.tables.exec = Jvm.exec) (hb : c.code = cc) {x : Bool} {off : Int} {tgt : Nat} (hdg : decode cc pc = .ok (.if_icmp .ne off, 3)) (ht : (pc : Int) + off = (tgt : Int)) (kt : x = false → W p l e R s m args below meth c H locs cells slots Q (F0 m tgt ls rest)) (kf : x = true → W p l e R s m args below meth c H locs cells slots Q (F0 m (pc + 3) ls rest)) : W p l e R s m args below meth c H locs cells slots Q (F0 m pc ls (.int (nI 1) :: .int (bI x) :: rest)) :=
  lv_icmp_ne hx hb hdg ht (fun q => kt (by cases x with | false => rfl | true => exact absurd (bI_1.mpr rfl) q)) (fun q => kf (bI_1.mp q))
theorem ic_eqBB (hx : p.tables.exec = Jvm.exec) (hb : c.code = cc) {x y : Bool} {off : Int} {tgt : Nat} (hdg : decode cc pc = .ok (.if_icmp .eq off, 3)) (ht : (pc : Int) + off = (tgt : Int)) (kt : x = y → W p l e R s m args below meth c H locs cells slots Q (F0 m tgt ls rest)) (kf : x ≠ y → W p l e R s m args below meth c H locs cells slots Q (F0 m (pc + 3) ls rest)) : W p l e R s m args below meth c H locs cells slots Q (F0 m pc ls (.int (bI y) :: .int (bI x) :: rest)) :=
  lv_icmp_eq hx hb hdg ht (fun q => kt (bI_eq.mp q)) (fun q => kf (fun z => q (bI_eq.mpr z)))

theorem ia_N (hx : p.tables.exec = Jvm.exec) (hb : c.code = cc) {x y : Nat} (hdg : decode cc pc = .ok (.iadd, 1)) (k : W p l e R s m args below meth c H locs cells slots Q (F0 m (pc + 1) ls (.int (nI (x + y)) :: rest))) : W p l e R s m args below meth c H locs cells slots Q (F0 m pc ls (.int (nI y) :: .int (nI x) :: rest)) :=
  lv_iadd hx hb hdg (rtq (nI_add x y) k)
theorem im_N (hx : p.tables.exec = Jvm.exec) (hb : c.code = cc) {x y : Nat} (hdg : decode cc pc = .ok (.imul, 1)) (k : W p l e R s m args below meth c H locs cells slots Q (F0 m (pc + 1) ls (.int (nI (x * y)) :: rest))) : W p l e R s m args below meth c H locs cells slots Q (F0 m pc ls (.int (nI y) :: .int (nI x) :: rest)) :=
  lv_imul hx hb hdg (rtq (pk_mul x y) k)
theorem or_N (hx : p.tables.exec = Jvm.exec) (hb : c.code = cc) {x y : Nat} (hdg : decode cc pc = .ok (.ior, 1)) (k : W p l e R s m args below meth c H locs cells slots Q (F0 m (pc + 1) ls (.int (nI (x ||| y)) :: rest))) : W p l e R s m args below meth c H locs cells slots Q (F0 m pc ls (.int (nI y) :: .int (nI x) :: rest)) :=
  lv_ior hx hb hdg (rtq (nx_or x y) k)
theorem an_N (hx : p.tables.exec = Jvm.exec) (hb : c.code = cc) {x y : Nat} (hdg : decode cc pc = .ok (.iand, 1)) (k : W p l e R s m args below meth c H locs cells slots Q (F0 m (pc + 1) ls (.int (nI (x &&& y)) :: rest))) : W p l e R s m args below meth c H locs cells slots Q (F0 m pc ls (.int (nI y) :: .int (nI x) :: rest)) :=
  lv_iand hx hb hdg (rtq (nx_and x y) k)
theorem is_N (hx : p.tables.exec = Jvm.exec) (hb : c.code = cc) {x y : Nat} (hdg : decode cc pc = .ok (.isub, 1)) (h1 : y ≤ x) (k : W p l e R s m args below meth c H locs cells slots Q (F0 m (pc + 1) ls (.int (nI (x - y)) :: rest))) : W p l e R s m args below meth c H locs cells slots Q (F0 m pc ls (.int (nI y) :: .int (nI x) :: rest)) :=
  lv_isub hx hb hdg (rtq (pk_sub h1) k)
theorem nd_N (hx : p.tables.exec = Jvm.exec) (hb : c.code = cc) {x y : Nat} (hdg : decode cc pc = .ok (.iand, 1)) (k : W p l e R s m args below meth c H locs cells slots Q (F0 m (pc + 1) ls (.int (nI (nd x y)) :: rest))) : W p l e R s m args below meth c H locs cells slots Q (F0 m pc ls (.int (nI y ^^^ (-1)) :: .int (nI x) :: rest)) :=
  lv_iand hx hb hdg (rtq (nd_nI x y) k)
theorem bt_N (hx : p.tables.exec = Jvm.exec) (hb : c.code = cc) {x y : Nat} (hdg : decode cc pc = .ok (.iand, 1)) (h1 : x < 2 ^ 31) (h2 : y < 32) (k : W p l e R s m args below meth c H locs cells slots Q (F0 m (pc + 1) ls (.int (bI (x.testBit y)) :: rest))) : W p l e R s m args below meth c H locs cells slots Q (F0 m pc ls (.int (nI 1) :: .int (nI x >>> (nI y &&& 31)) :: rest)) :=
  lv_iand hx hb hdg (rtq (nI_bit h1 h2) k)
theorem sh_N (hx : p.tables.exec = Jvm.exec) (hb : c.code = cc) {y : Nat} (hdg : decode cc pc = .ok (.ishl, 1)) (h : y < 31) (k : W p l e R s m args below meth c H locs cells slots Q (F0 m (pc + 1) ls (.int (nI (2 ^ y)) :: rest))) : W p l e R s m args below meth c H locs cells slots Q (F0 m pc ls (.int (nI y) :: .int (nI 1) :: rest)) :=
  lv_ishl hx hb hdg (rtq (sh1 y h) k)
theorem s8_N (hx : p.tables.exec = Jvm.exec) (hb : c.code = cc) {x : Nat} (hdg : decode cc pc = .ok (.ishr, 1)) (h : x < 2 ^ 31) (k : W p l e R s m args below meth c H locs cells slots Q (F0 m (pc + 1) ls (.int (nI (x / 256)) :: rest))) : W p l e R s m args below meth c H locs cells slots Q (F0 m pc ls (.int (nI 8) :: .int (nI x) :: rest)) :=
  lv_ishr hx hb hdg (rtq (nI_shr (b := 8) h (by decide)) k)
variable {D : va_G} {cl : List vw_C} {tys : List (ClassId × FieldType)} {ws : va_W} {A : Nat → Prop} {H0 : Heap} {a : Nat}
theorem ld_i (hx : p.tables.exec = Jvm.exec) (hb : c.code = cc) (hK : va_K D cl tys s) (hP : va_P D cl ws H) (q0 t0 : Nat) {cA : ClassId} {n : Nat} {f : Nat → Int32} (ha : ws[q0]? = some (a, .inl (cA, n, .inl f))) (ht : tys[t0]? = some (cA, .int)) {j : Nat} (hj : j < n) (hn : n < 2 ^ 31) {v : Int32} (hv : f j = v) (hdg : decode cc pc = .ok (.iaload, 1)) (kk : W p l e R s m args below meth c H locs cells slots Q (F0 m (pc + 1) ls (.int v :: rest))) : W p l e R s m args below meth c H locs cells slots Q (F0 m pc ls (.int (nI j) :: .ref a :: rest)) := by
  refine va_iald hx hb hK hP q0 t0 ha ht (vp_in_nI hj hn) hdg ?_
  rw [nI_clamp (Nat.lt_trans hj hn), hv]
  exact kk
theorem ld_b (hx : p.tables.exec = Jvm.exec) (hb : c.code = cc) (hK : va_K D cl tys s) (hP : va_P D cl ws H) (q0 t0 : Nat) {cA : ClassId} {n : Nat} {f : Nat → Int32} (ha : ws[q0]? = some (a, .inl (cA, n, .inl f))) (ht : tys[t0]? = some (cA, .byte)) {j : Nat} (hj : j < n) (hn : n < 2 ^ 31) {v : Int32} (hv : f j = v) (hdg : decode cc pc = .ok (.baload, 1)) (kk : W p l e R s m args below meth c H locs cells slots Q (F0 m (pc + 1) ls (.int v :: rest))) : W p l e R s m args below meth c H locs cells slots Q (F0 m pc ls (.int (nI j) :: .ref a :: rest)) := by
  refine va_bald hx hb hK hP q0 t0 ha ht (vp_in_nI hj hn) hdg ?_
  rw [nI_clamp (Nat.lt_trans hj hn), hv]
  exact kk
theorem ld_z (hx : p.tables.exec = Jvm.exec) (hb : c.code = cc) (hK : va_K D cl tys s) (hP : va_P D cl ws H) (q0 t0 : Nat) {cA : ClassId} {n : Nat} {f : Nat → Int32} (ha : ws[q0]? = some (a, .inl (cA, n, .inl f))) (ht : tys[t0]? = some (cA, .boolean)) {j : Nat} (hj : j < n) (hn : n < 2 ^ 31) {v : Int32} (hv : f j = v) (hdg : decode cc pc = .ok (.baload, 1)) (kk : W p l e R s m args below meth c H locs cells slots Q (F0 m (pc + 1) ls (.int v :: rest))) : W p l e R s m args below meth c H locs cells slots Q (F0 m pc ls (.int (nI j) :: .ref a :: rest)) := by
  refine va_zald hx hb hK hP q0 t0 ha ht (vp_in_nI hj hn) hdg ?_
  rw [nI_clamp (Nat.lt_trans hj hn), hv]
  exact kk
theorem ld_s (hx : p.tables.exec = Jvm.exec) (hb : c.code = cc) (hK : va_K D cl tys s) (hP : va_P D cl ws H) (q0 t0 : Nat) {cA : ClassId} {n : Nat} {f : Nat → Int32} (ha : ws[q0]? = some (a, .inl (cA, n, .inl f))) (ht : tys[t0]? = some (cA, .short)) {j : Nat} (hj : j < n) (hn : n < 2 ^ 31) {v : Int32} (hv : f j = v) (hdg : decode cc pc = .ok (.saload, 1)) (kk : W p l e R s m args below meth c H locs cells slots Q (F0 m (pc + 1) ls (.int v :: rest))) : W p l e R s m args below meth c H locs cells slots Q (F0 m pc ls (.int (nI j) :: .ref a :: rest)) := by
  refine va_sald hx hb hK hP q0 t0 ha ht (vp_in_nI hj hn) hdg ?_
  rw [nI_clamp (Nat.lt_trans hj hn), hv]
  exact kk
theorem st_i (hx : p.tables.exec = Jvm.exec) (hb : c.code = cc) (hK : va_K D cl tys s) (hP : va_P D cl ws H) (hD : va_D A ws) (hS : va_S A H0 H locs) (q0 t0 : Nat) {cA : ClassId} {n : Nat} {f g : Nat → Int32} (ha : ws[q0]? = some (a, .inl (cA, n, .inl f))) (ht : tys[t0]? = some (cA, .int)) {j : Nat} (hj : j < n) (hn : n < 2 ^ 31) {x : Int32} (hg : upd f j x = g) {w' : va_W} (hw : ws.set q0 (a, .inl (cA, n, .inl g)) = w') (hdg : decode cc pc = .ok (.iastore, 1))
    (kk : ∀ (H1 : Heap) (locs1 : List Loc), va_P D cl w' H1 → va_D A w' → va_S A H0 H1 locs1 → W p l e R s m args below meth c H1 locs1 cells slots Q (F0 m (pc + 1) ls rest)) : W p l e R s m args below meth c H locs cells slots Q (F0 m pc ls (.int x :: .int (nI j) :: .ref a :: rest)) := by
  refine va_iast hx hb hK hP hD hS q0 t0 ha ht (vp_in_nI hj hn) hdg (fun H1 locs1 h1 h2 h3 => ?_)
  rw [nI_clamp (Nat.lt_trans hj hn), hg, hw] at h1 h2
  exact kk H1 locs1 h1 h2 h3
theorem st_b (hx : p.tables.exec = Jvm.exec) (hb : c.code = cc) (hK : va_K D cl tys s) (hP : va_P D cl ws H) (hD : va_D A ws) (hS : va_S A H0 H locs) (q0 t0 : Nat) {cA : ClassId} {n : Nat} {f g : Nat → Int32} (ha : ws[q0]? = some (a, .inl (cA, n, .inl f))) (ht : tys[t0]? = some (cA, .byte)) {j : Nat} (hj : j < n) (hn : n < 2 ^ 31) {x : Int32} (hg : upd f j (vp_nar .byte x) = g) {w' : va_W} (hw : ws.set q0 (a, .inl (cA, n, .inl g)) = w') (hdg : decode cc pc = .ok (.bastore, 1))
    (kk : ∀ (H1 : Heap) (locs1 : List Loc), va_P D cl w' H1 → va_D A w' → va_S A H0 H1 locs1 → W p l e R s m args below meth c H1 locs1 cells slots Q (F0 m (pc + 1) ls rest)) : W p l e R s m args below meth c H locs cells slots Q (F0 m pc ls (.int x :: .int (nI j) :: .ref a :: rest)) := by
  refine va_bast hx hb hK hP hD hS q0 t0 ha ht (vp_in_nI hj hn) hdg (fun H1 locs1 h1 h2 h3 => ?_)
  rw [nI_clamp (Nat.lt_trans hj hn), hg, hw] at h1 h2
  exact kk H1 locs1 h1 h2 h3
theorem st_z (hx : p.tables.exec = Jvm.exec) (hb : c.code = cc) (hK : va_K D cl tys s) (hP : va_P D cl ws H) (hD : va_D A ws) (hS : va_S A H0 H locs) (q0 t0 : Nat) {cA : ClassId} {n : Nat} {f g : Nat → Int32} (ha : ws[q0]? = some (a, .inl (cA, n, .inl f))) (ht : tys[t0]? = some (cA, .boolean)) {j : Nat} (hj : j < n) (hn : n < 2 ^ 31) {x : Int32} (hg : upd f j (vp_nar .boolean x) = g) {w' : va_W} (hw : ws.set q0 (a, .inl (cA, n, .inl g)) = w') (hdg : decode cc pc = .ok (.bastore, 1))
    (kk : ∀ (H1 : Heap) (locs1 : List Loc), va_P D cl w' H1 → va_D A w' → va_S A H0 H1 locs1 → W p l e R s m args below meth c H1 locs1 cells slots Q (F0 m (pc + 1) ls rest)) : W p l e R s m args below meth c H locs cells slots Q (F0 m pc ls (.int x :: .int (nI j) :: .ref a :: rest)) := by
  refine va_zast hx hb hK hP hD hS q0 t0 ha ht (vp_in_nI hj hn) hdg (fun H1 locs1 h1 h2 h3 => ?_)
  rw [nI_clamp (Nat.lt_trans hj hn), hg, hw] at h1 h2
  exact kk H1 locs1 h1 h2 h3
theorem st_s (hx : p.tables.exec = Jvm.exec) (hb : c.code = cc) (hK : va_K D cl tys s) (hP : va_P D cl ws H) (hD : va_D A ws) (hS : va_S A H0 H locs) (q0 t0 : Nat) {cA : ClassId} {n : Nat} {f g : Nat → Int32} (ha : ws[q0]? = some (a, .inl (cA, n, .inl f))) (ht : tys[t0]? = some (cA, .short)) {j : Nat} (hj : j < n) (hn : n < 2 ^ 31) {x : Int32} (hg : upd f j (vp_nar .short x) = g) {w' : va_W} (hw : ws.set q0 (a, .inl (cA, n, .inl g)) = w') (hdg : decode cc pc = .ok (.sastore, 1))
    (kk : ∀ (H1 : Heap) (locs1 : List Loc), va_P D cl w' H1 → va_D A w' → va_S A H0 H1 locs1 → W p l e R s m args below meth c H1 locs1 cells slots Q (F0 m (pc + 1) ls rest)) : W p l e R s m args below meth c H locs cells slots Q (F0 m pc ls (.int x :: .int (nI j) :: .ref a :: rest)) := by
  refine va_sast hx hb hK hP hD hS q0 t0 ha ht (vp_in_nI hj hn) hdg (fun H1 locs1 h1 h2 h3 => ?_)
  rw [nI_clamp (Nat.lt_trans hj hn), hg, hw] at h1 h2
  exact kk H1 locs1 h1 h2 h3
theorem gf0_0 (hx : p.tables.exec = Jvm.exec) (hb : c.code = cc) (hts : ∀ w ∈ lw_all, w.before args s = true) (hown : s.vm.findClass RX0 = some m.cls) (hK : va_K D vwCl tys s) (hP : va_P D vwCl ws H) {fs : List Value} (he : ws[0]? = some (a, .inr (0, fs))) {v : Value} (hv : fs[0]? = some v) (hdg : decode cc pc = .ok (.getfield 27, 3)) (kk : W p l e R s m args below meth c H locs cells slots Q (F0 m (pc + 3) ls (v :: rest))) : W p l e R s m args below meth c H locs cells slots Q (F0 m pc ls (.ref a :: rest)) :=
  va_get (D := D) (ci := 0) (C := RX0) (T := TX0) (N := 9) hx hb hts in_X0 hown hK hP 0 he rfl 0 (by decide) (hts _ q29) (fun _ h9 => h9) hv hdg kk
theorem gf0_1 (hx : p.tables.exec = Jvm.exec) (hb : c.code = cc) (hts : ∀ w ∈ lw_all, w.before args s = true) (hown : s.vm.findClass RX0 = some m.cls) (hK : va_K D vwCl tys s) (hP : va_P D vwCl ws H) {fs : List Value} (he : ws[0]? = some (a, .inr (0, fs))) {v : Value} (hv : fs[1]? = some v) (hdg : decode cc pc = .ok (.getfield 7, 3)) (kk : W p l e R s m args below meth c H locs cells slots Q (F0 m (pc + 3) ls (v :: rest))) : W p l e R s m args below meth c H locs cells slots Q (F0 m pc ls (.ref a :: rest)) :=
  va_get (D := D) (ci := 0) (C := RX0) (T := TX0) (N := 9) hx hb hts in_X0 hown hK hP 0 he rfl 1 (by decide) (hts _ q30) (fun _ h9 => h9) hv hdg kk
theorem gf0_2 (hx : p.tables.exec = Jvm.exec) (hb : c.code = cc) (hts : ∀ w ∈ lw_all, w.before args s = true) (hown : s.vm.findClass RX0 = some m.cls) (hK : va_K D vwCl tys s) (hP : va_P D vwCl ws H) {fs : List Value} (he : ws[0]? = some (a, .inr (0, fs))) {v : Value} (hv : fs[2]? = some v) (hdg : decode cc pc = .ok (.getfield 13, 3)) (kk : W p l e R s m args below meth c H locs cells slots Q (F0 m (pc + 3) ls (v :: rest))) : W p l e R s m args below meth c H locs cells slots Q (F0 m pc ls (.ref a :: rest)) :=
  va_get (D := D) (ci := 0) (C := RX0) (T := TX0) (N := 9) hx hb hts in_X0 hown hK hP 0 he rfl 2 (by decide) (hts _ q31) (fun _ h9 => h9) hv hdg kk
theorem gf0_3 (hx : p.tables.exec = Jvm.exec) (hb : c.code = cc) (hts : ∀ w ∈ lw_all, w.before args s = true) (hown : s.vm.findClass RX0 = some m.cls) (hK : va_K D vwCl tys s) (hP : va_P D vwCl ws H) {fs : List Value} (he : ws[0]? = some (a, .inr (0, fs))) {v : Value} (hv : fs[3]? = some v) (hdg : decode cc pc = .ok (.getfield 17, 3)) (kk : W p l e R s m args below meth c H locs cells slots Q (F0 m (pc + 3) ls (v :: rest))) : W p l e R s m args below meth c H locs cells slots Q (F0 m pc ls (.ref a :: rest)) :=
  va_get (D := D) (ci := 0) (C := RX0) (T := TX0) (N := 9) hx hb hts in_X0 hown hK hP 0 he rfl 3 (by decide) (hts _ q32) (fun _ h9 => h9) hv hdg kk
theorem gf0_4 (hx : p.tables.exec = Jvm.exec) (hb : c.code = cc) (hts : ∀ w ∈ lw_all, w.before args s = true) (hown : s.vm.findClass RX0 = some m.cls) (hK : va_K D vwCl tys s) (hP : va_P D vwCl ws H) {fs : List Value} (he : ws[0]? = some (a, .inr (0, fs))) {v : Value} (hv : fs[4]? = some v) (hdg : decode cc pc = .ok (.getfield 42, 3)) (kk : W p l e R s m args below meth c H locs cells slots Q (F0 m (pc + 3) ls (v :: rest))) : W p l e R s m args below meth c H locs cells slots Q (F0 m pc ls (.ref a :: rest)) :=
  va_get (D := D) (ci := 0) (C := RX0) (T := TX0) (N := 9) hx hb hts in_X0 hown hK hP 0 he rfl 4 (by decide) (hts _ q33) (fun _ h9 => h9) hv hdg kk
theorem gf0_5 (hx : p.tables.exec = Jvm.exec) (hb : c.code = cc) (hts : ∀ w ∈ lw_all, w.before args s = true) (hown : s.vm.findClass RX0 = some m.cls) (hK : va_K D vwCl tys s) (hP : va_P D vwCl ws H) {fs : List Value} (he : ws[0]? = some (a, .inr (0, fs))) {v : Value} (hv : fs[5]? = some v) (hdg : decode cc pc = .ok (.getfield 38, 3)) (kk : W p l e R s m args below meth c H locs cells slots Q (F0 m (pc + 3) ls (v :: rest))) : W p l e R s m args below meth c H locs cells slots Q (F0 m pc ls (.ref a :: rest)) :=
  va_get (D := D) (ci := 0) (C := RX0) (T := TX0) (N := 9) hx hb hts in_X0 hown hK hP 0 he rfl 5 (by decide) (hts _ q34) (fun _ h9 => h9) hv hdg kk
theorem gf0_6 (hx : p.tables.exec = Jvm.exec) (hb : c.code = cc) (hts : ∀ w ∈ lw_all, w.before args s = true) (hown : s.vm.findClass RX0 = some m.cls) (hK : va_K D vwCl tys s) (hP : va_P D vwCl ws H) {fs : List Value} (he : ws[0]? = some (a, .inr (0, fs))) {v : Value} (hv : fs[6]? = some v) (hdg : decode cc pc = .ok (.getfield 20, 3)) (kk : W p l e R s m args below meth c H locs cells slots Q (F0 m (pc + 3) ls (v :: rest))) : W p l e R s m args below meth c H locs cells slots Q (F0 m pc ls (.ref a :: rest)) :=
  va_get (D := D) (ci := 0) (C := RX0) (T := TX0) (N := 9) hx hb hts in_X0 hown hK hP 0 he rfl 6 (by decide) (hts _ q35) (fun _ h9 => h9) hv hdg kk
theorem gf0_7 (hx : p.tables.exec = Jvm.exec) (hb : c.code = cc) (hts : ∀ w ∈ lw_all, w.before args s = true) (hown : s.vm.findClass RX0 = some m.cls) (hK : va_K D vwCl tys s) (hP : va_P D vwCl ws H) {fs : List Value} (he : ws[0]? = some (a, .inr (0, fs))) {v : Value} (hv : fs[7]? = some v) (hdg : decode cc pc = .ok (.getfield 24, 3)) (kk : W p l e R s m args below meth c H locs cells slots Q (F0 m (pc + 3) ls (v :: rest))) : W p l e R s m args below meth c H locs cells slots Q (F0 m pc ls (.ref a :: rest)) :=
  va_get (D := D) (ci := 0) (C := RX0) (T := TX0) (N := 9) hx hb hts in_X0 hown hK hP 0 he rfl 7 (by decide) (hts _ q36) (fun _ h9 => h9) hv hdg kk
theorem gf0_8 (hx : p.tables.exec = Jvm.exec) (hb : c.code = cc) (hts : ∀ w ∈ lw_all, w.before args s = true) (hown : s.vm.findClass RX0 = some m.cls) (hK : va_K D vwCl tys s) (hP : va_P D vwCl ws H) {fs : List Value} (he : ws[0]? = some (a, .inr (0, fs))) {v : Value} (hv : fs[8]? = some v) (hdg : decode cc pc = .ok (.getfield 57, 3)) (kk : W p l e R s m args below meth c H locs cells slots Q (F0 m (pc + 3) ls (v :: rest))) : W p l e R s m args below meth c H locs cells slots Q (F0 m pc ls (.ref a :: rest)) :=
  va_get (D := D) (ci := 0) (C := RX0) (T := TX0) (N := 9) hx hb hts in_X0 hown hK hP 0 he rfl 8 (by decide) (hts _ q37) (fun _ h9 => h9) hv hdg kk
theorem gf1_0 (hx : p.tables.exec = Jvm.exec) (hb : c.code = cc) (hts : ∀ w ∈ lw_all, w.before args s = true) (hown : s.vm.findClass RX1 = some m.cls) (hK : va_K D vwCl tys s) (hP : va_P D vwCl ws H) {fs : List Value} (he : ws[0]? = some (a, .inr (1, fs))) {v : Value} (hv : fs[0]? = some v) (hdg : decode cc pc = .ok (.getfield 7, 3)) (kk : W p l e R s m args below meth c H locs cells slots Q (F0 m (pc + 3) ls (v :: rest))) : W p l e R s m args below meth c H locs cells slots Q (F0 m pc ls (.ref a :: rest)) :=
  va_get (D := D) (ci := 1) (C := RX1) (T := TX1) (N := 5) hx hb hts in_X1 hown hK hP 0 he rfl 0 (by decide) (hts _ q174) (fun _ h9 => h9) hv hdg kk
theorem gf1_1 (hx : p.tables.exec = Jvm.exec) (hb : c.code = cc) (hts : ∀ w ∈ lw_all, w.before args s = true) (hown : s.vm.findClass RX1 = some m.cls) (hK : va_K D vwCl tys s) (hP : va_P D vwCl ws H) {fs : List Value} (he : ws[0]? = some (a, .inr (1, fs))) {v : Value} (hv : fs[1]? = some v) (hdg : decode cc pc = .ok (.getfield 13, 3)) (kk : W p l e R s m args below meth c H locs cells slots Q (F0 m (pc + 3) ls (v :: rest))) : W p l e R s m args below meth c H locs cells slots Q (F0 m pc ls (.ref a :: rest)) :=
  va_get (D := D) (ci := 1) (C := RX1) (T := TX1) (N := 5) hx hb hts in_X1 hown hK hP 0 he rfl 1 (by decide) (hts _ q175) (fun _ h9 => h9) hv hdg kk
theorem gf1_2 (hx : p.tables.exec = Jvm.exec) (hb : c.code = cc) (hts : ∀ w ∈ lw_all, w.before args s = true) (hown : s.vm.findClass RX1 = some m.cls) (hK : va_K D vwCl tys s) (hP : va_P D vwCl ws H) {fs : List Value} (he : ws[0]? = some (a, .inr (1, fs))) {v : Value} (hv : fs[2]? = some v) (hdg : decode cc pc = .ok (.getfield 16, 3)) (kk : W p l e R s m args below meth c H locs cells slots Q (F0 m (pc + 3) ls (v :: rest))) : W p l e R s m args below meth c H locs cells slots Q (F0 m pc ls (.ref a :: rest)) :=
  va_get (D := D) (ci := 1) (C := RX1) (T := TX1) (N := 5) hx hb hts in_X1 hown hK hP 0 he rfl 2 (by decide) (hts _ q176) (fun _ h9 => h9) hv hdg kk
theorem gf1_3 (hx : p.tables.exec = Jvm.exec) (hb : c.code = cc) (hts : ∀ w ∈ lw_all, w.before args s = true) (hown : s.vm.findClass RX1 = some m.cls) (hK : va_K D vwCl tys s) (hP : va_P D vwCl ws H) {fs : List Value} (he : ws[0]? = some (a, .inr (1, fs))) {v : Value} (hv : fs[3]? = some v) (hdg : decode cc pc = .ok (.getfield 30, 3)) (kk : W p l e R s m args below meth c H locs cells slots Q (F0 m (pc + 3) ls (v :: rest))) : W p l e R s m args below meth c H locs cells slots Q (F0 m pc ls (.ref a :: rest)) :=
  va_get (D := D) (ci := 1) (C := RX1) (T := TX1) (N := 5) hx hb hts in_X1 hown hK hP 0 he rfl 3 (by decide) (hts _ q177) (fun _ h9 => h9) hv hdg kk
theorem gf1_4 (hx : p.tables.exec = Jvm.exec) (hb : c.code = cc) (hts : ∀ w ∈ lw_all, w.before args s = true) (hown : s.vm.findClass RX1 = some m.cls) (hK : va_K D vwCl tys s) (hP : va_P D vwCl ws H) {fs : List Value} (he : ws[0]? = some (a, .inr (1, fs))) {v : Value} (hv : fs[4]? = some v) (hdg : decode cc pc = .ok (.getfield 19, 3)) (kk : W p l e R s m args below meth c H locs cells slots Q (F0 m (pc + 3) ls (v :: rest))) : W p l e R s m args below meth c H locs cells slots Q (F0 m pc ls (.ref a :: rest)) :=
  va_get (D := D) (ci := 1) (C := RX1) (T := TX1) (N := 5) hx hb hts in_X1 hown hK hP 0 he rfl 4 (by decide) (hts _ q178) (fun _ h9 => h9) hv hdg kk
theorem pf0_0 (hx : p.tables.exec = Jvm.exec) (hb : c.code = cc) (hts : ∀ w ∈ lw_all, w.before args s = true) (hown : s.vm.findClass RX0 = some m.cls) (hK : va_K D vwCl tys s) (hP : va_P D vwCl ws H) (hD : va_D A ws) (hS : va_S A H0 H locs) {fs : List Value} (he : ws[0]? = some (a, .inr (0, fs))) {v : Value} (hn : narrow (.int) v = v) (hf : fits (.int) v = true) (hl : 0 < fs.length) {w' : va_W} (hw : ws.set 0 (a, .inr (0, fs.set 0 v)) = w') (hdg : decode cc pc = .ok (.putfield 27, 3))
    (kk : ∀ (H1 : Heap) (locs1 : List Loc), va_P D vwCl w' H1 → va_D A w' → va_S A H0 H1 locs1 → W p l e R s m args below meth c H1 locs1 cells slots Q (F0 m (pc + 3) ls rest)) : W p l e R s m args below meth c H locs cells slots Q (F0 m pc ls (v :: .ref a :: rest)) := by
  refine va_put (D := D) (ci := 0) (ty := .int) (C := RX0) (T := TX0) (N := 9) hx hb hts in_X0 tyX0 tyX0_ok nmX0 hown hK hP hD hS 0 he rfl 0 (by decide) (hts _ q29) (fun _ h9 => h9) rfl (by decide +kernel) hn hf hl hdg (fun H1 locs1 h1 h2 h3 => ?_)
  rw [hw] at h1 h2
  exact kk H1 locs1 h1 h2 h3
theorem pf0_4 (hx : p.tables.exec = Jvm.exec) (hb : c.code = cc) (hts : ∀ w ∈ lw_all, w.before args s = true) (hown : s.vm.findClass RX0 = some m.cls) (hK : va_K D vwCl tys s) (hP : va_P D vwCl ws H) (hD : va_D A ws) (hS : va_S A H0 H locs) {fs : List Value} (he : ws[0]? = some (a, .inr (0, fs))) {v : Value} (hn : narrow (.int) v = v) (hf : fits (.int) v = true) (hl : 4 < fs.length) {w' : va_W} (hw : ws.set 0 (a, .inr (0, fs.set 4 v)) = w') (hdg : decode cc pc = .ok (.putfield 42, 3))
    (kk : ∀ (H1 : Heap) (locs1 : List Loc), va_P D vwCl w' H1 → va_D A w' → va_S A H0 H1 locs1 → W p l e R s m args below meth c H1 locs1 cells slots Q (F0 m (pc + 3) ls rest)) : W p l e R s m args below meth c H locs cells slots Q (F0 m pc ls (v :: .ref a :: rest)) := by
  refine va_put (D := D) (ci := 0) (ty := .int) (C := RX0) (T := TX0) (N := 9) hx hb hts in_X0 tyX0 tyX0_ok nmX0 hown hK hP hD hS 0 he rfl 4 (by decide) (hts _ q33) (fun _ h9 => h9) rfl (by decide +kernel) hn hf hl hdg (fun H1 locs1 h1 h2 h3 => ?_)
  rw [hw] at h1 h2
  exact kk H1 locs1 h1 h2 h3
theorem pf0_5 (hx : p.tables.exec = Jvm.exec) (hb : c.code = cc) (hts : ∀ w ∈ lw_all, w.before args s = true) (hown : s.vm.findClass RX0 = some m.cls) (hK : va_K D vwCl tys s) (hP : va_P D vwCl ws H) (hD : va_D A ws) (hS : va_S A H0 H locs) {fs : List Value} (he : ws[0]? = some (a, .inr (0, fs))) {v : Value} (hn : narrow (.boolean) v = v) (hf : fits (.boolean) v = true) (hl : 5 < fs.length) {w' : va_W} (hw : ws.set 0 (a, .inr (0, fs.set 5 v)) = w') (hdg : decode cc pc = .ok (.putfield 38, 3))
    (kk : ∀ (H1 : Heap) (locs1 : List Loc), va_P D vwCl w' H1 → va_D A w' → va_S A H0 H1 locs1 → W p l e R s m args below meth c H1 locs1 cells slots Q (F0 m (pc + 3) ls rest)) : W p l e R s m args below meth c H locs cells slots Q (F0 m pc ls (v :: .ref a :: rest)) := by
  refine va_put (D := D) (ci := 0) (ty := .boolean) (C := RX0) (T := TX0) (N := 9) hx hb hts in_X0 tyX0 tyX0_ok nmX0 hown hK hP hD hS 0 he rfl 5 (by decide) (hts _ q34) (fun _ h9 => h9) rfl (by decide +kernel) hn hf hl hdg (fun H1 locs1 h1 h2 h3 => ?_)
  rw [hw] at h1 h2
  exact kk H1 locs1 h1 h2 h3
theorem pf0_8 (hx : p.tables.exec = Jvm.exec) (hb : c.code = cc) (hts : ∀ w ∈ lw_all, w.before args s = true) (hown : s.vm.findClass RX0 = some m.cls) (hK : va_K D vwCl tys s) (hP : va_P D vwCl ws H) (hD : va_D A ws) (hS : va_S A H0 H locs) {fs : List Value} (he : ws[0]? = some (a, .inr (0, fs))) {v : Value} (hn : narrow (.int) v = v) (hf : fits (.int) v = true) (hl : 8 < fs.length) {w' : va_W} (hw : ws.set 0 (a, .inr (0, fs.set 8 v)) = w') (hdg : decode cc pc = .ok (.putfield 57, 3))
    (kk : ∀ (H1 : Heap) (locs1 : List Loc), va_P D vwCl w' H1 → va_D A w' → va_S A H0 H1 locs1 → W p l e R s m args below meth c H1 locs1 cells slots Q (F0 m (pc + 3) ls rest)) : W p l e R s m args below meth c H locs cells slots Q (F0 m pc ls (v :: .ref a :: rest)) := by
  refine va_put (D := D) (ci := 0) (ty := .int) (C := RX0) (T := TX0) (N := 9) hx hb hts in_X0 tyX0 tyX0_ok nmX0 hown hK hP hD hS 0 he rfl 8 (by decide) (hts _ q37) (fun _ h9 => h9) rfl (by decide +kernel) hn hf hl hdg (fun H1 locs1 h1 h2 h3 => ?_)
  rw [hw] at h1 h2
  exact kk H1 locs1 h1 h2 h3
theorem pf1_0 (hx : p.tables.exec = Jvm.exec) (hb : c.code = cc) (hts : ∀ w ∈ lw_all, w.before args s = true) (hown : s.vm.findClass RX1 = some m.cls) (hK : va_K D vwCl tys s) (hP : va_P D vwCl ws H) (hD : va_D A ws) (hS : va_S A H0 H locs) {fs : List Value} (he : ws[0]? = some (a, .inr (1, fs))) {v : Value} (hn : narrow (.array .int) v = v) (hf : fits (.array .int) v = true) (hl : 0 < fs.length) {w' : va_W} (hw : ws.set 0 (a, .inr (1, fs.set 0 v)) = w') (hdg : decode cc pc = .ok (.putfield 7, 3))
    (kk : ∀ (H1 : Heap) (locs1 : List Loc), va_P D vwCl w' H1 → va_D A w' → va_S A H0 H1 locs1 → W p l e R s m args below meth c H1 locs1 cells slots Q (F0 m (pc + 3) ls rest)) : W p l e R s m args below meth c H locs cells slots Q (F0 m pc ls (v :: .ref a :: rest)) := by
  refine va_put (D := D) (ci := 1) (ty := .array .int) (C := RX1) (T := TX1) (N := 5) hx hb hts in_X1 tyX1 tyX1_ok nmX1 hown hK hP hD hS 0 he rfl 0 (by decide) (hts _ q174) (fun _ h9 => h9) rfl (by decide +kernel) hn hf hl hdg (fun H1 locs1 h1 h2 h3 => ?_)
  rw [hw] at h1 h2
  exact kk H1 locs1 h1 h2 h3
theorem pf1_1 (hx : p.tables.exec = Jvm.exec) (hb : c.code = cc) (hts : ∀ w ∈ lw_all, w.before args s = true) (hown : s.vm.findClass RX1 = some m.cls) (hK : va_K D vwCl tys s) (hP : va_P D vwCl ws H) (hD : va_D A ws) (hS : va_S A H0 H locs) {fs : List Value} (he : ws[0]? = some (a, .inr (1, fs))) {v : Value} (hn : narrow (.array .int) v = v) (hf : fits (.array .int) v = true) (hl : 1 < fs.length) {w' : va_W} (hw : ws.set 0 (a, .inr (1, fs.set 1 v)) = w') (hdg : decode cc pc = .ok (.putfield 13, 3))
    (kk : ∀ (H1 : Heap) (locs1 : List Loc), va_P D vwCl w' H1 → va_D A w' → va_S A H0 H1 locs1 → W p l e R s m args below meth c H1 locs1 cells slots Q (F0 m (pc + 3) ls rest)) : W p l e R s m args below meth c H locs cells slots Q (F0 m pc ls (v :: .ref a :: rest)) := by
  refine va_put (D := D) (ci := 1) (ty := .array .int) (C := RX1) (T := TX1) (N := 5) hx hb hts in_X1 tyX1 tyX1_ok nmX1 hown hK hP hD hS 0 he rfl 1 (by decide) (hts _ q175) (fun _ h9 => h9) rfl (by decide +kernel) hn hf hl hdg (fun H1 locs1 h1 h2 h3 => ?_)
  rw [hw] at h1 h2
  exact kk H1 locs1 h1 h2 h3
theorem pf1_2 (hx : p.tables.exec = Jvm.exec) (hb : c.code = cc) (hts : ∀ w ∈ lw_all, w.before args s = true) (hown : s.vm.findClass RX1 = some m.cls) (hK : va_K D vwCl tys s) (hP : va_P D vwCl ws H) (hD : va_D A ws) (hS : va_S A H0 H locs) {fs : List Value} (he : ws[0]? = some (a, .inr (1, fs))) {v : Value} (hn : narrow (.array .int) v = v) (hf : fits (.array .int) v = true) (hl : 2 < fs.length) {w' : va_W} (hw : ws.set 0 (a, .inr (1, fs.set 2 v)) = w') (hdg : decode cc pc = .ok (.putfield 16, 3))
    (kk : ∀ (H1 : Heap) (locs1 : List Loc), va_P D vwCl w' H1 → va_D A w' → va_S A H0 H1 locs1 → W p l e R s m args below meth c H1 locs1 cells slots Q (F0 m (pc + 3) ls rest)) : W p l e R s m args below meth c H locs cells slots Q (F0 m pc ls (v :: .ref a :: rest)) := by
  refine va_put (D := D) (ci := 1) (ty := .array .int) (C := RX1) (T := TX1) (N := 5) hx hb hts in_X1 tyX1 tyX1_ok nmX1 hown hK hP hD hS 0 he rfl 2 (by decide) (hts _ q176) (fun _ h9 => h9) rfl (by decide +kernel) hn hf hl hdg (fun H1 locs1 h1 h2 h3 => ?_)
  rw [hw] at h1 h2
  exact kk H1 locs1 h1 h2 h3
theorem pf1_3 (hx : p.tables.exec = Jvm.exec) (hb : c.code = cc) (hts : ∀ w ∈ lw_all, w.before args s = true) (hown : s.vm.findClass RX1 = some m.cls) (hK : va_K D vwCl tys s) (hP : va_P D vwCl ws H) (hD : va_D A ws) (hS : va_S A H0 H locs) {fs : List Value} (he : ws[0]? = some (a, .inr (1, fs))) {v : Value} (hn : narrow (.int) v = v) (hf : fits (.int) v = true) (hl : 3 < fs.length) {w' : va_W} (hw : ws.set 0 (a, .inr (1, fs.set 3 v)) = w') (hdg : decode cc pc = .ok (.putfield 30, 3))
    (kk : ∀ (H1 : Heap) (locs1 : List Loc), va_P D vwCl w' H1 → va_D A w' → va_S A H0 H1 locs1 → W p l e R s m args below meth c H1 locs1 cells slots Q (F0 m (pc + 3) ls rest)) : W p l e R s m args below meth c H locs cells slots Q (F0 m pc ls (v :: .ref a :: rest)) := by
  refine va_put (D := D) (ci := 1) (ty := .int) (C := RX1) (T := TX1) (N := 5) hx hb hts in_X1 tyX1 tyX1_ok nmX1 hown hK hP hD hS 0 he rfl 3 (by decide) (hts _ q177) (fun _ h9 => h9) rfl (by decide +kernel) hn hf hl hdg (fun H1 locs1 h1 h2 h3 => ?_)
  rw [hw] at h1 h2
  exact kk H1 locs1 h1 h2 h3
theorem pf1_4 (hx : p.tables.exec = Jvm.exec) (hb : c.code = cc) (hts : ∀ w ∈ lw_all, w.before args s = true) (hown : s.vm.findClass RX1 = some m.cls) (hK : va_K D vwCl tys s) (hP : va_P D vwCl ws H) (hD : va_D A ws) (hS : va_S A H0 H locs) {fs : List Value} (he : ws[0]? = some (a, .inr (1, fs))) {v : Value} (hn : narrow (.array .boolean) v = v) (hf : fits (.array .boolean) v = true) (hl : 4 < fs.length) {w' : va_W} (hw : ws.set 0 (a, .inr (1, fs.set 4 v)) = w') (hdg : decode cc pc = .ok (.putfield 19, 3))
    (kk : ∀ (H1 : Heap) (locs1 : List Loc), va_P D vwCl w' H1 → va_D A w' → va_S A H0 H1 locs1 → W p l e R s m args below meth c H1 locs1 cells slots Q (F0 m (pc + 3) ls rest)) : W p l e R s m args below meth c H locs cells slots Q (F0 m pc ls (v :: .ref a :: rest)) := by
  refine va_put (D := D) (ci := 1) (ty := .array .boolean) (C := RX1) (T := TX1) (N := 5) hx hb hts in_X1 tyX1 tyX1_ok nmX1 hown hK hP hD hS 0 he rfl 4 (by decide) (hts _ q178) (fun _ h9 => h9) rfl (by decide +kernel) hn hf hl hdg (fun H1 locs1 h1 h2 h3 => ?_)
  rw [hw] at h1 h2
  exact kk H1 locs1 h1 h2 h3
theorem pF0_1 (hx : p.tables.exec = Jvm.exec) (hb : c.code = cc) (hts : ∀ w ∈ lw_all, w.before args s = true) (hown : s.vm.findClass RX0 = some m.cls) (hin : meth.name = "<init>") (hK : va_K D vwCl tys s) (hP : va_P D vwCl ws H) (hD : va_D A ws) (hS : va_S A H0 H locs) {fs : List Value} (he : ws[0]? = some (a, .inr (0, fs))) {v : Value} (hn : narrow (.array .short) v = v) (hf : fits (.array .short) v = true) (hl : 1 < fs.length) {w' : va_W} (hw : ws.set 0 (a, .inr (0, fs.set 1 v)) = w') (hdg : decode cc pc = .ok (.putfield 7, 3))
    (kk : ∀ (H1 : Heap) (locs1 : List Loc), va_P D vwCl w' H1 → va_D A w' → va_S A H0 H1 locs1 → W p l e R s m args below meth c H1 locs1 cells slots Q (F0 m (pc + 3) ls rest)) : W p l e R s m args below meth c H locs cells slots Q (F0 m pc ls (v :: .ref a :: rest)) := by
  refine va_putF (D := D) (ci := 0) (ty := .array .short) (C := RX0) (T := TX0) (N := 9) hx hb hts in_X0 tyX0 tyX0_ok nmX0 hown hK hP hD hS 0 he rfl 1 (by decide) (hts _ q30) (fun _ h9 => h9) rfl hin rfl (by decide +kernel) hn hf hl hdg (fun H1 locs1 h1 h2 h3 => ?_)
  rw [hw] at h1 h2
  exact kk H1 locs1 h1 h2 h3
theorem pF0_2 (hx : p.tables.exec = Jvm.exec) (hb : c.code = cc) (hts : ∀ w ∈ lw_all, w.before args s = true) (hown : s.vm.findClass RX0 = some m.cls) (hin : meth.name = "<init>") (hK : va_K D vwCl tys s) (hP : va_P D vwCl ws H) (hD : va_D A ws) (hS : va_S A H0 H locs) {fs : List Value} (he : ws[0]? = some (a, .inr (0, fs))) {v : Value} (hn : narrow (.array .byte) v = v) (hf : fits (.array .byte) v = true) (hl : 2 < fs.length) {w' : va_W} (hw : ws.set 0 (a, .inr (0, fs.set 2 v)) = w') (hdg : decode cc pc = .ok (.putfield 13, 3))
    (kk : ∀ (H1 : Heap) (locs1 : List Loc), va_P D vwCl w' H1 → va_D A w' → va_S A H0 H1 locs1 → W p l e R s m args below meth c H1 locs1 cells slots Q (F0 m (pc + 3) ls rest)) : W p l e R s m args below meth c H locs cells slots Q (F0 m pc ls (v :: .ref a :: rest)) := by
  refine va_putF (D := D) (ci := 0) (ty := .array .byte) (C := RX0) (T := TX0) (N := 9) hx hb hts in_X0 tyX0 tyX0_ok nmX0 hown hK hP hD hS 0 he rfl 2 (by decide) (hts _ q31) (fun _ h9 => h9) rfl hin rfl (by decide +kernel) hn hf hl hdg (fun H1 locs1 h1 h2 h3 => ?_)
  rw [hw] at h1 h2
  exact kk H1 locs1 h1 h2 h3
theorem pF0_3 (hx : p.tables.exec = Jvm.exec) (hb : c.code = cc) (hts : ∀ w ∈ lw_all, w.before args s = true) (hown : s.vm.findClass RX0 = some m.cls) (hin : meth.name = "<init>") (hK : va_K D vwCl tys s) (hP : va_P D vwCl ws H) (hD : va_D A ws) (hS : va_S A H0 H locs) {fs : List Value} (he : ws[0]? = some (a, .inr (0, fs))) {v : Value} (hn : narrow (.array .byte) v = v) (hf : fits (.array .byte) v = true) (hl : 3 < fs.length) {w' : va_W} (hw : ws.set 0 (a, .inr (0, fs.set 3 v)) = w') (hdg : decode cc pc = .ok (.putfield 17, 3))
    (kk : ∀ (H1 : Heap) (locs1 : List Loc), va_P D vwCl w' H1 → va_D A w' → va_S A H0 H1 locs1 → W p l e R s m args below meth c H1 locs1 cells slots Q (F0 m (pc + 3) ls rest)) : W p l e R s m args below meth c H locs cells slots Q (F0 m pc ls (v :: .ref a :: rest)) := by
  refine va_putF (D := D) (ci := 0) (ty := .array .byte) (C := RX0) (T := TX0) (N := 9) hx hb hts in_X0 tyX0 tyX0_ok nmX0 hown hK hP hD hS 0 he rfl 3 (by decide) (hts _ q32) (fun _ h9 => h9) rfl hin rfl (by decide +kernel) hn hf hl hdg (fun H1 locs1 h1 h2 h3 => ?_)
  rw [hw] at h1 h2
  exact kk H1 locs1 h1 h2 h3
theorem pF0_6 (hx : p.tables.exec = Jvm.exec) (hb : c.code = cc) (hts : ∀ w ∈ lw_all, w.before args s = true) (hown : s.vm.findClass RX0 = some m.cls) (hin : meth.name = "<init>") (hK : va_K D vwCl tys s) (hP : va_P D vwCl ws H) (hD : va_D A ws) (hS : va_S A H0 H locs) {fs : List Value} (he : ws[0]? = some (a, .inr (0, fs))) {v : Value} (hn : narrow (.array .int) v = v) (hf : fits (.array .int) v = true) (hl : 6 < fs.length) {w' : va_W} (hw : ws.set 0 (a, .inr (0, fs.set 6 v)) = w') (hdg : decode cc pc = .ok (.putfield 20, 3))
    (kk : ∀ (H1 : Heap) (locs1 : List Loc), va_P D vwCl w' H1 → va_D A w' → va_S A H0 H1 locs1 → W p l e R s m args below meth c H1 locs1 cells slots Q (F0 m (pc + 3) ls rest)) : W p l e R s m args below meth c H locs cells slots Q (F0 m pc ls (v :: .ref a :: rest)) := by
  refine va_putF (D := D) (ci := 0) (ty := .array .int) (C := RX0) (T := TX0) (N := 9) hx hb hts in_X0 tyX0 tyX0_ok nmX0 hown hK hP hD hS 0 he rfl 6 (by decide) (hts _ q35) (fun _ h9 => h9) rfl hin rfl (by decide +kernel) hn hf hl hdg (fun H1 locs1 h1 h2 h3 => ?_)
  rw [hw] at h1 h2
  exact kk H1 locs1 h1 h2 h3
theorem pF0_7 (hx : p.tables.exec = Jvm.exec) (hb : c.code = cc) (hts : ∀ w ∈ lw_all, w.before args s = true) (hown : s.vm.findClass RX0 = some m.cls) (hin : meth.name = "<init>") (hK : va_K D vwCl tys s) (hP : va_P D vwCl ws H) (hD : va_D A ws) (hS : va_S A H0 H locs) {fs : List Value} (he : ws[0]? = some (a, .inr (0, fs))) {v : Value} (hn : narrow (.array .int) v = v) (hf : fits (.array .int) v = true) (hl : 7 < fs.length) {w' : va_W} (hw : ws.set 0 (a, .inr (0, fs.set 7 v)) = w') (hdg : decode cc pc = .ok (.putfield 24, 3))
    (kk : ∀ (H1 : Heap) (locs1 : List Loc), va_P D vwCl w' H1 → va_D A w' → va_S A H0 H1 locs1 → W p l e R s m args below meth c H1 locs1 cells slots Q (F0 m (pc + 3) ls rest)) : W p l e R s m args below meth c H locs cells slots Q (F0 m pc ls (v :: .ref a :: rest)) := by
  refine va_putF (D := D) (ci := 0) (ty := .array .int) (C := RX0) (T := TX0) (N := 9) hx hb hts in_X0 tyX0 tyX0_ok nmX0 hown hK hP hD hS 0 he rfl 7 (by decide) (hts _ q36) (fun _ h9 => h9) rfl hin rfl (by decide +kernel) hn hf hl hdg (fun H1 locs1 h1 h2 h3 => ?_)
  rw [hw] at h1 h2
  exact kk H1 locs1 h1 h2 h3
end RWS
/-! ===== methods that only read ===== -/
def RoPc (D : va_G) (w : va_W) (ty : List (ClassId × FieldType)) (av : List Value) : Array Value → State → Prop := va_Pc av (fun U => va_P D vwCl w U.heap ∧ va_K D vwCl ty U)
theorem RoPc.blind {D : va_G} {w : va_W} {ty : List (ClassId × FieldType)} {av : List Value} : FrameBlind (RoPc D w ty av) := by
  intro a U g mk q
  obtain ⟨q0, qP, qK⟩ := q
  exact ⟨q0, qP, va_K.moved (u := U) (U := U.calling g mk a) (Vm.Alike.refl U.vm) qK⟩
/-- method y, called with av on a heap that holds w, answers f and changes nothing -/
def RoMet (l : Launch) (y : MethodName) (b : ByteArray) (L : Nat) (r : Option FieldType) (fr lo : Nat) (D : va_G) (w : va_W) (ty : List (ClassId × FieldType)) (av : List Value) (f : Int32) : Prop :=
  Met l y (ws_ y b L r) (rmF fr lo) (RoPc D w ty av) (QcRead f) 0 0 (fun _ => False)
/-- where a reading method stands -/
abbrev RW (p : Program) (l : Launch) (e : Env) (s : State) (m : MethodId) (below : List Frame) (meth : Method) (c : Code) (fr lo : Nat) (av : List Value) (f : Int32) (pc : Nat) (ls : Array Slot) (st : List Value) : Prop :=
  W p l e (rmF fr lo) s m av.toArray below meth c s.heap [] 0 0 (MQ below (QcRead f) av.toArray s 0 0 (fun _ => False)) (F0 m pc ls st)
theorem ro_of {l : Launch} {y : MethodName} {b : ByteArray} {L : Nat} {r : Option FieldType} {fr lo : Nat} {D : va_G} {w : va_W} {ty : List (ClassId × FieldType)} {av : List Value} {f : Int32} (hy : plainName y.cls = true) (hL : (lg_sl av).length ≤ L) {lv : List (Nat × Value)} (hlv : lv_args 0 av = lv)
    (body : ∀ (p : Program) (e : Env) (s : State) (m : MethodId) (below : List Frame) (meth : Method) (c : Code), p.tables.exec = Jvm.exec → c.code = b → meth.sig.returnType = r → c.maxLocals = L → s.vm.findClass y.cls = some m.cls → (∀ w ∈ lw_all, w.before av.toArray s = true) → meth.locks = false → va_P D vwCl w s.heap → va_K D vwCl ty s → ∀ ls : Array Slot, lv_has ls L lv → RW p l e s m below meth c fr lo av f 0 ls []) : RoMet l y b L r fr lo D w ty av f := by
  refine Met.ofW (cc := b) (maxL := L) (ret := r) hy rfl ?_
  intro p e s m args below meth c s₁ B hml hv
  obtain ⟨rfl, hP, hK⟩ := hv
  have hts := atoms_spec (ws := ws_ y b L r) B.pre
  have hts : ∀ w ∈ lw_all, w.before _ s = true := fun w h => hts w (List.mem_cons_of_mem _ h)
  have hown : s.vm.findClass y.cls = some m.cls := findClass_of_methodNamed B.named
  have hl := lv_entry av (n := L) hL
  rw [lg_entry_eq]
  rw [hlv] at hl
  exact body p e s m below meth c B.exec B.bytes B.returns hml hown hts B.notSynchronized hP hK _ hl
section RO
variable {p : Program} {l : Launch} {e : Env} {R : Room} {s : State} {m : MethodId} {args : Array Value} {below : List Frame} {meth : Method} {c : Code} {H : Heap} {locs : List Loc} {cells slots : Nat} {Q : State → Prop} {cc : ByteArray} {pc : Nat} {ls : Array Slot} {rest : List Value}
theorem ro_iret (hx : p.tables.exec = Jvm.exec) (hb : c.code = cc) (hr : meth.sig.returnType = some .int) (hk : meth.locks = false) {fr lo : Nat} {av : List Value} {f v : Int32} (hv : v = f) (hdg : decode cc pc = .ok (.ireturn, 1)) : RW p l e s m below meth c fr lo av f pc ls [.int v] :=
  W.iret (v := v) hx hb hr (fun t ht _ => ⟨by rw [hv], ht⟩) (fun q h => by cases h) hdg hk
theorem ro_zret (hx : p.tables.exec = Jvm.exec) (hb : c.code = cc) (hr : meth.sig.returnType = some .boolean) (hk : meth.locks = false) {fr lo : Nat} {av : List Value} {f v : Int32} (hv : v = f) (b : Bool) (h2 : v = bI b) (hdg : decode cc pc = .ok (.ireturn, 1)) : RW p l e s m below meth c fr lo av f pc ls [.int v] :=
  W.zret (v := v) hx hb hr (by rw [h2]; exact bI_nar b) (fun t ht _ => ⟨by rw [hv], ht⟩) (fun q h => by cases h) hdg hk
/-- a call through an object of a method that only reads -/
theorem ro_V {y : MethodName} {b : ByteArray} {L nL n index fr lo : Nat} {r : Option FieldType} {own C : String} {D : va_G} {w : va_W} {ty : List (ClassId × FieldType)} {a : Nat} {As st0 : List Value} {f : Int32} (S : CallFix p m c cc nL s args lw_all own) (hM : RoMet l y b L r fr lo D w ty (.ref a :: As) f) (hG : GoodIn lw_all (wsV own index C y (ws_ y b L r))) (hd : y.cls = C ∧ y.cls ≠ "java/lang/invoke/MethodHandle" ∧ y.cls ≠ "java/lang/invoke/VarHandle" ∧ (parseMethodDescriptor y.desc).map (fun d => d.parameters.length) = some n) (hR : fr + 1 ≤ R.frames ∧ 8 + (L + 11) + lo ≤ R.locals)
    (hK : va_K D vwCl ty s) (hP : va_P D vwCl w H) {ci q0 : Nat} {q : vw_C} {fs : List Value} (hc : vwCl[ci]? = some q) (hqC : q.1 = C) (he : w[q0]? = some (a, .inr (ci, fs))) (hn : As.length = n) (hsz : ls.size = nL) (hst : st0 = As.reverse ++ .ref a :: rest) (hW : (rest.map fun v => v.category).sum ≤ 8) (hdg : decode cc pc = .ok (.invokevirtual index, 3)) (hf : cells + 0 ≤ R.cells ∧ slots + 0 ≤ R.slots)
    (kk : W p l e R s m args below meth c H locs cells slots Q (F0 m (pc + 3) ls (.int f :: rest))) : W p l e R s m args below meth c H locs cells slots Q (F0 m pc ls st0) := by
  subst hst
  subst hqC
  exact W.callR (W.runV (As := As) (rest := rest) (b := a) S hM (cwV n S.2.2.2.2 hG rfl rfl rfl hd hR) ⟨RoPc.blind, va_recv hK hP hc he, fun U hU hW' => ⟨rfl, by rw [hU]; exact hP, va_K.moved hW'.alike hK⟩⟩ rfl hn hsz rfl (lv_room hW) hdg hf) kk
/-- a static method of numbers alone -/
def RoSt (l : Launch) (y : MethodName) (b : ByteArray) (L : Nat) (r : Option FieldType) (fr lo : Nat) (av : List Value) (f : Int32) : Prop :=
  Met l y (ws_ y b L r) (rmF fr lo) (fun v _ => v = av.toArray) (QcRead f) 0 0 (fun _ => False)
theorem rs_of {y : MethodName} {b : ByteArray} {L : Nat} {r : Option FieldType} {fr lo : Nat} {av : List Value} {f : Int32} (hy : plainName y.cls = true) (hL : (lg_sl av).length ≤ L) {lv : List (Nat × Value)} (hlv : lv_args 0 av = lv)
    (body : ∀ (p : Program) (e : Env) (s : State) (m : MethodId) (below : List Frame) (meth : Method) (c : Code), p.tables.exec = Jvm.exec → c.code = b → meth.sig.returnType = r → c.maxLocals = L → s.vm.findClass y.cls = some m.cls → (∀ w ∈ lw_all, w.before av.toArray s = true) → meth.locks = false → ∀ ls : Array Slot, lv_has ls L lv → RW p l e s m below meth c fr lo av f 0 ls []) : RoSt l y b L r fr lo av f := by
  refine Met.ofW (cc := b) (maxL := L) (ret := r) hy rfl ?_
  intro p e s m args below meth c s₁ B hml hv
  subst hv
  have hts := atoms_spec (ws := ws_ y b L r) B.pre
  have hts : ∀ w ∈ lw_all, w.before _ s = true := fun w h => hts w (List.mem_cons_of_mem _ h)
  have hown : s.vm.findClass y.cls = some m.cls := findClass_of_methodNamed B.named
  have hl := lv_entry av (n := L) hL
  rw [lg_entry_eq]
  rw [hlv] at hl
  exact body p e s m below meth c B.exec B.bytes B.returns hml hown hts B.notSynchronized _ hl
theorem ro_S {y : MethodName} {b : ByteArray} {L nL n index fr lo : Nat} {r : Option FieldType} {own : String} {As st0 : List Value} {f : Int32} (S : CallFix p m c cc nL s args lw_all own) (hM : RoSt l y b L r fr lo As f) (hG : GoodIn lw_all (va_wsS own index y (ws_ y b L r))) (hd : y.cls ≠ "java/lang/invoke/MethodHandle" ∧ y.cls ≠ "java/lang/invoke/VarHandle" ∧ (parseMethodDescriptor y.desc).map (fun d => d.parameters.length) = some n) (hR : fr + 1 ≤ R.frames ∧ 8 + (L + 11) + lo ≤ R.locals)
    (hn : As.length = n) (hsz : ls.size = nL) (hst : st0 = As.reverse ++ rest) (hW : (rest.map fun v => v.category).sum ≤ 8) (hdg : decode cc pc = .ok (.invokestatic index, 3)) (hf : cells + 0 ≤ R.cells ∧ slots + 0 ≤ R.slots)
    (kk : W p l e R s m args below meth c H locs cells slots Q (F0 m (pc + 3) ls (.int f :: rest))) : W p l e R s m args below meth c H locs cells slots Q (F0 m pc ls st0) := by
  subst hst
  exact W.callR (W.runS (As := As) (rest := rest) S hM (va_cwS n S.2.2.2.2 hG rfl rfl rfl hd hR) preEq rfl hn hsz rfl (lv_room hW) hdg hf) kk
end RO
/-! ===== methods that write their own world ===== -/
theorem va_D.same {A : Nat → Prop} {w w' : va_W} (h : va_D A w) (e : w.map Prod.fst = w'.map Prod.fst) : va_D A w' := by
  have key : ∀ (k : Nat) (q : Nat × va_E), w'[k]? = some q → ∃ q0, w[k]? = some q0 ∧ q0.1 = q.1 := by
    intro k q hk
    have h1 : (w'.map Prod.fst)[k]? = some q.1 := by rw [List.getElem?_map, hk]; rfl
    rw [← e, List.getElem?_map] at h1
    cases hw : w[k]? with
    | none => rw [hw] at h1; cases h1
    | some q0 => rw [hw] at h1; exact ⟨q0, rfl, Option.some.inj h1⟩
  refine ⟨fun i j x y hi hj hxy => ?_, fun k q hk => ?_⟩
  · obtain ⟨x0, h1, h2⟩ := key i x hi
    obtain ⟨y0, h3, h4⟩ := key j y hj
    exact h.1 i j x0 y0 h1 h3 (h2.trans (hxy.trans h4.symm))
  · obtain ⟨q0, h1, h2⟩ := key k q hk
    rw [← h2]
    exact h.2 k q0 h1
theorem va_D.mem {A : Nat → Prop} {w : va_W} {as : List Nat} (h : va_D A w) (e : w.map Prod.fst = as) : va_D (fun q => q ∈ as) w := by
  refine ⟨h.1, fun k q hk => ?_⟩
  rw [← e]
  exact List.mem_map.mpr ⟨q, List.mem_of_getElem? hk, rfl⟩
def WrPc (D : va_G) (w : va_W) (ty : List (ClassId × FieldType)) (as : List Nat) (av : List Value) : Array Value → State → Prop := va_Pc av (fun U => va_P D vwCl w U.heap ∧ va_K D vwCl ty U ∧ va_D (fun q => q ∈ as) w)
theorem WrPc.blind {D : va_G} {w : va_W} {ty : List (ClassId × FieldType)} {as : List Nat} {av : List Value} : FrameBlind (WrPc D w ty as av) := by
  intro a U g mk q
  obtain ⟨q0, qP, qK, qD⟩ := q
  exact ⟨q0, qP, va_K.moved (u := U) (U := U.calling g mk a) (Vm.Alike.refl U.vm) qK, qD⟩
/-- method y, called with av on a heap that holds w at the addresses as, answers r with post r u; then the heap holds w' u there, and nothing else has changed -/
def WrMet {U : Type} (l : Launch) (y : MethodName) (b : ByteArray) (L : Nat) (r : Option FieldType) (fr lo : Nat) (D : va_G) (w : va_W) (ty : List (ClassId × FieldType)) (as : List Nat) (av : List Value) (post : Int32 → U → Prop) (w' : U → va_W) : Prop :=
  Met l y (ws_ y b L r) (rmF fr lo) (WrPc D w ty as av) (va_Qi post (fun u t => va_P D vwCl (w' u) t.heap) (fun q => q ∈ as)) 0 0 (fun q => q ∈ as)
/-- .. without an answer -/
def WvMet {U : Type} (l : Launch) (y : MethodName) (b : ByteArray) (L : Nat) (fr lo : Nat) (D : va_G) (w : va_W) (ty : List (ClassId × FieldType)) (as : List Nat) (av : List Value) (post : U → Prop) (w' : U → va_W) : Prop :=
  Met l y (ws_ y b L none) (rmF fr lo) (WrPc D w ty as av) (va_Qv post (fun u t => va_P D vwCl (w' u) t.heap) (fun q => q ∈ as)) 0 0 (fun q => q ∈ as)
abbrev WR {U : Type} (p : Program) (l : Launch) (e : Env) (s : State) (m : MethodId) (below : List Frame) (meth : Method) (c : Code) (fr lo : Nat) (D : va_G) (as : List Nat) (av : List Value) (post : Int32 → U → Prop) (w' : U → va_W) (H : Heap) (locs : List Loc) (pc : Nat) (ls : Array Slot) (st : List Value) : Prop :=
  W p l e (rmF fr lo) s m av.toArray below meth c H locs 0 0 (MQ below (va_Qi post (fun u t => va_P D vwCl (w' u) t.heap) (fun q => q ∈ as)) av.toArray s 0 0 (fun q => q ∈ as)) (F0 m pc ls st)
abbrev WV {U : Type} (p : Program) (l : Launch) (e : Env) (s : State) (m : MethodId) (below : List Frame) (meth : Method) (c : Code) (fr lo : Nat) (D : va_G) (as : List Nat) (av : List Value) (post : U → Prop) (w' : U → va_W) (H : Heap) (locs : List Loc) (pc : Nat) (ls : Array Slot) (st : List Value) : Prop :=
  W p l e (rmF fr lo) s m av.toArray below meth c H locs 0 0 (MQ below (va_Qv post (fun u t => va_P D vwCl (w' u) t.heap) (fun q => q ∈ as)) av.toArray s 0 0 (fun q => q ∈ as)) (F0 m pc ls st)
theorem wr_of {U : Type} {l : Launch} {y : MethodName} {b : ByteArray} {L : Nat} {r : Option FieldType} {fr lo : Nat} {D : va_G} {w : va_W} {ty : List (ClassId × FieldType)} {as : List Nat} {av : List Value} {post : Int32 → U → Prop} {w' : U → va_W} (hy : plainName y.cls = true) (hL : (lg_sl av).length ≤ L) {lv : List (Nat × Value)} (hlv : lv_args 0 av = lv)
    (body : ∀ (p : Program) (e : Env) (s : State) (m : MethodId) (below : List Frame) (meth : Method) (c : Code), p.tables.exec = Jvm.exec → c.code = b → meth.sig.returnType = r → c.maxLocals = L → s.vm.findClass y.cls = some m.cls → (∀ w ∈ lw_all, w.before av.toArray s = true) → meth.locks = false → va_K D vwCl ty s → va_P D vwCl w s.heap → va_D (fun q => q ∈ as) w → va_S (fun q => q ∈ as) s.heap s.heap [] → ∀ ls : Array Slot, lv_has ls L lv → WR p l e s m below meth c fr lo D as av post w' s.heap [] 0 ls []) : WrMet l y b L r fr lo D w ty as av post w' := by
  refine Met.ofW (cc := b) (maxL := L) (ret := r) hy rfl ?_
  intro p e s m args below meth c s₁ B hml hv
  obtain ⟨rfl, hP, hK, hD⟩ := hv
  have hts := atoms_spec (ws := ws_ y b L r) B.pre
  have hts : ∀ w ∈ lw_all, w.before _ s = true := fun w h => hts w (List.mem_cons_of_mem _ h)
  have hown : s.vm.findClass y.cls = some m.cls := findClass_of_methodNamed B.named
  have hl := lv_entry av (n := L) hL
  rw [lg_entry_eq]
  rw [hlv] at hl
  exact body p e s m below meth c B.exec B.bytes B.returns hml hown hts B.notSynchronized hK hP hD va_S.rf _ hl
theorem wv_of {U : Type} {l : Launch} {y : MethodName} {b : ByteArray} {L : Nat} {fr lo : Nat} {D : va_G} {w : va_W} {ty : List (ClassId × FieldType)} {as : List Nat} {av : List Value} {post : U → Prop} {w' : U → va_W} (hy : plainName y.cls = true) (hL : (lg_sl av).length ≤ L) {lv : List (Nat × Value)} (hlv : lv_args 0 av = lv)
    (body : ∀ (p : Program) (e : Env) (s : State) (m : MethodId) (below : List Frame) (meth : Method) (c : Code), p.tables.exec = Jvm.exec → c.code = b → meth.sig.returnType = none → c.maxLocals = L → s.vm.findClass y.cls = some m.cls → (∀ w ∈ lw_all, w.before av.toArray s = true) → meth.locks = false → va_K D vwCl ty s → va_P D vwCl w s.heap → va_D (fun q => q ∈ as) w → va_S (fun q => q ∈ as) s.heap s.heap [] → ∀ ls : Array Slot, lv_has ls L lv → WV p l e s m below meth c fr lo D as av post w' s.heap [] 0 ls []) : WvMet l y b L fr lo D w ty as av post w' := by
  refine Met.ofW (cc := b) (maxL := L) (ret := none) hy rfl ?_
  intro p e s m args below meth c s₁ B hml hv
  obtain ⟨rfl, hP, hK, hD⟩ := hv
  have hts := atoms_spec (ws := ws_ y b L none) B.pre
  have hts : ∀ w ∈ lw_all, w.before _ s = true := fun w h => hts w (List.mem_cons_of_mem _ h)
  have hown : s.vm.findClass y.cls = some m.cls := findClass_of_methodNamed B.named
  have hl := lv_entry av (n := L) hL
  rw [lg_entry_eq]
  rw [hlv] at hl
  exact body p e s m below meth c B.exec B.bytes B.returns hml hown hts B.notSynchronized hK hP hD va_S.rf _ hl
section WRS
variable {p : Program} {l : Launch} {e : Env} {R : Room} {s : State} {m : MethodId} {args : Array Value} {below : List Frame} {meth : Method} {c : Code} {H : Heap} {locs : List Loc} {cells slots : Nat} {Q : State → Prop} {cc : ByteArray} {pc : Nat} {ls : Array Slot} {rest : List Value} {U : Type} {D : va_G} {as : List Nat}
theorem wr_iret (hx : p.tables.exec = Jvm.exec) (hb : c.code = cc) (hr : meth.sig.returnType = some .int) (hk : meth.locks = false) {fr lo : Nat} {av : List Value} {post : Int32 → U → Prop} {w' : U → va_W} {v : Int32} (hS : va_S (fun q => q ∈ as) s.heap H locs) (u : U) (hP : va_P D vwCl (w' u) H) (hv : post v u) (hdg : decode cc pc = .ok (.ireturn, 1)) : WR p l e s m below meth c fr lo D as av post w' H locs pc ls [.int v] :=
  W.iret (v := v) hx hb hr (fun t ht _ => ⟨⟨v, u, rfl, hv, by show va_P D vwCl (w' u) t.heap; rw [ht]; exact hP⟩, hS.F ht⟩) hS.2.2 hdg hk
theorem wr_zret (hx : p.tables.exec = Jvm.exec) (hb : c.code = cc) (hr : meth.sig.returnType = some .boolean) (hk : meth.locks = false) {fr lo : Nat} {av : List Value} {post : Int32 → U → Prop} {w' : U → va_W} {v : Int32} (hS : va_S (fun q => q ∈ as) s.heap H locs) (u : U) (hP : va_P D vwCl (w' u) H) (hv : post v u) (b : Bool) (h2 : v = bI b) (hdg : decode cc pc = .ok (.ireturn, 1)) : WR p l e s m below meth c fr lo D as av post w' H locs pc ls [.int v] :=
  W.zret (v := v) hx hb hr (by rw [h2]; exact bI_nar b) (fun t ht _ => ⟨⟨v, u, rfl, hv, by show va_P D vwCl (w' u) t.heap; rw [ht]; exact hP⟩, hS.F ht⟩) hS.2.2 hdg hk
theorem wv_ret (hx : p.tables.exec = Jvm.exec) (hb : c.code = cc) (hr : meth.sig.returnType = none) (hk : meth.locks = false) {fr lo : Nat} {av : List Value} {post : U → Prop} {w' : U → va_W} (hS : va_S (fun q => q ∈ as) s.heap H locs) (u : U) (hP : va_P D vwCl (w' u) H) (hv : post u) (hdg : decode cc pc = .ok (.return_, 1)) : WV p l e s m below meth c fr lo D as av post w' H locs pc ls [] :=
  W.vret hx hb hr (fun t ht _ => ⟨⟨u, rfl, hv, by show va_P D vwCl (w' u) t.heap; rw [ht]; exact hP⟩, hS.F ht⟩) hS.2.2 hdg hk
theorem wr_kept {wo : va_W} {H1 : Heap} (hPo : va_P D vwCl wo H) (hdis : ∀ q ∈ wo, q.1 ∉ as) (hk : ∀ q : Nat, q < H.size → ¬ q ∈ as → H1[q]? = H[q]?) : va_P D vwCl wo H1 :=
  hPo.kept (fun k q hq => hk q.1 ((hPo k q hq).lt) (hdis q (List.mem_of_getElem? hq)))
/-- a call that writes its own world w at as; the rest wo stays -/
theorem wr_V {y : MethodName} {b : ByteArray} {L nL n index fr lo : Nat} {r : Option FieldType} {own C : String} {w wo : va_W} {w' : U → va_W} {post : Int32 → U → Prop} {ty : List (ClassId × FieldType)} {a : Nat} {As st0 : List Value} {A0 : Nat → Prop} {H0 : Heap} (S : CallFix p m c cc nL s args lw_all own) (hM : WrMet l y b L r fr lo D w ty as (.ref a :: As) post w') (hG : GoodIn lw_all (wsV own index C y (ws_ y b L r))) (hd : y.cls = C ∧ y.cls ≠ "java/lang/invoke/MethodHandle" ∧ y.cls ≠ "java/lang/invoke/VarHandle" ∧ (parseMethodDescriptor y.desc).map (fun d => d.parameters.length) = some n) (hR : fr + 1 ≤ R.frames ∧ 8 + (L + 11) + lo ≤ R.locals)
    (hK : va_K D vwCl ty s) (hP : va_P D vwCl w H) (hD : va_D (fun q => q ∈ as) w) (hS : va_S A0 H0 H locs) (hA : ∀ q ∈ as, A0 q) (hPo : va_P D vwCl wo H) (hdis : ∀ q ∈ wo, q.1 ∉ as) {ci q0 : Nat} {q : vw_C} {fs : List Value} (hc : vwCl[ci]? = some q) (hqC : q.1 = C) (he : w[q0]? = some (a, .inr (ci, fs))) (hn : As.length = n) (hsz : ls.size = nL) (hst : st0 = As.reverse ++ .ref a :: rest) (hW : (rest.map fun v => v.category).sum ≤ 8) (hdg : decode cc pc = .ok (.invokevirtual index, 3)) (hf : cells + 0 ≤ R.cells ∧ slots + 0 ≤ R.slots)
    (kk : ∀ (r : Int32) (u : U) (H1 : Heap) (locs1 : List Loc), post r u → va_P D vwCl (w' u) H1 → va_P D vwCl wo H1 → va_S A0 H0 H1 locs1 → W p l e R s m args below meth c H1 locs1 cells slots Q (F0 m (pc + 3) ls (.int r :: rest))) : W p l e R s m args below meth c H locs cells slots Q (F0 m pc ls st0) := by
  subst hst
  subst hqC
  refine va_calli (va_runV (As := As) (rest := rest) (b := a) S hM (cwV n S.2.2.2.2 hG rfl rfl rfl hd hR) ⟨WrPc.blind, va_recv hK hP hc he, fun U hU hW' => ⟨rfl, by rw [hU]; exact hP, va_K.moved hW'.alike hK, hD⟩⟩ rfl hn hsz rfl (lv_room hW) hdg hf) hS (fun q _ h => hA q h) hA (fun r u t H1 locs1 ht hvm hp hB hz hk hS1 => ?_)
  have hB : va_P D vwCl (w' u) t.heap := hB
  rw [ht] at hB
  exact kk r u H1 locs1 hp hB (wr_kept hPo hdis hk) hS1
theorem wv_V {y : MethodName} {b : ByteArray} {L nL n index fr lo : Nat} {own C : String} {w wo : va_W} {w' : U → va_W} {post : U → Prop} {ty : List (ClassId × FieldType)} {a : Nat} {As st0 : List Value} {A0 : Nat → Prop} {H0 : Heap} (S : CallFix p m c cc nL s args lw_all own) (hM : WvMet l y b L fr lo D w ty as (.ref a :: As) post w') (hG : GoodIn lw_all (wsV own index C y (ws_ y b L none))) (hd : y.cls = C ∧ y.cls ≠ "java/lang/invoke/MethodHandle" ∧ y.cls ≠ "java/lang/invoke/VarHandle" ∧ (parseMethodDescriptor y.desc).map (fun d => d.parameters.length) = some n) (hR : fr + 1 ≤ R.frames ∧ 8 + (L + 11) + lo ≤ R.locals)
    (hK : va_K D vwCl ty s) (hP : va_P D vwCl w H) (hD : va_D (fun q => q ∈ as) w) (hS : va_S A0 H0 H locs) (hA : ∀ q ∈ as, A0 q) (hPo : va_P D vwCl wo H) (hdis : ∀ q ∈ wo, q.1 ∉ as) {ci q0 : Nat} {q : vw_C} {fs : List Value} (hc : vwCl[ci]? = some q) (hqC : q.1 = C) (he : w[q0]? = some (a, .inr (ci, fs))) (hn : As.length = n) (hsz : ls.size = nL) (hst : st0 = As.reverse ++ .ref a :: rest) (hW : (rest.map fun v => v.category).sum ≤ 8) (hdg : decode cc pc = .ok (.invokevirtual index, 3)) (hf : cells + 0 ≤ R.cells ∧ slots + 0 ≤ R.slots)
    (kk : ∀ (u : U) (H1 : Heap) (locs1 : List Loc), post u → va_P D vwCl (w' u) H1 → va_P D vwCl wo H1 → va_S A0 H0 H1 locs1 → W p l e R s m args below meth c H1 locs1 cells slots Q (F0 m (pc + 3) ls rest)) : W p l e R s m args below meth c H locs cells slots Q (F0 m pc ls st0) := by
  subst hst
  subst hqC
  refine va_callv (va_runV (As := As) (rest := rest) (b := a) S hM (cwV n S.2.2.2.2 hG rfl rfl rfl hd hR) ⟨WrPc.blind, va_recv hK hP hc he, fun U hU hW' => ⟨rfl, by rw [hU]; exact hP, va_K.moved hW'.alike hK, hD⟩⟩ rfl hn hsz rfl (lv_room hW) hdg hf) hS (fun q _ h => hA q h) hA (fun u t H1 locs1 ht hvm hp hB hz hk hS1 => ?_)
  have hB : va_P D vwCl (w' u) t.heap := hB
  rw [ht] at hB
  exact kk u H1 locs1 hp hB (wr_kept hPo hdis hk) hS1
theorem wo_nil {H : Heap} : va_P D vwCl [] H := fun k q h => by simp at h
theorem wo_dis : ∀ q ∈ ([] : va_W), q.1 ∉ as := fun q h => by cases h
end WRS
end
section
/-! what the methods compute, in plain numbers. P: which bids stand (bits), B: packages, K: bidders, A: amounts, S: withheld items; M: the reference's packages (0: no bid) -/
set_option maxRecDepth 100000
/-- an amount with its mark -/
def ma (A : Nat → Nat) (b : Nat) : Nat := A b * 256 + 2 ^ (7 - b)
/-- bestStep's loop -/
def stp (P : Nat) (B K A : Nat → Nat) (k : Nat) (f : Nat → Nat) (s : Nat) : Nat → Nat
  | 0 => f s
  | b + 1 => if P.testBit b = true ∧ K b = k ∧ nd (B b) s = 0 then (if stp P B K A k f s b < ma A b + f (nd s (B b)) then ma A b + f (nd s (B b)) else stp P B K A k f s b) else stp P B K A k f s b
/-- the table of a list of bidders -/
def tb (P : Nat) (B K A : Nat → Nat) : List Nat → Nat → Nat
  | [], _ => 0
  | k :: ks, s => stp P B K A k (tb P B K A ks) s 8
def bl : Nat → List Nat
  | 0 => []
  | k + 1 => k :: bl k
def olst : Nat → List Nat
  | 0 => [0, 1, 2, 3]
  | 1 => [1, 2, 3]
  | 2 => [2, 3]
  | 3 => [3]
  | _ => []
def Fb (P : Nat) (B K A : Nat → Nat) (k s : Nat) : Nat := tb P B K A (bl k) s
def Fo (P : Nat) (B K A : Nat → Nat) (k s : Nat) : Nat := tb P B K A (olst k) s
/-- sumWithout's loop -/
def sw (P : Nat) (B K A : Nat → Nat) (k s : Nat) : Nat → Nat
  | 0 => 0
  | q + 1 => if nd q s = 0 then (if sw P B K A k s q < Fb P B K A k q + Fo P B K A (k + 1) (nd s q) then Fb P B K A k q + Fo P B K A (k + 1) (nd s q) else sw P B K A k s q) else sw P B K A k s q
/-- sumLacking's loop -/
def slk (P : Nat) (B K A : Nat → Nat) (b s : Nat) : Nat → Nat
  | 0 => sw P B K A (K b) s 256
  | c + 1 => if c ≠ b ∧ P.testBit c = true ∧ K c = K b ∧ nd (B c) s = 0 then (if slk P B K A b s c < ma A c + sw P B K A (K b) (nd s (B c)) 256 then ma A c + sw P B K A (K b) (nd s (B c)) 256 else slk P B K A b s c) else slk P B K A b s c
/-- the first of i, i + 1, .. (n of them) with q -/
def ff (q : Nat → Bool) : Nat → Nat → Option Nat
  | 0, _ => none
  | n + 1, i => if q i = true then some i else ff q n (i + 1)
def tkq (P : Nat) (B K A : Nat → Nat) (k s b : Nat) : Bool := P.testBit b && (decide (K b = k) && (decide (nd (B b) s = 0) && decide (ma A b + Fb P B K A k (nd s (B b)) = Fb P B K A (k + 1) s)))
/-- bidTaken -/
def tk (P : Nat) (B K A : Nat → Nat) (k s : Nat) : Option Nat := if Fb P B K A (k + 1) s = Fb P B K A k s then none else ff (tkq P B K A k s) 8 0
/-- findWinners' loop -/
def fw (P : Nat) (B K A : Nat → Nat) : Nat → Nat → Nat → Nat
  | 0, _, w => w
  | k + 1, s, w => match tk P B K A k s with
    | none => fw P B K A k s w
    | some b => fw P B K A k (nd s (B b)) (w ||| 2 ^ b)
/-- the items offered -/
def off (S : Nat) : Nat := nd 255 S
def WN (P : Nat) (B K A : Nat → Nat) (S : Nat) : Nat := fw P B K A 4 (off S) 0
/-- the packages of a set of bids, joined -/
def un (B : Nat → Nat) (X : Nat) : Nat → Nat
  | 0 => 0
  | b + 1 => if X.testBit b = true then un B X b ||| B b else un B X b
/-- the bidders of a set of bids -/
def pl (K : Nat → Nat) (X : Nat) : Nat → Nat
  | 0 => 0
  | b + 1 => if X.testBit b = true then pl K X b ||| 2 ^ K b else pl K X b
/-- allocation's loop in the class -/
def alx (B K : Nat → Nat) (S X : Nat) : Nat → Bool
  | 0 => true
  | b + 1 => alx B K S X b && (!X.testBit b || (decide ((S ||| un B X b) &&& B b = 0) && !(pl K X b).testBit (K b)))
/-- allocates' inner loop in the reference -/
def ali (M K : Nat → Nat) (X b : Nat) : Nat → Bool
  | 0 => true
  | c + 1 => ali M K X b c && !((X.testBit b && X.testBit c) && (decide (M b &&& M c ≠ 0) || decide (K b = K c)))
def alo (M K : Nat → Nat) (S X : Nat) : Nat → Bool
  | 0 => true
  | b + 1 => alo M K S X b && (!X.testBit b || (decide (0 < M b) && decide (M b &&& S = 0))) && ali M K X b b
/-- sum's loop -/
def sm (A : Nat → Nat) (X : Nat) : Nat → Nat
  | 0 => 0
  | b + 1 => sm A X b + (if X.testBit b = true then A b else 0)
/-- the rule between equals -/
def rv (X : Nat) : Nat → Nat
  | 0 => 0
  | b + 1 => rv X b + (if X.testBit b = true then 2 ^ (7 - b) else 0)
def ms (A : Nat → Nat) (X : Nat) : Nat := 256 * sm A X 8 + rv X 8
/-- best's loop -/
def bet (A : Nat → Nat) : Option Nat → Nat → Bool
  | none, _ => true
  | some y, n => decide (ms A y < ms A n)
def bst (A : Nat → Nat) (fi : Nat → Bool) (mu ne : Nat) : Nat → Option Nat
  | 0 => none
  | n + 1 => if fi n = true ∧ nd mu n = 0 ∧ ne &&& n = 0 ∧ bet A (bst A fi mu ne n) n = true then some n else bst A fi mu ne n
/-- bids, of: loops that gather bits -/
def gat (q : Nat → Bool) : Nat → Nat
  | 0 => 0
  | b + 1 => gat q b ||| (if q b = true then 2 ^ b else 0)
/-- threshold's loop in the reference: hb a, whether the bid wins at amount a -/
def lm (hb : Nat → Bool) : Nat → Nat → Nat
  | 0, x => x
  | a + 1, x => lm hb a (if hb (a + 1) = true then a + 1 else x)
end
section
/-! the plain law: the tables hold the greatest marked sums; the reference's best is the one allocation with the greatest marked sum -/
set_option maxRecDepth 100000
theorem bit_lt {X b : Nat} (hX : X < 256) (h : X.testBit b = true) : b < 8 := by
  rcases Nat.lt_or_ge b 8 with h8 | h8
  · exact h8
  · have h1 : X < 2 ^ b := Nat.lt_of_lt_of_le hX (by have := Nat.pow_le_pow_right (n := 2) (by decide) h8; omega)
    rw [Nat.testBit_lt_two_pow h1] at h
    cases h
theorem two_bit (b i : Nat) : (2 ^ b).testBit i = decide (i = b) := by
  rw [Nat.testBit_two_pow]
  by_cases h : i = b
  · subst h; simp
  · rw [decide_eq_false h, decide_eq_false (fun z => h z.symm)]
theorem or_two (X b i : Nat) : (X ||| 2 ^ b).testBit i = (X.testBit i || decide (i = b)) := by rw [Nat.testBit_or, two_bit]
theorem nd_two (X b i : Nat) : (nd X (2 ^ b)).testBit i = (X.testBit i && !decide (i = b)) := by rw [nd_bit, two_bit]
theorem lt256 {X : Nat} (h : ∀ b, X.testBit b = true → b < 8) : X < 256 := by
  have : X < 2 ^ 8 := by
    apply Nat.lt_pow_two_of_testBit
    intro i hi
    cases hb : X.testBit i with
    | false => rfl
    | true => exact absurd (h i hb) (by omega)
  exact this
theorem or_lt256 {X Y : Nat} (hX : X < 256) (hY : Y < 256) : X ||| Y < 256 := Nat.or_lt_two_pow (n := 8) hX hY
theorem two_lt256 {b : Nat} (h : b < 8) : 2 ^ b < 256 := by have := Nat.pow_lt_pow_right (a := 2) (m := b) (n := 8) (by decide) h; omega
/-- bits by a test -/
theorem gat_bit (q : Nat → Bool) (n i : Nat) : (gat q n).testBit i = (decide (i < n) && q i) := by
  induction n with
  | zero => simp [gat]
  | succ n ih =>
    simp only [gat]
    rw [Nat.testBit_or, ih]
    by_cases hn : i = n
    · subst hn
      cases hq : q i with
      | true => simp [two_bit]
      | false => simp
    · have e : decide (i < n + 1) = decide (i < n) := by
        by_cases h2 : i < n
        · rw [decide_eq_true h2, decide_eq_true (by omega)]
        · rw [decide_eq_false h2, decide_eq_false (by omega)]
      rw [e]
      cases hq : q n with
      | true => simp [two_bit, hn]
      | false => simp
theorem gat_lt (q : Nat → Bool) : gat q 8 < 256 := lt256 (fun b h => by rw [gat_bit] at h; simp at h; exact h.1)
theorem un_bit (B : Nat → Nat) (X n i : Nat) : (un B X n).testBit i = true ↔ ∃ b, b < n ∧ X.testBit b = true ∧ (B b).testBit i = true := by
  induction n with
  | zero => simp [un]
  | succ n ih =>
    simp only [un]
    by_cases hx : X.testBit n = true
    · rw [if_pos hx, Nat.testBit_or, Bool.or_eq_true, ih]
      constructor
      · rintro (⟨b, h1, h2, h3⟩ | h)
        · exact ⟨b, by omega, h2, h3⟩
        · exact ⟨n, by omega, hx, h⟩
      · rintro ⟨b, h1, h2, h3⟩
        by_cases hb : b = n
        · subst hb; exact Or.inr h3
        · exact Or.inl ⟨b, by omega, h2, h3⟩
    · rw [if_neg hx, ih]
      constructor
      · rintro ⟨b, h1, h2, h3⟩
        exact ⟨b, by omega, h2, h3⟩
      · rintro ⟨b, h1, h2, h3⟩
        by_cases hb : b = n
        · subst hb; exact absurd h2 hx
        · exact ⟨b, by omega, h2, h3⟩
theorem pl_bit (K : Nat → Nat) (X n i : Nat) : (pl K X n).testBit i = true ↔ ∃ b, b < n ∧ X.testBit b = true ∧ K b = i := by
  induction n with
  | zero => simp [pl]
  | succ n ih =>
    simp only [pl]
    by_cases hx : X.testBit n = true
    · rw [if_pos hx, or_two, Bool.or_eq_true, ih, decide_eq_true_iff]
      constructor
      · rintro (⟨b, h1, h2, h3⟩ | h)
        · exact ⟨b, by omega, h2, h3⟩
        · exact ⟨n, by omega, hx, h.symm⟩
      · rintro ⟨b, h1, h2, h3⟩
        by_cases hb : b = n
        · subst hb; exact Or.inr h3.symm
        · exact Or.inl ⟨b, by omega, h2, h3⟩
    · rw [if_neg hx, ih]
      constructor
      · rintro ⟨b, h1, h2, h3⟩
        exact ⟨b, by omega, h2, h3⟩
      · rintro ⟨b, h1, h2, h3⟩
        by_cases hb : b = n
        · subst hb; exact absurd h2 hx
        · exact ⟨b, by omega, h2, h3⟩
/-! sums -/
theorem sm_cong {A : Nat → Nat} {X Y n : Nat} (h : ∀ b, b < n → X.testBit b = Y.testBit b) : sm A X n = sm A Y n := by
  induction n with
  | zero => rfl
  | succ n ih => simp only [sm]; rw [ih (fun b hb => h b (by omega)), h n (by omega)]
theorem rv_cong {X Y n : Nat} (h : ∀ b, b < n → X.testBit b = Y.testBit b) : rv X n = rv Y n := by
  induction n with
  | zero => rfl
  | succ n ih => simp only [rv]; rw [ih (fun b hb => h b (by omega)), h n (by omega)]
theorem sm_or {A : Nat → Nat} {X Y n : Nat} (h : ∀ b, ¬ (X.testBit b = true ∧ Y.testBit b = true)) : sm A (X ||| Y) n = sm A X n + sm A Y n := by
  induction n with
  | zero => rfl
  | succ n ih =>
    simp only [sm]
    rw [ih, Nat.testBit_or]
    have h1 := h n
    cases hx : X.testBit n <;> cases hy : Y.testBit n
    · simp
    · simp; omega
    · simp; omega
    · exact absurd ⟨hx, hy⟩ h1
theorem rv_or {X Y n : Nat} (h : ∀ b, ¬ (X.testBit b = true ∧ Y.testBit b = true)) : rv (X ||| Y) n = rv X n + rv Y n := by
  induction n with
  | zero => rfl
  | succ n ih =>
    simp only [rv]
    rw [ih, Nat.testBit_or]
    have h1 := h n
    cases hx : X.testBit n <;> cases hy : Y.testBit n
    · simp
    · simp; omega
    · simp; omega
    · exact absurd ⟨hx, hy⟩ h1
theorem ms_or {A : Nat → Nat} {X Y : Nat} (h : ∀ b, ¬ (X.testBit b = true ∧ Y.testBit b = true)) : ms A (X ||| Y) = ms A X + ms A Y := by
  unfold ms
  rw [sm_or h, rv_or h]
  omega
theorem sm_two {A : Nat → Nat} {b : Nat} (n : Nat) : sm A (2 ^ b) n = if b < n then A b else 0 := by
  induction n with
  | zero => rfl
  | succ n ih =>
    simp only [sm]
    rw [ih, two_bit]
    by_cases h : n = b
    · subst h; simp
    · rw [decide_eq_false h]
      by_cases h2 : b < n
      · have h3 : b < n + 1 := by omega
        simp [h2, h3]
      · have h3 : ¬ b < n + 1 := by omega
        simp [h2, h3]
theorem rv_two {b : Nat} (n : Nat) : rv (2 ^ b) n = if b < n then 2 ^ (7 - b) else 0 := by
  induction n with
  | zero => rfl
  | succ n ih =>
    simp only [rv]
    rw [ih, two_bit]
    by_cases h : n = b
    · subst h; simp
    · rw [decide_eq_false h]
      by_cases h2 : b < n
      · have h3 : b < n + 1 := by omega
        simp [h2, h3]
      · have h3 : ¬ b < n + 1 := by omega
        simp [h2, h3]
theorem ms_two {A : Nat → Nat} {b : Nat} (h : b < 8) : ms A (2 ^ b) = ma A b := by
  unfold ms ma
  rw [sm_two, rv_two, if_pos h, if_pos h]
  omega
theorem sm_0 (A : Nat → Nat) (n : Nat) : sm A 0 n = 0 := by
  induction n with
  | zero => rfl
  | succ n ih => simp only [sm]; rw [ih, Nat.zero_testBit]; rfl
theorem rv_0 (n : Nat) : rv 0 n = 0 := by
  induction n with
  | zero => rfl
  | succ n ih => simp only [rv]; rw [ih, Nat.zero_testBit]; rfl
theorem ms_0 (A : Nat → Nat) : ms A 0 = 0 := by unfold ms; rw [sm_0, rv_0]
theorem ms_del {A : Nat → Nat} {X b : Nat} (hb : b < 8) (h : X.testBit b = true) : ms A X = ma A b + ms A (nd X (2 ^ b)) := by
  have e : X = 2 ^ b ||| nd X (2 ^ b) := by
    apply Nat.eq_of_testBit_eq
    intro i
    rw [Nat.testBit_or, nd_two, two_bit]
    by_cases hi : i = b
    · subst hi; rw [h]; simp
    · rw [decide_eq_false hi]; simp
  have d : ∀ i, ¬ ((2 ^ b).testBit i = true ∧ (nd X (2 ^ b)).testBit i = true) := by
    intro i hi
    rw [nd_two, two_bit] at hi
    by_cases hib : i = b
    · subst hib; simp at hi
    · rw [decide_eq_false hib] at hi; exact absurd hi.1 (by decide)
  have e2 := ms_or (A := A) d
  rw [← e, ms_two hb] at e2
  exact e2
theorem ms_add {A : Nat → Nat} {X b : Nat} (hb : b < 8) (h : X.testBit b = false) : ms A (X ||| 2 ^ b) = ms A X + ma A b := by
  rw [ms_or, ms_two hb]
  intro i hi
  rw [two_bit] at hi
  have := of_decide_eq_true hi.2
  subst this
  rw [h] at hi
  exact absurd hi.1 (by decide)
theorem rv_lt (X : Nat) : ∀ n, n ≤ 8 → rv X n + 2 ^ (8 - n) ≤ 256 := by
  intro n
  induction n with
  | zero => intro _; simp [rv]
  | succ n ih =>
    intro hn
    have h := ih (by omega)
    have e : 2 ^ (8 - n) = 2 * 2 ^ (8 - (n + 1)) := by rw [← Nat.pow_succ']; congr 1; omega
    have e2 : 7 - n = 8 - (n + 1) := by omega
    simp only [rv]
    rw [e2]
    split <;> omega
theorem rv_256 (X : Nat) : rv X 8 < 256 := by have := rv_lt X 8 (by omega); omega
theorem rv_rv : ∀ X, X < 256 → rv (rv X 8) 8 = X := by decide +kernel
theorem ms_div (A : Nat → Nat) (X : Nat) : ms A X / 256 = sm A X 8 := by
  have := rv_256 X
  unfold ms
  omega
theorem ms_inj {A : Nat → Nat} {X Y : Nat} (hX : X < 256) (hY : Y < 256) (h : ms A X = ms A Y) : X = Y := by
  have h1 := rv_256 X
  have h2 := rv_256 Y
  have h3 : rv X 8 = rv Y 8 := by unfold ms at h; omega
  rw [← rv_rv X hX, ← rv_rv Y hY, h3]
/-- the first bit that differs settles the rule between equals -/
theorem rv_first {X Y k : Nat} (he : ∀ j, j < k → X.testBit j = Y.testBit j) (hX : X.testBit k = true) (hY : Y.testBit k = false) : ∀ n, k + 1 ≤ n → n ≤ 8 → rv Y n + 2 ^ (8 - n) ≤ rv X n := by
  intro n
  induction n with
  | zero => intro h; omega
  | succ n ih =>
    intro h1 h2
    have e2 : 7 - n = 8 - (n + 1) := by omega
    by_cases hk : n = k
    · subst hk
      simp only [rv]
      rw [hX, hY, rv_cong he, e2]
      simp
    · have h := ih (by omega) (by omega)
      have e : 2 ^ (8 - n) = 2 * 2 ^ (8 - (n + 1)) := by rw [← Nat.pow_succ']; congr 1; omega
      simp only [rv]
      rw [e2]
      split <;> split <;> omega
theorem sm_le {A : Nat → Nat} (hA : ∀ b, A b ≤ 50) (X n : Nat) : sm A X n ≤ 50 * n := by
  induction n with
  | zero => simp [sm]
  | succ n ih =>
    simp only [sm]
    have := hA n
    split <;> omega
theorem ma_le {A : Nat → Nat} (hA : ∀ b, A b ≤ 50) (b : Nat) : ma A b ≤ 12928 := by
  unfold ma
  have h1 := hA b
  have h2 : 2 ^ (7 - b) ≤ 2 ^ 7 := Nat.pow_le_pow_right (by decide) (by omega)
  omega
theorem stp_le {P : Nat} {B K A f : Nat → Nat} (hA : ∀ b, A b ≤ 50) {k s M : Nat} (hf : ∀ s, f s ≤ M) (n : Nat) : stp P B K A k f s n ≤ M + 12928 := by
  induction n with
  | zero => have := hf s; simp only [stp]; omega
  | succ n ih =>
    have h1 := ma_le hA n
    have h2 := hf (nd s (B n))
    simp only [stp]
    split
    · split <;> omega
    · exact ih
theorem tb_le {P : Nat} {B K A : Nat → Nat} (hA : ∀ b, A b ≤ 50) : ∀ (ks : List Nat) (s : Nat), tb P B K A ks s ≤ 12928 * ks.length
  | [], s => by simp [tb]
  | k :: ks, s => by
    have h := stp_le (P := P) (B := B) (K := K) (k := k) (s := s) hA (tb_le (P := P) (B := B) (K := K) hA ks) 8
    simp only [tb, List.length_cons]
    omega
theorem bl_len (k : Nat) : (bl k).length = k := by
  induction k with
  | zero => rfl
  | succ k ih => simp [bl, ih]
theorem olst_len (k : Nat) : (olst k).length ≤ 4 := by
  unfold olst
  split <;> simp
theorem Fb_le {P : Nat} {B K A : Nat → Nat} (hA : ∀ b, A b ≤ 50) {k : Nat} (hk : k ≤ 4) (s : Nat) : Fb P B K A k s ≤ 51712 := by
  have := tb_le (P := P) (B := B) (K := K) hA (bl k) s
  rw [bl_len] at this
  unfold Fb
  omega
theorem Fo_le {P : Nat} {B K A : Nat → Nat} (hA : ∀ b, A b ≤ 50) (k s : Nat) : Fo P B K A k s ≤ 51712 := by
  have := tb_le (P := P) (B := B) (K := K) hA (olst k) s
  have h := olst_len k
  unfold Fo
  omega
theorem sw_le {P : Nat} {B K A : Nat → Nat} (hA : ∀ b, A b ≤ 50) {k : Nat} (hk : k ≤ 4) (s n : Nat) : sw P B K A k s n ≤ 103424 := by
  induction n with
  | zero => simp [sw]
  | succ n ih =>
    have h1 := Fb_le (P := P) (B := B) (K := K) hA hk n
    have h2 := Fo_le (P := P) (B := B) (K := K) hA (k + 1) (nd s n)
    simp only [sw]
    split
    · split <;> omega
    · exact ih
theorem slk_le {P : Nat} {B K A : Nat → Nat} (hA : ∀ b, A b ≤ 50) (hK : ∀ b, K b < 4) (b s n : Nat) : slk P B K A b s n ≤ 116352 := by
  induction n with
  | zero => have := sw_le (P := P) (B := B) (K := K) hA (Nat.le_of_lt (hK b)) s 256; simp only [slk]; omega
  | succ n ih =>
    have h1 := ma_le hA n
    have h2 := sw_le (P := P) (B := B) (K := K) hA (Nat.le_of_lt (hK b)) (nd s (B n)) 256
    simp only [slk]
    split
    · split <;> omega
    · exact ih
theorem Fb_s (P : Nat) (B K A : Nat → Nat) (k s : Nat) : Fb P B K A (k + 1) s = stp P B K A k (Fb P B K A k) s 8 := rfl
theorem Fo_s (P : Nat) (B K A : Nat → Nat) {k : Nat} (hk : k < 4) (s : Nat) : Fo P B K A k s = stp P B K A k (Fo P B K A (k + 1)) s 8 := by
  rcases (show k = 0 ∨ k = 1 ∨ k = 2 ∨ k = 3 by omega) with rfl | rfl | rfl | rfl <;> rfl
/-! allocations: the bids of X stand, their bidders are among ok, their packages lie in s; two of them share neither item nor bidder -/
def IsAl (P : Nat) (B K : Nat → Nat) (ok : Nat → Prop) (s X : Nat) : Prop :=
  X < 256 ∧ (∀ b, X.testBit b = true → P.testBit b = true ∧ ok (K b) ∧ nd (B b) s = 0) ∧ ∀ b c, X.testBit b = true → X.testBit c = true → b ≠ c → B b &&& B c = 0 ∧ K b ≠ K c
/-- v is the greatest marked sum of the sets with q -/
def Mx (A : Nat → Nat) (q : Nat → Prop) (v : Nat) : Prop := (∃ X, q X ∧ ms A X = v) ∧ ∀ X, q X → ms A X ≤ v
theorem Mx.one {A : Nat → Nat} {q : Nat → Prop} {v w : Nat} (h : Mx A q v) (h2 : Mx A q w) : v = w := by
  obtain ⟨⟨X, h3, h4⟩, h5⟩ := h
  obtain ⟨⟨Y, h6, h7⟩, h8⟩ := h2
  have a := h8 X h3
  have b := h5 Y h6
  omega
theorem Mx.iff {A : Nat → Nat} {q q2 : Nat → Prop} {v : Nat} (h : Mx A q v) (e : ∀ X, q X ↔ q2 X) : Mx A q2 v := by
  obtain ⟨⟨X, h3, h4⟩, h5⟩ := h
  exact ⟨⟨X, (e X).mp h3, h4⟩, fun Y hY => h5 Y ((e Y).mpr hY)⟩
theorem al_0 (P : Nat) (B K : Nat → Nat) (ok : Nat → Prop) (s : Nat) : IsAl P B K ok s 0 :=
  ⟨by decide, fun b h => (by rw [Nat.zero_testBit] at h; cases h), fun b c h => (by rw [Nat.zero_testBit] at h; cases h)⟩
theorem sub_nd {a s c : Nat} (h : nd a s = 0) (h2 : a &&& c = 0) : nd a (nd s c) = 0 := by
  rw [nd_0] at h ⊢
  rw [and_0] at h2
  intro i hi
  rw [nd_bit, h i hi]
  cases hc : c.testBit i with
  | false => rfl
  | true => exact absurd ⟨hi, hc⟩ (h2 i)
theorem nd_sub {a s c : Nat} (h : nd a (nd s c) = 0) : nd a s = 0 ∧ a &&& c = 0 := by
  rw [nd_0] at h
  constructor
  · rw [nd_0]
    intro i hi
    have := h i hi
    rw [nd_bit, Bool.and_eq_true] at this
    exact this.1
  · rw [and_0]
    intro i hi
    have := h i hi.1
    rw [nd_bit, hi.2] at this
    simp at this
theorem and_c {a b : Nat} (h : a &&& b = 0) : b &&& a = 0 := by rw [Nat.and_comm]; exact h
/-- a bid added -/
theorem al_add {P : Nat} {B K : Nat → Nat} {ok ok2 : Nat → Prop} {s b Y : Nat} (hb : b < 8) (hP : P.testBit b = true) (hk : ok2 (K b)) (hs : nd (B b) s = 0) (h : IsAl P B K ok (nd s (B b)) Y) (hok : ∀ c, ok c → ok2 c ∧ c ≠ K b) : IsAl P B K ok2 s (Y ||| 2 ^ b) ∧ Y.testBit b = false := by
  obtain ⟨h1, h2, h3⟩ := h
  have hY : Y.testBit b = false := by
    cases hy : Y.testBit b with
    | false => rfl
    | true => exact absurd rfl (hok _ (h2 b hy).2.1).2
  refine ⟨⟨or_lt256 h1 (two_lt256 hb), ?_, ?_⟩, hY⟩
  · intro c hc
    rw [or_two, Bool.or_eq_true, decide_eq_true_iff] at hc
    rcases hc with hc | rfl
    · exact ⟨(h2 c hc).1, (hok _ (h2 c hc).2.1).1, (nd_sub (h2 c hc).2.2).1⟩
    · exact ⟨hP, hk, hs⟩
  · intro c d hc hd hne
    rw [or_two, Bool.or_eq_true, decide_eq_true_iff] at hc hd
    rcases hc with hc | rfl
    · rcases hd with hd | rfl
      · exact h3 c d hc hd hne
      · exact ⟨(nd_sub (h2 c hc).2.2).2, (hok _ (h2 c hc).2.1).2⟩
    · rcases hd with hd | rfl
      · exact ⟨and_c (nd_sub (h2 d hd).2.2).2, fun z => (hok _ (h2 d hd).2.1).2 z.symm⟩
      · exact absurd rfl hne
/-- a bid taken out -/
theorem al_del {P : Nat} {B K : Nat → Nat} {ok ok2 : Nat → Prop} {s b X : Nat} (h : IsAl P B K ok s X) (hb : X.testBit b = true) (hok : ∀ c, ok c → c ≠ K b → ok2 c) : IsAl P B K ok2 (nd s (B b)) (nd X (2 ^ b)) := by
  obtain ⟨h1, h2, h3⟩ := h
  have key : ∀ c, (nd X (2 ^ b)).testBit c = true → X.testBit c = true ∧ c ≠ b := by
    intro c hc
    rw [nd_two, Bool.and_eq_true] at hc
    exact ⟨hc.1, by simpa using hc.2⟩
  refine ⟨nd_lt h1, ?_, ?_⟩
  · intro c hc
    obtain ⟨g1, g2⟩ := key c hc
    have g3 := h3 c b g1 hb g2
    exact ⟨(h2 c g1).1, hok _ (h2 c g1).2.1 g3.2, sub_nd (h2 c g1).2.2 g3.1⟩
  · intro c d hc hd hne
    exact h3 c d (key c hc).1 (key d hd).1 hne
theorem al_mono {P : Nat} {B K : Nat → Nat} {ok ok2 : Nat → Prop} {s X : Nat} (h : IsAl P B K ok s X) (hok : ∀ b, X.testBit b = true → ok (K b) → ok2 (K b)) : IsAl P B K ok2 s X :=
  ⟨h.1, fun b hb => ⟨(h.2.1 b hb).1, hok b hb (h.2.1 b hb).2.1, (h.2.1 b hb).2.2⟩, h.2.2⟩
/-- what stp is: the greatest of f s and the sums of the bids that fit -/
theorem stp_ge {P : Nat} {B K A f : Nat → Nat} {k s : Nat} (n : Nat) : f s ≤ stp P B K A k f s n ∧ ∀ b, b < n → P.testBit b = true → K b = k → nd (B b) s = 0 → ma A b + f (nd s (B b)) ≤ stp P B K A k f s n := by
  induction n with
  | zero => exact ⟨Nat.le_refl _, fun b h => by omega⟩
  | succ n ih =>
    have h0 : stp P B K A k f s n ≤ stp P B K A k f s (n + 1) := by
      rw [stp]
      split
      · split <;> omega
      · exact Nat.le_refl _
    refine ⟨Nat.le_trans ih.1 h0, fun b hb h1 h2 h3 => ?_⟩
    by_cases hbn : b = n
    · subst hbn
      rw [stp, if_pos ⟨h1, h2, h3⟩]
      split <;> omega
    · exact Nat.le_trans (ih.2 b (by omega) h1 h2 h3) h0
theorem stp_at {P : Nat} {B K A f : Nat → Nat} {k s : Nat} (n : Nat) : stp P B K A k f s n = f s ∨ ∃ b, b < n ∧ P.testBit b = true ∧ K b = k ∧ nd (B b) s = 0 ∧ stp P B K A k f s n = ma A b + f (nd s (B b)) := by
  induction n with
  | zero => exact Or.inl rfl
  | succ n ih =>
    have keep : stp P B K A k f s (n + 1) = stp P B K A k f s n → stp P B K A k f s (n + 1) = f s ∨ ∃ b, b < n + 1 ∧ P.testBit b = true ∧ K b = k ∧ nd (B b) s = 0 ∧ stp P B K A k f s (n + 1) = ma A b + f (nd s (B b)) := by
      intro e
      rw [e]
      rcases ih with h | ⟨b, h1, h2⟩
      · exact Or.inl h
      · exact Or.inr ⟨b, by omega, h2⟩
    by_cases hc : P.testBit n = true ∧ K n = k ∧ nd (B n) s = 0
    · by_cases hl : stp P B K A k f s n < ma A n + f (nd s (B n))
      · exact Or.inr ⟨n, by omega, hc.1, hc.2.1, hc.2.2, by rw [stp, if_pos hc, if_pos hl]⟩
      · exact keep (by rw [stp, if_pos hc, if_neg hl])
    · exact keep (by rw [stp, if_neg hc])
/-- one more bidder: stp of the greatest is the greatest -/
theorem stp_max {P : Nat} {B K A f : Nat → Nat} {k s : Nat} {ok ok2 : Nat → Prop} (hf : ∀ s1, s1 ≤ s → Mx A (IsAl P B K ok s1) (f s1)) (h2 : ∀ c, ok2 c ↔ c = k ∨ ok c) (hn : ¬ ok k) : Mx A (IsAl P B K ok2 s) (stp P B K A k f s 8) := by
  constructor
  · rcases stp_at (P := P) (B := B) (K := K) (A := A) (f := f) (k := k) (s := s) 8 with h | ⟨b, hb, hP, hk, hs, h⟩
    · obtain ⟨⟨X, hX, hv⟩, -⟩ := hf s (Nat.le_refl s)
      exact ⟨X, al_mono hX (fun b _ hb => (h2 _).mpr (Or.inr hb)), by rw [h]; exact hv⟩
    · obtain ⟨⟨Y, hY, hv⟩, -⟩ := hf (nd s (B b)) (nd_le _ _)
      obtain ⟨g1, g2⟩ := al_add (ok2 := ok2) hb hP ((h2 _).mpr (Or.inl hk)) hs hY (fun c hc => ⟨(h2 c).mpr (Or.inr hc), fun z => hn (by rw [← hk, ← z]; exact hc)⟩)
      exact ⟨_, g1, by rw [ms_add hb g2, h, hv]; omega⟩
  · intro X hX
    have hge := stp_ge (P := P) (B := B) (K := K) (A := A) (f := f) (k := k) (s := s) 8
    by_cases hex : ∃ b, X.testBit b = true ∧ K b = k
    · obtain ⟨b, hb, hk⟩ := hex
      have hb8 := bit_lt hX.1 hb
      have hd := al_del (ok2 := ok) hX hb (fun c hc hne => by
        rcases (h2 c).mp hc with z | z
        · exact absurd (z.trans hk.symm) hne
        · exact z)
      have h3 := (hf (nd s (B b)) (nd_le _ _)).2 _ hd
      have h4 := hge.2 b hb8 (hX.2.1 b hb).1 hk (hX.2.1 b hb).2.2
      rw [ms_del hb8 hb]
      omega
    · refine Nat.le_trans ((hf s (Nat.le_refl s)).2 X (al_mono hX (fun b hb hok => ?_))) hge.1
      rcases (h2 _).mp hok with z | z
      · exact absurd ⟨b, hb, z⟩ hex
      · exact z
theorem tb_max (P : Nat) (B K A : Nat → Nat) : ∀ (ks : List Nat) (_ : ks.Nodup) (s : Nat), Mx A (IsAl P B K (fun c => c ∈ ks) s) (tb P B K A ks s)
  | [], _, s => by
    refine ⟨⟨0, al_0 P B K _ s, by rw [ms_0]; rfl⟩, fun X hX => ?_⟩
    have h0 : X = 0 := by
      apply Nat.eq_of_testBit_eq
      intro i
      rw [Nat.zero_testBit]
      cases hi : X.testBit i with
      | false => rfl
      | true => exact absurd (hX.2.1 i hi).2.1 List.not_mem_nil
    rw [h0, ms_0]
    exact Nat.zero_le _
  | k :: ks, hn, s => by
    have hn2 := List.nodup_cons.mp hn
    exact stp_max (fun s _ => tb_max P B K A ks hn2.2 s) (fun c => List.mem_cons) hn2.1
theorem bl_mem (k c : Nat) : c ∈ bl k ↔ c < k := by
  induction k with
  | zero => simp [bl]
  | succ k ih => rw [bl, List.mem_cons, ih]; omega
theorem bl_nd (k : Nat) : (bl k).Nodup := by
  induction k with
  | zero => exact List.nodup_nil
  | succ k ih => exact List.nodup_cons.mpr ⟨fun h => by rw [bl_mem] at h; omega, ih⟩
theorem olst_mem {k c : Nat} (hk : k ≤ 4) (hc : c < 4) : c ∈ olst k ↔ k ≤ c := by
  rcases (show k = 0 ∨ k = 1 ∨ k = 2 ∨ k = 3 ∨ k = 4 by omega) with rfl | rfl | rfl | rfl | rfl <;> rcases (show c = 0 ∨ c = 1 ∨ c = 2 ∨ c = 3 by omega) with rfl | rfl | rfl | rfl <;> decide
theorem olst_nd (k : Nat) : (olst k).Nodup := by
  unfold olst
  split <;> decide
theorem Fb_max (P : Nat) (B K A : Nat → Nat) (k s : Nat) : Mx A (IsAl P B K (fun c => c < k) s) (Fb P B K A k s) := by
  refine Mx.iff (tb_max P B K A (bl k) (bl_nd k) s) (fun X => ?_)
  constructor
  · exact fun h => al_mono h (fun b _ hb => (bl_mem k _).mp hb)
  · exact fun h => al_mono h (fun b _ hb => (bl_mem k _).mpr hb)
theorem Fo_max (P : Nat) (B K A : Nat → Nat) (hK : ∀ b, K b < 4) {k : Nat} (hk : k ≤ 4) (s : Nat) : Mx A (IsAl P B K (fun c => k ≤ c) s) (Fo P B K A k s) := by
  refine Mx.iff (tb_max P B K A (olst k) (olst_nd k) s) (fun X => ?_)
  constructor
  · exact fun h => al_mono h (fun b _ hb => (olst_mem hk (hK b)).mp hb)
  · exact fun h => al_mono h (fun b _ hb => (olst_mem hk (hK b)).mpr hb)
end
section
/-! the plain law, second part: sumWithout, sumLacking, the winners; the reference's allocations and its best -/
set_option maxRecDepth 100000
theorem nd_0_le {a b : Nat} (h : nd a b = 0) : a ≤ b := by
  rw [nd_0] at h
  have e : a = a &&& b := by
    apply Nat.eq_of_testBit_eq
    intro i
    rw [Nat.testBit_and]
    cases ha : a.testBit i with
    | false => rfl
    | true => rw [h i ha]; rfl
  rw [e]
  exact Nat.and_le_right
theorem sw_ge {P : Nat} {B K A : Nat → Nat} {k s : Nat} (n : Nat) : ∀ q, q < n → nd q s = 0 → Fb P B K A k q + Fo P B K A (k + 1) (nd s q) ≤ sw P B K A k s n := by
  induction n with
  | zero => intro q h; omega
  | succ n ih =>
    intro q hq h
    have h0 : sw P B K A k s n ≤ sw P B K A k s (n + 1) := by
      rw [sw]
      split
      · split <;> omega
      · exact Nat.le_refl _
    by_cases hqn : q = n
    · subst hqn
      rw [sw, if_pos h]
      split <;> omega
    · exact Nat.le_trans (ih q (by omega) h) h0
theorem sw_at {P : Nat} {B K A : Nat → Nat} {k s : Nat} (n : Nat) : sw P B K A k s n = 0 ∨ ∃ q, q < n ∧ nd q s = 0 ∧ sw P B K A k s n = Fb P B K A k q + Fo P B K A (k + 1) (nd s q) := by
  induction n with
  | zero => exact Or.inl rfl
  | succ n ih =>
    have keep : sw P B K A k s (n + 1) = sw P B K A k s n → sw P B K A k s (n + 1) = 0 ∨ ∃ q, q < n + 1 ∧ nd q s = 0 ∧ sw P B K A k s (n + 1) = Fb P B K A k q + Fo P B K A (k + 1) (nd s q) := by
      intro e
      rw [e]
      rcases ih with h | ⟨q, h1, h2⟩
      · exact Or.inl h
      · exact Or.inr ⟨q, by omega, h2⟩
    by_cases hc : nd n s = 0
    · by_cases hl : sw P B K A k s n < Fb P B K A k n + Fo P B K A (k + 1) (nd s n)
      · exact Or.inr ⟨n, by omega, hc, by rw [sw, if_pos hc, if_pos hl]⟩
      · exact keep (by rw [sw, if_pos hc, if_neg hl])
    · exact keep (by rw [sw, if_neg hc])
theorem al_union {P : Nat} {B K : Nat → Nat} {ok1 ok2 ok : Nat → Prop} {q s X1 X2 : Nat} (h1 : IsAl P B K ok1 q X1) (h2 : IsAl P B K ok2 (nd s q) X2) (hq : nd q s = 0) (a1 : ∀ c, ok1 c → ok c) (a2 : ∀ c, ok2 c → ok c) (a3 : ∀ c, ok1 c → ¬ ok2 c) : IsAl P B K ok s (X1 ||| X2) ∧ ∀ b, ¬ (X1.testBit b = true ∧ X2.testBit b = true) := by
  have hd : ∀ b c, X1.testBit b = true → X2.testBit c = true → B b &&& B c = 0 ∧ K b ≠ K c := by
    intro b c hb hc
    constructor
    · rw [and_0]
      intro i hi
      have g1 := nd_0.mp (h1.2.1 b hb).2.2 i hi.1
      have g2 := nd_0.mp (h2.2.1 c hc).2.2 i hi.2
      rw [nd_bit, g1] at g2
      simp at g2
    · intro e
      exact a3 _ (h1.2.1 b hb).2.1 (by rw [e]; exact (h2.2.1 c hc).2.1)
  refine ⟨⟨or_lt256 h1.1 h2.1, ?_, ?_⟩, fun b hb => (hd b b hb.1 hb.2).2 rfl⟩
  · intro b hb
    rw [Nat.testBit_or, Bool.or_eq_true] at hb
    rcases hb with hb | hb
    · refine ⟨(h1.2.1 b hb).1, a1 _ (h1.2.1 b hb).2.1, ?_⟩
      rw [nd_0]
      intro i hi
      exact nd_0.mp hq i (nd_0.mp (h1.2.1 b hb).2.2 i hi)
    · exact ⟨(h2.2.1 b hb).1, a2 _ (h2.2.1 b hb).2.1, (nd_sub (h2.2.1 b hb).2.2).1⟩
  · intro b c hb hc hne
    rw [Nat.testBit_or, Bool.or_eq_true] at hb hc
    rcases hb with hb | hb
    · rcases hc with hc | hc
      · exact h1.2.2 b c hb hc hne
      · exact hd b c hb hc
    · rcases hc with hc | hc
      · exact ⟨and_c (hd c b hc hb).1, fun z => (hd c b hc hb).2 z.symm⟩
      · exact h2.2.2 b c hb hc hne
theorem sw_max {P : Nat} {B K A : Nat → Nat} (hK : ∀ b, K b < 4) {k s : Nat} (hk : k < 4) (hs : s < 256) : Mx A (IsAl P B K (fun c => c ≠ k) s) (sw P B K A k s 256) := by
  constructor
  · rcases sw_at (P := P) (B := B) (K := K) (A := A) (k := k) (s := s) 256 with h | ⟨q, hq, hqs, h⟩
    · exact ⟨0, al_0 P B K _ s, by rw [h, ms_0]⟩
    · obtain ⟨⟨X1, g1, v1⟩, -⟩ := Fb_max P B K A k q
      obtain ⟨⟨X2, g2, v2⟩, -⟩ := Fo_max P B K A hK (k := k + 1) (by omega) (nd s q)
      obtain ⟨u1, u2⟩ := al_union (ok := fun c => c ≠ k) g1 g2 hqs (fun c hc => Nat.ne_of_lt hc) (fun c hc => by have hc : k + 1 ≤ c := hc; omega) (fun c hc z => by have hc : c < k := hc; have z : k + 1 ≤ c := z; omega)
      exact ⟨_, u1, by rw [ms_or u2, h, v1, v2]⟩
  · intro X hX
    have b1 : ∀ b, (gat (fun b => X.testBit b && decide (K b < k)) 8).testBit b = true ↔ X.testBit b = true ∧ K b < k := by
      intro b
      rw [gat_bit, Bool.and_eq_true, Bool.and_eq_true, decide_eq_true_iff, decide_eq_true_iff]
      exact ⟨fun h => h.2, fun h => ⟨bit_lt hX.1 h.1, h⟩⟩
    have b2 : ∀ b, (gat (fun b => X.testBit b && decide (k < K b)) 8).testBit b = true ↔ X.testBit b = true ∧ k < K b := by
      intro b
      rw [gat_bit, Bool.and_eq_true, Bool.and_eq_true, decide_eq_true_iff, decide_eq_true_iff]
      exact ⟨fun h => h.2, fun h => ⟨bit_lt hX.1 h.1, h⟩⟩
    have l1 := gat_lt (fun b => X.testBit b && decide (K b < k))
    have l2 := gat_lt (fun b => X.testBit b && decide (k < K b))
    generalize gat (fun b => X.testBit b && decide (K b < k)) 8 = X1 at b1 l1
    generalize gat (fun b => X.testBit b && decide (k < K b)) 8 = X2 at b2 l2
    have eX : X = X1 ||| X2 := by
      apply Nat.eq_of_testBit_eq
      intro i
      rw [Nat.testBit_or]
      cases hi : X.testBit i with
      | true =>
        have hne : K i ≠ k := (hX.2.1 i hi).2.1
        rcases Nat.lt_or_ge (K i) k with z | z
        · rw [(b1 i).mpr ⟨hi, z⟩]; rfl
        · rw [(b2 i).mpr ⟨hi, by omega⟩]; simp
      | false =>
        have z1 : X1.testBit i = false := by
          cases h1 : X1.testBit i with
          | false => rfl
          | true => exact absurd ((b1 i).mp h1).1 (by rw [hi]; decide)
        have z2 : X2.testBit i = false := by
          cases h1 : X2.testBit i with
          | false => rfl
          | true => exact absurd ((b2 i).mp h1).1 (by rw [hi]; decide)
        rw [z1, z2]; rfl
    have dX : ∀ b, ¬ (X1.testBit b = true ∧ X2.testBit b = true) := fun b h => by
      have h1 := ((b1 b).mp h.1).2
      have h2 := ((b2 b).mp h.2).2
      omega
    have q0 : nd (un B X1 8) s = 0 := by
      rw [nd_0]
      intro i hi
      obtain ⟨b, -, hb, hbi⟩ := (un_bit B X1 8 i).mp hi
      exact nd_0.mp (hX.2.1 b ((b1 b).mp hb).1).2.2 i hbi
    have ql : un B X1 8 < 256 := Nat.lt_of_le_of_lt (nd_0_le q0) hs
    have g1 : IsAl P B K (fun c => c < k) (un B X1 8) X1 := by
      refine ⟨l1, fun b hb => ⟨(hX.2.1 b ((b1 b).mp hb).1).1, ((b1 b).mp hb).2, ?_⟩, fun b c hb hc hne => hX.2.2 b c ((b1 b).mp hb).1 ((b1 c).mp hc).1 hne⟩
      rw [nd_0]
      intro i hi
      exact (un_bit B X1 8 i).mpr ⟨b, bit_lt l1 hb, hb, hi⟩
    have g2 : IsAl P B K (fun c => k + 1 ≤ c) (nd s (un B X1 8)) X2 := by
      refine ⟨l2, fun b hb => ⟨(hX.2.1 b ((b2 b).mp hb).1).1, ((b2 b).mp hb).2, sub_nd (hX.2.1 b ((b2 b).mp hb).1).2.2 ?_⟩, fun b c hb hc hne => hX.2.2 b c ((b2 b).mp hb).1 ((b2 c).mp hc).1 hne⟩
      rw [and_0]
      intro i hi
      obtain ⟨c, -, hc, hci⟩ := (un_bit B X1 8 i).mp hi.2
      have h1 := ((b1 c).mp hc).2
      have h2 := ((b2 b).mp hb).2
      have hne : b ≠ c := fun z => by subst z; omega
      exact and_0.mp (hX.2.2 b c ((b2 b).mp hb).1 ((b1 c).mp hc).1 hne).1 i ⟨hi.1, hci⟩
    have v1 := (Fb_max P B K A k (un B X1 8)).2 X1 g1
    have v2 := (Fo_max P B K A hK (k := k + 1) (by omega) (nd s (un B X1 8))).2 X2 g2
    have v3 := sw_ge (P := P) (B := B) (K := K) (A := A) (k := k) (s := s) 256 _ ql q0
    have v4 : ms A X = ms A X1 + ms A X2 := by rw [eX]; exact ms_or dX
    omega
theorem slk_stp (P : Nat) (B K A : Nat → Nat) (b s n : Nat) : slk P B K A b s n = stp (nd P (2 ^ b)) B K A (K b) (fun s => sw P B K A (K b) s 256) s n := by
  induction n with
  | zero => rfl
  | succ n ih =>
    have e : (n ≠ b ∧ P.testBit n = true ∧ K n = K b ∧ nd (B n) s = 0) ↔ ((nd P (2 ^ b)).testBit n = true ∧ K n = K b ∧ nd (B n) s = 0) := by
      rw [nd_two, Bool.and_eq_true]
      constructor
      · rintro ⟨h1, h2, h3⟩; exact ⟨⟨h2, by simpa using h1⟩, h3⟩
      · rintro ⟨⟨h1, h2⟩, h3⟩; exact ⟨by simpa using h2, h1, h3⟩
    rw [slk, stp, ih]
    by_cases hc : n ≠ b ∧ P.testBit n = true ∧ K n = K b ∧ nd (B n) s = 0
    · rw [if_pos hc, if_pos (e.mp hc)]
    · rw [if_neg hc, if_neg (fun z => hc (e.mpr z))]
theorem al_lack {P : Nat} {B K : Nat → Nat} {ok : Nat → Prop} {b s X : Nat} : IsAl (nd P (2 ^ b)) B K ok s X ↔ IsAl P B K ok s X ∧ X.testBit b = false := by
  constructor
  · intro h
    refine ⟨⟨h.1, fun c hc => ⟨?_, (h.2.1 c hc).2⟩, h.2.2⟩, ?_⟩
    · have := (h.2.1 c hc).1
      rw [nd_two, Bool.and_eq_true] at this
      exact this.1
    · cases hb : X.testBit b with
      | false => rfl
      | true =>
        have := (h.2.1 b hb).1
        rw [nd_two] at this
        simp at this
  · rintro ⟨h, hb⟩
    refine ⟨h.1, fun c hc => ⟨?_, (h.2.1 c hc).2⟩, h.2.2⟩
    rw [nd_two, (h.2.1 c hc).1]
    have : c ≠ b := fun z => by subst z; rw [hb] at hc; cases hc
    simp [this]
theorem slk_max {P : Nat} {B K A : Nat → Nat} (hK : ∀ b, K b < 4) {b s : Nat} (hs : s < 256) : Mx A (fun X => IsAl P B K (fun _ => True) s X ∧ X.testBit b = false) (slk P B K A b s 8) := by
  rw [slk_stp]
  have h := stp_max (P := nd P (2 ^ b)) (B := B) (K := K) (A := A) (f := fun s => sw P B K A (K b) s 256) (k := K b) (s := s) (ok := fun c => c ≠ K b) (ok2 := fun _ => True)
    (fun s1 h1 => Mx.iff (sw_max hK (hK b) (by omega)) (fun X => by
      rw [al_lack]
      exact ⟨fun h => ⟨h, by
        cases hb : X.testBit b with
        | false => rfl
        | true => exact absurd rfl (h.2.1 b hb).2.1⟩, fun h => h.1⟩))
    (fun c => ⟨fun _ => by by_cases hc : c = K b <;> simp [hc], fun _ => trivial⟩) (fun z => z rfl)
  exact Mx.iff h (fun X => al_lack)
/-! the winners -/
theorem ff_some {q : Nat → Bool} : ∀ {n i j : Nat}, ff q n i = some j → i ≤ j ∧ j < i + n ∧ q j = true
  | 0, i, j, h => by simp [ff] at h
  | n + 1, i, j, h => by
    rw [ff] at h
    by_cases hq : q i = true
    · rw [if_pos hq] at h
      cases h
      exact ⟨Nat.le_refl _, by omega, hq⟩
    · rw [if_neg hq] at h
      obtain ⟨h1, h2, h3⟩ := ff_some h
      exact ⟨by omega, by omega, h3⟩
theorem ff_none {q : Nat → Bool} : ∀ {n i : Nat}, ff q n i = none → ∀ j, i ≤ j → j < i + n → q j = false
  | 0, i, _, j, h1, h2 => by omega
  | n + 1, i, h, j, h1, h2 => by
    rw [ff] at h
    by_cases hq : q i = true
    · rw [if_pos hq] at h
      cases h
    · rw [if_neg hq] at h
      by_cases hij : j = i
      · subst hij
        cases hj : q j with
        | false => rfl
        | true => exact absurd hj hq
      · exact ff_none h j (by omega) (by omega)
theorem tkq_iff {P : Nat} {B K A : Nat → Nat} {k s b : Nat} : tkq P B K A k s b = true ↔ P.testBit b = true ∧ K b = k ∧ nd (B b) s = 0 ∧ ma A b + Fb P B K A k (nd s (B b)) = Fb P B K A (k + 1) s := by
  unfold tkq
  rw [Bool.and_eq_true, Bool.and_eq_true, Bool.and_eq_true, decide_eq_true_iff, decide_eq_true_iff, decide_eq_true_iff]
theorem fw_spec (P : Nat) (B K A : Nat → Nat) : ∀ (k s w : Nat), ∃ Z, fw P B K A k s w = w ||| Z ∧ IsAl P B K (fun c => c < k) s Z ∧ ms A Z = Fb P B K A k s
  | 0, s, w => ⟨0, by simp [fw], al_0 P B K _ s, by rw [ms_0]; rfl⟩
  | k + 1, s, w => by
    rw [fw]
    cases ht : tk P B K A k s with
    | none =>
      dsimp only
      have e : Fb P B K A (k + 1) s = Fb P B K A k s := by
        by_cases hc : Fb P B K A (k + 1) s = Fb P B K A k s
        · exact hc
        · unfold tk at ht
          rw [if_neg hc] at ht
          have hn := ff_none ht
          rcases stp_at (P := P) (B := B) (K := K) (A := A) (f := Fb P B K A k) (k := k) (s := s) 8 with h | ⟨b, hb, h1, h2, h3, h4⟩
          · exact absurd h hc
          · have hq := hn b (Nat.zero_le _) (by omega)
            rw [tkq_iff.mpr ⟨h1, h2, h3, h4.symm⟩] at hq
            cases hq
      obtain ⟨Z, h1, h2, h3⟩ := fw_spec P B K A k s w
      exact ⟨Z, h1, al_mono h2 (fun b _ hb => Nat.lt_succ_of_lt hb), by rw [h3, e]⟩
    | some b =>
      dsimp only
      unfold tk at ht
      by_cases hc : Fb P B K A (k + 1) s = Fb P B K A k s
      · rw [if_pos hc] at ht; cases ht
      · rw [if_neg hc] at ht
        obtain ⟨-, hb, hq⟩ := ff_some ht
        obtain ⟨q1, q2, q3, q4⟩ := tkq_iff.mp hq
        obtain ⟨Z, h1, h2, h3⟩ := fw_spec P B K A k (nd s (B b)) (w ||| 2 ^ b)
        obtain ⟨g1, g2⟩ := al_add (ok2 := fun c => c < k + 1) (by omega) q1 (by rw [q2]; exact Nat.lt_succ_self k) q3 h2 (fun c hc => by have hc : c < k := hc; exact ⟨Nat.lt_succ_of_lt hc, by rw [q2]; exact Nat.ne_of_lt hc⟩)
        refine ⟨Z ||| 2 ^ b, by rw [h1, Nat.or_assoc, Nat.or_comm (2 ^ b) Z], g1, ?_⟩
        rw [ms_add (by omega) g2, h3, ← q4]
        omega
theorem off_lt (S : Nat) : off S < 256 := nd_lt (by decide)
theorem WN_spec (P : Nat) (B K A : Nat → Nat) (S : Nat) : IsAl P B K (fun c => c < 4) (off S) (WN P B K A S) ∧ ms A (WN P B K A S) = Fb P B K A 4 (off S) := by
  obtain ⟨Z, h1, h2, h3⟩ := fw_spec P B K A 4 (off S) 0
  have e : WN P B K A S = Z := by unfold WN; rw [h1]; simp
  rw [e]
  exact ⟨h2, h3⟩
theorem WN_lt (P : Nat) (B K A : Nat → Nat) (S : Nat) : WN P B K A S < 256 := (WN_spec P B K A S).1.1
/-! the reference's allocations -/
theorem ali_iff (M K : Nat → Nat) (X b n : Nat) : ali M K X b n = true ↔ ∀ c, c < n → X.testBit b = true → X.testBit c = true → M b &&& M c = 0 ∧ K b ≠ K c := by
  induction n with
  | zero => exact ⟨fun _ c h => by omega, fun _ => rfl⟩
  | succ n ih =>
    rw [ali, Bool.and_eq_true, ih]
    constructor
    · rintro ⟨h1, h2⟩ c hc hb hcx
      by_cases hcn : c = n
      · subst hcn
        rw [hb, hcx] at h2
        simp at h2
        exact h2
      · exact h1 c (by omega) hb hcx
    · intro h
      refine ⟨fun c hc => h c (by omega), ?_⟩
      cases hb : X.testBit b with
      | false => simp
      | true =>
        cases hn : X.testBit n with
        | false => simp
        | true =>
          have := h n (by omega) hb hn
          simp [this.1, this.2]
theorem alo_iff (M K : Nat → Nat) (S X n : Nat) : alo M K S X n = true ↔ ∀ b, b < n → X.testBit b = true → (0 < M b ∧ M b &&& S = 0) ∧ ∀ c, c < b → X.testBit c = true → M b &&& M c = 0 ∧ K b ≠ K c := by
  induction n with
  | zero => exact ⟨fun _ c h => by omega, fun _ => rfl⟩
  | succ n ih =>
    rw [alo, Bool.and_eq_true, Bool.and_eq_true, ih, ali_iff]
    constructor
    · rintro ⟨⟨h1, h2⟩, h3⟩ b hb hbx
      by_cases hbn : b = n
      · subst hbn
        rw [hbx] at h2
        simp at h2
        exact ⟨h2, fun c hc hcx => h3 c hc hbx hcx⟩
      · exact h1 b (by omega) hbx
    · intro h
      refine ⟨⟨fun b hb => h b (by omega), ?_⟩, fun c hc hb hcx => (h n (by omega) hb).2 c hc hcx⟩
      cases hn : X.testBit n with
      | false => rfl
      | true =>
        have := (h n (by omega) hn).1
        simp [this.1, this.2]
theorem al_iff {P : Nat} {B K M : Nat → Nat} {S X : Nat} (hM : ∀ b, M b = if P.testBit b = true then B b else 0) (hB : ∀ b, B b < 256) (hB1 : ∀ b, P.testBit b = true → 0 < B b) (hX : X < 256) : alo M K S X 8 = true ↔ IsAl P B K (fun _ => True) (off S) X := by
  have h255 : ∀ b, nd (B b) 255 = 0 := by
    intro b
    rw [nd_0]
    intro i hi
    have h8 := bit_lt (hB b) hi
    exact (by decide : ∀ i, i < 8 → (255 : Nat).testBit i = true) i h8
  rw [alo_iff]
  constructor
  · intro h
    have hp : ∀ b, X.testBit b = true → P.testBit b = true ∧ M b = B b := by
      intro b hb
      have h1 := (h b (bit_lt hX hb) hb).1.1
      rw [hM] at h1 ⊢
      by_cases hP : P.testBit b = true
      · exact ⟨hP, by rw [if_pos hP]⟩
      · rw [if_neg hP] at h1; omega
    refine ⟨hX, fun b hb => ⟨(hp b hb).1, trivial, ?_⟩, ?_⟩
    · have h1 := (h b (bit_lt hX hb) hb).1.2
      rw [(hp b hb).2] at h1
      exact sub_nd (h255 b) h1
    · intro b c hb hc hne
      rcases Nat.lt_or_ge c b with z | z
      · have := (h b (bit_lt hX hb) hb).2 c z hc
        rw [(hp b hb).2, (hp c hc).2] at this
        exact this
      · have := (h c (bit_lt hX hc) hc).2 b (by omega) hb
        rw [(hp b hb).2, (hp c hc).2] at this
        exact ⟨and_c this.1, fun e => this.2 e.symm⟩
  · intro h b hb8 hb
    have hp : ∀ b, X.testBit b = true → M b = B b := fun b hb => by rw [hM, if_pos (h.2.1 b hb).1]
    rw [hp b hb]
    refine ⟨⟨hB1 b (h.2.1 b hb).1, (nd_sub (h.2.1 b hb).2.2).2⟩, fun c hc hcx => ?_⟩
    rw [hp c hcx]
    exact h.2.2 b c hb hcx (by omega)
/-! the reference's best -/
theorem bst_spec {A : Nat → Nat} {fi : Nat → Bool} {mu ne : Nat} (n : Nat) : (bst A fi mu ne n = none → ∀ X, X < n → ¬ (fi X = true ∧ nd mu X = 0 ∧ ne &&& X = 0)) ∧ ∀ Y, bst A fi mu ne n = some Y → Y < n ∧ (fi Y = true ∧ nd mu Y = 0 ∧ ne &&& Y = 0) ∧ ∀ X, X < n → (fi X = true ∧ nd mu X = 0 ∧ ne &&& X = 0) → ms A X ≤ ms A Y := by
  induction n with
  | zero => exact ⟨fun _ X h => (by omega), fun Y h => (by cases h)⟩
  | succ n ih =>
    by_cases hc : fi n = true ∧ nd mu n = 0 ∧ ne &&& n = 0 ∧ bet A (bst A fi mu ne n) n = true
    · have e : bst A fi mu ne (n + 1) = some n := by rw [bst, if_pos hc]
      rw [e]
      refine ⟨fun z => (by cases z), fun Y hY => ?_⟩
      cases hY
      refine ⟨Nat.lt_succ_self n, ⟨hc.1, hc.2.1, hc.2.2.1⟩, fun X hX hok => ?_⟩
      by_cases hXn : X = n
      · rw [hXn]; exact Nat.le_refl _
      · cases hb : bst A fi mu ne n with
        | none => exact absurd hok (ih.1 hb X (by omega))
        | some Y =>
          have h1 := (ih.2 Y hb).2.2 X (by omega) hok
          have h2 := hc.2.2.2
          rw [hb] at h2
          have h3 : ms A Y < ms A n := of_decide_eq_true h2
          omega
    · have e : bst A fi mu ne (n + 1) = bst A fi mu ne n := by rw [bst, if_neg hc]
      rw [e]
      refine ⟨fun hb X hX hok => ?_, fun Y hb => ?_⟩
      · by_cases hXn : X = n
        · subst hXn
          exact hc ⟨hok.1, hok.2.1, hok.2.2, by rw [hb]; rfl⟩
        · exact ih.1 hb X (by omega) hok
      · obtain ⟨h1, h2, h3⟩ := ih.2 Y hb
        refine ⟨by omega, h2, fun X hX hok => ?_⟩
        by_cases hXn : X = n
        · subst hXn
          rcases Nat.lt_or_ge (ms A Y) (ms A X) with z | z
          · exact absurd ⟨hok.1, hok.2.1, hok.2.2, by rw [hb]; exact decide_eq_true z⟩ hc
          · exact z
        · exact h3 X (by omega) hok
theorem bst_max {A : Nat → Nat} {fi : Nat → Bool} {mu ne : Nat} {q : Nat → Prop} (hq : ∀ X, q X → X < 256) (e : ∀ X, X < 256 → ((fi X = true ∧ nd mu X = 0 ∧ ne &&& X = 0) ↔ q X)) : (bst A fi mu ne 256 = none → ∀ X, ¬ q X) ∧ ∀ Y, bst A fi mu ne 256 = some Y → Y < 256 ∧ q Y ∧ Mx A q (ms A Y) := by
  have h := bst_spec (A := A) (fi := fi) (mu := mu) (ne := ne) 256
  refine ⟨fun hb X hX => h.1 hb X (hq X hX) ((e X (hq X hX)).mpr hX), fun Y hb => ?_⟩
  obtain ⟨h1, h2, h3⟩ := h.2 Y hb
  have h4 := (e Y h1).mp h2
  exact ⟨h1, h4, ⟨Y, h4, rfl⟩, fun X hX => h3 X (hq X hX) ((e X (hq X hX)).mpr hX)⟩
theorem bst_some {A : Nat → Nat} {fi : Nat → Bool} (h0 : fi 0 = true) : ∃ Y, Y < 256 ∧ bst A fi 0 0 256 = some Y := by
  have h := bst_spec (A := A) (fi := fi) (mu := 0) (ne := 0) 256
  cases hb : bst A fi 0 0 256 with
  | none => exact absurd ⟨h0, by decide, by decide⟩ (h.1 hb 0 (by decide))
  | some Y => exact ⟨Y, (h.2 Y hb).1, rfl⟩
theorem bst_lt {A : Nat → Nat} {fi : Nat → Bool} {mu ne n Y : Nat} (h : bst A fi mu ne n = some Y) : Y < n := ((bst_spec n).2 Y h).1
end
section
/-! the plain law, third part: the answers of the class and of the reference are the same -/
set_option maxRecDepth 100000
section L3
variable {P : Nat} {B K A M : Nat → Nat} {S : Nat}
theorem Fb4_max (hK : ∀ b, K b < 4) (s : Nat) : Mx A (IsAl P B K (fun _ => True) s) (Fb P B K A 4 s) :=
  Mx.iff (Fb_max P B K A 4 s) (fun X => ⟨fun h => al_mono h (fun _ _ _ => trivial), fun h => al_mono h (fun b _ _ => hK b)⟩)
theorem q_lt {ok : Nat → Prop} {s X : Nat} (h : IsAl P B K ok s X) : X < 256 := h.1
theorem fi_eq {fi : Nat → Bool} (hfi : ∀ X, X < 256 → fi X = alo M K S X 8) (hM : ∀ b, M b = if P.testBit b = true then B b else 0) (hB : ∀ b, B b < 256) (hB1 : ∀ b, P.testBit b = true → 0 < B b) {X : Nat} (hX : X < 256) : fi X = true ↔ IsAl P B K (fun _ => True) (off S) X := by
  rw [hfi X hX]
  exact al_iff hM hB hB1 hX
theorem fi_0 {fi : Nat → Bool} (hfi : ∀ X, X < 256 → fi X = alo M K S X 8) : fi 0 = true := by
  rw [hfi 0 (by decide), alo_iff]
  intro b _ h
  rw [Nat.zero_testBit] at h
  cases h
/-- the reference's winners are the class's -/
theorem win_eq {fi : Nat → Bool} (hfi : ∀ X, X < 256 → fi X = alo M K S X 8) (hM : ∀ b, M b = if P.testBit b = true then B b else 0) (hB : ∀ b, B b < 256) (hB1 : ∀ b, P.testBit b = true → 0 < B b) (hK : ∀ b, K b < 4) : bst A fi 0 0 256 = some (WN P B K A S) := by
  have h := bst_max (A := A) (fi := fi) (mu := 0) (ne := 0) (q := IsAl P B K (fun _ => True) (off S)) (fun X => q_lt) (fun X hX => by
    rw [fi_eq hfi hM hB hB1 hX]
    exact ⟨fun z => z.1, fun z => ⟨z, (by rw [nd_0]; intro i hi; rw [Nat.zero_testBit] at hi; cases hi), Nat.zero_and X⟩⟩)
  obtain ⟨Y, -, hY⟩ := bst_some (A := A) (fi_0 hfi)
  obtain ⟨h1, -, h3⟩ := h.2 Y hY
  have h4 := h3.one (Fb4_max hK (off S))
  rw [hY, ms_inj h1 (WN_lt P B K A S) (by rw [h4, (WN_spec P B K A S).2])]
theorem WN_P {b : Nat} (h : (WN P B K A S).testBit b = true) : P.testBit b = true := ((WN_spec P B K A S).1.2.1 b h).1
theorem rev_eq : sm A (WN P B K A S) 8 = Fb P B K A 4 (off S) / 256 := by rw [← (WN_spec P B K A S).2, ms_div]
theorem un_cong {B2 : Nat → Nat} {X : Nat} (h : ∀ b, X.testBit b = true → B b = B2 b) (n : Nat) : un B X n = un B2 X n := by
  induction n with
  | zero => rfl
  | succ n ih =>
    rw [un, un, ih]
    by_cases hx : X.testBit n = true
    · rw [if_pos hx, if_pos hx, h n hx]
    · rw [if_neg hx, if_neg hx]
theorem sold_eq (hM : ∀ b, M b = if P.testBit b = true then B b else 0) : un M (WN P B K A S) 8 = un B (WN P B K A S) 8 :=
  un_cong (fun b hb => by rw [hM, if_pos (WN_P hb)]) 8
theorem M_pos (hM : ∀ b, M b = if P.testBit b = true then B b else 0) (hB1 : ∀ b, P.testBit b = true → 0 < B b) (b : Nat) : 0 < M b ↔ P.testBit b = true := by
  rw [hM]
  by_cases h : P.testBit b = true
  · rw [if_pos h]; exact ⟨fun _ => h, fun _ => hB1 b h⟩
  · rw [if_neg h]; exact ⟨fun z => by omega, fun z => absurd z h⟩
theorem bids_eq (hM : ∀ b, M b = if P.testBit b = true then B b else 0) (hB1 : ∀ b, P.testBit b = true → 0 < B b) (hP : P < 256) : gat (fun b => decide (0 < M b)) 8 = P := by
  apply Nat.eq_of_testBit_eq
  intro i
  rw [gat_bit]
  cases hp : P.testBit i with
  | true => rw [decide_eq_true (bit_lt hP hp), decide_eq_true ((M_pos hM hB1 i).mpr hp)]; rfl
  | false => rw [show decide (0 < M i) = false from decide_eq_false (fun z => by rw [(M_pos hM hB1 i).mp z] at hp; cases hp)]; simp
/-- the bids of a bidder -/
def ofk (M K : Nat → Nat) (k : Nat) : Nat := gat (fun b => decide (0 < M b) && decide (K b = k)) 8
theorem ofk_lt (k : Nat) : ofk M K k < 256 := gat_lt _
theorem ofk_bit (hM : ∀ b, M b = if P.testBit b = true then B b else 0) (hB1 : ∀ b, P.testBit b = true → 0 < B b) (hP : P < 256) (k b : Nat) : (ofk M K k).testBit b = true ↔ P.testBit b = true ∧ K b = k := by
  unfold ofk
  rw [gat_bit, Bool.and_eq_true, Bool.and_eq_true, decide_eq_true_iff, decide_eq_true_iff, decide_eq_true_iff, M_pos hM hB1]
  exact ⟨fun h => h.2, fun h => ⟨bit_lt hP h.1, h⟩⟩
theorem wo_eq {fi : Nat → Bool} (hfi : ∀ X, X < 256 → fi X = alo M K S X 8) (hM : ∀ b, M b = if P.testBit b = true then B b else 0) (hB : ∀ b, B b < 256) (hB1 : ∀ b, P.testBit b = true → 0 < B b) (hK : ∀ b, K b < 4) (hP : P < 256) {k : Nat} (hk : k < 4) : ∃ Y, Y < 256 ∧ bst A fi 0 (ofk M K k) 256 = some Y ∧ sm A Y 8 = sw P B K A k (off S) 256 / 256 := by
  have h := bst_max (A := A) (fi := fi) (mu := 0) (ne := ofk M K k) (q := IsAl P B K (fun c => c ≠ k) (off S)) (fun X => q_lt) (fun X hX => by
    rw [fi_eq hfi hM hB hB1 hX]
    constructor
    · rintro ⟨z1, -, z3⟩
      refine al_mono z1 (fun b hb _ e => ?_)
      exact and_0.mp z3 b ⟨(ofk_bit hM hB1 hP k b).mpr ⟨(z1.2.1 b hb).1, e⟩, hb⟩
    · intro z
      refine ⟨al_mono z (fun _ _ _ => trivial), (by rw [nd_0]; intro i hi; rw [Nat.zero_testBit] at hi; cases hi), ?_⟩
      rw [and_0]
      intro i hi
      exact (z.2.1 i hi.2).2.1 ((ofk_bit hM hB1 hP k i).mp hi.1).2)
  cases hb : bst A fi 0 (ofk M K k) 256 with
  | none => exact absurd (al_0 P B K _ (off S)) (h.1 hb 0)
  | some Y =>
    obtain ⟨h1, -, h3⟩ := h.2 Y hb
    refine ⟨Y, h1, rfl, ?_⟩
    rw [← h3.one (sw_max hK hk (off_lt S)), ms_div]
/-- the winning bid of a bidder -/
def wk (P : Nat) (B K A : Nat → Nat) (S k : Nat) : Option Nat := ff (fun b => (WN P B K A S).testBit b && decide (K b = k)) 8 0
theorem wk_none (hM : ∀ b, M b = if P.testBit b = true then B b else 0) (hB1 : ∀ b, P.testBit b = true → 0 < B b) (hP : P < 256) {k : Nat} (h : wk P B K A S k = none) : WN P B K A S &&& ofk M K k = 0 := by
  rw [and_0]
  intro i hi
  have h1 := ff_none h i (Nat.zero_le _) (by have := bit_lt (WN_lt P B K A S) hi.1; omega)
  rw [hi.1, decide_eq_true ((ofk_bit hM hB1 hP k i).mp hi.2).2] at h1
  cases h1
theorem wk_some (hM : ∀ b, M b = if P.testBit b = true then B b else 0) (hB1 : ∀ b, P.testBit b = true → 0 < B b) (hP : P < 256) {k b : Nat} (h : wk P B K A S k = some b) : WN P B K A S &&& ofk M K k = 2 ^ b ∧ b < 8 ∧ (WN P B K A S).testBit b = true ∧ K b = k := by
  obtain ⟨-, h2, h3⟩ := ff_some h
  rw [Bool.and_eq_true, decide_eq_true_iff] at h3
  refine ⟨?_, by omega, h3.1, h3.2⟩
  apply Nat.eq_of_testBit_eq
  intro i
  rw [Nat.testBit_and, two_bit]
  by_cases hib : i = b
  · subst hib
    rw [h3.1, (ofk_bit hM hB1 hP k i).mpr ⟨WN_P h3.1, h3.2⟩]
    simp
  · rw [decide_eq_false hib]
    cases hw : (WN P B K A S).testBit i with
    | false => rfl
    | true =>
      cases ho : (ofk M K k).testBit i with
      | false => rfl
      | true =>
        have h4 := ((WN_spec P B K A S).1.2.2 i b hw h3.1 hib).2
        rw [((ofk_bit hM hB1 hP k i).mp ho).2, h3.2] at h4
        exact absurd rfl h4
/-- an allocation with bid b: the bid and the rest -/
theorem with_max (hK : ∀ b, K b < 4) {b : Nat} (hb : b < 8) (hPb : P.testBit b = true) (hs : B b &&& S = 0) (hB : ∀ b, B b < 256) : ∃ Y, IsAl P B K (fun c => c ≠ K b) (nd (off S) (B b)) Y ∧ ms A Y = sw P B K A (K b) (nd (off S) (B b)) 256 ∧ IsAl P B K (fun _ => True) (off S) (Y ||| 2 ^ b) ∧ Y.testBit b = false ∧ ∀ X, IsAl P B K (fun _ => True) (off S) X → X.testBit b = true → ms A (nd X (2 ^ b)) ≤ ms A Y := by
  have hm := sw_max (P := P) (B := B) (K := K) (A := A) hK (hK b) (s := nd (off S) (B b)) (nd_lt (off_lt S))
  obtain ⟨⟨Y, hY, hv⟩, hu⟩ := hm
  have hbs : nd (B b) (off S) = 0 := by
    refine sub_nd ?_ hs
    rw [nd_0]
    intro i hi
    exact (by decide : ∀ i, i < 8 → (255 : Nat).testBit i = true) i (bit_lt (hB b) hi)
  obtain ⟨g1, g2⟩ := al_add (ok2 := fun _ => True) hb hPb trivial hbs hY (fun c hc => ⟨trivial, hc⟩)
  refine ⟨Y, hY, hv, g1, g2, fun X hX hXb => ?_⟩
  rw [hv]
  exact hu _ (al_del (ok2 := fun c => c ≠ K b) hX hXb (fun c _ hc => hc))
theorem rw_eq {fi : Nat → Bool} (hfi : ∀ X, X < 256 → fi X = alo M K S X 8) (hM : ∀ b, M b = if P.testBit b = true then B b else 0) (hB : ∀ b, B b < 256) (hB1 : ∀ b, P.testBit b = true → 0 < B b) (hK : ∀ b, K b < 4) {b : Nat} (hb : b < 8) (hPb : P.testBit b = true) (hs : B b &&& S = 0) : ∃ Y, Y < 256 ∧ bst A fi (2 ^ b) 0 256 = some Y ∧ sm A Y 8 = A b + sw P B K A (K b) (nd (off S) (B b)) 256 / 256 := by
  have e2 : ∀ X, nd (2 ^ b) X = 0 ↔ X.testBit b = true := by
    intro X
    rw [nd_0]
    constructor
    · intro h; exact h b (by rw [two_bit]; simp)
    · intro h i hi; rw [two_bit, decide_eq_true_iff] at hi; rw [hi]; exact h
  have h := bst_max (A := A) (fi := fi) (mu := 2 ^ b) (ne := 0) (q := fun X => IsAl P B K (fun _ => True) (off S) X ∧ X.testBit b = true) (fun X h => h.1.1) (fun X hX => by
    rw [fi_eq hfi hM hB hB1 hX, e2]
    exact ⟨fun z => ⟨z.1, z.2.1⟩, fun z => ⟨z.1, z.2, Nat.zero_and X⟩⟩)
  obtain ⟨Y, hY1, hY2, hY3, hY4, hY5⟩ := with_max (A := A) hK hb hPb hs hB
  have hYb : (Y ||| 2 ^ b).testBit b = true := by rw [or_two]; simp
  cases hbs : bst A fi (2 ^ b) 0 256 with
  | none => exact absurd ⟨hY3, hYb⟩ (h.1 hbs _)
  | some Z =>
    obtain ⟨h1, h2, h3⟩ := h.2 Z hbs
    have h4 := h3.2 _ ⟨hY3, hYb⟩
    have h5 := hY5 Z h2.1 h2.2
    have h6 := ms_del (A := A) hb h2.2
    have h7 := ms_add (A := A) hb hY4
    have h8 : Z = Y ||| 2 ^ b := ms_inj (A := A) h1 hY3.1 (by omega)
    refine ⟨Z, h1, rfl, ?_⟩
    rw [h8, ← hY2, ms_div, sm_or, sm_two, if_pos hb]
    · omega
    · intro i hi
      rw [two_bit, decide_eq_true_iff] at hi
      rw [hi.2, hY4] at hi
      exact absurd hi.1 (by decide)
theorem rw_none {fi : Nat → Bool} (hfi : ∀ X, X < 256 → fi X = alo M K S X 8) (hM : ∀ b, M b = if P.testBit b = true then B b else 0) (hB : ∀ b, B b < 256) (hB1 : ∀ b, P.testBit b = true → 0 < B b) {b : Nat} (hs : B b &&& S ≠ 0) : bst A fi (2 ^ b) 0 256 = none := by
  have h := bst_max (A := A) (fi := fi) (mu := 2 ^ b) (ne := 0) (q := fun X => X < 256 ∧ fi X = true ∧ nd (2 ^ b) X = 0) (fun X h => h.1) (fun X hX => ⟨fun z => ⟨hX, z.1, z.2.1⟩, fun z => ⟨z.2.1, z.2.2, Nat.zero_and X⟩⟩)
  cases hbs : bst A fi (2 ^ b) 0 256 with
  | none => rfl
  | some Z =>
    obtain ⟨h1, h2, -⟩ := h.2 Z hbs
    have h3 := (fi_eq hfi hM hB hB1 h1).mp h2.2.1
    have h4 : Z.testBit b = true := nd_0.mp h2.2.2 b (by rw [two_bit]; simp)
    exact absurd (nd_sub (h3.2.1 b h4).2.2).2 hs
/-! thresholds -/
theorem sm_u {b a X : Nat} (n : Nat) (h : X.testBit b = false) : sm (uN A b a) X n = sm A X n := by
  induction n with
  | zero => rfl
  | succ n ih =>
    rw [sm, sm, ih]
    by_cases hn : n = b
    · subst hn; rw [h]; rfl
    · rw [uN_n hn]
theorem ms_u {b a X : Nat} (h : X.testBit b = false) : ms (uN A b a) X = ms A X := by unfold ms; rw [sm_u 8 h]
theorem ms_ub {b a X : Nat} (hb : b < 8) (h : X.testBit b = true) : ms (uN A b a) X = a * 256 + 2 ^ (7 - b) + ms A (nd X (2 ^ b)) := by
  have hn : (nd X (2 ^ b)).testBit b = false := by rw [nd_two]; simp
  rw [ms_del hb h, ms_u hn]
  unfold ma
  rw [uN_s]
/-- whether the bid wins at amount a -/
def hb_ (A : Nat → Nat) (fi : Nat → Bool) (b a : Nat) : Bool := match bst (uN A b a) fi 0 0 256 with
  | none => false
  | some Y => Y.testBit b
theorem hb_eq {fi : Nat → Bool} (hfi : ∀ X, X < 256 → fi X = alo M K S X 8) (hM : ∀ b, M b = if P.testBit b = true then B b else 0) (hB : ∀ b, B b < 256) (hB1 : ∀ b, P.testBit b = true → 0 < B b) (hK : ∀ b, K b < 4) {b : Nat} (hb : b < 8) (hPb : P.testBit b = true) (hs : B b &&& S = 0) (a : Nat) : hb_ A fi b a = decide (slk P B K A b (off S) 8 < a * 256 + 2 ^ (7 - b) + sw P B K A (K b) (nd (off S) (B b)) 256) := by
  have hw := win_eq (A := uN A b a) hfi hM hB hB1 hK
  have e : hb_ A fi b a = (WN P B K (uN A b a) S).testBit b := by unfold hb_; rw [hw]
  rw [e]
  have hWs := WN_spec P B K (uN A b a) S
  have hWq : IsAl P B K (fun _ => True) (off S) (WN P B K (uN A b a) S) := al_mono hWs.1 (fun _ _ _ => trivial)
  have hmx := Fb4_max (P := P) (B := B) (A := uN A b a) hK (off S)
  rw [← hWs.2] at hmx
  obtain ⟨⟨X0, hX0, hv0⟩, hu0⟩ := slk_max (P := P) (B := B) (K := K) (A := A) hK (b := b) (off_lt S)
  obtain ⟨Y, hY1, hY2, hY3, hY4, hY5⟩ := with_max (A := A) hK hb hPb hs hB
  have hYb : (Y ||| 2 ^ b).testBit b = true := by rw [or_two]; simp
  have hYd : nd (Y ||| 2 ^ b) (2 ^ b) = Y := by
    apply Nat.eq_of_testBit_eq
    intro i
    rw [nd_two, or_two]
    by_cases hi : i = b
    · subst hi; rw [hY4]; simp
    · rw [decide_eq_false hi]; simp
  generalize WN P B K (uN A b a) S = Wn at hWs hWq hmx e
  cases hWb : Wn.testBit b with
  | true =>
    have h1 := hmx.2 X0 hX0.1
    have h2 := ms_ub (A := A) (a := a) hb hWb
    have h3 := hY5 Wn hWq hWb
    have h4 : ms (uN A b a) X0 ≠ ms (uN A b a) Wn := fun z => by
      have := ms_inj hX0.1.1 hWq.1 z
      rw [← this, hX0.2] at hWb
      cases hWb
    rw [ms_u hX0.2] at h1 h4
    exact (decide_eq_true (by omega)).symm
  | false =>
    have h1 := hu0 Wn ⟨hWq, hWb⟩
    have h2 := hmx.2 _ hY3
    rw [ms_ub hb hYb, hYd, ms_u hWb, hY2] at h2
    exact (decide_eq_false (by omega)).symm
theorem hb_no {fi : Nat → Bool} (hfi : ∀ X, X < 256 → fi X = alo M K S X 8) (hM : ∀ b, M b = if P.testBit b = true then B b else 0) (hB : ∀ b, B b < 256) (hB1 : ∀ b, P.testBit b = true → 0 < B b) (hK : ∀ b, K b < 4) {b : Nat} (hs : B b &&& S ≠ 0) (a : Nat) : hb_ A fi b a = false := by
  have hw := win_eq (A := uN A b a) hfi hM hB hB1 hK
  have e : hb_ A fi b a = (WN P B K (uN A b a) S).testBit b := by unfold hb_; rw [hw]
  rw [e]
  cases hWb : (WN P B K (uN A b a) S).testBit b with
  | false => rfl
  | true => exact absurd (nd_sub ((WN_spec P B K (uN A b a) S).1.2.1 b hWb).2.2).2 hs
end L3
theorem ff_snoc {q : Nat → Bool} : ∀ (n i : Nat), ff q (n + 1) i = (match ff q n i with | some a => some a | none => if q (i + n) = true then some (i + n) else none)
  | 0, i => by simp [ff]
  | n + 1, i => by
    rw [ff]
    by_cases h : q i = true
    · rw [if_pos h, ff, if_pos h]
    · rw [if_neg h, ff_snoc n (i + 1)]
      conv => rhs; rw [ff, if_neg h]
      rw [show i + 1 + n = i + (n + 1) by omega]
theorem lm_ff (q : Nat → Bool) : ∀ (n x : Nat), lm q n x = (match ff q n 1 with | some a => a | none => x)
  | 0, x => rfl
  | n + 1, x => by
    rw [lm, lm_ff q n, ff_snoc, show 1 + n = n + 1 by omega]
    cases h : ff q n 1 with
    | some a => rfl
    | none =>
      dsimp only
      by_cases hq : q (n + 1) = true
      · rw [if_pos hq, if_pos hq]
      · rw [if_neg hq, if_neg hq]
theorem ff_cong {q r : Nat → Bool} (h : ∀ j, q j = r j) (n i : Nat) : ff q n i = ff r n i := by
  have : q = r := funext h
  rw [this]
theorem ff_no {q : Nat → Bool} (h : ∀ j, q j = false) : ∀ (n i : Nat), ff q n i = none
  | 0, _ => rfl
  | n + 1, i => by rw [ff, h i]; exact ff_no h n (i + 1)
/-! price and allocation -/
theorem off_or (S i : Nat) : off (S ||| 2 ^ i) = nd (off S) (2 ^ i) := by
  apply Nat.eq_of_testBit_eq
  intro j
  unfold off
  rw [nd_bit, nd_bit, nd_bit, Nat.testBit_or]
  cases (255 : Nat).testBit j <;> cases S.testBit j <;> cases (2 ^ i).testBit j <;> rfl
theorem alx_iff (B K : Nat → Nat) (S X n : Nat) : alx B K S X n = true ↔ ∀ b, b < n → X.testBit b = true → ((S ||| un B X b) &&& B b = 0) ∧ (pl K X b).testBit (K b) = false := by
  induction n with
  | zero => exact ⟨fun _ b h => by omega, fun _ => rfl⟩
  | succ n ih =>
    rw [alx, Bool.and_eq_true, ih]
    constructor
    · rintro ⟨h1, h2⟩ b hb hx
      by_cases hbn : b = n
      · subst hbn
        rw [hx] at h2
        simp at h2
        exact h2
      · exact h1 b (by omega) hx
    · intro h
      refine ⟨fun b hb => h b (by omega), ?_⟩
      cases hx : X.testBit n with
      | false => rfl
      | true =>
        have := h n (by omega) hx
        simp [this.1, this.2]
theorem alx_mono (B K : Nat → Nat) (S X : Nat) {n : Nat} (h : alx B K S X n = false) : ∀ d, alx B K S X (n + d) = false
  | 0 => h
  | d + 1 => by rw [← Nat.add_assoc, alx, alx_mono B K S X h d]; rfl
theorem alloc_eq {P : Nat} {B K M : Nat → Nat} {S X : Nat} (hM : ∀ b, M b = if P.testBit b = true then B b else 0) (hB1 : ∀ b, P.testBit b = true → 0 < B b) (hX : nd X P = 0) : alx B K S X 8 = alo M K S X 8 := by
  have hp : ∀ b, X.testBit b = true → P.testBit b = true ∧ M b = B b := fun b hb => by
    have h1 := nd_0.mp hX b hb
    exact ⟨h1, by rw [hM, if_pos h1]⟩
  rw [Bool.eq_iff_iff, alx_iff, alo_iff]
  constructor
  · intro h b hb hx
    obtain ⟨h1, h2⟩ := h b hb hx
    rw [(hp b hx).2]
    refine ⟨⟨hB1 b (hp b hx).1, ?_⟩, fun c hc hcx => ⟨?_, ?_⟩⟩
    · rw [and_0]
      intro i hi
      exact and_0.mp h1 i ⟨by rw [Nat.testBit_or, hi.2]; rfl, hi.1⟩
    · rw [(hp c hcx).2, and_0]
      intro i hi
      exact and_0.mp h1 i ⟨by rw [Nat.testBit_or, (un_bit B X b i).mpr ⟨c, hc, hcx, hi.2⟩]; simp, hi.1⟩
    · intro e
      rw [(pl_bit K X b (K b)).mpr ⟨c, hc, hcx, e.symm⟩] at h2
      cases h2
  · intro h b hb hx
    obtain ⟨⟨h1, h2⟩, h3⟩ := h b hb hx
    rw [(hp b hx).2] at h2 h3
    constructor
    · rw [and_0]
      intro i hi
      rw [Nat.testBit_or, Bool.or_eq_true] at hi
      rcases hi.1 with z | z
      · exact and_0.mp h2 i ⟨hi.2, z⟩
      · obtain ⟨c, hc, hcx, hci⟩ := (un_bit B X b i).mp z
        have h4 := (h3 c hc hcx).1
        rw [(hp c hcx).2] at h4
        exact and_0.mp h4 i ⟨hi.2, hci⟩
    · cases hpl : (pl K X b).testBit (K b) with
      | false => rfl
      | true =>
        obtain ⟨c, hc, hcx, e⟩ := (pl_bit K X b (K b)).mp hpl
        exact absurd e.symm (h3 c hc hcx).2
end
section
set_option maxRecDepth 100000
/-! THE CLAIM OUT OF ONE WALK OF THE LAW'S BODY. Your part is whole_start (and what it stands on); all else here is the same for every law, but numbers. -/
def R_law : String := "PackageAuctionLaw"
def lw_P (b : Addr) (xs : List Int32) (args : Array Value) (s : State) : Prop := args = #[.ref b] ∧ s.IntsAt b xs ∧ xs.length ≤ 256 ∧ (Jvm.Cond.and given_1 narrow_1).before args s = true
def lw_Q (_ : Array Value) (s : State) (o : Outcome) (t : State) : Prop := o = .returned (some (.int 1)) ∧ Framed s o t [] 600000 7290000
def lw_Z (below : List Frame) (a : Array Value) (s : State) : State → Prop := fun t => ∃ o, t.status = .running ∧ Ended t below o ∧ lw_Q a s o t
/-- the law's own end, with 1 on the stack, nothing written that was there before, its room as the claim has it -/
theorem lw_ret {p : Program} {l : Launch} {e : Env} {s : State} {m : MethodId} {below : List Frame} {meth : Method} {c : Code} {b : Nat} (hx : p.tables.exec = Jvm.exec) (hb : c.code = code) (hr : meth.sig.returnType = ret) (hlocks : meth.locks = false) {pc : Nat} {H : Heap} {ls : Array Slot} (hdg : decode code pc = .ok (.ireturn, 1)) : W p l e room_1 s m #[Value.ref b] below meth c H [] 600000 7290000 (lw_Z below #[Value.ref b] s) (F0 m pc ls [.int 1]) := by
  intro T hT X
  obtain ⟨fs, hret, hrun, hended, hW, hframe⟩ := X.leave (v := some (.int 1)) (hlocks := hlocks) (fun h => by rw [hr] at h; cases h)
  have hmeth' : T.vm.method? m = some meth := X.method'
  refine ⟨T.setFrames fs, ?_, .returned (some (.int 1)), hrun, hended, rfl, ⟨_, rfl⟩, hW, hframe⟩
  jvm_step X.here [X.here.top, hx, hb, hdg, hmeth', hr, ret, narrow_b1]
  (try refine ⟨rfl, ?_⟩); (try refine ⟨rfl, ?_⟩)
  first | (intro acts; rw [hret _ acts rfl rfl rfl]) | rw [hret _ _ rfl rfl rfl]
  exact Steps.refl _
/-- what holds at the law's entry: the machine, the code, the tables' words (any of lw_tbl by 'hts w (by decide +kernel)'), the script of L ints xs at the cell b, what the Statement gives of the start (any of its parts by flat_of_before) -/
def lw_At (p : Program) (s : State) (m : MethodId) (meth : Method) (c : Code) (b L : Nat) (xs : Nat → Int32) : Prop :=
  p.tables.exec = Jvm.exec ∧ c.code = code ∧ meth.sig.returnType = ret ∧ c.maxLocals = 4 ∧ s.vm.findClass R_law = some m.cls ∧ (∀ w ∈ lw_tbl, w.before #[Value.ref b] s = true) ∧ va_X b L xs s s.heap ∧ b < s.heap.size ∧ meth.locks = false ∧ (Jvm.Cond.and given_1 narrow_1).before #[Value.ref b] s = true
/-! calls: words and descriptors, once for each callee -/
set_option maxRecDepth 100000
theorem hdX0_isBidder : yX0_isBidder.cls ≠ "java/lang/invoke/MethodHandle" ∧ yX0_isBidder.cls ≠ "java/lang/invoke/VarHandle" ∧ (parseMethodDescriptor yX0_isBidder.desc).map (fun d => d.parameters.length) = some 1 := by decide +kernel
theorem gX0_isBidder : GoodIn lw_all (va_wsS RX0 31 yX0_isBidder (ws_ yX0_isBidder cX0_isBidder 1 (some .boolean))) := lw_S q64 q65 q19 q66
theorem hdX0_has : yX0_has.cls = RX0 ∧ yX0_has.cls ≠ "java/lang/invoke/MethodHandle" ∧ yX0_has.cls ≠ "java/lang/invoke/VarHandle" ∧ (parseMethodDescriptor yX0_has.desc).map (fun d => d.parameters.length) = some 1 := by decide +kernel
theorem gX0_has : GoodIn lw_all (wsV RX0 35 RX0 yX0_has (ws_ yX0_has cX0_has 2 (some .boolean))) := lw_V q67 q69 qs0 q19 q70
theorem hdX0_mark : yX0_mark.cls ≠ "java/lang/invoke/MethodHandle" ∧ yX0_mark.cls ≠ "java/lang/invoke/VarHandle" ∧ (parseMethodDescriptor yX0_mark.desc).map (fun d => d.parameters.length) = some 1 := by decide +kernel
theorem gX0_mark : GoodIn lw_all (va_wsS RX0 45 yX0_mark (ws_ yX0_mark cX0_mark 1 (some .int))) := lw_S q111 q112 q19 q113
theorem hdX0_bestStep : yX0_bestStep.cls = RX0 ∧ yX0_bestStep.cls ≠ "java/lang/invoke/MethodHandle" ∧ yX0_bestStep.cls ≠ "java/lang/invoke/VarHandle" ∧ (parseMethodDescriptor yX0_bestStep.desc).map (fun d => d.parameters.length) = some 3 := by decide +kernel
theorem gX0_bestStep : GoodIn lw_all (wsV RX0 49 RX0 yX0_bestStep (ws_ yX0_bestStep cX0_bestStep 7 (some .int))) := lw_V q99 q101 qs2 q19 q102
theorem hdX0_findWinners : yX0_findWinners.cls = RX0 ∧ yX0_findWinners.cls ≠ "java/lang/invoke/MethodHandle" ∧ yX0_findWinners.cls ≠ "java/lang/invoke/VarHandle" ∧ (parseMethodDescriptor yX0_findWinners.desc).map (fun d => d.parameters.length) = some 0 := by decide +kernel
theorem gX0_findWinners : GoodIn lw_all (wsV RX0 53 RX0 yX0_findWinners (ws_ yX0_findWinners cX0_findWinners 5 (some .int))) := lw_V q114 q116 qs5 q19 q117
theorem hdX0_others : yX0_others.cls = RX0 ∧ yX0_others.cls ≠ "java/lang/invoke/MethodHandle" ∧ yX0_others.cls ≠ "java/lang/invoke/VarHandle" ∧ (parseMethodDescriptor yX0_others.desc).map (fun d => d.parameters.length) = some 3 := by decide +kernel
theorem gX0_others : GoodIn lw_all (wsV RX0 60 RX0 yX0_others (ws_ yX0_others cX0_others 4 (some .int))) := lw_V q103 q105 qs3 q19 q106
theorem hdX0_markedAmount : yX0_markedAmount.cls = RX0 ∧ yX0_markedAmount.cls ≠ "java/lang/invoke/MethodHandle" ∧ yX0_markedAmount.cls ≠ "java/lang/invoke/VarHandle" ∧ (parseMethodDescriptor yX0_markedAmount.desc).map (fun d => d.parameters.length) = some 1 := by decide +kernel
theorem gX0_markedAmount : GoodIn lw_all (wsV RX0 63 RX0 yX0_markedAmount (ws_ yX0_markedAmount cX0_markedAmount 2 (some .int))) := lw_V q107 q109 qs4 q19 q110
theorem hdX0_offered : yX0_offered.cls = RX0 ∧ yX0_offered.cls ≠ "java/lang/invoke/MethodHandle" ∧ yX0_offered.cls ≠ "java/lang/invoke/VarHandle" ∧ (parseMethodDescriptor yX0_offered.desc).map (fun d => d.parameters.length) = some 0 := by decide +kernel
theorem gX0_offered : GoodIn lw_all (wsV RX0 66 RX0 yX0_offered (ws_ yX0_offered cX0_offered 1 (some .int))) := lw_V q118 q120 qs6 q19 q121
theorem hdX0_bidTaken : yX0_bidTaken.cls = RX0 ∧ yX0_bidTaken.cls ≠ "java/lang/invoke/MethodHandle" ∧ yX0_bidTaken.cls ≠ "java/lang/invoke/VarHandle" ∧ (parseMethodDescriptor yX0_bidTaken.desc).map (fun d => d.parameters.length) = some 2 := by decide +kernel
theorem gX0_bidTaken : GoodIn lw_all (wsV RX0 69 RX0 yX0_bidTaken (ws_ yX0_bidTaken cX0_bidTaken 6 (some .int))) := lw_V q122 q124 qs7 q19 q125
theorem hdX0_learn : yX0_learn.cls = RX0 ∧ yX0_learn.cls ≠ "java/lang/invoke/MethodHandle" ∧ yX0_learn.cls ≠ "java/lang/invoke/VarHandle" ∧ (parseMethodDescriptor yX0_learn.desc).map (fun d => d.parameters.length) = some 0 := by decide +kernel
theorem gX0_learn : GoodIn lw_all (wsV RX0 73 RX0 yX0_learn (ws_ yX0_learn cX0_learn 3 none)) := lw_V q95 q97 qs1 q19 q98
theorem hdX0_sumWithout : yX0_sumWithout.cls = RX0 ∧ yX0_sumWithout.cls ≠ "java/lang/invoke/MethodHandle" ∧ yX0_sumWithout.cls ≠ "java/lang/invoke/VarHandle" ∧ (parseMethodDescriptor yX0_sumWithout.desc).map (fun d => d.parameters.length) = some 2 := by decide +kernel
theorem gX0_sumWithout : GoodIn lw_all (wsV RX0 76 RX0 yX0_sumWithout (ws_ yX0_sumWithout cX0_sumWithout 6 (some .int))) := lw_V q138 q140 qs8 q19 q141
theorem hdX0_revenue : yX0_revenue.cls = RX0 ∧ yX0_revenue.cls ≠ "java/lang/invoke/MethodHandle" ∧ yX0_revenue.cls ≠ "java/lang/invoke/VarHandle" ∧ (parseMethodDescriptor yX0_revenue.desc).map (fun d => d.parameters.length) = some 0 := by decide +kernel
theorem gX0_revenue : GoodIn lw_all (wsV RX0 79 RX0 yX0_revenue (ws_ yX0_revenue cX0_revenue 2 (some .int))) := lw_V q146 q127 q128 q19 q129
theorem hdX0_revenueWithout : yX0_revenueWithout.cls = RX0 ∧ yX0_revenueWithout.cls ≠ "java/lang/invoke/MethodHandle" ∧ yX0_revenueWithout.cls ≠ "java/lang/invoke/VarHandle" ∧ (parseMethodDescriptor yX0_revenueWithout.desc).map (fun d => d.parameters.length) = some 1 := by decide +kernel
theorem gX0_revenueWithout : GoodIn lw_all (wsV RX0 82 RX0 yX0_revenueWithout (ws_ yX0_revenueWithout cX0_revenueWithout 3 (some .int))) := lw_V q147 q135 q136 q19 q137
theorem hdX0_sumLacking : yX0_sumLacking.cls = RX0 ∧ yX0_sumLacking.cls ≠ "java/lang/invoke/MethodHandle" ∧ yX0_sumLacking.cls ≠ "java/lang/invoke/VarHandle" ∧ (parseMethodDescriptor yX0_sumLacking.desc).map (fun d => d.parameters.length) = some 1 := by decide +kernel
theorem gX0_sumLacking : GoodIn lw_all (wsV RX0 85 RX0 yX0_sumLacking (ws_ yX0_sumLacking cX0_sumLacking 7 (some .int))) := lw_V q152 q154 qs9 q19 q155
theorem hdX0_bid : yX0_bid.cls = RX0 ∧ yX0_bid.cls ≠ "java/lang/invoke/MethodHandle" ∧ yX0_bid.cls ≠ "java/lang/invoke/VarHandle" ∧ (parseMethodDescriptor yX0_bid.desc).map (fun d => d.parameters.length) = some 3 := by decide +kernel
theorem gLX0_bid : GoodIn lw_all (wsV R_law 13 RX0 yX0_bid (ws_ yX0_bid cX0_bid 5 (some .int))) := lw_V q60 q61 q62 q19 q63
theorem hdX1_bid : yX1_bid.cls = RX1 ∧ yX1_bid.cls ≠ "java/lang/invoke/MethodHandle" ∧ yX1_bid.cls ≠ "java/lang/invoke/VarHandle" ∧ (parseMethodDescriptor yX1_bid.desc).map (fun d => d.parameters.length) = some 3 := by decide +kernel
theorem gLX1_bid : GoodIn lw_all (wsV R_law 17 RX1 yX1_bid (ws_ yX1_bid cX1_bid 5 (some .int))) := lw_V q191 q192 q193 q20 q194
theorem hdX0_retract : yX0_retract.cls = RX0 ∧ yX0_retract.cls ≠ "java/lang/invoke/MethodHandle" ∧ yX0_retract.cls ≠ "java/lang/invoke/VarHandle" ∧ (parseMethodDescriptor yX0_retract.desc).map (fun d => d.parameters.length) = some 1 := by decide +kernel
theorem gLX0_retract : GoodIn lw_all (wsV R_law 18 RX0 yX0_retract (ws_ yX0_retract cX0_retract 2 (some .boolean))) := lw_V q71 q72 q73 q19 q74
theorem hdX1_retract : yX1_retract.cls = RX1 ∧ yX1_retract.cls ≠ "java/lang/invoke/MethodHandle" ∧ yX1_retract.cls ≠ "java/lang/invoke/VarHandle" ∧ (parseMethodDescriptor yX1_retract.desc).map (fun d => d.parameters.length) = some 1 := by decide +kernel
theorem gLX1_retract : GoodIn lw_all (wsV R_law 22 RX1 yX1_retract (ws_ yX1_retract cX1_retract 2 (some .boolean))) := lw_V q199 q200 q201 q20 q202
theorem hdX0_raise : yX0_raise.cls = RX0 ∧ yX0_raise.cls ≠ "java/lang/invoke/MethodHandle" ∧ yX0_raise.cls ≠ "java/lang/invoke/VarHandle" ∧ (parseMethodDescriptor yX0_raise.desc).map (fun d => d.parameters.length) = some 2 := by decide +kernel
theorem gLX0_raise : GoodIn lw_all (wsV R_law 23 RX0 yX0_raise (ws_ yX0_raise cX0_raise 3 (some .boolean))) := lw_V q75 q76 q77 q19 q78
theorem hdX1_raise : yX1_raise.cls = RX1 ∧ yX1_raise.cls ≠ "java/lang/invoke/MethodHandle" ∧ yX1_raise.cls ≠ "java/lang/invoke/VarHandle" ∧ (parseMethodDescriptor yX1_raise.desc).map (fun d => d.parameters.length) = some 2 := by decide +kernel
theorem gLX1_raise : GoodIn lw_all (wsV R_law 27 RX1 yX1_raise (ws_ yX1_raise cX1_raise 3 (some .boolean))) := lw_V q207 q208 q209 q20 q210
theorem hdX0_withhold : yX0_withhold.cls = RX0 ∧ yX0_withhold.cls ≠ "java/lang/invoke/MethodHandle" ∧ yX0_withhold.cls ≠ "java/lang/invoke/VarHandle" ∧ (parseMethodDescriptor yX0_withhold.desc).map (fun d => d.parameters.length) = some 2 := by decide +kernel
theorem gLX0_withhold : GoodIn lw_all (wsV R_law 28 RX0 yX0_withhold (ws_ yX0_withhold cX0_withhold 3 (some .boolean))) := lw_V q79 q80 q81 q19 q82
theorem hdX1_withhold : yX1_withhold.cls = RX1 ∧ yX1_withhold.cls ≠ "java/lang/invoke/MethodHandle" ∧ yX1_withhold.cls ≠ "java/lang/invoke/VarHandle" ∧ (parseMethodDescriptor yX1_withhold.desc).map (fun d => d.parameters.length) = some 2 := by decide +kernel
theorem gLX1_withhold : GoodIn lw_all (wsV R_law 32 RX1 yX1_withhold (ws_ yX1_withhold cX1_withhold 3 (some .boolean))) := lw_V q211 q212 q213 q20 q214
theorem hdX0_bids : yX0_bids.cls = RX0 ∧ yX0_bids.cls ≠ "java/lang/invoke/MethodHandle" ∧ yX0_bids.cls ≠ "java/lang/invoke/VarHandle" ∧ (parseMethodDescriptor yX0_bids.desc).map (fun d => d.parameters.length) = some 0 := by decide +kernel
theorem gLX0_bids : GoodIn lw_all (wsV R_law 33 RX0 yX0_bids (ws_ yX0_bids cX0_bids 1 (some .int))) := lw_V q83 q84 q85 q19 q86
theorem hdX1_bids : yX1_bids.cls = RX1 ∧ yX1_bids.cls ≠ "java/lang/invoke/MethodHandle" ∧ yX1_bids.cls ≠ "java/lang/invoke/VarHandle" ∧ (parseMethodDescriptor yX1_bids.desc).map (fun d => d.parameters.length) = some 0 := by decide +kernel
theorem gLX1_bids : GoodIn lw_all (wsV R_law 37 RX1 yX1_bids (ws_ yX1_bids cX1_bids 3 (some .int))) := lw_V q215 q216 q217 q20 q218
theorem hdX0_withheld : yX0_withheld.cls = RX0 ∧ yX0_withheld.cls ≠ "java/lang/invoke/MethodHandle" ∧ yX0_withheld.cls ≠ "java/lang/invoke/VarHandle" ∧ (parseMethodDescriptor yX0_withheld.desc).map (fun d => d.parameters.length) = some 0 := by decide +kernel
theorem gLX0_withheld : GoodIn lw_all (wsV R_law 38 RX0 yX0_withheld (ws_ yX0_withheld cX0_withheld 1 (some .int))) := lw_V q87 q88 q89 q19 q90
theorem hdX1_withheld : yX1_withheld.cls = RX1 ∧ yX1_withheld.cls ≠ "java/lang/invoke/MethodHandle" ∧ yX1_withheld.cls ≠ "java/lang/invoke/VarHandle" ∧ (parseMethodDescriptor yX1_withheld.desc).map (fun d => d.parameters.length) = some 0 := by decide +kernel
theorem gLX1_withheld : GoodIn lw_all (wsV R_law 41 RX1 yX1_withheld (ws_ yX1_withheld cX1_withheld 1 (some .int))) := lw_V q219 q220 q221 q20 q222
theorem hdX0_winners : yX0_winners.cls = RX0 ∧ yX0_winners.cls ≠ "java/lang/invoke/MethodHandle" ∧ yX0_winners.cls ≠ "java/lang/invoke/VarHandle" ∧ (parseMethodDescriptor yX0_winners.desc).map (fun d => d.parameters.length) = some 0 := by decide +kernel
theorem gLX0_winners : GoodIn lw_all (wsV R_law 42 RX0 yX0_winners (ws_ yX0_winners cX0_winners 1 (some .int))) := lw_V q91 q92 q93 q19 q94
theorem hdX1_winners : yX1_winners.cls = RX1 ∧ yX1_winners.cls ≠ "java/lang/invoke/MethodHandle" ∧ yX1_winners.cls ≠ "java/lang/invoke/VarHandle" ∧ (parseMethodDescriptor yX1_winners.desc).map (fun d => d.parameters.length) = some 0 := by decide +kernel
theorem gLX1_winners : GoodIn lw_all (wsV R_law 45 RX1 yX1_winners (ws_ yX1_winners cX1_winners 1 (some .int))) := lw_V q223 q224 q225 q20 q226
theorem gLX0_revenue : GoodIn lw_all (wsV R_law 46 RX0 yX0_revenue (ws_ yX0_revenue cX0_revenue 2 (some .int))) := lw_V q126 q127 q128 q19 q129
theorem hdX1_revenue : yX1_revenue.cls = RX1 ∧ yX1_revenue.cls ≠ "java/lang/invoke/MethodHandle" ∧ yX1_revenue.cls ≠ "java/lang/invoke/VarHandle" ∧ (parseMethodDescriptor yX1_revenue.desc).map (fun d => d.parameters.length) = some 0 := by decide +kernel
theorem gLX1_revenue : GoodIn lw_all (wsV R_law 49 RX1 yX1_revenue (ws_ yX1_revenue cX1_revenue 2 (some .int))) := lw_V q247 q248 q249 q20 q250
theorem hdX0_sold : yX0_sold.cls = RX0 ∧ yX0_sold.cls ≠ "java/lang/invoke/MethodHandle" ∧ yX0_sold.cls ≠ "java/lang/invoke/VarHandle" ∧ (parseMethodDescriptor yX0_sold.desc).map (fun d => d.parameters.length) = some 0 := by decide +kernel
theorem gLX0_sold : GoodIn lw_all (wsV R_law 50 RX0 yX0_sold (ws_ yX0_sold cX0_sold 3 (some .int))) := lw_V q130 q131 q132 q19 q133
theorem hdX1_sold : yX1_sold.cls = RX1 ∧ yX1_sold.cls ≠ "java/lang/invoke/MethodHandle" ∧ yX1_sold.cls ≠ "java/lang/invoke/VarHandle" ∧ (parseMethodDescriptor yX1_sold.desc).map (fun d => d.parameters.length) = some 0 := by decide +kernel
theorem gLX1_sold : GoodIn lw_all (wsV R_law 53 RX1 yX1_sold (ws_ yX1_sold cX1_sold 4 (some .int))) := lw_V q252 q253 q254 q20 q255
theorem gLX0_revenueWithout : GoodIn lw_all (wsV R_law 54 RX0 yX0_revenueWithout (ws_ yX0_revenueWithout cX0_revenueWithout 3 (some .int))) := lw_V q134 q135 q136 q19 q137
theorem hdX1_revenueWithout : yX1_revenueWithout.cls = RX1 ∧ yX1_revenueWithout.cls ≠ "java/lang/invoke/MethodHandle" ∧ yX1_revenueWithout.cls ≠ "java/lang/invoke/VarHandle" ∧ (parseMethodDescriptor yX1_revenueWithout.desc).map (fun d => d.parameters.length) = some 1 := by decide +kernel
theorem gLX1_revenueWithout : GoodIn lw_all (wsV R_law 58 RX1 yX1_revenueWithout (ws_ yX1_revenueWithout cX1_revenueWithout 3 (some .int))) := lw_V q256 q257 q258 q20 q259
theorem hdX0_payment : yX0_payment.cls = RX0 ∧ yX0_payment.cls ≠ "java/lang/invoke/MethodHandle" ∧ yX0_payment.cls ≠ "java/lang/invoke/VarHandle" ∧ (parseMethodDescriptor yX0_payment.desc).map (fun d => d.parameters.length) = some 1 := by decide +kernel
theorem gLX0_payment : GoodIn lw_all (wsV R_law 59 RX0 yX0_payment (ws_ yX0_payment cX0_payment 4 (some .int))) := lw_V q142 q143 q144 q19 q145
theorem hdX1_payment : yX1_payment.cls = RX1 ∧ yX1_payment.cls ≠ "java/lang/invoke/MethodHandle" ∧ yX1_payment.cls ≠ "java/lang/invoke/VarHandle" ∧ (parseMethodDescriptor yX1_payment.desc).map (fun d => d.parameters.length) = some 1 := by decide +kernel
theorem gLX1_payment : GoodIn lw_all (wsV R_law 62 RX1 yX1_payment (ws_ yX1_payment cX1_payment 4 (some .int))) := lw_V q264 q265 q266 q20 q267
theorem hdX0_threshold : yX0_threshold.cls = RX0 ∧ yX0_threshold.cls ≠ "java/lang/invoke/MethodHandle" ∧ yX0_threshold.cls ≠ "java/lang/invoke/VarHandle" ∧ (parseMethodDescriptor yX0_threshold.desc).map (fun d => d.parameters.length) = some 1 := by decide +kernel
theorem gLX0_threshold : GoodIn lw_all (wsV R_law 63 RX0 yX0_threshold (ws_ yX0_threshold cX0_threshold 6 (some .int))) := lw_V q148 q149 q150 q19 q151
theorem hdX1_threshold : yX1_threshold.cls = RX1 ∧ yX1_threshold.cls ≠ "java/lang/invoke/MethodHandle" ∧ yX1_threshold.cls ≠ "java/lang/invoke/VarHandle" ∧ (parseMethodDescriptor yX1_threshold.desc).map (fun d => d.parameters.length) = some 1 := by decide +kernel
theorem gLX1_threshold : GoodIn lw_all (wsV R_law 66 RX1 yX1_threshold (ws_ yX1_threshold cX1_threshold 5 (some .int))) := lw_V q269 q270 q271 q20 q272
theorem hdX0_revenueWith : yX0_revenueWith.cls = RX0 ∧ yX0_revenueWith.cls ≠ "java/lang/invoke/MethodHandle" ∧ yX0_revenueWith.cls ≠ "java/lang/invoke/VarHandle" ∧ (parseMethodDescriptor yX0_revenueWith.desc).map (fun d => d.parameters.length) = some 1 := by decide +kernel
theorem gLX0_revenueWith : GoodIn lw_all (wsV R_law 67 RX0 yX0_revenueWith (ws_ yX0_revenueWith cX0_revenueWith 4 (some .int))) := lw_V q156 q157 q158 q19 q159
theorem hdX1_revenueWith : yX1_revenueWith.cls = RX1 ∧ yX1_revenueWith.cls ≠ "java/lang/invoke/MethodHandle" ∧ yX1_revenueWith.cls ≠ "java/lang/invoke/VarHandle" ∧ (parseMethodDescriptor yX1_revenueWith.desc).map (fun d => d.parameters.length) = some 1 := by decide +kernel
theorem gLX1_revenueWith : GoodIn lw_all (wsV R_law 70 RX1 yX1_revenueWith (ws_ yX1_revenueWith cX1_revenueWith 3 (some .int))) := lw_V q273 q274 q275 q20 q276
theorem hdX0_price : yX0_price.cls = RX0 ∧ yX0_price.cls ≠ "java/lang/invoke/MethodHandle" ∧ yX0_price.cls ≠ "java/lang/invoke/VarHandle" ∧ (parseMethodDescriptor yX0_price.desc).map (fun d => d.parameters.length) = some 1 := by decide +kernel
theorem gLX0_price : GoodIn lw_all (wsV R_law 71 RX0 yX0_price (ws_ yX0_price cX0_price 4 (some .int))) := lw_V q160 q161 q162 q19 q163
theorem hdX1_price : yX1_price.cls = RX1 ∧ yX1_price.cls ≠ "java/lang/invoke/MethodHandle" ∧ yX1_price.cls ≠ "java/lang/invoke/VarHandle" ∧ (parseMethodDescriptor yX1_price.desc).map (fun d => d.parameters.length) = some 1 := by decide +kernel
theorem gLX1_price : GoodIn lw_all (wsV R_law 74 RX1 yX1_price (ws_ yX1_price cX1_price 5 (some .int))) := lw_V q277 q278 q279 q20 q280
theorem hdX0_allocation : yX0_allocation.cls = RX0 ∧ yX0_allocation.cls ≠ "java/lang/invoke/MethodHandle" ∧ yX0_allocation.cls ≠ "java/lang/invoke/VarHandle" ∧ (parseMethodDescriptor yX0_allocation.desc).map (fun d => d.parameters.length) = some 1 := by decide +kernel
theorem gLX0_allocation : GoodIn lw_all (wsV R_law 75 RX0 yX0_allocation (ws_ yX0_allocation cX0_allocation 5 (some .boolean))) := lw_V q164 q165 q166 q19 q167
theorem hdX1_allocation : yX1_allocation.cls = RX1 ∧ yX1_allocation.cls ≠ "java/lang/invoke/MethodHandle" ∧ yX1_allocation.cls ≠ "java/lang/invoke/VarHandle" ∧ (parseMethodDescriptor yX1_allocation.desc).map (fun d => d.parameters.length) = some 1 := by decide +kernel
theorem gLX1_allocation : GoodIn lw_all (wsV R_law 78 RX1 yX1_allocation (ws_ yX1_allocation cX1_allocation 2 (some .boolean))) := lw_V q282 q283 q284 q20 q285
theorem hdX1_bidder : yX1_bidder.cls = RX1 ∧ yX1_bidder.cls ≠ "java/lang/invoke/MethodHandle" ∧ yX1_bidder.cls ≠ "java/lang/invoke/VarHandle" ∧ (parseMethodDescriptor yX1_bidder.desc).map (fun d => d.parameters.length) = some 1 := by decide +kernel
theorem gX1_bidder : GoodIn lw_all (wsV RX1 23 RX1 yX1_bidder (ws_ yX1_bidder cX1_bidder 2 (some .boolean))) := lw_V q195 q197 qs10 q20 q198
theorem hdX1_is : yX1_is.cls = RX1 ∧ yX1_is.cls ≠ "java/lang/invoke/MethodHandle" ∧ yX1_is.cls ≠ "java/lang/invoke/VarHandle" ∧ (parseMethodDescriptor yX1_is.desc).map (fun d => d.parameters.length) = some 1 := by decide +kernel
theorem gX1_is : GoodIn lw_all (wsV RX1 27 RX1 yX1_is (ws_ yX1_is cX1_is 2 (some .boolean))) := lw_V q203 q205 qs11 q20 q206
theorem hdX1_allocates : yX1_allocates.cls = RX1 ∧ yX1_allocates.cls ≠ "java/lang/invoke/MethodHandle" ∧ yX1_allocates.cls ≠ "java/lang/invoke/VarHandle" ∧ (parseMethodDescriptor yX1_allocates.desc).map (fun d => d.parameters.length) = some 1 := by decide +kernel
theorem gX1_allocates : GoodIn lw_all (wsV RX1 34 RX1 yX1_allocates (ws_ yX1_allocates cX1_allocates 7 (some .boolean))) := lw_V q231 q233 qs13 q20 q234
theorem hdX1_sum : yX1_sum.cls = RX1 ∧ yX1_sum.cls ≠ "java/lang/invoke/MethodHandle" ∧ yX1_sum.cls ≠ "java/lang/invoke/VarHandle" ∧ (parseMethodDescriptor yX1_sum.desc).map (fun d => d.parameters.length) = some 1 := by decide +kernel
theorem gX1_sum : GoodIn lw_all (wsV RX1 37 RX1 yX1_sum (ws_ yX1_sum cX1_sum 4 (some .int))) := lw_V q243 q245 qs16 q20 q246
theorem hdX1_before : yX1_before.cls = RX1 ∧ yX1_before.cls ≠ "java/lang/invoke/MethodHandle" ∧ yX1_before.cls ≠ "java/lang/invoke/VarHandle" ∧ (parseMethodDescriptor yX1_before.desc).map (fun d => d.parameters.length) = some 2 := by decide +kernel
theorem gX1_before : GoodIn lw_all (wsV RX1 41 RX1 yX1_before (ws_ yX1_before cX1_before 6 (some .boolean))) := lw_V q239 q241 qs15 q20 q242
theorem hdX1_work : yX1_work.cls = RX1 ∧ yX1_work.cls ≠ "java/lang/invoke/MethodHandle" ∧ yX1_work.cls ≠ "java/lang/invoke/VarHandle" ∧ (parseMethodDescriptor yX1_work.desc).map (fun d => d.parameters.length) = some 0 := by decide +kernel
theorem gX1_work : GoodIn lw_all (wsV RX1 45 RX1 yX1_work (ws_ yX1_work cX1_work 2 none)) := lw_V q227 q229 qs12 q20 q230
theorem hdX1_best : yX1_best.cls = RX1 ∧ yX1_best.cls ≠ "java/lang/invoke/MethodHandle" ∧ yX1_best.cls ≠ "java/lang/invoke/VarHandle" ∧ (parseMethodDescriptor yX1_best.desc).map (fun d => d.parameters.length) = some 2 := by decide +kernel
theorem gX1_best : GoodIn lw_all (wsV RX1 48 RX1 yX1_best (ws_ yX1_best cX1_best 5 (some .int))) := lw_V q235 q237 qs14 q20 q238
theorem gX1_winners : GoodIn lw_all (wsV RX1 52 RX1 yX1_winners (ws_ yX1_winners cX1_winners 1 (some .int))) := lw_V q251 q224 q225 q20 q226
theorem hdX1_of : yX1_of.cls = RX1 ∧ yX1_of.cls ≠ "java/lang/invoke/MethodHandle" ∧ yX1_of.cls ≠ "java/lang/invoke/VarHandle" ∧ (parseMethodDescriptor yX1_of.desc).map (fun d => d.parameters.length) = some 1 := by decide +kernel
theorem gX1_of : GoodIn lw_all (wsV RX1 56 RX1 yX1_of (ws_ yX1_of cX1_of 4 (some .int))) := lw_V q260 q262 qs17 q20 q263
theorem gX1_revenueWithout : GoodIn lw_all (wsV RX1 59 RX1 yX1_revenueWithout (ws_ yX1_revenueWithout cX1_revenueWithout 3 (some .int))) := lw_V q268 q257 q258 q20 q259
theorem gX1_revenue : GoodIn lw_all (wsV RX1 62 RX1 yX1_revenue (ws_ yX1_revenue cX1_revenue 2 (some .int))) := lw_V q281 q248 q249 q20 q250

/-! an index from outside -/
def inr (n : Nat) (x : Int32) : Bool := decide (¬ x < 0 ∧ ¬ nI n ≤ x)
theorem inr_ex {n : Nat} {x : Int32} (hn : n < 2 ^ 31) (h1 : ¬ x < 0) (h2 : ¬ nI n ≤ x) : ∃ j, j < n ∧ x = nI j := by
  rcases pk_ix x hn with h | h | h
  · exact absurd h h1
  · exact absurd h h2
  · exact h
theorem inr_t {n : Nat} {x : Int32} (h1 : ¬ x < 0) (h2 : ¬ nI n ≤ x) : inr n x = true := decide_eq_true ⟨h1, h2⟩
theorem inr_f1 {n : Nat} {x : Int32} (h : x < 0) : inr n x = false := decide_eq_false (fun z => z.1 h)
theorem inr_f2 {n : Nat} {x : Int32} (h : nI n ≤ x) : inr n x = false := decide_eq_false (fun z => z.2 h)
theorem inr_nI {n j : Nat} (hn : n < 2 ^ 31) (hj : j < n) : inr n (nI j) = true := inr_t (nI_pos (by omega)) (nI_ge hj hn)
theorem inr_of {n : Nat} {x : Int32} (hn : n < 2 ^ 31) (h : inr n x = true) : ∃ j, j < n ∧ x = nI j := inr_ex hn (of_decide_eq_true h).1 (of_decide_eq_true h).2
/-- 'at most n - 1' is 'not n' -/
theorem nI_gt_ge {n : Nat} (hn : n + 1 < 2 ^ 31) (x : Int32) : nI n < x ↔ nI (n + 1) ≤ x := by
  rw [Int32.lt_iff_toInt_lt, Int32.le_iff_toInt_le, nI_toInt (by omega), nI_toInt hn]
  omega
def hasb (P : Nat) (x : Int32) : Bool := inr 8 x && P.testBit x.toNatClampNeg
theorem hasb_nI {P j : Nat} (hj : j < 8) : hasb P (nI j) = P.testBit j := by
  unfold hasb
  rw [inr_nI (by decide) hj, nI_clamp (by omega)]
  rfl
theorem hasb_f {P : Nat} {x : Int32} (h : inr 8 x = false) : hasb P x = false := by
  unfold hasb
  rw [h]
  rfl
theorem hasb_of {P : Nat} {x : Int32} (h : hasb P x = true) : ∃ j, j < 8 ∧ x = nI j ∧ P.testBit j = true := by
  unfold hasb at h
  rw [Bool.and_eq_true] at h
  obtain ⟨j, hj, rfl⟩ := inr_of (by decide) h.1
  rw [nI_clamp (by omega)] at h
  exact ⟨j, hj, rfl, h.2⟩
theorem tk_lt {P : Nat} {B K A : Nat → Nat} {k s b : Nat} (h : tk P B K A k s = some b) : b < 8 := by
  unfold tk at h
  split at h
  · cases h
  · have := (ff_some h).2.1
    omega
end
section
set_option maxRecDepth 100000
set_option maxHeartbeats 1000000 in
set_option maxRecDepth 100000 in
/-- isBidder(x): 0 ≤ x < 4 -/
theorem mX0_isBidder {l : Launch} {x : Int32}  : RoSt l yX0_isBidder cX0_isBidder 1 (some .boolean) 0 0 [.int (x)] (bI (inr 4 x)) := by
  refine rs_of (lv := [(0, .int (x))]) (by decide) (Nat.le_of_ble_eq_true rfl) rfl ?_
  intro p e s m below meth c hx hb hr hml hown hts hlk ls hl
  refine lv_iload_n hx hb dX0_isBidder_0 rfl (lv_at hl 0 rfl) ?_
  refine lv_if_lt (tgt := 13) hx hb dX0_isBidder_1 (by decide) (fun c1 => ?_) (fun c1 => ?_)
  · refine lv_iconst (v := nI 0) hx hb dX0_isBidder_13 (by decide +kernel) ?_
    exact ro_zret hx hb hr hlk (by rw [inr_f1 c1]; rfl) (false) rfl dX0_isBidder_14
  · refine lv_iload_n hx hb dX0_isBidder_4 rfl (lv_at hl 0 rfl) ?_
    refine lv_iconst (v := nI 4) hx hb dX0_isBidder_5 (by decide +kernel) ?_
    refine lv_icmp_ge (tgt := 13) hx hb dX0_isBidder_6 (by decide) (fun c6 => ?_) (fun c6 => ?_)
    · refine lv_iconst (v := nI 0) hx hb dX0_isBidder_13 (by decide +kernel) ?_
      exact ro_zret hx hb hr hlk (by rw [inr_f2 c6]; rfl) (false) rfl dX0_isBidder_14
    · refine lv_iconst (v := nI 1) hx hb dX0_isBidder_9 (by decide +kernel) ?_
      refine lv_goto (tgt := 14) hx hb dX0_isBidder_10 (by decide) ?_
      exact ro_zret hx hb hr hlk (by rw [inr_t c1 c6]; rfl) (true) rfl dX0_isBidder_14
set_option maxHeartbeats 1000000 in
set_option maxRecDepth 100000 in
/-- mark(b): 1 << (7 - b) -/
theorem mX0_mark {l : Launch} {b : Nat} (hb8 : b < 8) : RoSt l yX0_mark cX0_mark 1 (some .int) 0 0 [.int (nI b)] (nI (2 ^ (7 - b))) := by
  refine rs_of (lv := [(0, .int (nI b))]) (by decide) (Nat.le_of_ble_eq_true rfl) rfl ?_
  intro p e s m below meth c hx hb hr hml hown hts hlk ls hl
  refine lv_iconst (v := nI 1) hx hb dX0_mark_0 (by decide +kernel) ?_
  refine lv_bipush (v := nI 7) hx hb dX0_mark_1 (by decide +kernel) ?_
  refine lv_iload_n hx hb dX0_mark_3 rfl (lv_at hl 0 rfl) ?_
  refine is_N hx hb dX0_mark_4 (by omega) ?_
  refine sh_N hx hb dX0_mark_5 (by omega) ?_
  exact ro_iret hx hb hr hlk (rfl) dX0_mark_6
set_option maxHeartbeats 1000000 in
set_option maxRecDepth 100000 in
/-- has(x) -/
theorem mX0_has {l : Launch} {D : va_G} {h : Nat → Nat} {d : Nat → ClassId} {P : Nat} {B K A : Nat → Nat} {S : Nat} {kn : Bool} {be on : Nat → Int32} {wi : Int32} {x : Int32} (hP8 : P < 256) : RoMet l yX0_has cX0_has 2 (some .boolean) 0 0 D (w0 h d P B K A S kn be on wi) (t0 d) [.ref (h 0), .int (x)] (bI (hasb P x)) := by
  refine ro_of (lv := [(0, .ref (h 0)), (1, .int (x))]) (by decide) (Nat.le_of_ble_eq_true rfl) rfl ?_
  intro p e s m below meth c hx hb hr hml hown hts hlk hP hK ls hl
  have hown : s.vm.findClass RX0 = some m.cls := hown
  refine lv_iload_n hx hb dX0_has_0 rfl (lv_at hl 1 rfl) ?_
  refine lv_if_lt (tgt := 25) hx hb dX0_has_1 (by decide) (fun c1 => ?_) (fun c1 => ?_)
  · refine lv_iconst (v := nI 0) hx hb dX0_has_25 (by decide +kernel) ?_
    exact ro_zret hx hb hr hlk (by rw [hasb_f (inr_f1 c1)]; rfl) (false) rfl dX0_has_26
  · refine lv_iload_n hx hb dX0_has_4 rfl (lv_at hl 1 rfl) ?_
    refine lv_bipush (v := nI 8) hx hb dX0_has_5 (by decide +kernel) ?_
    refine lv_icmp_ge (tgt := 25) hx hb dX0_has_7 (by decide) (fun c7 => ?_) (fun c7 => ?_)
    · refine lv_iconst (v := nI 0) hx hb dX0_has_25 (by decide +kernel) ?_
      exact ro_zret hx hb hr hlk (by rw [hasb_f (inr_f2 c7)]; rfl) (false) rfl dX0_has_26
    · obtain ⟨j, hj, rfl⟩ := inr_ex (by decide) c1 c7
      refine lv_aload_n hx hb dX0_has_10 rfl (lv_at hl 0 rfl) ?_
      refine gf0_0 hx hb hts hown hK hP rfl rfl dX0_has_11 ?_
      refine lv_iload_n hx hb dX0_has_14 rfl (lv_at hl 1 rfl) ?_
      refine lv_ishr hx hb dX0_has_15 ?_
      refine lv_iconst (v := nI 1) hx hb dX0_has_16 (by decide +kernel) ?_
      refine bt_N hx hb dX0_has_17 (by omega) (by omega) ?_
      refine if_eqB (tgt := 25) hx hb dX0_has_18 (by decide) (fun c18 => ?_) (fun c18 => ?_)
      · refine lv_iconst (v := nI 0) hx hb dX0_has_25 (by decide +kernel) ?_
        exact ro_zret hx hb hr hlk (by rw [hasb_nI hj, c18]; rfl) (false) rfl dX0_has_26
      · refine lv_iconst (v := nI 1) hx hb dX0_has_21 (by decide +kernel) ?_
        refine lv_goto (tgt := 26) hx hb dX0_has_22 (by decide) ?_
        exact ro_zret hx hb hr hlk (by rw [hasb_nI hj, c18]; rfl) (true) rfl dX0_has_26
theorem mX0_hasj {l : Launch} {D : va_G} {h : Nat → Nat} {d : Nat → ClassId} {P : Nat} {B K A : Nat → Nat} {S : Nat} {kn : Bool} {be on : Nat → Int32} {wi : Int32} {j : Nat} (hP8 : P < 256) (hj : j < 8) : RoMet l yX0_has cX0_has 2 (some .boolean) 0 0 D (w0 h d P B K A S kn be on wi) (t0 d) [.ref (h 0), .int (nI j)] (bI (P.testBit j)) := by
  rw [← hasb_nI hj]
  exact mX0_has hP8
set_option maxHeartbeats 1000000 in
set_option maxRecDepth 100000 in
/-- bids() -/
theorem mX0_bids {l : Launch} {D : va_G} {h : Nat → Nat} {d : Nat → ClassId} {P : Nat} {B K A : Nat → Nat} {S : Nat} {kn : Bool} {be on : Nat → Int32} {wi : Int32}   : RoMet l yX0_bids cX0_bids 1 (some .int) 0 0 D (w0 h d P B K A S kn be on wi) (t0 d) [.ref (h 0)] (nI P) := by
  refine ro_of (lv := [(0, .ref (h 0))]) (by decide) (Nat.le_of_ble_eq_true rfl) rfl ?_
  intro p e s m below meth c hx hb hr hml hown hts hlk hP hK ls hl
  have hown : s.vm.findClass RX0 = some m.cls := hown
  refine lv_aload_n hx hb dX0_bids_0 rfl (lv_at hl 0 rfl) ?_
  refine gf0_0 hx hb hts hown hK hP rfl rfl dX0_bids_1 ?_
  exact ro_iret hx hb hr hlk (rfl) dX0_bids_4
set_option maxHeartbeats 1000000 in
set_option maxRecDepth 100000 in
/-- withheld() -/
theorem mX0_withheld {l : Launch} {D : va_G} {h : Nat → Nat} {d : Nat → ClassId} {P : Nat} {B K A : Nat → Nat} {S : Nat} {kn : Bool} {be on : Nat → Int32} {wi : Int32}   : RoMet l yX0_withheld cX0_withheld 1 (some .int) 0 0 D (w0 h d P B K A S kn be on wi) (t0 d) [.ref (h 0)] (nI S) := by
  refine ro_of (lv := [(0, .ref (h 0))]) (by decide) (Nat.le_of_ble_eq_true rfl) rfl ?_
  intro p e s m below meth c hx hb hr hml hown hts hlk hP hK ls hl
  have hown : s.vm.findClass RX0 = some m.cls := hown
  refine lv_aload_n hx hb dX0_withheld_0 rfl (lv_at hl 0 rfl) ?_
  refine gf0_4 hx hb hts hown hK hP rfl rfl dX0_withheld_1 ?_
  exact ro_iret hx hb hr hlk (rfl) dX0_withheld_4
set_option maxHeartbeats 1000000 in
set_option maxRecDepth 100000 in
/-- offered() -/
theorem mX0_offered {l : Launch} {D : va_G} {h : Nat → Nat} {d : Nat → ClassId} {P : Nat} {B K A : Nat → Nat} {S : Nat} {kn : Bool} {be on : Nat → Int32} {wi : Int32}   : RoMet l yX0_offered cX0_offered 1 (some .int) 0 0 D (w0 h d P B K A S kn be on wi) (t0 d) [.ref (h 0)] (nI (off S)) := by
  refine ro_of (lv := [(0, .ref (h 0))]) (by decide) (Nat.le_of_ble_eq_true rfl) rfl ?_
  intro p e s m below meth c hx hb hr hml hown hts hlk hP hK ls hl
  have hown : s.vm.findClass RX0 = some m.cls := hown
  refine lv_sipush (v := nI 255) hx hb dX0_offered_0 (by decide +kernel) ?_
  refine lv_aload_n hx hb dX0_offered_3 rfl (lv_at hl 0 rfl) ?_
  refine gf0_4 hx hb hts hown hK hP rfl rfl dX0_offered_4 ?_
  refine lv_iconst (v := -1) hx hb dX0_offered_7 (by decide +kernel) ?_
  refine lv_ixor hx hb dX0_offered_8 ?_
  refine nd_N hx hb dX0_offered_9 ?_
  exact ro_iret hx hb hr hlk (rfl) dX0_offered_10
set_option maxHeartbeats 1000000 in
set_option maxRecDepth 100000 in
/-- markedAmount(b) -/
theorem mX0_markedAmount {l : Launch} {D : va_G} {h : Nat → Nat} {d : Nat → ClassId} {P : Nat} {B K A : Nat → Nat} {S : Nat} {kn : Bool} {be on : Nat → Int32} {wi : Int32} {b : Nat} (hb8 : b < 8) : RoMet l yX0_markedAmount cX0_markedAmount 2 (some .int) 1 20 D (w0 h d P B K A S kn be on wi) (t0 d) [.ref (h 0), .int (nI b)] (nI (ma A b)) := by
  refine ro_of (lv := [(0, .ref (h 0)), (1, .int (nI b))]) (by decide) (Nat.le_of_ble_eq_true rfl) rfl ?_
  intro p e s m below meth c hx hb hr hml hown hts hlk hP hK ls hl
  have hown : s.vm.findClass RX0 = some m.cls := hown
  refine lv_aload_n hx hb dX0_markedAmount_0 rfl (lv_at hl 0 rfl) ?_
  refine gf0_3 hx hb hts hown hK hP rfl rfl dX0_markedAmount_1 ?_
  refine lv_iload_n hx hb dX0_markedAmount_4 rfl (lv_at hl 1 rfl) ?_
  refine ld_b hx hb hK hP 3 2 rfl rfl (by omega) (by decide) (v := nI (A b)) (rfl) dX0_markedAmount_5 ?_
  refine lv_sipush (v := nI 256) hx hb dX0_markedAmount_6 (by decide +kernel) ?_
  refine im_N hx hb dX0_markedAmount_9 ?_
  refine lv_iload_n hx hb dX0_markedAmount_10 rfl (lv_at hl 1 rfl) ?_
  refine ro_S (rest := [.int (nI ((A b) * 256))]) ⟨hx, hb, hml, hown, hts⟩ (mX0_mark hb8) gX0_mark hdX0_mark ⟨Nat.le_of_ble_eq_true rfl, Nat.le_of_ble_eq_true rfl⟩ rfl hl.1 rfl (Nat.le_of_ble_eq_true rfl) dX0_markedAmount_11 ⟨Nat.le_of_ble_eq_true rfl, Nat.le_of_ble_eq_true rfl⟩ ?_
  refine ia_N hx hb dX0_markedAmount_14 ?_
  exact ro_iret hx hb hr hlk (rfl) dX0_markedAmount_15
set_option maxHeartbeats 1000000 in
set_option maxRecDepth 100000 in
/-- others(k, s, forward) -/
theorem mX0_others {l : Launch} {D : va_G} {h : Nat → Nat} {d : Nat → ClassId} {P : Nat} {B K A : Nat → Nat} {S : Nat} {kn : Bool} {be on : Nat → Int32} {wi : Int32} {k sv : Nat} {fwd : Bool} (hk : k < 4) (hs : sv < 256) : RoMet l yX0_others cX0_others 4 (some .int) 0 0 D (w0 h d P B K A S kn be on wi) (t0 d) [.ref (h 0), .int (nI k), .int (nI sv), .int (bI fwd)] (bif fwd then be (k * 256 + sv) else on ((k + 1) * 256 + sv)) := by
  refine ro_of (lv := [(0, .ref (h 0)), (1, .int (nI k)), (2, .int (nI sv)), (3, .int (bI fwd))]) (by decide) (Nat.le_of_ble_eq_true rfl) rfl ?_
  intro p e s m below meth c hx hb hr hml hown hts hlk hP hK ls hl
  have hown : s.vm.findClass RX0 = some m.cls := hown
  refine lv_iload_n hx hb dX0_others_0 rfl (lv_at hl 3 rfl) ?_
  refine if_eqB (tgt := 19) hx hb dX0_others_1 (by decide) (fun c1 => ?_) (fun c1 => ?_)
  · refine lv_aload_n hx hb dX0_others_19 rfl (lv_at hl 0 rfl) ?_
    refine gf0_7 hx hb hts hown hK hP rfl rfl dX0_others_20 ?_
    refine lv_iload_n hx hb dX0_others_23 rfl (lv_at hl 1 rfl) ?_
    refine lv_iconst (v := nI 1) hx hb dX0_others_24 (by decide +kernel) ?_
    refine ia_N hx hb dX0_others_25 ?_
    refine lv_sipush (v := nI 256) hx hb dX0_others_26 (by decide +kernel) ?_
    refine im_N hx hb dX0_others_29 ?_
    refine lv_iload_n hx hb dX0_others_30 rfl (lv_at hl 2 rfl) ?_
    refine ia_N hx hb dX0_others_31 ?_
    refine ld_i hx hb hK hP 5 4 rfl rfl (by omega) (by decide) (v := on (((k + 1) * 256) + sv)) (rfl) dX0_others_32 ?_
    exact ro_iret hx hb hr hlk (by rw [c1]; rfl) dX0_others_33
  · refine lv_aload_n hx hb dX0_others_4 rfl (lv_at hl 0 rfl) ?_
    refine gf0_6 hx hb hts hown hK hP rfl rfl dX0_others_5 ?_
    refine lv_iload_n hx hb dX0_others_8 rfl (lv_at hl 1 rfl) ?_
    refine lv_sipush (v := nI 256) hx hb dX0_others_9 (by decide +kernel) ?_
    refine im_N hx hb dX0_others_12 ?_
    refine lv_iload_n hx hb dX0_others_13 rfl (lv_at hl 2 rfl) ?_
    refine ia_N hx hb dX0_others_14 ?_
    refine ld_i hx hb hK hP 4 3 rfl rfl (by omega) (by decide) (v := be ((k * 256) + sv)) (rfl) dX0_others_15 ?_
    refine lv_goto (tgt := 33) hx hb dX0_others_16 (by decide) ?_
    exact ro_iret hx hb hr hlk (by rw [c1]; rfl) dX0_others_33
end
section
set_option maxRecDepth 100000
set_option maxHeartbeats 1000000 in
set_option maxRecDepth 100000 in
/-- bestStep(k, s, forward): the table of one more bidder -/
theorem mX0_bestStep {l : Launch} {D : va_G} {h : Nat → Nat} {d : Nat → ClassId} {P : Nat} {B K A : Nat → Nat} {S : Nat} {kn : Bool} {be on : Nat → Int32} {wi : Int32} {k sv : Nat} {fwd : Bool} {f : Nat → Nat} (hP8 : P < 256) (hB8 : ∀ b, B b < 256) (hK4 : ∀ b, K b < 4) (hA50 : ∀ b, A b ≤ 50) (hk : k < 4) (hs : sv < 256) (hf : ∀ q, q < 256 → (bif fwd then be (k * 256 + q) else on ((k + 1) * 256 + q)) = nI (f q)) (hfl : ∀ q, f q ≤ 51712) : RoMet l yX0_bestStep cX0_bestStep 7 (some .int) 2 41 D (w0 h d P B K A S kn be on wi) (t0 d) [.ref (h 0), .int (nI k), .int (nI sv), .int (bI fwd)] (nI (stp P B K A k f sv 8)) := by
  refine ro_of (lv := [(0, .ref (h 0)), (1, .int (nI k)), (2, .int (nI sv)), (3, .int (bI fwd))]) (by decide) (Nat.le_of_ble_eq_true rfl) rfl ?_
  intro p e s m below meth c hx hb hr hml hown hts hlk hP hK ls hl
  have hown : s.vm.findClass RX0 = some m.cls := hown
  refine lv_aload_n hx hb dX0_bestStep_0 rfl (lv_at hl 0 rfl) ?_
  refine lv_iload_n hx hb dX0_bestStep_1 rfl (lv_at hl 1 rfl) ?_
  refine lv_iload_n hx hb dX0_bestStep_2 rfl (lv_at hl 2 rfl) ?_
  refine lv_iload_n hx hb dX0_bestStep_3 rfl (lv_at hl 3 rfl) ?_
  refine ro_V (ci := 0) (q0 := 0) (rest := []) ⟨hx, hb, hml, hown, hts⟩ (mX0_others hk hs) gX0_others hdX0_others ⟨Nat.le_of_ble_eq_true rfl, Nat.le_of_ble_eq_true rfl⟩ hK hP rfl rfl rfl rfl hl.1 rfl (Nat.le_of_ble_eq_true rfl) dX0_bestStep_4 ⟨Nat.le_of_ble_eq_true rfl, Nat.le_of_ble_eq_true rfl⟩ ?_
  refine rtq (hf sv hs) ?_
  refine lv_istore (lv' := [(4, .int (nI (f sv))), (0, .ref (h 0)), (1, .int (nI k)), (2, .int (nI sv)), (3, .int (bI fwd))]) hx hb dX0_bestStep_7 hl (by decide) rfl (fun ls hl => ?_)
  refine lv_iconst (v := nI 0) hx hb dX0_bestStep_9 (by decide +kernel) ?_
  refine lv_istore (lv' := [(5, .int (nI 0)), (4, .int (nI (f sv))), (0, .ref (h 0)), (1, .int (nI k)), (2, .int (nI sv)), (3, .int (bI fwd))]) hx hb dX0_bestStep_10 hl (by decide) rfl (fun ls hl => ?_)
  have lp12 : ∀ n i : Nat, i + n = 8 → ∀ (v4 : Int32) (ls : Array Slot), v4 = nI (stp P B K A k f sv i) → lv_has ls 7 [(0, .ref (h 0)), (1, .int (nI k)), (2, .int (nI sv)), (3, .int (bI fwd)), (4, .int (v4)), (5, .int (nI i))] → RW p l e s m below meth c 2 41 [.ref (h 0), .int (nI k), .int (nI sv), .int (bI fwd)] (nI (stp P B K A k f sv 8)) 12 ls [] := by
    intro n
    induction n with
    | zero =>
      intro i hi v4 ls e4 hl
      have hi : i = 8 := by omega
      subst hi
      subst e4
      refine lv_iload hx hb dX0_bestStep_12 (lv_at hl 5 rfl) ?_
      refine lv_bipush (v := nI 8) hx hb dX0_bestStep_14 (by decide +kernel) ?_
      refine ic_ge (tgt := 101) hx hb dX0_bestStep_16 (by decide) (by omega) (by omega) (fun c16 => ?_) (fun c16 => absurd c16 (by omega))
      refine lv_iload hx hb dX0_bestStep_101 (lv_at hl 4 rfl) ?_
      exact ro_iret hx hb hr hlk (rfl) dX0_bestStep_103
    | succ n ih =>
      intro i hi v4 ls e4 hl
      have hii : i < 8 := by omega
      subst e4
      have hKi := hK4 i
      have hBi := hB8 i
      have hmi := ma_le hA50 i
      have hfi := hfl (nd sv (B i))
      have hst := stp_le (P := P) (B := B) (K := K) (k := k) (s := sv) hA50 hfl i
      refine lv_iload hx hb dX0_bestStep_12 (lv_at hl 5 rfl) ?_
      refine lv_bipush (v := nI 8) hx hb dX0_bestStep_14 (by decide +kernel) ?_
      refine ic_ge (tgt := 101) hx hb dX0_bestStep_16 (by decide) (by omega) (by omega) (fun c16 => absurd c16 (by omega)) (fun c16 => ?_)
      refine lv_aload_n hx hb dX0_bestStep_19 rfl (lv_at hl 0 rfl) ?_
      refine lv_iload hx hb dX0_bestStep_20 (lv_at hl 5 rfl) ?_
      refine ro_V (ci := 0) (q0 := 0) (rest := []) ⟨hx, hb, hml, hown, hts⟩ (mX0_hasj hP8 hii) gX0_has hdX0_has ⟨Nat.le_of_ble_eq_true rfl, Nat.le_of_ble_eq_true rfl⟩ hK hP rfl rfl rfl rfl hl.1 rfl (Nat.le_of_ble_eq_true rfl) dX0_bestStep_22 ⟨Nat.le_of_ble_eq_true rfl, Nat.le_of_ble_eq_true rfl⟩ ?_
      refine if_eqB (tgt := 95) hx hb dX0_bestStep_25 (by decide) (fun c25 => ?_) (fun c25 => ?_)
      · refine lv_iinc (v := nI (i + 1)) (lv' := [(5, .int (nI (i + 1))), (0, .ref (h 0)), (1, .int (nI k)), (2, .int (nI sv)), (3, .int (bI fwd)), (4, .int (nI (stp P B K A k f sv i)))]) hx hb dX0_bestStep_95 hl (k := 5) rfl (nI_1 i) (by decide) rfl (fun ls hl => ?_)
        refine lv_goto (tgt := 12) hx hb dX0_bestStep_98 (by decide) ?_
        exact ih (i + 1) (by omega) _ ls (by simp [stp, c25]) (lv_sub hl [1, 2, 3, 4, 5, 0] rfl)
      · refine lv_aload_n hx hb dX0_bestStep_28 rfl (lv_at hl 0 rfl) ?_
        refine gf0_2 hx hb hts hown hK hP rfl rfl dX0_bestStep_29 ?_
        refine lv_iload hx hb dX0_bestStep_32 (lv_at hl 5 rfl) ?_
        refine ld_b hx hb hK hP 2 1 rfl rfl (by omega) (by decide) (v := nI (K i)) (rfl) dX0_bestStep_34 ?_
        refine lv_iload_n hx hb dX0_bestStep_35 rfl (lv_at hl 1 rfl) ?_
        refine ic_ne (tgt := 95) hx hb dX0_bestStep_36 (by decide) (by omega) (by omega) (fun c36 => ?_) (fun c36 => ?_)
        · refine lv_iinc (v := nI (i + 1)) (lv' := [(5, .int (nI (i + 1))), (0, .ref (h 0)), (1, .int (nI k)), (2, .int (nI sv)), (3, .int (bI fwd)), (4, .int (nI (stp P B K A k f sv i)))]) hx hb dX0_bestStep_95 hl (k := 5) rfl (nI_1 i) (by decide) rfl (fun ls hl => ?_)
          refine lv_goto (tgt := 12) hx hb dX0_bestStep_98 (by decide) ?_
          exact ih (i + 1) (by omega) _ ls (by simp [stp, c25, c36]) (lv_sub hl [1, 2, 3, 4, 5, 0] rfl)
        · refine lv_aload_n hx hb dX0_bestStep_39 rfl (lv_at hl 0 rfl) ?_
          refine gf0_1 hx hb hts hown hK hP rfl rfl dX0_bestStep_40 ?_
          refine lv_iload hx hb dX0_bestStep_43 (lv_at hl 5 rfl) ?_
          refine ld_s hx hb hK hP 1 0 rfl rfl (by omega) (by decide) (v := nI (B i)) (rfl) dX0_bestStep_45 ?_
          refine lv_iload_n hx hb dX0_bestStep_46 rfl (lv_at hl 2 rfl) ?_
          refine lv_iconst (v := -1) hx hb dX0_bestStep_47 (by decide +kernel) ?_
          refine lv_ixor hx hb dX0_bestStep_48 ?_
          refine nd_N hx hb dX0_bestStep_49 ?_
          refine if_neN (tgt := 95) hx hb dX0_bestStep_50 (by decide) (Nat.lt_of_le_of_lt (nd_le _ _) (by omega)) (fun c50 => ?_) (fun c50 => ?_)
          · refine lv_iinc (v := nI (i + 1)) (lv' := [(5, .int (nI (i + 1))), (0, .ref (h 0)), (1, .int (nI k)), (2, .int (nI sv)), (3, .int (bI fwd)), (4, .int (nI (stp P B K A k f sv i)))]) hx hb dX0_bestStep_95 hl (k := 5) rfl (nI_1 i) (by decide) rfl (fun ls hl => ?_)
            refine lv_goto (tgt := 12) hx hb dX0_bestStep_98 (by decide) ?_
            exact ih (i + 1) (by omega) _ ls (by simp [stp, c25, c36, c50]) (lv_sub hl [1, 2, 3, 4, 5, 0] rfl)
          · refine lv_aload_n hx hb dX0_bestStep_53 rfl (lv_at hl 0 rfl) ?_
            refine lv_iload hx hb dX0_bestStep_54 (lv_at hl 5 rfl) ?_
            refine ro_V (ci := 0) (q0 := 0) (rest := []) ⟨hx, hb, hml, hown, hts⟩ (mX0_markedAmount hii) gX0_markedAmount hdX0_markedAmount ⟨Nat.le_of_ble_eq_true rfl, Nat.le_of_ble_eq_true rfl⟩ hK hP rfl rfl rfl rfl hl.1 rfl (Nat.le_of_ble_eq_true rfl) dX0_bestStep_56 ⟨Nat.le_of_ble_eq_true rfl, Nat.le_of_ble_eq_true rfl⟩ ?_
            refine lv_aload_n hx hb dX0_bestStep_59 rfl (lv_at hl 0 rfl) ?_
            refine lv_iload_n hx hb dX0_bestStep_60 rfl (lv_at hl 1 rfl) ?_
            refine lv_iload_n hx hb dX0_bestStep_61 rfl (lv_at hl 2 rfl) ?_
            refine lv_aload_n hx hb dX0_bestStep_62 rfl (lv_at hl 0 rfl) ?_
            refine gf0_1 hx hb hts hown hK hP rfl rfl dX0_bestStep_63 ?_
            refine lv_iload hx hb dX0_bestStep_66 (lv_at hl 5 rfl) ?_
            refine ld_s hx hb hK hP 1 0 rfl rfl (by omega) (by decide) (v := nI (B i)) (rfl) dX0_bestStep_68 ?_
            refine lv_iconst (v := -1) hx hb dX0_bestStep_69 (by decide +kernel) ?_
            refine lv_ixor hx hb dX0_bestStep_70 ?_
            refine nd_N hx hb dX0_bestStep_71 ?_
            refine lv_iload_n hx hb dX0_bestStep_72 rfl (lv_at hl 3 rfl) ?_
            refine ro_V (ci := 0) (q0 := 0) (rest := [.int (nI (ma A i))]) ⟨hx, hb, hml, hown, hts⟩ (mX0_others hk (nd_lt hs)) gX0_others hdX0_others ⟨Nat.le_of_ble_eq_true rfl, Nat.le_of_ble_eq_true rfl⟩ hK hP rfl rfl rfl rfl hl.1 rfl (Nat.le_of_ble_eq_true rfl) dX0_bestStep_73 ⟨Nat.le_of_ble_eq_true rfl, Nat.le_of_ble_eq_true rfl⟩ ?_
            refine rtq (hf _ (nd_lt hs)) ?_
            refine ia_N hx hb dX0_bestStep_76 ?_
            refine lv_istore (lv' := [(6, .int (nI ((ma A i) + (f (nd sv (B i)))))), (0, .ref (h 0)), (1, .int (nI k)), (2, .int (nI sv)), (3, .int (bI fwd)), (4, .int (nI (stp P B K A k f sv i))), (5, .int (nI i))]) hx hb dX0_bestStep_77 hl (by decide) rfl (fun ls hl => ?_)
            refine lv_iload hx hb dX0_bestStep_79 (lv_at hl 0 rfl) ?_
            refine lv_iload hx hb dX0_bestStep_81 (lv_at hl 5 rfl) ?_
            refine ic_le (tgt := 91) hx hb dX0_bestStep_83 (by decide) (by omega) (by omega) (fun c83 => ?_) (fun c83 => ?_)
            · refine lv_iload hx hb dX0_bestStep_91 (lv_at hl 5 rfl) ?_
              refine lv_istore (lv' := [(4, .int (nI (stp P B K A k f sv i))), (6, .int (nI ((ma A i) + (f (nd sv (B i)))))), (0, .ref (h 0)), (1, .int (nI k)), (2, .int (nI sv)), (3, .int (bI fwd)), (5, .int (nI i))]) hx hb dX0_bestStep_93 hl (by decide) rfl (fun ls hl => ?_)
              refine lv_iinc (v := nI (i + 1)) (lv' := [(5, .int (nI (i + 1))), (4, .int (nI (stp P B K A k f sv i))), (6, .int (nI ((ma A i) + (f (nd sv (B i)))))), (0, .ref (h 0)), (1, .int (nI k)), (2, .int (nI sv)), (3, .int (bI fwd))]) hx hb dX0_bestStep_95 hl (k := 6) rfl (nI_1 i) (by decide) rfl (fun ls hl => ?_)
              refine lv_goto (tgt := 12) hx hb dX0_bestStep_98 (by decide) ?_
              exact ih (i + 1) (by omega) _ ls (by simp [stp, c25, c36, c50, Nat.not_lt.mpr c83]) (lv_sub hl [3, 4, 5, 6, 1, 0] rfl)
            · refine lv_iload hx hb dX0_bestStep_86 (lv_at hl 0 rfl) ?_
              refine lv_goto (tgt := 93) hx hb dX0_bestStep_88 (by decide) ?_
              refine lv_istore (lv' := [(4, .int (nI ((ma A i) + (f (nd sv (B i)))))), (6, .int (nI ((ma A i) + (f (nd sv (B i)))))), (0, .ref (h 0)), (1, .int (nI k)), (2, .int (nI sv)), (3, .int (bI fwd)), (5, .int (nI i))]) hx hb dX0_bestStep_93 hl (by decide) rfl (fun ls hl => ?_)
              refine lv_iinc (v := nI (i + 1)) (lv' := [(5, .int (nI (i + 1))), (4, .int (nI ((ma A i) + (f (nd sv (B i)))))), (6, .int (nI ((ma A i) + (f (nd sv (B i)))))), (0, .ref (h 0)), (1, .int (nI k)), (2, .int (nI sv)), (3, .int (bI fwd))]) hx hb dX0_bestStep_95 hl (k := 6) rfl (nI_1 i) (by decide) rfl (fun ls hl => ?_)
              refine lv_goto (tgt := 12) hx hb dX0_bestStep_98 (by decide) ?_
              exact ih (i + 1) (by omega) _ ls (by simp [stp, c25, c36, c50, c83]) (lv_sub hl [3, 4, 5, 6, 1, 0] rfl)
  exact lp12 8 0 (by omega) _ ls (rfl) (lv_sub hl [2, 3, 4, 5, 1, 0] rfl)
set_option maxHeartbeats 1000000 in
set_option maxRecDepth 100000 in
/-- bidTaken(k, s) -/
theorem mX0_bidTaken {l : Launch} {D : va_G} {h : Nat → Nat} {d : Nat → ClassId} {P : Nat} {B K A : Nat → Nat} {S : Nat} {kn : Bool} {be on : Nat → Int32} {wi : Int32} {k sv : Nat} (hP8 : P < 256) (hB8 : ∀ b, B b < 256) (hK4 : ∀ b, K b < 4) (hA50 : ∀ b, A b ≤ 50) (hk : k < 4) (hs : sv < 256) (hTb : ∀ k q, k ≤ 4 → q < 256 → be (k * 256 + q) = nI (Fb P B K A k q)) : RoMet l yX0_bidTaken cX0_bidTaken 6 (some .int) 2 41 D (w0 h d P B K A S kn be on wi) (t0 d) [.ref (h 0), .int (nI k), .int (nI sv)] (oI (tk P B K A k sv)) := by
  refine ro_of (lv := [(0, .ref (h 0)), (1, .int (nI k)), (2, .int (nI sv))]) (by decide) (Nat.le_of_ble_eq_true rfl) rfl ?_
  intro p e s m below meth c hx hb hr hml hown hts hlk hP hK ls hl
  have hown : s.vm.findClass RX0 = some m.cls := hown
  have hF1 := Fb_le (P := P) (B := B) (K := K) hA50 (show k + 1 ≤ 4 by omega) sv
  have hF0 := Fb_le (P := P) (B := B) (K := K) hA50 (show k ≤ 4 by omega) sv
  refine lv_aload_n hx hb dX0_bidTaken_0 rfl (lv_at hl 0 rfl) ?_
  refine gf0_6 hx hb hts hown hK hP rfl rfl dX0_bidTaken_1 ?_
  refine lv_iload_n hx hb dX0_bidTaken_4 rfl (lv_at hl 1 rfl) ?_
  refine lv_iconst (v := nI 1) hx hb dX0_bidTaken_5 (by decide +kernel) ?_
  refine ia_N hx hb dX0_bidTaken_6 ?_
  refine lv_sipush (v := nI 256) hx hb dX0_bidTaken_7 (by decide +kernel) ?_
  refine im_N hx hb dX0_bidTaken_10 ?_
  refine lv_iload_n hx hb dX0_bidTaken_11 rfl (lv_at hl 2 rfl) ?_
  refine ia_N hx hb dX0_bidTaken_12 ?_
  refine ld_i hx hb hK hP 4 3 rfl rfl (by omega) (by decide) (v := nI (Fb P B K A (k + 1) sv)) (hTb _ _ (by omega) hs) dX0_bidTaken_13 ?_
  refine lv_istore_n (lv' := [(3, .int (nI (Fb P B K A (k + 1) sv))), (0, .ref (h 0)), (1, .int (nI k)), (2, .int (nI sv))]) hx hb dX0_bidTaken_14 rfl hl (by decide) rfl (fun ls hl => ?_)
  refine lv_iload_n hx hb dX0_bidTaken_15 rfl (lv_at hl 0 rfl) ?_
  refine lv_aload_n hx hb dX0_bidTaken_16 rfl (lv_at hl 1 rfl) ?_
  refine gf0_6 hx hb hts hown hK hP rfl rfl dX0_bidTaken_17 ?_
  refine lv_iload_n hx hb dX0_bidTaken_20 rfl (lv_at hl 2 rfl) ?_
  refine lv_sipush (v := nI 256) hx hb dX0_bidTaken_21 (by decide +kernel) ?_
  refine im_N hx hb dX0_bidTaken_24 ?_
  refine lv_iload_n hx hb dX0_bidTaken_25 rfl (lv_at hl 3 rfl) ?_
  refine ia_N hx hb dX0_bidTaken_26 ?_
  refine ld_i hx hb hK hP 4 3 rfl rfl (by omega) (by decide) (v := nI (Fb P B K A k sv)) (hTb _ _ (by omega) hs) dX0_bidTaken_27 ?_
  refine ic_ne (tgt := 33) hx hb dX0_bidTaken_28 (by decide) (by omega) (by omega) (fun c28 => ?_) (fun c28 => ?_)
  · refine lv_iconst (v := nI 0) hx hb dX0_bidTaken_33 (by decide +kernel) ?_
    refine lv_istore (lv' := [(4, .int (nI 0)), (3, .int (nI (Fb P B K A (k + 1) sv))), (0, .ref (h 0)), (1, .int (nI k)), (2, .int (nI sv))]) hx hb dX0_bidTaken_34 hl (by decide) rfl (fun ls hl => ?_)
    have lp36 : ∀ n i : Nat, i + n = 8 → ∀ (ls : Array Slot), (ff (tkq P B K A k sv) n i = tk P B K A k sv) → lv_has ls 6 [(0, .ref (h 0)), (1, .int (nI k)), (2, .int (nI sv)), (3, .int (nI (Fb P B K A (k + 1) sv))), (4, .int (nI i))] → RW p l e s m below meth c 2 41 [.ref (h 0), .int (nI k), .int (nI sv)] (oI (tk P B K A k sv)) 36 ls [] := by
      intro n
      induction n with
      | zero =>
        intro i hi ls hff hl
        have hi : i = 8 := by omega
        subst hi
        refine lv_iload hx hb dX0_bidTaken_36 (lv_at hl 4 rfl) ?_
        refine lv_bipush (v := nI 8) hx hb dX0_bidTaken_38 (by decide +kernel) ?_
        refine ic_ge (tgt := 123) hx hb dX0_bidTaken_40 (by decide) (by omega) (by omega) (fun c40 => ?_) (fun c40 => absurd c40 (by omega))
        refine lv_iconst (v := -1) hx hb dX0_bidTaken_123 (by decide +kernel) ?_
        exact ro_iret hx hb hr hlk (by rw [← hff]; rfl) dX0_bidTaken_124
      | succ n ih =>
        intro i hi ls hff hl
        have hii : i < 8 := by omega
        have hKi := hK4 i
        have hBi := hB8 i
        have hmi := ma_le hA50 i
        have hF2 := Fb_le (P := P) (B := B) (K := K) hA50 (show k ≤ 4 by omega) (nd sv (B i))
        refine lv_iload hx hb dX0_bidTaken_36 (lv_at hl 4 rfl) ?_
        refine lv_bipush (v := nI 8) hx hb dX0_bidTaken_38 (by decide +kernel) ?_
        refine ic_ge (tgt := 123) hx hb dX0_bidTaken_40 (by decide) (by omega) (by omega) (fun c40 => absurd c40 (by omega)) (fun c40 => ?_)
        refine lv_aload_n hx hb dX0_bidTaken_43 rfl (lv_at hl 0 rfl) ?_
        refine lv_iload hx hb dX0_bidTaken_44 (lv_at hl 4 rfl) ?_
        refine ro_V (ci := 0) (q0 := 0) (rest := []) ⟨hx, hb, hml, hown, hts⟩ (mX0_hasj hP8 hii) gX0_has hdX0_has ⟨Nat.le_of_ble_eq_true rfl, Nat.le_of_ble_eq_true rfl⟩ hK hP rfl rfl rfl rfl hl.1 rfl (Nat.le_of_ble_eq_true rfl) dX0_bidTaken_46 ⟨Nat.le_of_ble_eq_true rfl, Nat.le_of_ble_eq_true rfl⟩ ?_
        refine if_eqB (tgt := 117) hx hb dX0_bidTaken_49 (by decide) (fun c49 => ?_) (fun c49 => ?_)
        · refine lv_iinc (v := nI (i + 1)) (lv' := [(4, .int (nI (i + 1))), (0, .ref (h 0)), (1, .int (nI k)), (2, .int (nI sv)), (3, .int (nI (Fb P B K A (k + 1) sv)))]) hx hb dX0_bidTaken_117 hl (k := 4) rfl (nI_1 i) (by decide) rfl (fun ls hl => ?_)
          refine lv_goto (tgt := 36) hx hb dX0_bidTaken_120 (by decide) ?_
          exact ih (i + 1) (by omega) ls (by rw [← hff, ff, if_neg (by simp [tkq, c49])]) (lv_sub hl [1, 2, 3, 4, 0] rfl)
        · refine lv_aload_n hx hb dX0_bidTaken_52 rfl (lv_at hl 0 rfl) ?_
          refine gf0_2 hx hb hts hown hK hP rfl rfl dX0_bidTaken_53 ?_
          refine lv_iload hx hb dX0_bidTaken_56 (lv_at hl 4 rfl) ?_
          refine ld_b hx hb hK hP 2 1 rfl rfl (by omega) (by decide) (v := nI (K i)) (rfl) dX0_bidTaken_58 ?_
          refine lv_iload_n hx hb dX0_bidTaken_59 rfl (lv_at hl 1 rfl) ?_
          refine ic_ne (tgt := 117) hx hb dX0_bidTaken_60 (by decide) (by omega) (by omega) (fun c60 => ?_) (fun c60 => ?_)
          · refine lv_iinc (v := nI (i + 1)) (lv' := [(4, .int (nI (i + 1))), (0, .ref (h 0)), (1, .int (nI k)), (2, .int (nI sv)), (3, .int (nI (Fb P B K A (k + 1) sv)))]) hx hb dX0_bidTaken_117 hl (k := 4) rfl (nI_1 i) (by decide) rfl (fun ls hl => ?_)
            refine lv_goto (tgt := 36) hx hb dX0_bidTaken_120 (by decide) ?_
            exact ih (i + 1) (by omega) ls (by rw [← hff, ff, if_neg (by simp [tkq, c49, c60])]) (lv_sub hl [1, 2, 3, 4, 0] rfl)
          · refine lv_aload_n hx hb dX0_bidTaken_63 rfl (lv_at hl 0 rfl) ?_
            refine gf0_1 hx hb hts hown hK hP rfl rfl dX0_bidTaken_64 ?_
            refine lv_iload hx hb dX0_bidTaken_67 (lv_at hl 4 rfl) ?_
            refine ld_s hx hb hK hP 1 0 rfl rfl (by omega) (by decide) (v := nI (B i)) (rfl) dX0_bidTaken_69 ?_
            refine lv_iload_n hx hb dX0_bidTaken_70 rfl (lv_at hl 2 rfl) ?_
            refine lv_iconst (v := -1) hx hb dX0_bidTaken_71 (by decide +kernel) ?_
            refine lv_ixor hx hb dX0_bidTaken_72 ?_
            refine nd_N hx hb dX0_bidTaken_73 ?_
            refine if_neN (tgt := 117) hx hb dX0_bidTaken_74 (by decide) (Nat.lt_of_le_of_lt (nd_le _ _) (by omega)) (fun c74 => ?_) (fun c74 => ?_)
            · refine lv_iinc (v := nI (i + 1)) (lv' := [(4, .int (nI (i + 1))), (0, .ref (h 0)), (1, .int (nI k)), (2, .int (nI sv)), (3, .int (nI (Fb P B K A (k + 1) sv)))]) hx hb dX0_bidTaken_117 hl (k := 4) rfl (nI_1 i) (by decide) rfl (fun ls hl => ?_)
              refine lv_goto (tgt := 36) hx hb dX0_bidTaken_120 (by decide) ?_
              exact ih (i + 1) (by omega) ls (by rw [← hff, ff, if_neg (by simp [tkq, c49, c60, c74])]) (lv_sub hl [1, 2, 3, 4, 0] rfl)
            · refine lv_aload_n hx hb dX0_bidTaken_77 rfl (lv_at hl 0 rfl) ?_
              refine gf0_6 hx hb hts hown hK hP rfl rfl dX0_bidTaken_78 ?_
              refine lv_iload_n hx hb dX0_bidTaken_81 rfl (lv_at hl 1 rfl) ?_
              refine lv_sipush (v := nI 256) hx hb dX0_bidTaken_82 (by decide +kernel) ?_
              refine im_N hx hb dX0_bidTaken_85 ?_
              refine lv_iload_n hx hb dX0_bidTaken_86 rfl (lv_at hl 2 rfl) ?_
              refine lv_aload_n hx hb dX0_bidTaken_87 rfl (lv_at hl 0 rfl) ?_
              refine gf0_1 hx hb hts hown hK hP rfl rfl dX0_bidTaken_88 ?_
              refine lv_iload hx hb dX0_bidTaken_91 (lv_at hl 4 rfl) ?_
              refine ld_s hx hb hK hP 1 0 rfl rfl (by omega) (by decide) (v := nI (B i)) (rfl) dX0_bidTaken_93 ?_
              refine lv_iconst (v := -1) hx hb dX0_bidTaken_94 (by decide +kernel) ?_
              refine lv_ixor hx hb dX0_bidTaken_95 ?_
              refine nd_N hx hb dX0_bidTaken_96 ?_
              refine ia_N hx hb dX0_bidTaken_97 ?_
              refine ld_i hx hb hK hP 4 3 rfl rfl (by have := nd_lt (b := B i) hs; omega) (by decide) (v := nI (Fb P B K A k (nd sv (B i)))) (hTb _ _ (by omega) (nd_lt hs)) dX0_bidTaken_98 ?_
              refine lv_istore (lv' := [(5, .int (nI (Fb P B K A k (nd sv (B i))))), (0, .ref (h 0)), (1, .int (nI k)), (2, .int (nI sv)), (3, .int (nI (Fb P B K A (k + 1) sv))), (4, .int (nI i))]) hx hb dX0_bidTaken_99 hl (by decide) rfl (fun ls hl => ?_)
              refine lv_aload_n hx hb dX0_bidTaken_101 rfl (lv_at hl 1 rfl) ?_
              refine lv_iload hx hb dX0_bidTaken_102 (lv_at hl 5 rfl) ?_
              refine ro_V (ci := 0) (q0 := 0) (rest := []) ⟨hx, hb, hml, hown, hts⟩ (mX0_markedAmount hii) gX0_markedAmount hdX0_markedAmount ⟨Nat.le_of_ble_eq_true rfl, Nat.le_of_ble_eq_true rfl⟩ hK hP rfl rfl rfl rfl hl.1 rfl (Nat.le_of_ble_eq_true rfl) dX0_bidTaken_104 ⟨Nat.le_of_ble_eq_true rfl, Nat.le_of_ble_eq_true rfl⟩ ?_
              refine lv_iload hx hb dX0_bidTaken_107 (lv_at hl 0 rfl) ?_
              refine ia_N hx hb dX0_bidTaken_109 ?_
              refine lv_iload_n hx hb dX0_bidTaken_110 rfl (lv_at hl 4 rfl) ?_
              refine ic_ne (tgt := 117) hx hb dX0_bidTaken_111 (by decide) (by omega) (by omega) (fun c111 => ?_) (fun c111 => ?_)
              · refine lv_iinc (v := nI (i + 1)) (lv' := [(4, .int (nI (i + 1))), (5, .int (nI (Fb P B K A k (nd sv (B i))))), (0, .ref (h 0)), (1, .int (nI k)), (2, .int (nI sv)), (3, .int (nI (Fb P B K A (k + 1) sv)))]) hx hb dX0_bidTaken_117 hl (k := 5) rfl (nI_1 i) (by decide) rfl (fun ls hl => ?_)
                refine lv_goto (tgt := 36) hx hb dX0_bidTaken_120 (by decide) ?_
                exact ih (i + 1) (by omega) ls (by rw [← hff, ff, if_neg (by simp [tkq, c49, c60, c74, c111])]) (lv_sub hl [2, 3, 4, 5, 0] rfl)
              · refine lv_iload hx hb dX0_bidTaken_114 (lv_at hl 5 rfl) ?_
                exact ro_iret hx hb hr hlk (by rw [← hff, ff, if_pos (by simp [tkq, c49, c60, c74, c111])]; rfl) dX0_bidTaken_116
    exact lp36 8 0 (by omega) ls (by rw [tk, if_neg c28]) (lv_sub hl [2, 3, 4, 1, 0] rfl)
  · refine lv_iconst (v := -1) hx hb dX0_bidTaken_31 (by decide +kernel) ?_
    exact ro_iret hx hb hr hlk (by simp [tk, c28, oI]) dX0_bidTaken_32
set_option maxHeartbeats 1000000 in
set_option maxRecDepth 100000 in
/-- findWinners() -/
theorem mX0_findWinners {l : Launch} {D : va_G} {h : Nat → Nat} {d : Nat → ClassId} {P : Nat} {B K A : Nat → Nat} {S : Nat} {kn : Bool} {be on : Nat → Int32} {wi : Int32}  (hP8 : P < 256) (hB8 : ∀ b, B b < 256) (hK4 : ∀ b, K b < 4) (hA50 : ∀ b, A b ≤ 50) (hTb : ∀ k q, k ≤ 4 → q < 256 → be (k * 256 + q) = nI (Fb P B K A k q)) : RoMet l yX0_findWinners cX0_findWinners 5 (some .int) 3 66 D (w0 h d P B K A S kn be on wi) (t0 d) [.ref (h 0)] (nI (WN P B K A S)) := by
  refine ro_of (lv := [(0, .ref (h 0))]) (by decide) (Nat.le_of_ble_eq_true rfl) rfl ?_
  intro p e s m below meth c hx hb hr hml hown hts hlk hP hK ls hl
  have hown : s.vm.findClass RX0 = some m.cls := hown
  refine lv_aload_n hx hb dX0_findWinners_0 rfl (lv_at hl 0 rfl) ?_
  refine ro_V (ci := 0) (q0 := 0) (rest := []) ⟨hx, hb, hml, hown, hts⟩ (mX0_offered) gX0_offered hdX0_offered ⟨Nat.le_of_ble_eq_true rfl, Nat.le_of_ble_eq_true rfl⟩ hK hP rfl rfl rfl rfl hl.1 rfl (Nat.le_of_ble_eq_true rfl) dX0_findWinners_1 ⟨Nat.le_of_ble_eq_true rfl, Nat.le_of_ble_eq_true rfl⟩ ?_
  refine lv_istore_n (lv' := [(1, .int (nI (off S))), (0, .ref (h 0))]) hx hb dX0_findWinners_4 rfl hl (by decide) rfl (fun ls hl => ?_)
  refine lv_iconst (v := nI 0) hx hb dX0_findWinners_5 (by decide +kernel) ?_
  refine lv_istore_n (lv' := [(2, .int (nI 0)), (1, .int (nI (off S))), (0, .ref (h 0))]) hx hb dX0_findWinners_6 rfl hl (by decide) rfl (fun ls hl => ?_)
  refine lv_iconst (v := nI 3) hx hb dX0_findWinners_7 (by decide +kernel) ?_
  refine lv_istore_n (lv' := [(3, .int (nI 3)), (2, .int (nI 0)), (1, .int (nI (off S))), (0, .ref (h 0))]) hx hb dX0_findWinners_8 rfl hl (by decide) rfl (fun ls hl => ?_)
  have lp9 : ∀ k : Nat, k ≤ 4 → ∀ (s1 w1 : Nat) (ls : Array Slot), (s1 < 256) → (w1 < 256) → (fw P B K A k s1 w1 = WN P B K A S) → lv_has ls 5 [(0, .ref (h 0)), (1, .int (nI s1)), (2, .int (nI w1)), (3, .int (dn k))] → RW p l e s m below meth c 3 66 [.ref (h 0)] (nI (WN P B K A S)) 9 ls [] := by
    intro k
    induction k with
    | zero =>
      intro hi s1 w1 ls hs1 hw1 hfw hl
      have hl : lv_has ls 5 [(0, .ref (h 0)), (1, .int (nI s1)), (2, .int (nI w1)), (3, .int (-1))] := hl
      refine lv_iload_n hx hb dX0_findWinners_9 rfl (lv_at hl 3 rfl) ?_
      refine if_ltM (tgt := 51) hx hb dX0_findWinners_10 (by decide) ?_
      refine lv_iload_n hx hb dX0_findWinners_51 rfl (lv_at hl 2 rfl) ?_
      exact ro_iret hx hb hr hlk (by rw [← hfw]; rfl) dX0_findWinners_52
    | succ k ih =>
      intro hi s1 w1 ls hs1 hw1 hfw hl
      have hl : lv_has ls 5 [(0, .ref (h 0)), (1, .int (nI s1)), (2, .int (nI w1)), (3, .int (nI k))] := hl
      refine lv_iload_n hx hb dX0_findWinners_9 rfl (lv_at hl 3 rfl) ?_
      refine if_ltN (tgt := 51) hx hb dX0_findWinners_10 (by decide) (by omega) ?_
      refine lv_aload_n hx hb dX0_findWinners_13 rfl (lv_at hl 0 rfl) ?_
      refine lv_iload_n hx hb dX0_findWinners_14 rfl (lv_at hl 3 rfl) ?_
      refine lv_iload_n hx hb dX0_findWinners_15 rfl (lv_at hl 1 rfl) ?_
      refine ro_V (ci := 0) (q0 := 0) (rest := []) ⟨hx, hb, hml, hown, hts⟩ (mX0_bidTaken hP8 hB8 hK4 hA50 (by omega) hs1 hTb) gX0_bidTaken hdX0_bidTaken ⟨Nat.le_of_ble_eq_true rfl, Nat.le_of_ble_eq_true rfl⟩ hK hP rfl rfl rfl rfl hl.1 rfl (Nat.le_of_ble_eq_true rfl) dX0_findWinners_16 ⟨Nat.le_of_ble_eq_true rfl, Nat.le_of_ble_eq_true rfl⟩ ?_
      cases htk : tk P B K A k s1 with
      | none =>
        refine rtq (y := -1) rfl ?_
        refine lv_istore (lv' := [(4, .int (-1)), (0, .ref (h 0)), (1, .int (nI s1)), (2, .int (nI w1)), (3, .int (nI k))]) hx hb dX0_findWinners_19 hl (by decide) rfl (fun ls hl => ?_)
        refine lv_iload hx hb dX0_findWinners_21 (lv_at hl 0 rfl) ?_
        refine if_ltM (tgt := 45) hx hb dX0_findWinners_23 (by decide) ?_
        refine lv_iinc (v := dn k) (lv' := [(3, .int (dn k)), (4, .int (-1)), (0, .ref (h 0)), (1, .int (nI s1)), (2, .int (nI w1))]) hx hb dX0_findWinners_45 hl (k := 4) rfl (dn_m k) (by decide) rfl (fun ls hl => ?_)
        refine lv_goto (tgt := 9) hx hb dX0_findWinners_48 (by decide) ?_
        exact ih (by omega) _ _ ls (hs1) (hw1) (by rw [← hfw, fw, htk]) (lv_sub hl [2, 3, 4, 0] rfl)
      | some b =>
        refine rtq (y := nI b) rfl ?_
        have hb8 := tk_lt htk
        have hBb := hB8 b
        refine lv_istore (lv' := [(4, .int (nI b)), (0, .ref (h 0)), (1, .int (nI s1)), (2, .int (nI w1)), (3, .int (nI k))]) hx hb dX0_findWinners_19 hl (by decide) rfl (fun ls hl => ?_)
        refine lv_iload hx hb dX0_findWinners_21 (lv_at hl 0 rfl) ?_
        refine if_ltN (tgt := 45) hx hb dX0_findWinners_23 (by decide) (by omega) ?_
        refine lv_iload_n hx hb dX0_findWinners_26 rfl (lv_at hl 3 rfl) ?_
        refine lv_iconst (v := nI 1) hx hb dX0_findWinners_27 (by decide +kernel) ?_
        refine lv_iload hx hb dX0_findWinners_28 (lv_at hl 0 rfl) ?_
        refine sh_N hx hb dX0_findWinners_30 (by omega) ?_
        refine or_N hx hb dX0_findWinners_31 ?_
        refine lv_istore_n (lv' := [(2, .int (nI (w1 ||| (2 ^ b)))), (4, .int (nI b)), (0, .ref (h 0)), (1, .int (nI s1)), (3, .int (nI k))]) hx hb dX0_findWinners_32 rfl hl (by decide) rfl (fun ls hl => ?_)
        refine lv_iload_n hx hb dX0_findWinners_33 rfl (lv_at hl 3 rfl) ?_
        refine lv_aload_n hx hb dX0_findWinners_34 rfl (lv_at hl 2 rfl) ?_
        refine gf0_1 hx hb hts hown hK hP rfl rfl dX0_findWinners_35 ?_
        refine lv_iload hx hb dX0_findWinners_38 (lv_at hl 1 rfl) ?_
        refine ld_s hx hb hK hP 1 0 rfl rfl (by omega) (by decide) (v := nI (B b)) (rfl) dX0_findWinners_40 ?_
        refine lv_iconst (v := -1) hx hb dX0_findWinners_41 (by decide +kernel) ?_
        refine lv_ixor hx hb dX0_findWinners_42 ?_
        refine nd_N hx hb dX0_findWinners_43 ?_
        refine lv_istore_n (lv' := [(1, .int (nI (nd s1 (B b)))), (2, .int (nI (w1 ||| (2 ^ b)))), (4, .int (nI b)), (0, .ref (h 0)), (3, .int (nI k))]) hx hb dX0_findWinners_44 rfl hl (by decide) rfl (fun ls hl => ?_)
        refine lv_iinc (v := dn k) (lv' := [(3, .int (dn k)), (1, .int (nI (nd s1 (B b)))), (2, .int (nI (w1 ||| (2 ^ b)))), (4, .int (nI b)), (0, .ref (h 0))]) hx hb dX0_findWinners_45 hl (k := 4) rfl (dn_m k) (by decide) rfl (fun ls hl => ?_)
        refine lv_goto (tgt := 9) hx hb dX0_findWinners_48 (by decide) ?_
        exact ih (by omega) _ _ ls (nd_lt hs1) (or_lt256 hw1 (two_lt256 hb8)) (by rw [← hfw, fw, htk]) (lv_sub hl [4, 1, 2, 0] rfl)
  exact lp9 4 (by omega) (off S) 0 ls (off_lt S) (by decide) (rfl) (lv_sub hl [3, 2, 1, 0] rfl)
set_option maxHeartbeats 1000000 in
set_option maxRecDepth 100000 in
/-- sumWithout(k, s) -/
theorem mX0_sumWithout {l : Launch} {D : va_G} {h : Nat → Nat} {d : Nat → ClassId} {P : Nat} {B K A : Nat → Nat} {S : Nat} {kn : Bool} {be on : Nat → Int32} {wi : Int32} {k sv : Nat} (hP8 : P < 256) (hB8 : ∀ b, B b < 256) (hK4 : ∀ b, K b < 4) (hA50 : ∀ b, A b ≤ 50) (hk : k < 4) (hs : sv < 256) (hTb : ∀ k q, k ≤ 4 → q < 256 → be (k * 256 + q) = nI (Fb P B K A k q)) (hTo : ∀ k q, k ≤ 4 → q < 256 → on (k * 256 + q) = nI (Fo P B K A k q)) : RoMet l yX0_sumWithout cX0_sumWithout 6 (some .int) 0 0 D (w0 h d P B K A S kn be on wi) (t0 d) [.ref (h 0), .int (nI k), .int (nI sv)] (nI (sw P B K A k sv 256)) := by
  refine ro_of (lv := [(0, .ref (h 0)), (1, .int (nI k)), (2, .int (nI sv))]) (by decide) (Nat.le_of_ble_eq_true rfl) rfl ?_
  intro p e s m below meth c hx hb hr hml hown hts hlk hP hK ls hl
  have hown : s.vm.findClass RX0 = some m.cls := hown
  refine lv_iconst (v := nI 0) hx hb dX0_sumWithout_0 (by decide +kernel) ?_
  refine lv_istore_n (lv' := [(3, .int (nI 0)), (0, .ref (h 0)), (1, .int (nI k)), (2, .int (nI sv))]) hx hb dX0_sumWithout_1 rfl hl (by decide) rfl (fun ls hl => ?_)
  refine lv_iconst (v := nI 0) hx hb dX0_sumWithout_2 (by decide +kernel) ?_
  refine lv_istore (lv' := [(4, .int (nI 0)), (3, .int (nI 0)), (0, .ref (h 0)), (1, .int (nI k)), (2, .int (nI sv))]) hx hb dX0_sumWithout_3 hl (by decide) rfl (fun ls hl => ?_)
  have lp5 : ∀ n i : Nat, i + n = 256 → ∀ (v3 : Int32) (ls : Array Slot), v3 = nI (sw P B K A k sv i) → lv_has ls 6 [(0, .ref (h 0)), (1, .int (nI k)), (2, .int (nI sv)), (3, .int (v3)), (4, .int (nI i))] → RW p l e s m below meth c 0 0 [.ref (h 0), .int (nI k), .int (nI sv)] (nI (sw P B K A k sv 256)) 5 ls [] := by
    intro n
    induction n with
    | zero =>
      intro i hi v3 ls e3 hl
      have hi : i = 256 := by omega
      subst hi
      subst e3
      refine lv_iload hx hb dX0_sumWithout_5 (lv_at hl 4 rfl) ?_
      refine lv_sipush (v := nI 256) hx hb dX0_sumWithout_7 (by decide +kernel) ?_
      refine ic_ge (tgt := 76) hx hb dX0_sumWithout_10 (by decide) (by omega) (by omega) (fun c10 => ?_) (fun c10 => absurd c10 (by omega))
      refine lv_iload_n hx hb dX0_sumWithout_76 rfl (lv_at hl 3 rfl) ?_
      exact ro_iret hx hb hr hlk (rfl) dX0_sumWithout_77
    | succ n ih =>
      intro i hi v3 ls e3 hl
      have hii : i < 256 := by omega
      subst e3
      have hF1 := Fb_le (P := P) (B := B) (K := K) hA50 (show k ≤ 4 by omega) i
      have hF2 := Fo_le (P := P) (B := B) (K := K) hA50 (k + 1) (nd sv i)
      have hsw := sw_le (P := P) (B := B) (K := K) hA50 (show k ≤ 4 by omega) sv i
      refine lv_iload hx hb dX0_sumWithout_5 (lv_at hl 4 rfl) ?_
      refine lv_sipush (v := nI 256) hx hb dX0_sumWithout_7 (by decide +kernel) ?_
      refine ic_ge (tgt := 76) hx hb dX0_sumWithout_10 (by decide) (by omega) (by omega) (fun c10 => absurd c10 (by omega)) (fun c10 => ?_)
      refine lv_iload hx hb dX0_sumWithout_13 (lv_at hl 4 rfl) ?_
      refine lv_iload_n hx hb dX0_sumWithout_15 rfl (lv_at hl 2 rfl) ?_
      refine lv_iconst (v := -1) hx hb dX0_sumWithout_16 (by decide +kernel) ?_
      refine lv_ixor hx hb dX0_sumWithout_17 ?_
      refine nd_N hx hb dX0_sumWithout_18 ?_
      refine if_neN (tgt := 70) hx hb dX0_sumWithout_19 (by decide) (Nat.lt_of_le_of_lt (nd_le _ _) (by omega)) (fun c19 => ?_) (fun c19 => ?_)
      · refine lv_iinc (v := nI (i + 1)) (lv' := [(4, .int (nI (i + 1))), (0, .ref (h 0)), (1, .int (nI k)), (2, .int (nI sv)), (3, .int (nI (sw P B K A k sv i)))]) hx hb dX0_sumWithout_70 hl (k := 4) rfl (nI_1 i) (by decide) rfl (fun ls hl => ?_)
        refine lv_goto (tgt := 5) hx hb dX0_sumWithout_73 (by decide) ?_
        exact ih (i + 1) (by omega) _ ls (by simp [sw, c19]) (lv_sub hl [1, 2, 3, 4, 0] rfl)
      · refine lv_aload_n hx hb dX0_sumWithout_22 rfl (lv_at hl 0 rfl) ?_
        refine gf0_6 hx hb hts hown hK hP rfl rfl dX0_sumWithout_23 ?_
        refine lv_iload_n hx hb dX0_sumWithout_26 rfl (lv_at hl 1 rfl) ?_
        refine lv_sipush (v := nI 256) hx hb dX0_sumWithout_27 (by decide +kernel) ?_
        refine im_N hx hb dX0_sumWithout_30 ?_
        refine lv_iload hx hb dX0_sumWithout_31 (lv_at hl 4 rfl) ?_
        refine ia_N hx hb dX0_sumWithout_33 ?_
        refine ld_i hx hb hK hP 4 3 rfl rfl (by omega) (by decide) (v := nI (Fb P B K A k i)) (hTb _ _ (by omega) hii) dX0_sumWithout_34 ?_
        refine lv_aload_n hx hb dX0_sumWithout_35 rfl (lv_at hl 0 rfl) ?_
        refine gf0_7 hx hb hts hown hK hP rfl rfl dX0_sumWithout_36 ?_
        refine lv_iload_n hx hb dX0_sumWithout_39 rfl (lv_at hl 1 rfl) ?_
        refine lv_iconst (v := nI 1) hx hb dX0_sumWithout_40 (by decide +kernel) ?_
        refine ia_N hx hb dX0_sumWithout_41 ?_
        refine lv_sipush (v := nI 256) hx hb dX0_sumWithout_42 (by decide +kernel) ?_
        refine im_N hx hb dX0_sumWithout_45 ?_
        refine lv_iload_n hx hb dX0_sumWithout_46 rfl (lv_at hl 2 rfl) ?_
        refine lv_iload hx hb dX0_sumWithout_47 (lv_at hl 4 rfl) ?_
        refine lv_iconst (v := -1) hx hb dX0_sumWithout_49 (by decide +kernel) ?_
        refine lv_ixor hx hb dX0_sumWithout_50 ?_
        refine nd_N hx hb dX0_sumWithout_51 ?_
        refine ia_N hx hb dX0_sumWithout_52 ?_
        refine ld_i hx hb hK hP 5 4 rfl rfl (by have := nd_lt (b := i) hs; omega) (by decide) (v := nI (Fo P B K A (k + 1) (nd sv i))) (hTo _ _ (by omega) (nd_lt hs)) dX0_sumWithout_53 ?_
        refine ia_N hx hb dX0_sumWithout_54 ?_
        refine lv_istore (lv' := [(5, .int (nI ((Fb P B K A k i) + (Fo P B K A (k + 1) (nd sv i))))), (0, .ref (h 0)), (1, .int (nI k)), (2, .int (nI sv)), (3, .int (nI (sw P B K A k sv i))), (4, .int (nI i))]) hx hb dX0_sumWithout_55 hl (by decide) rfl (fun ls hl => ?_)
        refine lv_iload hx hb dX0_sumWithout_57 (lv_at hl 0 rfl) ?_
        refine lv_iload_n hx hb dX0_sumWithout_59 rfl (lv_at hl 4 rfl) ?_
        refine ic_le (tgt := 68) hx hb dX0_sumWithout_60 (by decide) (by omega) (by omega) (fun c60 => ?_) (fun c60 => ?_)
        · refine lv_iload_n hx hb dX0_sumWithout_68 rfl (lv_at hl 4 rfl) ?_
          refine lv_istore_n (lv' := [(3, .int (nI (sw P B K A k sv i))), (5, .int (nI ((Fb P B K A k i) + (Fo P B K A (k + 1) (nd sv i))))), (0, .ref (h 0)), (1, .int (nI k)), (2, .int (nI sv)), (4, .int (nI i))]) hx hb dX0_sumWithout_69 rfl hl (by decide) rfl (fun ls hl => ?_)
          refine lv_iinc (v := nI (i + 1)) (lv' := [(4, .int (nI (i + 1))), (3, .int (nI (sw P B K A k sv i))), (5, .int (nI ((Fb P B K A k i) + (Fo P B K A (k + 1) (nd sv i))))), (0, .ref (h 0)), (1, .int (nI k)), (2, .int (nI sv))]) hx hb dX0_sumWithout_70 hl (k := 5) rfl (nI_1 i) (by decide) rfl (fun ls hl => ?_)
          refine lv_goto (tgt := 5) hx hb dX0_sumWithout_73 (by decide) ?_
          exact ih (i + 1) (by omega) _ ls (by simp [sw, c19, Nat.not_lt.mpr c60]) (lv_sub hl [3, 4, 5, 1, 0] rfl)
        · refine lv_iload hx hb dX0_sumWithout_63 (lv_at hl 0 rfl) ?_
          refine lv_goto (tgt := 69) hx hb dX0_sumWithout_65 (by decide) ?_
          refine lv_istore_n (lv' := [(3, .int (nI ((Fb P B K A k i) + (Fo P B K A (k + 1) (nd sv i))))), (5, .int (nI ((Fb P B K A k i) + (Fo P B K A (k + 1) (nd sv i))))), (0, .ref (h 0)), (1, .int (nI k)), (2, .int (nI sv)), (4, .int (nI i))]) hx hb dX0_sumWithout_69 rfl hl (by decide) rfl (fun ls hl => ?_)
          refine lv_iinc (v := nI (i + 1)) (lv' := [(4, .int (nI (i + 1))), (3, .int (nI ((Fb P B K A k i) + (Fo P B K A (k + 1) (nd sv i))))), (5, .int (nI ((Fb P B K A k i) + (Fo P B K A (k + 1) (nd sv i))))), (0, .ref (h 0)), (1, .int (nI k)), (2, .int (nI sv))]) hx hb dX0_sumWithout_70 hl (k := 5) rfl (nI_1 i) (by decide) rfl (fun ls hl => ?_)
          refine lv_goto (tgt := 5) hx hb dX0_sumWithout_73 (by decide) ?_
          exact ih (i + 1) (by omega) _ ls (by simp [sw, c19, c60]) (lv_sub hl [3, 4, 5, 1, 0] rfl)
  exact lp5 256 0 (by omega) _ ls (rfl) (lv_sub hl [2, 3, 4, 1, 0] rfl)
set_option maxHeartbeats 1000000 in
set_option maxRecDepth 100000 in
/-- sumLacking(b) -/
theorem mX0_sumLacking {l : Launch} {D : va_G} {h : Nat → Nat} {d : Nat → ClassId} {P : Nat} {B K A : Nat → Nat} {S : Nat} {kn : Bool} {be on : Nat → Int32} {wi : Int32} {b : Nat} (hP8 : P < 256) (hB8 : ∀ b, B b < 256) (hK4 : ∀ b, K b < 4) (hA50 : ∀ b, A b ≤ 50) (hb8 : b < 8) (hTb : ∀ k q, k ≤ 4 → q < 256 → be (k * 256 + q) = nI (Fb P B K A k q)) (hTo : ∀ k q, k ≤ 4 → q < 256 → on (k * 256 + q) = nI (Fo P B K A k q)) : RoMet l yX0_sumLacking cX0_sumLacking 7 (some .int) 2 41 D (w0 h d P B K A S kn be on wi) (t0 d) [.ref (h 0), .int (nI b)] (nI (slk P B K A b (off S) 8)) := by
  refine ro_of (lv := [(0, .ref (h 0)), (1, .int (nI b))]) (by decide) (Nat.le_of_ble_eq_true rfl) rfl ?_
  intro p e s m below meth c hx hb hr hml hown hts hlk hP hK ls hl
  have hown : s.vm.findClass RX0 = some m.cls := hown
  refine lv_aload_n hx hb dX0_sumLacking_0 rfl (lv_at hl 0 rfl) ?_
  refine ro_V (ci := 0) (q0 := 0) (rest := []) ⟨hx, hb, hml, hown, hts⟩ (mX0_offered) gX0_offered hdX0_offered ⟨Nat.le_of_ble_eq_true rfl, Nat.le_of_ble_eq_true rfl⟩ hK hP rfl rfl rfl rfl hl.1 rfl (Nat.le_of_ble_eq_true rfl) dX0_sumLacking_1 ⟨Nat.le_of_ble_eq_true rfl, Nat.le_of_ble_eq_true rfl⟩ ?_
  refine lv_istore_n (lv' := [(2, .int (nI (off S))), (0, .ref (h 0)), (1, .int (nI b))]) hx hb dX0_sumLacking_4 rfl hl (by decide) rfl (fun ls hl => ?_)
  refine lv_aload_n hx hb dX0_sumLacking_5 rfl (lv_at hl 1 rfl) ?_
  refine gf0_2 hx hb hts hown hK hP rfl rfl dX0_sumLacking_6 ?_
  refine lv_iload_n hx hb dX0_sumLacking_9 rfl (lv_at hl 2 rfl) ?_
  refine ld_b hx hb hK hP 2 1 rfl rfl (by omega) (by decide) (v := nI (K b)) (rfl) dX0_sumLacking_10 ?_
  refine lv_istore_n (lv' := [(3, .int (nI (K b))), (2, .int (nI (off S))), (0, .ref (h 0)), (1, .int (nI b))]) hx hb dX0_sumLacking_11 rfl hl (by decide) rfl (fun ls hl => ?_)
  refine lv_aload_n hx hb dX0_sumLacking_12 rfl (lv_at hl 2 rfl) ?_
  refine lv_iload_n hx hb dX0_sumLacking_13 rfl (lv_at hl 0 rfl) ?_
  refine lv_iload_n hx hb dX0_sumLacking_14 rfl (lv_at hl 1 rfl) ?_
  refine ro_V (ci := 0) (q0 := 0) (rest := []) ⟨hx, hb, hml, hown, hts⟩ (mX0_sumWithout hP8 hB8 hK4 hA50 (hK4 b) (off_lt S) hTb hTo) gX0_sumWithout hdX0_sumWithout ⟨Nat.le_of_ble_eq_true rfl, Nat.le_of_ble_eq_true rfl⟩ hK hP rfl rfl rfl rfl hl.1 rfl (Nat.le_of_ble_eq_true rfl) dX0_sumLacking_15 ⟨Nat.le_of_ble_eq_true rfl, Nat.le_of_ble_eq_true rfl⟩ ?_
  refine lv_istore (lv' := [(4, .int (nI (sw P B K A (K b) (off S) 256))), (3, .int (nI (K b))), (2, .int (nI (off S))), (0, .ref (h 0)), (1, .int (nI b))]) hx hb dX0_sumLacking_18 hl (by decide) rfl (fun ls hl => ?_)
  refine lv_iconst (v := nI 0) hx hb dX0_sumLacking_20 (by decide +kernel) ?_
  refine lv_istore (lv' := [(5, .int (nI 0)), (4, .int (nI (sw P B K A (K b) (off S) 256))), (3, .int (nI (K b))), (2, .int (nI (off S))), (0, .ref (h 0)), (1, .int (nI b))]) hx hb dX0_sumLacking_21 hl (by decide) rfl (fun ls hl => ?_)
  have lp23 : ∀ n i : Nat, i + n = 8 → ∀ (v4 : Int32) (ls : Array Slot), v4 = nI (slk P B K A b (off S) i) → lv_has ls 7 [(0, .ref (h 0)), (1, .int (nI b)), (2, .int (nI (off S))), (3, .int (nI (K b))), (4, .int (v4)), (5, .int (nI i))] → RW p l e s m below meth c 2 41 [.ref (h 0), .int (nI b)] (nI (slk P B K A b (off S) 8)) 23 ls [] := by
    intro n
    induction n with
    | zero =>
      intro i hi v4 ls e4 hl
      have hi : i = 8 := by omega
      subst hi
      subst e4
      refine lv_iload hx hb dX0_sumLacking_23 (lv_at hl 5 rfl) ?_
      refine lv_bipush (v := nI 8) hx hb dX0_sumLacking_25 (by decide +kernel) ?_
      refine ic_ge (tgt := 117) hx hb dX0_sumLacking_27 (by decide) (by omega) (by omega) (fun c27 => ?_) (fun c27 => absurd c27 (by omega))
      refine lv_iload hx hb dX0_sumLacking_117 (lv_at hl 4 rfl) ?_
      exact ro_iret hx hb hr hlk (rfl) dX0_sumLacking_119
    | succ n ih =>
      intro i hi v4 ls e4 hl
      have hii : i < 8 := by omega
      subst e4
      have hKi := hK4 i
      have hKb := hK4 b
      have hBi := hB8 i
      have hmi := ma_le hA50 i
      have hsw := sw_le (P := P) (B := B) (K := K) hA50 (Nat.le_of_lt (hK4 b)) (nd (off S) (B i)) 256
      have hsl := slk_le (P := P) (B := B) hA50 hK4 b (off S) i
      refine lv_iload hx hb dX0_sumLacking_23 (lv_at hl 5 rfl) ?_
      refine lv_bipush (v := nI 8) hx hb dX0_sumLacking_25 (by decide +kernel) ?_
      refine ic_ge (tgt := 117) hx hb dX0_sumLacking_27 (by decide) (by omega) (by omega) (fun c27 => absurd c27 (by omega)) (fun c27 => ?_)
      refine lv_iload hx hb dX0_sumLacking_30 (lv_at hl 5 rfl) ?_
      refine lv_iload_n hx hb dX0_sumLacking_32 rfl (lv_at hl 1 rfl) ?_
      refine ic_eq (tgt := 111) hx hb dX0_sumLacking_33 (by decide) (by omega) (by omega) (fun c33 => ?_) (fun c33 => ?_)
      · refine lv_iinc (v := nI (i + 1)) (lv' := [(5, .int (nI (i + 1))), (0, .ref (h 0)), (1, .int (nI b)), (2, .int (nI (off S))), (3, .int (nI (K b))), (4, .int (nI (slk P B K A b (off S) i)))]) hx hb dX0_sumLacking_111 hl (k := 5) rfl (nI_1 i) (by decide) rfl (fun ls hl => ?_)
        refine lv_goto (tgt := 23) hx hb dX0_sumLacking_114 (by decide) ?_
        exact ih (i + 1) (by omega) _ ls (by simp [slk, c33]) (lv_sub hl [1, 2, 3, 4, 5, 0] rfl)
      · refine lv_aload_n hx hb dX0_sumLacking_36 rfl (lv_at hl 0 rfl) ?_
        refine lv_iload hx hb dX0_sumLacking_37 (lv_at hl 5 rfl) ?_
        refine ro_V (ci := 0) (q0 := 0) (rest := []) ⟨hx, hb, hml, hown, hts⟩ (mX0_hasj hP8 hii) gX0_has hdX0_has ⟨Nat.le_of_ble_eq_true rfl, Nat.le_of_ble_eq_true rfl⟩ hK hP rfl rfl rfl rfl hl.1 rfl (Nat.le_of_ble_eq_true rfl) dX0_sumLacking_39 ⟨Nat.le_of_ble_eq_true rfl, Nat.le_of_ble_eq_true rfl⟩ ?_
        refine if_eqB (tgt := 111) hx hb dX0_sumLacking_42 (by decide) (fun c42 => ?_) (fun c42 => ?_)
        · refine lv_iinc (v := nI (i + 1)) (lv' := [(5, .int (nI (i + 1))), (0, .ref (h 0)), (1, .int (nI b)), (2, .int (nI (off S))), (3, .int (nI (K b))), (4, .int (nI (slk P B K A b (off S) i)))]) hx hb dX0_sumLacking_111 hl (k := 5) rfl (nI_1 i) (by decide) rfl (fun ls hl => ?_)
          refine lv_goto (tgt := 23) hx hb dX0_sumLacking_114 (by decide) ?_
          exact ih (i + 1) (by omega) _ ls (by simp [slk, c33, c42]) (lv_sub hl [1, 2, 3, 4, 5, 0] rfl)
        · refine lv_aload_n hx hb dX0_sumLacking_45 rfl (lv_at hl 0 rfl) ?_
          refine gf0_2 hx hb hts hown hK hP rfl rfl dX0_sumLacking_46 ?_
          refine lv_iload hx hb dX0_sumLacking_49 (lv_at hl 5 rfl) ?_
          refine ld_b hx hb hK hP 2 1 rfl rfl (by omega) (by decide) (v := nI (K i)) (rfl) dX0_sumLacking_51 ?_
          refine lv_iload_n hx hb dX0_sumLacking_52 rfl (lv_at hl 3 rfl) ?_
          refine ic_ne (tgt := 111) hx hb dX0_sumLacking_53 (by decide) (by omega) (by omega) (fun c53 => ?_) (fun c53 => ?_)
          · refine lv_iinc (v := nI (i + 1)) (lv' := [(5, .int (nI (i + 1))), (0, .ref (h 0)), (1, .int (nI b)), (2, .int (nI (off S))), (3, .int (nI (K b))), (4, .int (nI (slk P B K A b (off S) i)))]) hx hb dX0_sumLacking_111 hl (k := 5) rfl (nI_1 i) (by decide) rfl (fun ls hl => ?_)
            refine lv_goto (tgt := 23) hx hb dX0_sumLacking_114 (by decide) ?_
            exact ih (i + 1) (by omega) _ ls (by simp [slk, c33, c42, c53]) (lv_sub hl [1, 2, 3, 4, 5, 0] rfl)
          · refine lv_aload_n hx hb dX0_sumLacking_56 rfl (lv_at hl 0 rfl) ?_
            refine gf0_1 hx hb hts hown hK hP rfl rfl dX0_sumLacking_57 ?_
            refine lv_iload hx hb dX0_sumLacking_60 (lv_at hl 5 rfl) ?_
            refine ld_s hx hb hK hP 1 0 rfl rfl (by omega) (by decide) (v := nI (B i)) (rfl) dX0_sumLacking_62 ?_
            refine lv_iload_n hx hb dX0_sumLacking_63 rfl (lv_at hl 2 rfl) ?_
            refine lv_iconst (v := -1) hx hb dX0_sumLacking_64 (by decide +kernel) ?_
            refine lv_ixor hx hb dX0_sumLacking_65 ?_
            refine nd_N hx hb dX0_sumLacking_66 ?_
            refine if_neN (tgt := 111) hx hb dX0_sumLacking_67 (by decide) (Nat.lt_of_le_of_lt (nd_le _ _) (by omega)) (fun c67 => ?_) (fun c67 => ?_)
            · refine lv_iinc (v := nI (i + 1)) (lv' := [(5, .int (nI (i + 1))), (0, .ref (h 0)), (1, .int (nI b)), (2, .int (nI (off S))), (3, .int (nI (K b))), (4, .int (nI (slk P B K A b (off S) i)))]) hx hb dX0_sumLacking_111 hl (k := 5) rfl (nI_1 i) (by decide) rfl (fun ls hl => ?_)
              refine lv_goto (tgt := 23) hx hb dX0_sumLacking_114 (by decide) ?_
              exact ih (i + 1) (by omega) _ ls (by simp [slk, c33, c42, c53, c67]) (lv_sub hl [1, 2, 3, 4, 5, 0] rfl)
            · refine lv_aload_n hx hb dX0_sumLacking_70 rfl (lv_at hl 0 rfl) ?_
              refine lv_iload hx hb dX0_sumLacking_71 (lv_at hl 5 rfl) ?_
              refine ro_V (ci := 0) (q0 := 0) (rest := []) ⟨hx, hb, hml, hown, hts⟩ (mX0_markedAmount hii) gX0_markedAmount hdX0_markedAmount ⟨Nat.le_of_ble_eq_true rfl, Nat.le_of_ble_eq_true rfl⟩ hK hP rfl rfl rfl rfl hl.1 rfl (Nat.le_of_ble_eq_true rfl) dX0_sumLacking_73 ⟨Nat.le_of_ble_eq_true rfl, Nat.le_of_ble_eq_true rfl⟩ ?_
              refine lv_aload_n hx hb dX0_sumLacking_76 rfl (lv_at hl 0 rfl) ?_
              refine lv_iload_n hx hb dX0_sumLacking_77 rfl (lv_at hl 3 rfl) ?_
              refine lv_iload_n hx hb dX0_sumLacking_78 rfl (lv_at hl 2 rfl) ?_
              refine lv_aload_n hx hb dX0_sumLacking_79 rfl (lv_at hl 0 rfl) ?_
              refine gf0_1 hx hb hts hown hK hP rfl rfl dX0_sumLacking_80 ?_
              refine lv_iload hx hb dX0_sumLacking_83 (lv_at hl 5 rfl) ?_
              refine ld_s hx hb hK hP 1 0 rfl rfl (by omega) (by decide) (v := nI (B i)) (rfl) dX0_sumLacking_85 ?_
              refine lv_iconst (v := -1) hx hb dX0_sumLacking_86 (by decide +kernel) ?_
              refine lv_ixor hx hb dX0_sumLacking_87 ?_
              refine nd_N hx hb dX0_sumLacking_88 ?_
              refine ro_V (ci := 0) (q0 := 0) (rest := [.int (nI (ma A i))]) ⟨hx, hb, hml, hown, hts⟩ (mX0_sumWithout hP8 hB8 hK4 hA50 (hK4 b) (nd_lt (off_lt S)) hTb hTo) gX0_sumWithout hdX0_sumWithout ⟨Nat.le_of_ble_eq_true rfl, Nat.le_of_ble_eq_true rfl⟩ hK hP rfl rfl rfl rfl hl.1 rfl (Nat.le_of_ble_eq_true rfl) dX0_sumLacking_89 ⟨Nat.le_of_ble_eq_true rfl, Nat.le_of_ble_eq_true rfl⟩ ?_
              refine ia_N hx hb dX0_sumLacking_92 ?_
              refine lv_istore (lv' := [(6, .int (nI ((ma A i) + (sw P B K A (K b) (nd (off S) (B i)) 256)))), (0, .ref (h 0)), (1, .int (nI b)), (2, .int (nI (off S))), (3, .int (nI (K b))), (4, .int (nI (slk P B K A b (off S) i))), (5, .int (nI i))]) hx hb dX0_sumLacking_93 hl (by decide) rfl (fun ls hl => ?_)
              refine lv_iload hx hb dX0_sumLacking_95 (lv_at hl 0 rfl) ?_
              refine lv_iload hx hb dX0_sumLacking_97 (lv_at hl 5 rfl) ?_
              refine ic_le (tgt := 107) hx hb dX0_sumLacking_99 (by decide) (by omega) (by omega) (fun c99 => ?_) (fun c99 => ?_)
              · refine lv_iload hx hb dX0_sumLacking_107 (lv_at hl 5 rfl) ?_
                refine lv_istore (lv' := [(4, .int (nI (slk P B K A b (off S) i))), (6, .int (nI ((ma A i) + (sw P B K A (K b) (nd (off S) (B i)) 256)))), (0, .ref (h 0)), (1, .int (nI b)), (2, .int (nI (off S))), (3, .int (nI (K b))), (5, .int (nI i))]) hx hb dX0_sumLacking_109 hl (by decide) rfl (fun ls hl => ?_)
                refine lv_iinc (v := nI (i + 1)) (lv' := [(5, .int (nI (i + 1))), (4, .int (nI (slk P B K A b (off S) i))), (6, .int (nI ((ma A i) + (sw P B K A (K b) (nd (off S) (B i)) 256)))), (0, .ref (h 0)), (1, .int (nI b)), (2, .int (nI (off S))), (3, .int (nI (K b)))]) hx hb dX0_sumLacking_111 hl (k := 6) rfl (nI_1 i) (by decide) rfl (fun ls hl => ?_)
                refine lv_goto (tgt := 23) hx hb dX0_sumLacking_114 (by decide) ?_
                exact ih (i + 1) (by omega) _ ls (by simp [slk, c33, c42, c53, c67, Nat.not_lt.mpr c99]) (lv_sub hl [3, 4, 5, 6, 1, 0] rfl)
              · refine lv_iload hx hb dX0_sumLacking_102 (lv_at hl 0 rfl) ?_
                refine lv_goto (tgt := 109) hx hb dX0_sumLacking_104 (by decide) ?_
                refine lv_istore (lv' := [(4, .int (nI ((ma A i) + (sw P B K A (K b) (nd (off S) (B i)) 256)))), (6, .int (nI ((ma A i) + (sw P B K A (K b) (nd (off S) (B i)) 256)))), (0, .ref (h 0)), (1, .int (nI b)), (2, .int (nI (off S))), (3, .int (nI (K b))), (5, .int (nI i))]) hx hb dX0_sumLacking_109 hl (by decide) rfl (fun ls hl => ?_)
                refine lv_iinc (v := nI (i + 1)) (lv' := [(5, .int (nI (i + 1))), (4, .int (nI ((ma A i) + (sw P B K A (K b) (nd (off S) (B i)) 256)))), (6, .int (nI ((ma A i) + (sw P B K A (K b) (nd (off S) (B i)) 256)))), (0, .ref (h 0)), (1, .int (nI b)), (2, .int (nI (off S))), (3, .int (nI (K b)))]) hx hb dX0_sumLacking_111 hl (k := 6) rfl (nI_1 i) (by decide) rfl (fun ls hl => ?_)
                refine lv_goto (tgt := 23) hx hb dX0_sumLacking_114 (by decide) ?_
                exact ih (i + 1) (by omega) _ ls (by simp [slk, c33, c42, c53, c67, c99]) (lv_sub hl [3, 4, 5, 6, 1, 0] rfl)
  exact lp23 8 0 (by omega) _ ls (rfl) (lv_sub hl [4, 5, 3, 2, 1, 0] rfl)
end
section
set_option maxRecDepth 100000
/-- bid's arguments are good -/
def bok (x y z : Int32) : Prop := ¬ x < nI 1 ∧ ¬ nI 256 ≤ x ∧ inr 4 y = true ∧ ¬ z < nI 1 ∧ z ≤ nI 50
/-- the first free place -/
def fre (P : Nat) : Option Nat := ff (fun b => !P.testBit b) 8 0
set_option maxHeartbeats 1000000 in
set_option maxRecDepth 100000 in
/-- bid: bad arguments -/
theorem mX0_bid_bad {l : Launch} {D : va_G} {h : Nat → Nat} {d : Nat → ClassId} {P : Nat} {B K A : Nat → Nat} {S : Nat} {kn : Bool} {be on : Nat → Int32} {wi : Int32} {x y z : Int32} (hbad : ¬ bok x y z) : RoMet l yX0_bid cX0_bid 5 (some .int) 1 21 D (w0 h d P B K A S kn be on wi) (t0 d) [.ref (h 0), .int (x), .int (y), .int (z)] (-1) := by
  refine ro_of (lv := [(0, .ref (h 0)), (1, .int (x)), (2, .int (y)), (3, .int (z))]) (by decide) (Nat.le_of_ble_eq_true rfl) rfl ?_
  intro p e s m below meth c hx hb hr hml hown hts hlk hP hK ls hl
  have hown : s.vm.findClass RX0 = some m.cls := hown
  refine lv_iload_n hx hb dX0_bid_0 rfl (lv_at hl 1 rfl) ?_
  refine lv_iconst (v := nI 1) hx hb dX0_bid_1 (by decide +kernel) ?_
  refine lv_icmp_lt (tgt := 30) hx hb dX0_bid_2 (by decide) (fun c2 => ?_) (fun c2 => ?_)
  · refine lv_iconst (v := -1) hx hb dX0_bid_30 (by decide +kernel) ?_
    exact ro_iret hx hb hr hlk (rfl) dX0_bid_31
  · refine lv_iload_n hx hb dX0_bid_5 rfl (lv_at hl 1 rfl) ?_
    refine lv_sipush (v := nI 256) hx hb dX0_bid_6 (by decide +kernel) ?_
    refine lv_icmp_ge (tgt := 30) hx hb dX0_bid_9 (by decide) (fun c9 => ?_) (fun c9 => ?_)
    · refine lv_iconst (v := -1) hx hb dX0_bid_30 (by decide +kernel) ?_
      exact ro_iret hx hb hr hlk (rfl) dX0_bid_31
    · refine lv_iload_n hx hb dX0_bid_12 rfl (lv_at hl 2 rfl) ?_
      refine ro_S (rest := []) ⟨hx, hb, hml, hown, hts⟩ (mX0_isBidder) gX0_isBidder hdX0_isBidder ⟨Nat.le_of_ble_eq_true rfl, Nat.le_of_ble_eq_true rfl⟩ rfl hl.1 rfl (Nat.le_of_ble_eq_true rfl) dX0_bid_13 ⟨Nat.le_of_ble_eq_true rfl, Nat.le_of_ble_eq_true rfl⟩ ?_
      refine if_eqB (tgt := 30) hx hb dX0_bid_16 (by decide) (fun c16 => ?_) (fun c16 => ?_)
      · refine lv_iconst (v := -1) hx hb dX0_bid_30 (by decide +kernel) ?_
        exact ro_iret hx hb hr hlk (rfl) dX0_bid_31
      · refine lv_iload_n hx hb dX0_bid_19 rfl (lv_at hl 3 rfl) ?_
        refine lv_iconst (v := nI 1) hx hb dX0_bid_20 (by decide +kernel) ?_
        refine lv_icmp_lt (tgt := 30) hx hb dX0_bid_21 (by decide) (fun c21 => ?_) (fun c21 => ?_)
        · refine lv_iconst (v := -1) hx hb dX0_bid_30 (by decide +kernel) ?_
          exact ro_iret hx hb hr hlk (rfl) dX0_bid_31
        · refine lv_iload_n hx hb dX0_bid_24 rfl (lv_at hl 3 rfl) ?_
          refine lv_bipush (v := nI 50) hx hb dX0_bid_25 (by decide +kernel) ?_
          refine lv_icmp_le (tgt := 32) hx hb dX0_bid_27 (by decide) (fun c27 => ?_) (fun c27 => ?_)
          · exact absurd ⟨c2, c9, c16, c21, c27⟩ hbad
          · refine lv_iconst (v := -1) hx hb dX0_bid_30 (by decide +kernel) ?_
            exact ro_iret hx hb hr hlk (rfl) dX0_bid_31
set_option maxHeartbeats 1000000 in
set_option maxRecDepth 100000 in
/-- bid: no free place -/
theorem mX0_bid_full {l : Launch} {D : va_G} {h : Nat → Nat} {d : Nat → ClassId} {P : Nat} {B K A : Nat → Nat} {S : Nat} {kn : Bool} {be on : Nat → Int32} {wi : Int32} {bu k a : Nat} (hP8 : P < 256) (hb1 : 1 ≤ bu) (hb2 : bu < 256) (hk : k < 4) (ha1 : 1 ≤ a) (ha2 : a ≤ 50) (hfr : fre P = none) : RoMet l yX0_bid cX0_bid 5 (some .int) 1 21 D (w0 h d P B K A S kn be on wi) (t0 d) [.ref (h 0), .int (nI bu), .int (nI k), .int (nI a)] (-2) := by
  refine ro_of (lv := [(0, .ref (h 0)), (1, .int (nI bu)), (2, .int (nI k)), (3, .int (nI a))]) (by decide) (Nat.le_of_ble_eq_true rfl) rfl ?_
  intro p e s m below meth c hx hb hr hml hown hts hlk hP hK ls hl
  have hown : s.vm.findClass RX0 = some m.cls := hown
  refine lv_iload_n hx hb dX0_bid_0 rfl (lv_at hl 1 rfl) ?_
  refine lv_iconst (v := nI 1) hx hb dX0_bid_1 (by decide +kernel) ?_
  refine ic_lt (tgt := 30) hx hb dX0_bid_2 (by decide) (by omega) (by omega) (fun c2 => absurd c2 (by omega)) (fun c2 => ?_)
  refine lv_iload_n hx hb dX0_bid_5 rfl (lv_at hl 1 rfl) ?_
  refine lv_sipush (v := nI 256) hx hb dX0_bid_6 (by decide +kernel) ?_
  refine ic_ge (tgt := 30) hx hb dX0_bid_9 (by decide) (by omega) (by omega) (fun c9 => absurd c9 (by omega)) (fun c9 => ?_)
  refine lv_iload_n hx hb dX0_bid_12 rfl (lv_at hl 2 rfl) ?_
  refine ro_S (rest := []) ⟨hx, hb, hml, hown, hts⟩ (mX0_isBidder) gX0_isBidder hdX0_isBidder ⟨Nat.le_of_ble_eq_true rfl, Nat.le_of_ble_eq_true rfl⟩ rfl hl.1 rfl (Nat.le_of_ble_eq_true rfl) dX0_bid_13 ⟨Nat.le_of_ble_eq_true rfl, Nat.le_of_ble_eq_true rfl⟩ ?_
  refine if_eqB (tgt := 30) hx hb dX0_bid_16 (by decide) (fun c16 => absurd c16 (by rw [inr_nI (by decide) hk]; decide)) (fun c16 => ?_)
  refine lv_iload_n hx hb dX0_bid_19 rfl (lv_at hl 3 rfl) ?_
  refine lv_iconst (v := nI 1) hx hb dX0_bid_20 (by decide +kernel) ?_
  refine ic_lt (tgt := 30) hx hb dX0_bid_21 (by decide) (by omega) (by omega) (fun c21 => absurd c21 (by omega)) (fun c21 => ?_)
  refine lv_iload_n hx hb dX0_bid_24 rfl (lv_at hl 3 rfl) ?_
  refine lv_bipush (v := nI 50) hx hb dX0_bid_25 (by decide +kernel) ?_
  refine ic_le (tgt := 32) hx hb dX0_bid_27 (by decide) (by omega) (by omega) (fun c27 => ?_) (fun c27 => absurd c27 (by omega))
  refine lv_iconst (v := nI 0) hx hb dX0_bid_32 (by decide +kernel) ?_
  refine lv_istore (lv' := [(4, .int (nI 0)), (0, .ref (h 0)), (1, .int (nI bu)), (2, .int (nI k)), (3, .int (nI a))]) hx hb dX0_bid_33 hl (by decide) rfl (fun ls hl => ?_)
  have lp35 : ∀ n i : Nat, i + n = 8 → ∀ (ls : Array Slot), (ff (fun b => !P.testBit b) n i = none) → lv_has ls 5 [(0, .ref (h 0)), (1, .int (nI bu)), (2, .int (nI k)), (3, .int (nI a)), (4, .int (nI i))] → RW p l e s m below meth c 1 21 [.ref (h 0), .int (nI bu), .int (nI k), .int (nI a)] (-2) 35 ls [] := by
    intro n
    induction n with
    | zero =>
      intro i hi ls hff hl
      have hi : i = 8 := by omega
      subst hi
      refine lv_iload hx hb dX0_bid_35 (lv_at hl 4 rfl) ?_
      refine lv_bipush (v := nI 8) hx hb dX0_bid_37 (by decide +kernel) ?_
      refine ic_ge (tgt := 105) hx hb dX0_bid_39 (by decide) (by omega) (by omega) (fun c39 => ?_) (fun c39 => absurd c39 (by omega))
      refine lv_bipush (v := -2) hx hb dX0_bid_105 (by decide +kernel) ?_
      exact ro_iret hx hb hr hlk (rfl) dX0_bid_107
    | succ n ih =>
      intro i hi ls hff hl
      have hii : i < 8 := by omega
      refine lv_iload hx hb dX0_bid_35 (lv_at hl 4 rfl) ?_
      refine lv_bipush (v := nI 8) hx hb dX0_bid_37 (by decide +kernel) ?_
      refine ic_ge (tgt := 105) hx hb dX0_bid_39 (by decide) (by omega) (by omega) (fun c39 => absurd c39 (by omega)) (fun c39 => ?_)
      refine lv_aload_n hx hb dX0_bid_42 rfl (lv_at hl 0 rfl) ?_
      refine lv_iload hx hb dX0_bid_43 (lv_at hl 4 rfl) ?_
      refine ro_V (ci := 0) (q0 := 0) (rest := []) ⟨hx, hb, hml, hown, hts⟩ (mX0_hasj hP8 hii) gX0_has hdX0_has ⟨Nat.le_of_ble_eq_true rfl, Nat.le_of_ble_eq_true rfl⟩ hK hP rfl rfl rfl rfl hl.1 rfl (Nat.le_of_ble_eq_true rfl) dX0_bid_45 ⟨Nat.le_of_ble_eq_true rfl, Nat.le_of_ble_eq_true rfl⟩ ?_
      refine if_neB (tgt := 99) hx hb dX0_bid_48 (by decide) (fun c48 => ?_) (fun c48 => ?_)
      · refine lv_iinc (v := nI (i + 1)) (lv' := [(4, .int (nI (i + 1))), (0, .ref (h 0)), (1, .int (nI bu)), (2, .int (nI k)), (3, .int (nI a))]) hx hb dX0_bid_99 hl (k := 4) rfl (nI_1 i) (by decide) rfl (fun ls hl => ?_)
        refine lv_goto (tgt := 35) hx hb dX0_bid_102 (by decide) ?_
        exact ih (i + 1) (by omega) ls (by rw [ff, if_neg (by simp [c48])] at hff; exact hff) (lv_sub hl [1, 2, 3, 4, 0] rfl)
      · exact absurd hff (by rw [ff, if_pos (by simp [c48])]; intro z; cases z)
  exact lp35 8 0 (by omega) ls (hfr) (lv_sub hl [1, 2, 3, 4, 0] rfl)
set_option maxHeartbeats 1000000 in
set_option maxRecDepth 100000 in
/-- bid: into place b0 -/
theorem mX0_bid_in {l : Launch} {D : va_G} {h : Nat → Nat} {d : Nat → ClassId} {P : Nat} {B K A : Nat → Nat} {S : Nat} {kn : Bool} {be on : Nat → Int32} {wi : Int32} {bu k a : Nat} {b0 : Nat} (hP8 : P < 256) (hb1 : 1 ≤ bu) (hb2 : bu < 256) (hk : k < 4) (ha1 : 1 ≤ a) (ha2 : a ≤ 50) (hfr : fre P = some b0) : WrMet (U := Unit) l yX0_bid cX0_bid 5 (some .int) 1 21 D (w0 h d P B K A S kn be on wi) (t0 d) (as0 h) [.ref (h 0), .int (nI bu), .int (nI k), .int (nI a)] (fun r (_ : Unit) => r = nI b0) (fun _ => w0 h d (P ||| 2 ^ b0) (uN B b0 bu) (uN K b0 k) (uN A b0 a) S false be on wi) := by
  refine wr_of (lv := [(0, .ref (h 0)), (1, .int (nI bu)), (2, .int (nI k)), (3, .int (nI a))]) (by decide) (Nat.le_of_ble_eq_true rfl) rfl ?_
  intro p e s m below meth c hx hb hr hml hown hts hlk hK hP hD hS ls hl
  have hown : s.vm.findClass RX0 = some m.cls := hown
  refine lv_iload_n hx hb dX0_bid_0 rfl (lv_at hl 1 rfl) ?_
  refine lv_iconst (v := nI 1) hx hb dX0_bid_1 (by decide +kernel) ?_
  refine ic_lt (tgt := 30) hx hb dX0_bid_2 (by decide) (by omega) (by omega) (fun c2 => absurd c2 (by omega)) (fun c2 => ?_)
  refine lv_iload_n hx hb dX0_bid_5 rfl (lv_at hl 1 rfl) ?_
  refine lv_sipush (v := nI 256) hx hb dX0_bid_6 (by decide +kernel) ?_
  refine ic_ge (tgt := 30) hx hb dX0_bid_9 (by decide) (by omega) (by omega) (fun c9 => absurd c9 (by omega)) (fun c9 => ?_)
  refine lv_iload_n hx hb dX0_bid_12 rfl (lv_at hl 2 rfl) ?_
  refine ro_S (rest := []) ⟨hx, hb, hml, hown, hts⟩ (mX0_isBidder) gX0_isBidder hdX0_isBidder ⟨Nat.le_of_ble_eq_true rfl, Nat.le_of_ble_eq_true rfl⟩ rfl hl.1 rfl (Nat.le_of_ble_eq_true rfl) dX0_bid_13 ⟨Nat.le_of_ble_eq_true rfl, Nat.le_of_ble_eq_true rfl⟩ ?_
  refine if_eqB (tgt := 30) hx hb dX0_bid_16 (by decide) (fun c16 => absurd c16 (by rw [inr_nI (by decide) hk]; decide)) (fun c16 => ?_)
  refine lv_iload_n hx hb dX0_bid_19 rfl (lv_at hl 3 rfl) ?_
  refine lv_iconst (v := nI 1) hx hb dX0_bid_20 (by decide +kernel) ?_
  refine ic_lt (tgt := 30) hx hb dX0_bid_21 (by decide) (by omega) (by omega) (fun c21 => absurd c21 (by omega)) (fun c21 => ?_)
  refine lv_iload_n hx hb dX0_bid_24 rfl (lv_at hl 3 rfl) ?_
  refine lv_bipush (v := nI 50) hx hb dX0_bid_25 (by decide +kernel) ?_
  refine ic_le (tgt := 32) hx hb dX0_bid_27 (by decide) (by omega) (by omega) (fun c27 => ?_) (fun c27 => absurd c27 (by omega))
  refine lv_iconst (v := nI 0) hx hb dX0_bid_32 (by decide +kernel) ?_
  refine lv_istore (lv' := [(4, .int (nI 0)), (0, .ref (h 0)), (1, .int (nI bu)), (2, .int (nI k)), (3, .int (nI a))]) hx hb dX0_bid_33 hl (by decide) rfl (fun ls hl => ?_)
  have lp35 : ∀ n i : Nat, i + n = 8 → ∀ (H : Heap) (locs : List Loc) (ls : Array Slot), (ff (fun b => !P.testBit b) n i = some b0) → va_P D vwCl (w0 h d P B K A S kn be on wi) H → va_D (fun q => q ∈ (as0 h)) (w0 h d P B K A S kn be on wi) → va_S (fun q => q ∈ (as0 h)) s.heap H locs → lv_has ls 5 [(0, .ref (h 0)), (1, .int (nI bu)), (2, .int (nI k)), (3, .int (nI a)), (4, .int (nI i))] → WR (U := Unit) p l e s m below meth c 1 21 D (as0 h) [.ref (h 0), .int (nI bu), .int (nI k), .int (nI a)] (fun r (_ : Unit) => r = nI b0) (fun _ => w0 h d (P ||| 2 ^ b0) (uN B b0 bu) (uN K b0 k) (uN A b0 a) S false be on wi) H locs 35 ls [] := by
    intro n
    induction n with
    | zero =>
      intro i hi H locs ls hff hP hD hS hl
      have hi : i = 8 := by omega
      subst hi
      refine lv_iload hx hb dX0_bid_35 (lv_at hl 4 rfl) ?_
      refine lv_bipush (v := nI 8) hx hb dX0_bid_37 (by decide +kernel) ?_
      refine ic_ge (tgt := 105) hx hb dX0_bid_39 (by decide) (by omega) (by omega) (fun c39 => ?_) (fun c39 => absurd c39 (by omega))
      exact absurd hff (by intro z; cases z)
    | succ n ih =>
      intro i hi H locs ls hff hP hD hS hl
      have hii : i < 8 := by omega
      refine lv_iload hx hb dX0_bid_35 (lv_at hl 4 rfl) ?_
      refine lv_bipush (v := nI 8) hx hb dX0_bid_37 (by decide +kernel) ?_
      refine ic_ge (tgt := 105) hx hb dX0_bid_39 (by decide) (by omega) (by omega) (fun c39 => absurd c39 (by omega)) (fun c39 => ?_)
      refine lv_aload_n hx hb dX0_bid_42 rfl (lv_at hl 0 rfl) ?_
      refine lv_iload hx hb dX0_bid_43 (lv_at hl 4 rfl) ?_
      refine ro_V (ci := 0) (q0 := 0) (rest := []) ⟨hx, hb, hml, hown, hts⟩ (mX0_hasj hP8 hii) gX0_has hdX0_has ⟨Nat.le_of_ble_eq_true rfl, Nat.le_of_ble_eq_true rfl⟩ hK hP rfl rfl rfl rfl hl.1 rfl (Nat.le_of_ble_eq_true rfl) dX0_bid_45 ⟨Nat.le_of_ble_eq_true rfl, Nat.le_of_ble_eq_true rfl⟩ ?_
      refine if_neB (tgt := 99) hx hb dX0_bid_48 (by decide) (fun c48 => ?_) (fun c48 => ?_)
      · refine lv_iinc (v := nI (i + 1)) (lv' := [(4, .int (nI (i + 1))), (0, .ref (h 0)), (1, .int (nI bu)), (2, .int (nI k)), (3, .int (nI a))]) hx hb dX0_bid_99 hl (k := 4) rfl (nI_1 i) (by decide) rfl (fun ls hl => ?_)
        refine lv_goto (tgt := 35) hx hb dX0_bid_102 (by decide) ?_
        exact ih (i + 1) (by omega) _ _ ls (by rw [ff, if_neg (by simp [c48])] at hff; exact hff) hP hD hS (lv_sub hl [1, 2, 3, 4, 0] rfl)
      · obtain rfl : i = b0 := by rw [ff, if_pos (by simp [c48])] at hff; exact Option.some.inj hff
        refine lv_aload_n hx hb dX0_bid_51 rfl (lv_at hl 0 rfl) ?_
        refine lv_dup hx hb dX0_bid_52 rfl ?_
        refine gf0_0 hx hb hts hown hK hP rfl rfl dX0_bid_53 ?_
        refine lv_iconst (v := nI 1) hx hb dX0_bid_56 (by decide +kernel) ?_
        refine lv_iload hx hb dX0_bid_57 (lv_at hl 4 rfl) ?_
        refine sh_N hx hb dX0_bid_59 (by omega) ?_
        refine or_N hx hb dX0_bid_60 ?_
        refine pf0_0 (w' := w0 h d (P ||| (2 ^ i)) B K A S kn be on wi) hx hb hts hown hK hP hD hS rfl rfl rfl (Nat.le_of_ble_eq_true rfl) rfl dX0_bid_61 (fun H locs hP hD hS => ?_)
        refine lv_aload_n hx hb dX0_bid_64 rfl (lv_at hl 0 rfl) ?_
        refine gf0_1 hx hb hts hown hK hP rfl rfl dX0_bid_65 ?_
        refine lv_iload hx hb dX0_bid_68 (lv_at hl 4 rfl) ?_
        refine lv_iload_n hx hb dX0_bid_70 rfl (lv_at hl 1 rfl) ?_
        refine lv_i2s (v := nI bu) hx hb dX0_bid_71 (nI_short _ (by omega)) ?_
        refine st_s (g := aN (uN B i bu)) (w' := w0 h d (P ||| (2 ^ i)) (uN B i bu) K A S kn be on wi) hx hb hK hP hD hS 1 0 rfl rfl (by omega) (by decide) (by rw [nI_vs _ (by omega)]; exact aN_u _ _ _) rfl dX0_bid_72 (fun H locs hP hD hS => ?_)
        refine lv_aload_n hx hb dX0_bid_73 rfl (lv_at hl 0 rfl) ?_
        refine gf0_2 hx hb hts hown hK hP rfl rfl dX0_bid_74 ?_
        refine lv_iload hx hb dX0_bid_77 (lv_at hl 4 rfl) ?_
        refine lv_iload_n hx hb dX0_bid_79 rfl (lv_at hl 2 rfl) ?_
        refine lv_i2b (v := nI k) hx hb dX0_bid_80 (nI_byte _ (by omega)) ?_
        refine st_b (g := aN (uN K i k)) (w' := w0 h d (P ||| (2 ^ i)) (uN B i bu) (uN K i k) A S kn be on wi) hx hb hK hP hD hS 2 1 rfl rfl (by omega) (by decide) (by rw [nI_vb _ (by omega)]; exact aN_u _ _ _) rfl dX0_bid_81 (fun H locs hP hD hS => ?_)
        refine lv_aload_n hx hb dX0_bid_82 rfl (lv_at hl 0 rfl) ?_
        refine gf0_3 hx hb hts hown hK hP rfl rfl dX0_bid_83 ?_
        refine lv_iload hx hb dX0_bid_86 (lv_at hl 4 rfl) ?_
        refine lv_iload_n hx hb dX0_bid_88 rfl (lv_at hl 3 rfl) ?_
        refine lv_i2b (v := nI a) hx hb dX0_bid_89 (nI_byte _ (by omega)) ?_
        refine st_b (g := aN (uN A i a)) (w' := w0 h d (P ||| (2 ^ i)) (uN B i bu) (uN K i k) (uN A i a) S kn be on wi) hx hb hK hP hD hS 3 2 rfl rfl (by omega) (by decide) (by rw [nI_vb _ (by omega)]; exact aN_u _ _ _) rfl dX0_bid_90 (fun H locs hP hD hS => ?_)
        refine lv_aload_n hx hb dX0_bid_91 rfl (lv_at hl 0 rfl) ?_
        refine lv_iconst (v := nI 0) hx hb dX0_bid_92 (by decide +kernel) ?_
        refine pf0_5 (w' := w0 h d (P ||| (2 ^ i)) (uN B i bu) (uN K i k) (uN A i a) S false be on wi) hx hb hts hown hK hP hD hS rfl rfl rfl (Nat.le_of_ble_eq_true rfl) rfl dX0_bid_93 (fun H locs hP hD hS => ?_)
        refine lv_iload hx hb dX0_bid_96 (lv_at hl 4 rfl) ?_
        exact wr_iret hx hb hr hlk hS (()) hP (rfl) dX0_bid_98
  exact lp35 8 0 (by omega) _ _ ls (hfr) hP hD hS (lv_sub hl [1, 2, 3, 4, 0] rfl)
set_option maxHeartbeats 1000000 in
set_option maxRecDepth 100000 in
/-- retract: no such bid -/
theorem mX0_retract_no {l : Launch} {D : va_G} {h : Nat → Nat} {d : Nat → ClassId} {P : Nat} {B K A : Nat → Nat} {S : Nat} {kn : Bool} {be on : Nat → Int32} {wi : Int32} {x : Int32} (hP8 : P < 256) (hn : hasb P x = false) : RoMet l yX0_retract cX0_retract 2 (some .boolean) 1 21 D (w0 h d P B K A S kn be on wi) (t0 d) [.ref (h 0), .int (x)] (bI false) := by
  refine ro_of (lv := [(0, .ref (h 0)), (1, .int (x))]) (by decide) (Nat.le_of_ble_eq_true rfl) rfl ?_
  intro p e s m below meth c hx hb hr hml hown hts hlk hP hK ls hl
  have hown : s.vm.findClass RX0 = some m.cls := hown
  refine lv_aload_n hx hb dX0_retract_0 rfl (lv_at hl 0 rfl) ?_
  refine lv_iload_n hx hb dX0_retract_1 rfl (lv_at hl 1 rfl) ?_
  refine ro_V (ci := 0) (q0 := 0) (rest := []) ⟨hx, hb, hml, hown, hts⟩ (mX0_has hP8) gX0_has hdX0_has ⟨Nat.le_of_ble_eq_true rfl, Nat.le_of_ble_eq_true rfl⟩ hK hP rfl rfl rfl rfl hl.1 rfl (Nat.le_of_ble_eq_true rfl) dX0_retract_2 ⟨Nat.le_of_ble_eq_true rfl, Nat.le_of_ble_eq_true rfl⟩ ?_
  refine if_neB (tgt := 10) hx hb dX0_retract_5 (by decide) (fun c5 => absurd c5 (by rw [hn]; decide)) (fun c5 => ?_)
  refine lv_iconst (v := nI 0) hx hb dX0_retract_8 (by decide +kernel) ?_
  exact ro_zret hx hb hr hlk (rfl) (false) rfl dX0_retract_9
set_option maxHeartbeats 1000000 in
set_option maxRecDepth 100000 in
/-- retract bid j -/
theorem mX0_retract_ok {l : Launch} {D : va_G} {h : Nat → Nat} {d : Nat → ClassId} {P : Nat} {B K A : Nat → Nat} {S : Nat} {kn : Bool} {be on : Nat → Int32} {wi : Int32} {j : Nat} (hP8 : P < 256) (hj : j < 8) (hj1 : P.testBit j = true) : WrMet (U := Unit) l yX0_retract cX0_retract 2 (some .boolean) 1 21 D (w0 h d P B K A S kn be on wi) (t0 d) (as0 h) [.ref (h 0), .int (nI j)] (fun r (_ : Unit) => r = bI true) (fun _ => w0 h d (nd P (2 ^ j)) B K A S false be on wi) := by
  refine wr_of (lv := [(0, .ref (h 0)), (1, .int (nI j))]) (by decide) (Nat.le_of_ble_eq_true rfl) rfl ?_
  intro p e s m below meth c hx hb hr hml hown hts hlk hK hP hD hS ls hl
  have hown : s.vm.findClass RX0 = some m.cls := hown
  refine lv_aload_n hx hb dX0_retract_0 rfl (lv_at hl 0 rfl) ?_
  refine lv_iload_n hx hb dX0_retract_1 rfl (lv_at hl 1 rfl) ?_
  refine ro_V (ci := 0) (q0 := 0) (rest := []) ⟨hx, hb, hml, hown, hts⟩ (mX0_hasj hP8 hj) gX0_has hdX0_has ⟨Nat.le_of_ble_eq_true rfl, Nat.le_of_ble_eq_true rfl⟩ hK hP rfl rfl rfl rfl hl.1 rfl (Nat.le_of_ble_eq_true rfl) dX0_retract_2 ⟨Nat.le_of_ble_eq_true rfl, Nat.le_of_ble_eq_true rfl⟩ ?_
  refine if_neB (tgt := 10) hx hb dX0_retract_5 (by decide) (fun c5 => ?_) (fun c5 => absurd c5 (by rw [hj1]; decide))
  refine lv_aload_n hx hb dX0_retract_10 rfl (lv_at hl 0 rfl) ?_
  refine lv_dup hx hb dX0_retract_11 rfl ?_
  refine gf0_0 hx hb hts hown hK hP rfl rfl dX0_retract_12 ?_
  refine lv_iconst (v := nI 1) hx hb dX0_retract_15 (by decide +kernel) ?_
  refine lv_iload_n hx hb dX0_retract_16 rfl (lv_at hl 1 rfl) ?_
  refine sh_N hx hb dX0_retract_17 (by omega) ?_
  refine lv_iconst (v := -1) hx hb dX0_retract_18 (by decide +kernel) ?_
  refine lv_ixor hx hb dX0_retract_19 ?_
  refine nd_N hx hb dX0_retract_20 ?_
  refine pf0_0 (w' := w0 h d (nd P (2 ^ j)) B K A S kn be on wi) hx hb hts hown hK hP hD hS rfl rfl rfl (Nat.le_of_ble_eq_true rfl) rfl dX0_retract_21 (fun H locs hP hD hS => ?_)
  refine lv_aload_n hx hb dX0_retract_24 rfl (lv_at hl 0 rfl) ?_
  refine lv_iconst (v := nI 0) hx hb dX0_retract_25 (by decide +kernel) ?_
  refine pf0_5 (w' := w0 h d (nd P (2 ^ j)) B K A S false be on wi) hx hb hts hown hK hP hD hS rfl rfl rfl (Nat.le_of_ble_eq_true rfl) rfl dX0_retract_26 (fun H locs hP hD hS => ?_)
  refine lv_iconst (v := nI 1) hx hb dX0_retract_29 (by decide +kernel) ?_
  exact wr_zret hx hb hr hlk hS (()) hP (rfl) (true) rfl dX0_retract_30
set_option maxHeartbeats 1000000 in
set_option maxRecDepth 100000 in
/-- raise: no such bid, or a bad amount -/
theorem mX0_raise_no {l : Launch} {D : va_G} {h : Nat → Nat} {d : Nat → ClassId} {P : Nat} {B K A : Nat → Nat} {S : Nat} {kn : Bool} {be on : Nat → Int32} {wi : Int32} {x z : Int32} (hP8 : P < 256) (hn : ¬ (hasb P x = true ∧ ¬ z < nI 1 ∧ z ≤ nI 50)) : RoMet l yX0_raise cX0_raise 3 (some .boolean) 1 21 D (w0 h d P B K A S kn be on wi) (t0 d) [.ref (h 0), .int (x), .int (z)] (bI false) := by
  refine ro_of (lv := [(0, .ref (h 0)), (1, .int (x)), (2, .int (z))]) (by decide) (Nat.le_of_ble_eq_true rfl) rfl ?_
  intro p e s m below meth c hx hb hr hml hown hts hlk hP hK ls hl
  have hown : s.vm.findClass RX0 = some m.cls := hown
  refine lv_aload_n hx hb dX0_raise_0 rfl (lv_at hl 0 rfl) ?_
  refine lv_iload_n hx hb dX0_raise_1 rfl (lv_at hl 1 rfl) ?_
  refine ro_V (ci := 0) (q0 := 0) (rest := []) ⟨hx, hb, hml, hown, hts⟩ (mX0_has hP8) gX0_has hdX0_has ⟨Nat.le_of_ble_eq_true rfl, Nat.le_of_ble_eq_true rfl⟩ hK hP rfl rfl rfl rfl hl.1 rfl (Nat.le_of_ble_eq_true rfl) dX0_raise_2 ⟨Nat.le_of_ble_eq_true rfl, Nat.le_of_ble_eq_true rfl⟩ ?_
  refine if_eqB (tgt := 19) hx hb dX0_raise_5 (by decide) (fun c5 => ?_) (fun c5 => ?_)
  · refine lv_iconst (v := nI 0) hx hb dX0_raise_19 (by decide +kernel) ?_
    exact ro_zret hx hb hr hlk (rfl) (false) rfl dX0_raise_20
  · refine lv_iload_n hx hb dX0_raise_8 rfl (lv_at hl 2 rfl) ?_
    refine lv_iconst (v := nI 1) hx hb dX0_raise_9 (by decide +kernel) ?_
    refine lv_icmp_lt (tgt := 19) hx hb dX0_raise_10 (by decide) (fun c10 => ?_) (fun c10 => ?_)
    · refine lv_iconst (v := nI 0) hx hb dX0_raise_19 (by decide +kernel) ?_
      exact ro_zret hx hb hr hlk (rfl) (false) rfl dX0_raise_20
    · refine lv_iload_n hx hb dX0_raise_13 rfl (lv_at hl 2 rfl) ?_
      refine lv_bipush (v := nI 50) hx hb dX0_raise_14 (by decide +kernel) ?_
      refine lv_icmp_le (tgt := 21) hx hb dX0_raise_16 (by decide) (fun c16 => ?_) (fun c16 => ?_)
      · exact absurd ⟨c5, c10, c16⟩ hn
      · refine lv_iconst (v := nI 0) hx hb dX0_raise_19 (by decide +kernel) ?_
        exact ro_zret hx hb hr hlk (rfl) (false) rfl dX0_raise_20
set_option maxHeartbeats 1000000 in
set_option maxRecDepth 100000 in
/-- raise bid j to a -/
theorem mX0_raise_ok {l : Launch} {D : va_G} {h : Nat → Nat} {d : Nat → ClassId} {P : Nat} {B K A : Nat → Nat} {S : Nat} {kn : Bool} {be on : Nat → Int32} {wi : Int32} {j a : Nat} (hP8 : P < 256) (hj : j < 8) (hj1 : P.testBit j = true) (ha1 : 1 ≤ a) (ha2 : a ≤ 50) : WrMet (U := Unit) l yX0_raise cX0_raise 3 (some .boolean) 1 21 D (w0 h d P B K A S kn be on wi) (t0 d) (as0 h) [.ref (h 0), .int (nI j), .int (nI a)] (fun r (_ : Unit) => r = bI true) (fun _ => w0 h d P B K (uN A j a) S false be on wi) := by
  refine wr_of (lv := [(0, .ref (h 0)), (1, .int (nI j)), (2, .int (nI a))]) (by decide) (Nat.le_of_ble_eq_true rfl) rfl ?_
  intro p e s m below meth c hx hb hr hml hown hts hlk hK hP hD hS ls hl
  have hown : s.vm.findClass RX0 = some m.cls := hown
  refine lv_aload_n hx hb dX0_raise_0 rfl (lv_at hl 0 rfl) ?_
  refine lv_iload_n hx hb dX0_raise_1 rfl (lv_at hl 1 rfl) ?_
  refine ro_V (ci := 0) (q0 := 0) (rest := []) ⟨hx, hb, hml, hown, hts⟩ (mX0_hasj hP8 hj) gX0_has hdX0_has ⟨Nat.le_of_ble_eq_true rfl, Nat.le_of_ble_eq_true rfl⟩ hK hP rfl rfl rfl rfl hl.1 rfl (Nat.le_of_ble_eq_true rfl) dX0_raise_2 ⟨Nat.le_of_ble_eq_true rfl, Nat.le_of_ble_eq_true rfl⟩ ?_
  refine if_eqB (tgt := 19) hx hb dX0_raise_5 (by decide) (fun c5 => absurd c5 (by rw [hj1]; decide)) (fun c5 => ?_)
  refine lv_iload_n hx hb dX0_raise_8 rfl (lv_at hl 2 rfl) ?_
  refine lv_iconst (v := nI 1) hx hb dX0_raise_9 (by decide +kernel) ?_
  refine ic_lt (tgt := 19) hx hb dX0_raise_10 (by decide) (by omega) (by omega) (fun c10 => absurd c10 (by omega)) (fun c10 => ?_)
  refine lv_iload_n hx hb dX0_raise_13 rfl (lv_at hl 2 rfl) ?_
  refine lv_bipush (v := nI 50) hx hb dX0_raise_14 (by decide +kernel) ?_
  refine ic_le (tgt := 21) hx hb dX0_raise_16 (by decide) (by omega) (by omega) (fun c16 => ?_) (fun c16 => absurd c16 (by omega))
  refine lv_aload_n hx hb dX0_raise_21 rfl (lv_at hl 0 rfl) ?_
  refine gf0_3 hx hb hts hown hK hP rfl rfl dX0_raise_22 ?_
  refine lv_iload_n hx hb dX0_raise_25 rfl (lv_at hl 1 rfl) ?_
  refine lv_iload_n hx hb dX0_raise_26 rfl (lv_at hl 2 rfl) ?_
  refine lv_i2b (v := nI a) hx hb dX0_raise_27 (nI_byte _ (by omega)) ?_
  refine st_b (g := aN (uN A j a)) (w' := w0 h d P B K (uN A j a) S kn be on wi) hx hb hK hP hD hS 3 2 rfl rfl (by omega) (by decide) (by rw [nI_vb _ (by omega)]; exact aN_u _ _ _) rfl dX0_raise_28 (fun H locs hP hD hS => ?_)
  refine lv_aload_n hx hb dX0_raise_29 rfl (lv_at hl 0 rfl) ?_
  refine lv_iconst (v := nI 0) hx hb dX0_raise_30 (by decide +kernel) ?_
  refine pf0_5 (w' := w0 h d P B K (uN A j a) S false be on wi) hx hb hts hown hK hP hD hS rfl rfl rfl (Nat.le_of_ble_eq_true rfl) rfl dX0_raise_31 (fun H locs hP hD hS => ?_)
  refine lv_iconst (v := nI 1) hx hb dX0_raise_34 (by decide +kernel) ?_
  exact wr_zret hx hb hr hlk hS (()) hP (rfl) (true) rfl dX0_raise_35
set_option maxHeartbeats 1000000 in
set_option maxRecDepth 100000 in
/-- withhold: no such item -/
theorem mX0_withhold_no {l : Launch} {D : va_G} {h : Nat → Nat} {d : Nat → ClassId} {P : Nat} {B K A : Nat → Nat} {S : Nat} {kn : Bool} {be on : Nat → Int32} {wi : Int32} {x y : Int32} (hn : inr 8 x = false) : RoMet l yX0_withhold cX0_withhold 3 (some .boolean) 0 0 D (w0 h d P B K A S kn be on wi) (t0 d) [.ref (h 0), .int (x), .int (y)] (bI false) := by
  refine ro_of (lv := [(0, .ref (h 0)), (1, .int (x)), (2, .int (y))]) (by decide) (Nat.le_of_ble_eq_true rfl) rfl ?_
  intro p e s m below meth c hx hb hr hml hown hts hlk hP hK ls hl
  have hown : s.vm.findClass RX0 = some m.cls := hown
  refine lv_iload_n hx hb dX0_withhold_0 rfl (lv_at hl 1 rfl) ?_
  refine lv_if_lt (tgt := 10) hx hb dX0_withhold_1 (by decide) (fun c1 => ?_) (fun c1 => ?_)
  · refine lv_iconst (v := nI 0) hx hb dX0_withhold_10 (by decide +kernel) ?_
    exact ro_zret hx hb hr hlk (rfl) (false) rfl dX0_withhold_11
  · refine lv_iload_n hx hb dX0_withhold_4 rfl (lv_at hl 1 rfl) ?_
    refine lv_bipush (v := nI 8) hx hb dX0_withhold_5 (by decide +kernel) ?_
    refine lv_icmp_lt (tgt := 12) hx hb dX0_withhold_7 (by decide) (fun c7 => ?_) (fun c7 => ?_)
    · exact absurd (inr_t (n := 8) c1 (fun z => (Int32.not_lt.mpr z) c7)) (by rw [hn]; decide)
    · refine lv_iconst (v := nI 0) hx hb dX0_withhold_10 (by decide +kernel) ?_
      exact ro_zret hx hb hr hlk (rfl) (false) rfl dX0_withhold_11
set_option maxHeartbeats 1000000 in
set_option maxRecDepth 100000 in
/-- withhold item j: on -/
theorem mX0_withhold_on {l : Launch} {D : va_G} {h : Nat → Nat} {d : Nat → ClassId} {P : Nat} {B K A : Nat → Nat} {S : Nat} {kn : Bool} {be on : Nat → Int32} {wi : Int32} {j : Nat} (hS8 : S < 256) (hj : j < 8) : WrMet (U := Unit) l yX0_withhold cX0_withhold 3 (some .boolean) 0 0 D (w0 h d P B K A S kn be on wi) (t0 d) (as0 h) [.ref (h 0), .int (nI j), .int (nI 1)] (fun r (_ : Unit) => r = bI true) (fun _ => w0 h d P B K A (S ||| 2 ^ j) false be on wi) := by
  refine wr_of (lv := [(0, .ref (h 0)), (1, .int (nI j)), (2, .int (nI 1))]) (by decide) (Nat.le_of_ble_eq_true rfl) rfl ?_
  intro p e s m below meth c hx hb hr hml hown hts hlk hK hP hD hS ls hl
  have hown : s.vm.findClass RX0 = some m.cls := hown
  refine lv_iload_n hx hb dX0_withhold_0 rfl (lv_at hl 1 rfl) ?_
  refine if_ltN (tgt := 10) hx hb dX0_withhold_1 (by decide) (by omega) ?_
  refine lv_iload_n hx hb dX0_withhold_4 rfl (lv_at hl 1 rfl) ?_
  refine lv_bipush (v := nI 8) hx hb dX0_withhold_5 (by decide +kernel) ?_
  refine ic_lt (tgt := 12) hx hb dX0_withhold_7 (by decide) (by omega) (by omega) (fun c7 => ?_) (fun c7 => absurd c7 (by omega))
  refine lv_aload_n hx hb dX0_withhold_12 rfl (lv_at hl 0 rfl) ?_
  refine lv_iload_n hx hb dX0_withhold_13 rfl (lv_at hl 2 rfl) ?_
  refine if_eqN (tgt := 28) hx hb dX0_withhold_14 (by decide) (by omega) (fun c14 => absurd c14 (by decide)) (fun c14 => ?_)
  refine lv_aload_n hx hb dX0_withhold_17 rfl (lv_at hl 0 rfl) ?_
  refine gf0_4 hx hb hts hown hK hP rfl rfl dX0_withhold_18 ?_
  refine lv_iconst (v := nI 1) hx hb dX0_withhold_21 (by decide +kernel) ?_
  refine lv_iload_n hx hb dX0_withhold_22 rfl (lv_at hl 1 rfl) ?_
  refine sh_N hx hb dX0_withhold_23 (by omega) ?_
  refine or_N hx hb dX0_withhold_24 ?_
  refine lv_goto (tgt := 38) hx hb dX0_withhold_25 (by decide) ?_
  refine pf0_4 (w' := w0 h d P B K A (S ||| (2 ^ j)) kn be on wi) hx hb hts hown hK hP hD hS rfl rfl rfl (Nat.le_of_ble_eq_true rfl) rfl dX0_withhold_38 (fun H locs hP hD hS => ?_)
  refine lv_aload_n hx hb dX0_withhold_41 rfl (lv_at hl 0 rfl) ?_
  refine lv_iconst (v := nI 0) hx hb dX0_withhold_42 (by decide +kernel) ?_
  refine pf0_5 (w' := w0 h d P B K A (S ||| (2 ^ j)) false be on wi) hx hb hts hown hK hP hD hS rfl rfl rfl (Nat.le_of_ble_eq_true rfl) rfl dX0_withhold_43 (fun H locs hP hD hS => ?_)
  refine lv_iconst (v := nI 1) hx hb dX0_withhold_46 (by decide +kernel) ?_
  exact wr_zret hx hb hr hlk hS (()) hP (rfl) (true) rfl dX0_withhold_47
set_option maxHeartbeats 1000000 in
set_option maxRecDepth 100000 in
/-- withhold item j: off -/
theorem mX0_withhold_off {l : Launch} {D : va_G} {h : Nat → Nat} {d : Nat → ClassId} {P : Nat} {B K A : Nat → Nat} {S : Nat} {kn : Bool} {be on : Nat → Int32} {wi : Int32} {j : Nat} (hS8 : S < 256) (hj : j < 8) : WrMet (U := Unit) l yX0_withhold cX0_withhold 3 (some .boolean) 0 0 D (w0 h d P B K A S kn be on wi) (t0 d) (as0 h) [.ref (h 0), .int (nI j), .int (nI 0)] (fun r (_ : Unit) => r = bI true) (fun _ => w0 h d P B K A (nd S (2 ^ j)) false be on wi) := by
  refine wr_of (lv := [(0, .ref (h 0)), (1, .int (nI j)), (2, .int (nI 0))]) (by decide) (Nat.le_of_ble_eq_true rfl) rfl ?_
  intro p e s m below meth c hx hb hr hml hown hts hlk hK hP hD hS ls hl
  have hown : s.vm.findClass RX0 = some m.cls := hown
  refine lv_iload_n hx hb dX0_withhold_0 rfl (lv_at hl 1 rfl) ?_
  refine if_ltN (tgt := 10) hx hb dX0_withhold_1 (by decide) (by omega) ?_
  refine lv_iload_n hx hb dX0_withhold_4 rfl (lv_at hl 1 rfl) ?_
  refine lv_bipush (v := nI 8) hx hb dX0_withhold_5 (by decide +kernel) ?_
  refine ic_lt (tgt := 12) hx hb dX0_withhold_7 (by decide) (by omega) (by omega) (fun c7 => ?_) (fun c7 => absurd c7 (by omega))
  refine lv_aload_n hx hb dX0_withhold_12 rfl (lv_at hl 0 rfl) ?_
  refine lv_iload_n hx hb dX0_withhold_13 rfl (lv_at hl 2 rfl) ?_
  refine if_eqN (tgt := 28) hx hb dX0_withhold_14 (by decide) (by omega) (fun c14 => ?_) (fun c14 => absurd c14 (by decide))
  refine lv_aload_n hx hb dX0_withhold_28 rfl (lv_at hl 0 rfl) ?_
  refine gf0_4 hx hb hts hown hK hP rfl rfl dX0_withhold_29 ?_
  refine lv_iconst (v := nI 1) hx hb dX0_withhold_32 (by decide +kernel) ?_
  refine lv_iload_n hx hb dX0_withhold_33 rfl (lv_at hl 1 rfl) ?_
  refine sh_N hx hb dX0_withhold_34 (by omega) ?_
  refine lv_iconst (v := -1) hx hb dX0_withhold_35 (by decide +kernel) ?_
  refine lv_ixor hx hb dX0_withhold_36 ?_
  refine nd_N hx hb dX0_withhold_37 ?_
  refine pf0_4 (w' := w0 h d P B K A (nd S (2 ^ j)) kn be on wi) hx hb hts hown hK hP hD hS rfl rfl rfl (Nat.le_of_ble_eq_true rfl) rfl dX0_withhold_38 (fun H locs hP hD hS => ?_)
  refine lv_aload_n hx hb dX0_withhold_41 rfl (lv_at hl 0 rfl) ?_
  refine lv_iconst (v := nI 0) hx hb dX0_withhold_42 (by decide +kernel) ?_
  refine pf0_5 (w' := w0 h d P B K A (nd S (2 ^ j)) false be on wi) hx hb hts hown hK hP hD hS rfl rfl rfl (Nat.le_of_ble_eq_true rfl) rfl dX0_withhold_43 (fun H locs hP hD hS => ?_)
  refine lv_iconst (v := nI 1) hx hb dX0_withhold_46 (by decide +kernel) ?_
  exact wr_zret hx hb hr hlk hS (()) hP (rfl) (true) rfl dX0_withhold_47
end
section
set_option maxRecDepth 100000
theorem lrn7 {P : Nat} {B K A : Nat → Nat} {be on : Nat → Int32} (hz : ∀ q, q < 256 → be q = nI 0 ∧ on (1024 + q) = nI 0) : ∀ k1 q, k1 ≤ 0 → q < 256 → be (k1 * 256 + q) = nI (Fb P B K A k1 q) := by
  intro k1 q hk hq
  obtain rfl : k1 = 0 := by omega
  rw [Nat.zero_mul, Nat.zero_add]
  exact (hz q hq).1
theorem lrn8 {P : Nat} {B K A : Nat → Nat} {on : Nat → Int32} (ho : ∀ q, q < 256 → on (1024 + q) = nI 0) : ∀ k1 q, 4 ≤ k1 → k1 ≤ 4 → q < 256 → on (k1 * 256 + q) = nI (Fo P B K A k1 q) := by
  intro k1 q h4 h5 hq
  obtain rfl : k1 = 4 := by omega
  exact ho q hq
def Tab (P : Nat) (B K A : Nat → Nat) (be on : Nat → Int32) : Prop := (∀ k q, k ≤ 4 → q < 256 → be (k * 256 + q) = nI (Fb P B K A k q)) ∧ ∀ k q, k ≤ 4 → q < 256 → on (k * 256 + q) = nI (Fo P B K A k q)
/-- what is known holds -/
def KS (P : Nat) (B K A : Nat → Nat) (S : Nat) (kn : Bool) (be on : Nat → Int32) (wi : Int32) : Prop := kn = true → Tab P B K A be on ∧ wi = nI (WN P B K A S)
theorem lrn1 {be on : Nat → Int32} {i : Nat} (h : ∀ q, q < i → be q = nI 0 ∧ on (1024 + q) = nI 0) : ∀ q, q < i + 1 → upd be i (nI 0) q = nI 0 ∧ upd on (1024 + i) (nI 0) (1024 + q) = nI 0 := by
  intro q hq
  by_cases e : q = i
  · subst e
    exact ⟨pk_us, pk_us⟩
  · rw [pk_un e, pk_un (by omega)]
    exact h q (by omega)
theorem lrn2 {F : Nat → Nat → Nat} {be : Nat → Int32} {k i : Nat} (h1 : ∀ k1 q, k1 ≤ k → q < 256 → be (k1 * 256 + q) = nI (F k1 q)) (hi : i < 256) (v : Int32) : ∀ k1 q, k1 ≤ k → q < 256 → upd be ((k + 1) * 256 + i) v (k1 * 256 + q) = nI (F k1 q) := by
  intro k1 q hk hq
  rw [pk_un (by omega)]
  exact h1 k1 q hk hq
theorem lrn3 {F : Nat → Nat} {be : Nat → Int32} {c i : Nat} (h : ∀ q, q < i → be (c + q) = nI (F q)) : ∀ q, q < i + 1 → upd be (c + i) (nI (F i)) (c + q) = nI (F q) := by
  intro q hq
  by_cases e : q = i
  · subst e
    exact pk_us
  · rw [pk_un (by omega)]
    exact h q (by omega)
theorem lrn4 {F : Nat → Nat → Nat} {be : Nat → Int32} {k : Nat} (h1 : ∀ k1 q, k1 ≤ k → q < 256 → be (k1 * 256 + q) = nI (F k1 q)) (h2 : ∀ q, q < 256 → be ((k + 1) * 256 + q) = nI (F (k + 1) q)) : ∀ k1 q, k1 ≤ k + 1 → q < 256 → be (k1 * 256 + q) = nI (F k1 q) := by
  intro k1 q hk hq
  by_cases e : k1 = k + 1
  · subst e
    exact h2 q hq
  · exact h1 k1 q (by omega) hq
theorem lrn5 {F : Nat → Nat → Nat} {on : Nat → Int32} {k i : Nat} (h1 : ∀ k1 q, k + 1 ≤ k1 → k1 ≤ 4 → q < 256 → on (k1 * 256 + q) = nI (F k1 q)) (hi : i < 256) (v : Int32) : ∀ k1 q, k + 1 ≤ k1 → k1 ≤ 4 → q < 256 → upd on (k * 256 + i) v (k1 * 256 + q) = nI (F k1 q) := by
  intro k1 q hk hk4 hq
  rw [pk_un (by omega)]
  exact h1 k1 q hk hk4 hq
theorem lrn6 {F : Nat → Nat → Nat} {on : Nat → Int32} {k : Nat} (h1 : ∀ k1 q, k + 1 ≤ k1 → k1 ≤ 4 → q < 256 → on (k1 * 256 + q) = nI (F k1 q)) (h2 : ∀ q, q < 256 → on (k * 256 + q) = nI (F k q)) : ∀ k1 q, k ≤ k1 → k1 ≤ 4 → q < 256 → on (k1 * 256 + q) = nI (F k1 q) := by
  intro k1 q hk hk4 hq
  by_cases e : k1 = k
  · subst e
    exact h2 q hq
  · exact h1 k1 q (by omega) hk4 hq
set_option maxHeartbeats 1000000 in
set_option maxRecDepth 100000 in
/-- learn(): the tables and the winners -/
theorem mX0_learn {l : Launch} {D : va_G} {h : Nat → Nat} {d : Nat → ClassId} {P : Nat} {B K A : Nat → Nat} {S : Nat} {kn : Bool} {be on : Nat → Int32} {wi : Int32}  (hP8 : P < 256) (hB8 : ∀ b, B b < 256) (hK4 : ∀ b, K b < 4) (hA50 : ∀ b, A b ≤ 50) (hks : KS P B K A S kn be on wi) : WvMet (U := (Nat → Int32) × (Nat → Int32)) l yX0_learn cX0_learn 3 4 90 D (w0 h d P B K A S kn be on wi) (t0 d) (as0 h) [.ref (h 0)] (fun u => Tab P B K A u.1 u.2) (fun u => w0 h d P B K A S true u.1 u.2 (nI (WN P B K A S))) := by
  refine wv_of (lv := [(0, .ref (h 0))]) (by decide) (Nat.le_of_ble_eq_true rfl) rfl ?_
  intro p e s m below meth c hx hb hr hml hown hts hlk hK hP hD hS ls hl
  have hown : s.vm.findClass RX0 = some m.cls := hown
  refine lv_aload_n hx hb dX0_learn_0 rfl (lv_at hl 0 rfl) ?_
  refine gf0_5 hx hb hts hown hK hP rfl rfl dX0_learn_1 ?_
  refine if_eqB (tgt := 8) hx hb dX0_learn_4 (by decide) (fun c4 => ?_) (fun c4 => ?_)
  · refine lv_aload_n hx hb dX0_learn_8 rfl (lv_at hl 0 rfl) ?_
    refine lv_iconst (v := nI 1) hx hb dX0_learn_9 (by decide +kernel) ?_
    refine pf0_5 (w' := w0 h d P B K A S true be on wi) hx hb hts hown hK hP hD hS rfl rfl rfl (Nat.le_of_ble_eq_true rfl) rfl dX0_learn_10 (fun H locs hP hD hS => ?_)
    refine lv_iconst (v := nI 0) hx hb dX0_learn_13 (by decide +kernel) ?_
    refine lv_istore_n (lv' := [(1, .int (nI 0)), (0, .ref (h 0))]) hx hb dX0_learn_14 rfl hl (by decide) rfl (fun ls hl => ?_)
    have lp15 : ∀ n i : Nat, i + n = 256 → ∀ (be1 on1 : Nat → Int32) (H : Heap) (locs : List Loc) (ls : Array Slot), (∀ q, q < i → be1 q = nI 0 ∧ on1 (1024 + q) = nI 0) → va_P D vwCl (w0 h d P B K A S true be1 on1 wi) H → va_D (fun q => q ∈ (as0 h)) (w0 h d P B K A S true be1 on1 wi) → va_S (fun q => q ∈ (as0 h)) s.heap H locs → lv_has ls 3 [(0, .ref (h 0)), (1, .int (nI i))] → WV (U := (Nat → Int32) × (Nat → Int32)) p l e s m below meth c 4 90 D (as0 h) [.ref (h 0)] (fun u => Tab P B K A u.1 u.2) (fun u => w0 h d P B K A S true u.1 u.2 (nI (WN P B K A S))) H locs 15 ls [] := by
      intro n
      induction n with
      | zero =>
        intro i hi be1 on1 H locs ls hz hP hD hS hl
        have hi : i = 256 := by omega
        subst hi
        refine lv_iload_n hx hb dX0_learn_15 rfl (lv_at hl 1 rfl) ?_
        refine lv_sipush (v := nI 256) hx hb dX0_learn_16 (by decide +kernel) ?_
        refine ic_ge (tgt := 46) hx hb dX0_learn_19 (by decide) (by omega) (by omega) (fun c19 => ?_) (fun c19 => absurd c19 (by omega))
        refine lv_iconst (v := nI 0) hx hb dX0_learn_46 (by decide +kernel) ?_
        refine lv_istore_n (lv' := [(1, .int (nI 0)), (0, .ref (h 0))]) hx hb dX0_learn_47 rfl hl (by decide) rfl (fun ls hl => ?_)
        have lp48 : ∀ n k : Nat, k + n = 4 → ∀ (be2 on2 : Nat → Int32) (H : Heap) (locs : List Loc) (ls : Array Slot), (∀ k1 q, k1 ≤ k → q < 256 → be2 (k1 * 256 + q) = nI (Fb P B K A k1 q)) → (∀ q, q < 256 → on2 (1024 + q) = nI 0) → va_P D vwCl (w0 h d P B K A S true be2 on2 wi) H → va_D (fun q => q ∈ (as0 h)) (w0 h d P B K A S true be2 on2 wi) → va_S (fun q => q ∈ (as0 h)) s.heap H locs → lv_has ls 3 [(0, .ref (h 0)), (1, .int (nI k))] → WV (U := (Nat → Int32) × (Nat → Int32)) p l e s m below meth c 4 90 D (as0 h) [.ref (h 0)] (fun u => Tab P B K A u.1 u.2) (fun u => w0 h d P B K A S true u.1 u.2 (nI (WN P B K A S))) H locs 48 ls [] := by
          intro n
          induction n with
          | zero =>
            intro k hi be2 on2 H locs ls hb2 ho2 hP hD hS hl
            have hi : k = 4 := by omega
            subst hi
            refine lv_iload_n hx hb dX0_learn_48 rfl (lv_at hl 1 rfl) ?_
            refine lv_iconst (v := nI 4) hx hb dX0_learn_49 (by decide +kernel) ?_
            refine ic_ge (tgt := 95) hx hb dX0_learn_50 (by decide) (by omega) (by omega) (fun c50 => ?_) (fun c50 => absurd c50 (by omega))
            refine lv_iconst (v := nI 3) hx hb dX0_learn_95 (by decide +kernel) ?_
            refine lv_istore_n (lv' := [(1, .int (nI 3)), (0, .ref (h 0))]) hx hb dX0_learn_96 rfl hl (by decide) rfl (fun ls hl => ?_)
            have lp97 : ∀ k : Nat, k ≤ 4 → ∀ (on3 : Nat → Int32) (H : Heap) (locs : List Loc) (ls : Array Slot), (∀ k1 q, k ≤ k1 → k1 ≤ 4 → q < 256 → on3 (k1 * 256 + q) = nI (Fo P B K A k1 q)) → va_P D vwCl (w0 h d P B K A S true be2 on3 wi) H → va_D (fun q => q ∈ (as0 h)) (w0 h d P B K A S true be2 on3 wi) → va_S (fun q => q ∈ (as0 h)) s.heap H locs → lv_has ls 3 [(0, .ref (h 0)), (1, .int (dn k))] → WV (U := (Nat → Int32) × (Nat → Int32)) p l e s m below meth c 4 90 D (as0 h) [.ref (h 0)] (fun u => Tab P B K A u.1 u.2) (fun u => w0 h d P B K A S true u.1 u.2 (nI (WN P B K A S))) H locs 97 ls [] := by
              intro k
              induction k with
              | zero =>
                intro hi on3 H locs ls ho3 hP hD hS hl
                have hl : lv_has ls 3 [(0, .ref (h 0)), (1, .int (-1))] := hl
                refine lv_iload_n hx hb dX0_learn_97 rfl (lv_at hl 1 rfl) ?_
                refine if_ltM (tgt := 141) hx hb dX0_learn_98 (by decide) ?_
                refine lv_aload_n hx hb dX0_learn_141 rfl (lv_at hl 0 rfl) ?_
                refine lv_aload_n hx hb dX0_learn_142 rfl (lv_at hl 0 rfl) ?_
                refine ro_V (ci := 0) (q0 := 0) (rest := [.ref (h 0)]) ⟨hx, hb, hml, hown, hts⟩ (mX0_findWinners hP8 hB8 hK4 hA50 (fun k q => hb2 k q)) gX0_findWinners hdX0_findWinners ⟨Nat.le_of_ble_eq_true rfl, Nat.le_of_ble_eq_true rfl⟩ hK hP rfl rfl rfl rfl hl.1 rfl (Nat.le_of_ble_eq_true rfl) dX0_learn_143 ⟨Nat.le_of_ble_eq_true rfl, Nat.le_of_ble_eq_true rfl⟩ ?_
                refine pf0_8 (w' := w0 h d P B K A S true be2 on3 (nI (WN P B K A S))) hx hb hts hown hK hP hD hS rfl rfl rfl (Nat.le_of_ble_eq_true rfl) rfl dX0_learn_146 (fun H locs hP hD hS => ?_)
                exact wv_ret hx hb hr hlk hS ((be2, on3)) hP (⟨fun k q => hb2 k q, fun k q hk => ho3 k q (Nat.zero_le _) hk⟩) dX0_learn_149
              | succ k ih =>
                intro hi on3 H locs ls ho3 hP hD hS hl
                have hl : lv_has ls 3 [(0, .ref (h 0)), (1, .int (nI k))] := hl
                refine lv_iload_n hx hb dX0_learn_97 rfl (lv_at hl 1 rfl) ?_
                refine if_ltN (tgt := 141) hx hb dX0_learn_98 (by decide) (by omega) ?_
                refine lv_iconst (v := nI 0) hx hb dX0_learn_101 (by decide +kernel) ?_
                refine lv_istore_n (lv' := [(2, .int (nI 0)), (0, .ref (h 0)), (1, .int (nI k))]) hx hb dX0_learn_102 rfl hl (by decide) rfl (fun ls hl => ?_)
                have lp103 : ∀ n i : Nat, i + n = 256 → ∀ (on4 : Nat → Int32) (H : Heap) (locs : List Loc) (ls : Array Slot), (∀ k1 q, k + 1 ≤ k1 → k1 ≤ 4 → q < 256 → on4 (k1 * 256 + q) = nI (Fo P B K A k1 q)) → (∀ q, q < i → on4 (k * 256 + q) = nI (Fo P B K A k q)) → va_P D vwCl (w0 h d P B K A S true be2 on4 wi) H → va_D (fun q => q ∈ (as0 h)) (w0 h d P B K A S true be2 on4 wi) → va_S (fun q => q ∈ (as0 h)) s.heap H locs → lv_has ls 3 [(0, .ref (h 0)), (1, .int (nI k)), (2, .int (nI i))] → WV (U := (Nat → Int32) × (Nat → Int32)) p l e s m below meth c 4 90 D (as0 h) [.ref (h 0)] (fun u => Tab P B K A u.1 u.2) (fun u => w0 h d P B K A S true u.1 u.2 (nI (WN P B K A S))) H locs 103 ls [] := by
                  intro n
                  induction n with
                  | zero =>
                    intro i hi on4 H locs ls ho4 ho5 hP hD hS hl
                    have hi : i = 256 := by omega
                    subst hi
                    refine lv_iload_n hx hb dX0_learn_103 rfl (lv_at hl 2 rfl) ?_
                    refine lv_sipush (v := nI 256) hx hb dX0_learn_104 (by decide +kernel) ?_
                    refine ic_ge (tgt := 135) hx hb dX0_learn_107 (by decide) (by omega) (by omega) (fun c107 => ?_) (fun c107 => absurd c107 (by omega))
                    refine lv_iinc (v := dn k) (lv' := [(1, .int (dn k)), (0, .ref (h 0)), (2, .int (nI 256))]) hx hb dX0_learn_135 hl (k := 1) rfl (dn_m k) (by decide) rfl (fun ls hl => ?_)
                    refine lv_goto (tgt := 97) hx hb dX0_learn_138 (by decide) ?_
                    exact ih (by omega) _ _ _ ls (lrn6 ho4 ho5) hP hD hS (lv_sub hl [1, 0] rfl)
                  | succ n ih =>
                    intro i hi on4 H locs ls ho4 ho5 hP hD hS hl
                    have hii : i < 256 := by omega
                    refine lv_iload_n hx hb dX0_learn_103 rfl (lv_at hl 2 rfl) ?_
                    refine lv_sipush (v := nI 256) hx hb dX0_learn_104 (by decide +kernel) ?_
                    refine ic_ge (tgt := 135) hx hb dX0_learn_107 (by decide) (by omega) (by omega) (fun c107 => absurd c107 (by omega)) (fun c107 => ?_)
                    refine lv_aload_n hx hb dX0_learn_110 rfl (lv_at hl 0 rfl) ?_
                    refine gf0_7 hx hb hts hown hK hP rfl rfl dX0_learn_111 ?_
                    refine lv_iload_n hx hb dX0_learn_114 rfl (lv_at hl 1 rfl) ?_
                    refine lv_sipush (v := nI 256) hx hb dX0_learn_115 (by decide +kernel) ?_
                    refine im_N hx hb dX0_learn_118 ?_
                    refine lv_iload_n hx hb dX0_learn_119 rfl (lv_at hl 2 rfl) ?_
                    refine ia_N hx hb dX0_learn_120 ?_
                    refine lv_aload_n hx hb dX0_learn_121 rfl (lv_at hl 0 rfl) ?_
                    refine lv_iload_n hx hb dX0_learn_122 rfl (lv_at hl 1 rfl) ?_
                    refine lv_iload_n hx hb dX0_learn_123 rfl (lv_at hl 2 rfl) ?_
                    refine lv_iconst (v := nI 0) hx hb dX0_learn_124 (by decide +kernel) ?_
                    refine ro_V (ci := 0) (q0 := 0) (rest := [.int (nI ((k * 256) + i)), .ref (h 5)]) ⟨hx, hb, hml, hown, hts⟩ (mX0_bestStep (fwd := false) (f := Fo P B K A (k + 1)) hP8 hB8 hK4 hA50 (by omega) hii (fun q hq => ho4 (k + 1) q (Nat.le_refl _) (by omega) hq) (Fo_le hA50 (k + 1))) gX0_bestStep hdX0_bestStep ⟨Nat.le_of_ble_eq_true rfl, Nat.le_of_ble_eq_true rfl⟩ hK hP rfl rfl rfl rfl hl.1 rfl (Nat.le_of_ble_eq_true rfl) dX0_learn_125 ⟨Nat.le_of_ble_eq_true rfl, Nat.le_of_ble_eq_true rfl⟩ ?_
                    refine rtq (y := nI (Fo P B K A k i)) (by rw [Fo_s P B K A (by omega)]) ?_
                    refine st_i (g := upd on4 ((k * 256) + i) (nI (Fo P B K A k i))) (w' := w0 h d P B K A S true be2 (upd on4 ((k * 256) + i) (nI (Fo P B K A k i))) wi) hx hb hK hP hD hS 5 4 rfl rfl (by omega) (by decide) (rfl) rfl dX0_learn_128 (fun H locs hP hD hS => ?_)
                    refine lv_iinc (v := nI (i + 1)) (lv' := [(2, .int (nI (i + 1))), (0, .ref (h 0)), (1, .int (nI k))]) hx hb dX0_learn_129 hl (k := 2) rfl (nI_1 i) (by decide) rfl (fun ls hl => ?_)
                    refine lv_goto (tgt := 103) hx hb dX0_learn_132 (by decide) ?_
                    exact ih (i + 1) (by omega) _ _ _ ls (lrn5 ho4 hii _) (lrn3 ho5) hP hD hS (lv_sub hl [1, 2, 0] rfl)
                exact lp103 256 0 (by omega) _ _ _ ls (ho3) (fun q hq => absurd hq (by omega)) hP hD hS (lv_sub hl [1, 2, 0] rfl)
            exact lp97 4 (by omega) _ _ _ ls (lrn8 ho2) hP hD hS (lv_sub hl [1, 0] rfl)
          | succ n ih =>
            intro k hi be2 on2 H locs ls hb2 ho2 hP hD hS hl
            have hik : k < 4 := by omega
            refine lv_iload_n hx hb dX0_learn_48 rfl (lv_at hl 1 rfl) ?_
            refine lv_iconst (v := nI 4) hx hb dX0_learn_49 (by decide +kernel) ?_
            refine ic_ge (tgt := 95) hx hb dX0_learn_50 (by decide) (by omega) (by omega) (fun c50 => absurd c50 (by omega)) (fun c50 => ?_)
            refine lv_iconst (v := nI 0) hx hb dX0_learn_53 (by decide +kernel) ?_
            refine lv_istore_n (lv' := [(2, .int (nI 0)), (0, .ref (h 0)), (1, .int (nI k))]) hx hb dX0_learn_54 rfl hl (by decide) rfl (fun ls hl => ?_)
            have lp55 : ∀ n i : Nat, i + n = 256 → ∀ (be3 : Nat → Int32) (H : Heap) (locs : List Loc) (ls : Array Slot), (∀ k1 q, k1 ≤ k → q < 256 → be3 (k1 * 256 + q) = nI (Fb P B K A k1 q)) → (∀ q, q < i → be3 ((k + 1) * 256 + q) = nI (Fb P B K A (k + 1) q)) → va_P D vwCl (w0 h d P B K A S true be3 on2 wi) H → va_D (fun q => q ∈ (as0 h)) (w0 h d P B K A S true be3 on2 wi) → va_S (fun q => q ∈ (as0 h)) s.heap H locs → lv_has ls 3 [(0, .ref (h 0)), (1, .int (nI k)), (2, .int (nI i))] → WV (U := (Nat → Int32) × (Nat → Int32)) p l e s m below meth c 4 90 D (as0 h) [.ref (h 0)] (fun u => Tab P B K A u.1 u.2) (fun u => w0 h d P B K A S true u.1 u.2 (nI (WN P B K A S))) H locs 55 ls [] := by
              intro n
              induction n with
              | zero =>
                intro i hi be3 H locs ls hb3 hb4 hP hD hS hl
                have hi : i = 256 := by omega
                subst hi
                refine lv_iload_n hx hb dX0_learn_55 rfl (lv_at hl 2 rfl) ?_
                refine lv_sipush (v := nI 256) hx hb dX0_learn_56 (by decide +kernel) ?_
                refine ic_ge (tgt := 89) hx hb dX0_learn_59 (by decide) (by omega) (by omega) (fun c59 => ?_) (fun c59 => absurd c59 (by omega))
                refine lv_iinc (v := nI (k + 1)) (lv' := [(1, .int (nI (k + 1))), (0, .ref (h 0)), (2, .int (nI 256))]) hx hb dX0_learn_89 hl (k := 1) rfl (nI_1 k) (by decide) rfl (fun ls hl => ?_)
                refine lv_goto (tgt := 48) hx hb dX0_learn_92 (by decide) ?_
                exact ih (k + 1) (by omega) _ _ _ _ ls (lrn4 hb3 hb4) (ho2) hP hD hS (lv_sub hl [1, 0] rfl)
              | succ n ih =>
                intro i hi be3 H locs ls hb3 hb4 hP hD hS hl
                have hii : i < 256 := by omega
                refine lv_iload_n hx hb dX0_learn_55 rfl (lv_at hl 2 rfl) ?_
                refine lv_sipush (v := nI 256) hx hb dX0_learn_56 (by decide +kernel) ?_
                refine ic_ge (tgt := 89) hx hb dX0_learn_59 (by decide) (by omega) (by omega) (fun c59 => absurd c59 (by omega)) (fun c59 => ?_)
                refine lv_aload_n hx hb dX0_learn_62 rfl (lv_at hl 0 rfl) ?_
                refine gf0_6 hx hb hts hown hK hP rfl rfl dX0_learn_63 ?_
                refine lv_iload_n hx hb dX0_learn_66 rfl (lv_at hl 1 rfl) ?_
                refine lv_iconst (v := nI 1) hx hb dX0_learn_67 (by decide +kernel) ?_
                refine ia_N hx hb dX0_learn_68 ?_
                refine lv_sipush (v := nI 256) hx hb dX0_learn_69 (by decide +kernel) ?_
                refine im_N hx hb dX0_learn_72 ?_
                refine lv_iload_n hx hb dX0_learn_73 rfl (lv_at hl 2 rfl) ?_
                refine ia_N hx hb dX0_learn_74 ?_
                refine lv_aload_n hx hb dX0_learn_75 rfl (lv_at hl 0 rfl) ?_
                refine lv_iload_n hx hb dX0_learn_76 rfl (lv_at hl 1 rfl) ?_
                refine lv_iload_n hx hb dX0_learn_77 rfl (lv_at hl 2 rfl) ?_
                refine lv_iconst (v := nI 1) hx hb dX0_learn_78 (by decide +kernel) ?_
                refine ro_V (ci := 0) (q0 := 0) (rest := [.int (nI (((k + 1) * 256) + i)), .ref (h 4)]) ⟨hx, hb, hml, hown, hts⟩ (mX0_bestStep (fwd := true) (f := Fb P B K A k) hP8 hB8 hK4 hA50 (by omega) hii (fun q hq => hb3 k q (Nat.le_refl k) hq) (Fb_le hA50 (by omega))) gX0_bestStep hdX0_bestStep ⟨Nat.le_of_ble_eq_true rfl, Nat.le_of_ble_eq_true rfl⟩ hK hP rfl rfl rfl rfl hl.1 rfl (Nat.le_of_ble_eq_true rfl) dX0_learn_79 ⟨Nat.le_of_ble_eq_true rfl, Nat.le_of_ble_eq_true rfl⟩ ?_
                refine rtq (y := nI (Fb P B K A (k + 1) i)) rfl ?_
                refine st_i (g := upd be3 (((k + 1) * 256) + i) (nI (Fb P B K A (k + 1) i))) (w' := w0 h d P B K A S true (upd be3 (((k + 1) * 256) + i) (nI (Fb P B K A (k + 1) i))) on2 wi) hx hb hK hP hD hS 4 3 rfl rfl (by omega) (by decide) (rfl) rfl dX0_learn_82 (fun H locs hP hD hS => ?_)
                refine lv_iinc (v := nI (i + 1)) (lv' := [(2, .int (nI (i + 1))), (0, .ref (h 0)), (1, .int (nI k))]) hx hb dX0_learn_83 hl (k := 2) rfl (nI_1 i) (by decide) rfl (fun ls hl => ?_)
                refine lv_goto (tgt := 55) hx hb dX0_learn_86 (by decide) ?_
                exact ih (i + 1) (by omega) _ _ _ ls (lrn2 hb3 hii _) (lrn3 hb4) hP hD hS (lv_sub hl [1, 2, 0] rfl)
            exact lp55 256 0 (by omega) _ _ _ ls (hb2) (fun q hq => absurd hq (by omega)) hP hD hS (lv_sub hl [1, 2, 0] rfl)
        exact lp48 4 0 (by omega) _ _ _ _ ls (lrn7 hz) (fun q hq => (hz q hq).2) hP hD hS (lv_sub hl [1, 0] rfl)
      | succ n ih =>
        intro i hi be1 on1 H locs ls hz hP hD hS hl
        have hii : i < 256 := by omega
        refine lv_iload_n hx hb dX0_learn_15 rfl (lv_at hl 1 rfl) ?_
        refine lv_sipush (v := nI 256) hx hb dX0_learn_16 (by decide +kernel) ?_
        refine ic_ge (tgt := 46) hx hb dX0_learn_19 (by decide) (by omega) (by omega) (fun c19 => absurd c19 (by omega)) (fun c19 => ?_)
        refine lv_aload_n hx hb dX0_learn_22 rfl (lv_at hl 0 rfl) ?_
        refine gf0_6 hx hb hts hown hK hP rfl rfl dX0_learn_23 ?_
        refine lv_iload_n hx hb dX0_learn_26 rfl (lv_at hl 1 rfl) ?_
        refine lv_iconst (v := nI 0) hx hb dX0_learn_27 (by decide +kernel) ?_
        refine st_i (g := upd be1 i (nI 0)) (w' := w0 h d P B K A S true (upd be1 i (nI 0)) on1 wi) hx hb hK hP hD hS 4 3 rfl rfl (by omega) (by decide) (rfl) rfl dX0_learn_28 (fun H locs hP hD hS => ?_)
        refine lv_aload_n hx hb dX0_learn_29 rfl (lv_at hl 0 rfl) ?_
        refine gf0_7 hx hb hts hown hK hP rfl rfl dX0_learn_30 ?_
        refine lv_sipush (v := nI 1024) hx hb dX0_learn_33 (by decide +kernel) ?_
        refine lv_iload_n hx hb dX0_learn_36 rfl (lv_at hl 1 rfl) ?_
        refine ia_N hx hb dX0_learn_37 ?_
        refine lv_iconst (v := nI 0) hx hb dX0_learn_38 (by decide +kernel) ?_
        refine st_i (g := upd on1 (1024 + i) (nI 0)) (w' := w0 h d P B K A S true (upd be1 i (nI 0)) (upd on1 (1024 + i) (nI 0)) wi) hx hb hK hP hD hS 5 4 rfl rfl (by omega) (by decide) (rfl) rfl dX0_learn_39 (fun H locs hP hD hS => ?_)
        refine lv_iinc (v := nI (i + 1)) (lv' := [(1, .int (nI (i + 1))), (0, .ref (h 0))]) hx hb dX0_learn_40 hl (k := 1) rfl (nI_1 i) (by decide) rfl (fun ls hl => ?_)
        refine lv_goto (tgt := 15) hx hb dX0_learn_43 (by decide) ?_
        exact ih (i + 1) (by omega) _ _ _ _ ls (lrn1 hz) hP hD hS (lv_sub hl [1, 0] rfl)
    exact lp15 256 0 (by omega) _ _ _ _ ls (fun q hq => absurd hq (by omega)) hP hD hS (lv_sub hl [1, 0] rfl)
  · obtain ⟨hT, hwi⟩ := hks c4
    subst hwi
    subst c4
    exact wv_ret hx hb hr hlk hS ((be, on)) hP (hT) dX0_learn_7
end
section
set_option maxRecDepth 100000
set_option maxHeartbeats 1000000 in
set_option maxRecDepth 100000 in
/-- winners() -/
theorem mX0_winners {l : Launch} {D : va_G} {h : Nat → Nat} {d : Nat → ClassId} {P : Nat} {B K A : Nat → Nat} {S : Nat} {kn : Bool} {be on : Nat → Int32} {wi : Int32}  (hP8 : P < 256) (hB8 : ∀ b, B b < 256) (hK4 : ∀ b, K b < 4) (hA50 : ∀ b, A b ≤ 50) (hks : KS P B K A S kn be on wi)  : WrMet (U := (Nat → Int32) × (Nat → Int32)) l yX0_winners cX0_winners 1 (some .int) 5 112 D (w0 h d P B K A S kn be on wi) (t0 d) (as0 h) [.ref (h 0)] (fun r u => r = nI (WN P B K A S) ∧ Tab P B K A u.1 u.2) (fun u => w0 h d P B K A S true u.1 u.2 (nI (WN P B K A S))) := by
  refine wr_of (lv := [(0, .ref (h 0))]) (by decide) (Nat.le_of_ble_eq_true rfl) rfl ?_
  intro p e s m below meth c hx hb hr hml hown hts hlk hK hP hD hS ls hl
  have hown : s.vm.findClass RX0 = some m.cls := hown
  refine lv_aload_n hx hb dX0_winners_0 rfl (lv_at hl 0 rfl) ?_
  refine wv_V (ci := 0) (q0 := 0) (rest := []) ⟨hx, hb, hml, hown, hts⟩ (mX0_learn hP8 hB8 hK4 hA50 hks) gX0_learn hdX0_learn ⟨Nat.le_of_ble_eq_true rfl, Nat.le_of_ble_eq_true rfl⟩ hK hP hD hS (fun _ z => z) wo_nil wo_dis rfl rfl rfl rfl hl.1 rfl (Nat.le_of_ble_eq_true rfl) dX0_winners_1 ⟨Nat.le_of_ble_eq_true rfl, Nat.le_of_ble_eq_true rfl⟩ (fun u H locs hq hP2 _ hS => ?_)
  obtain ⟨be2, on2⟩ := u
  have hT : Tab P B K A be2 on2 := hq
  have hD : va_D (fun q => q ∈ (as0 h)) (w0 h d P B K A S true be2 on2 (nI (WN P B K A S))) := va_D.same hD rfl
  have hP : va_P D vwCl (w0 h d P B K A S true be2 on2 (nI (WN P B K A S))) H := hP2
  refine lv_aload_n hx hb dX0_winners_4 rfl (lv_at hl 0 rfl) ?_
  refine gf0_8 hx hb hts hown hK hP rfl rfl dX0_winners_5 ?_
  exact wr_iret hx hb hr hlk hS ((be2, on2)) hP (⟨rfl, hT⟩) dX0_winners_8
set_option maxHeartbeats 1000000 in
set_option maxRecDepth 100000 in
/-- revenue() -/
theorem mX0_revenue {l : Launch} {D : va_G} {h : Nat → Nat} {d : Nat → ClassId} {P : Nat} {B K A : Nat → Nat} {S : Nat} {kn : Bool} {be on : Nat → Int32} {wi : Int32}  (hP8 : P < 256) (hB8 : ∀ b, B b < 256) (hK4 : ∀ b, K b < 4) (hA50 : ∀ b, A b ≤ 50) (hks : KS P B K A S kn be on wi)  : WrMet (U := (Nat → Int32) × (Nat → Int32)) l yX0_revenue cX0_revenue 2 (some .int) 5 112 D (w0 h d P B K A S kn be on wi) (t0 d) (as0 h) [.ref (h 0)] (fun r u => r = nI (Fb P B K A 4 (off S) / 256) ∧ Tab P B K A u.1 u.2) (fun u => w0 h d P B K A S true u.1 u.2 (nI (WN P B K A S))) := by
  refine wr_of (lv := [(0, .ref (h 0))]) (by decide) (Nat.le_of_ble_eq_true rfl) rfl ?_
  intro p e s m below meth c hx hb hr hml hown hts hlk hK hP hD hS ls hl
  have hown : s.vm.findClass RX0 = some m.cls := hown
  refine lv_aload_n hx hb dX0_revenue_0 rfl (lv_at hl 0 rfl) ?_
  refine wv_V (ci := 0) (q0 := 0) (rest := []) ⟨hx, hb, hml, hown, hts⟩ (mX0_learn hP8 hB8 hK4 hA50 hks) gX0_learn hdX0_learn ⟨Nat.le_of_ble_eq_true rfl, Nat.le_of_ble_eq_true rfl⟩ hK hP hD hS (fun _ z => z) wo_nil wo_dis rfl rfl rfl rfl hl.1 rfl (Nat.le_of_ble_eq_true rfl) dX0_revenue_1 ⟨Nat.le_of_ble_eq_true rfl, Nat.le_of_ble_eq_true rfl⟩ (fun u H locs hq hP2 _ hS => ?_)
  obtain ⟨be2, on2⟩ := u
  have hT : Tab P B K A be2 on2 := hq
  have hD : va_D (fun q => q ∈ (as0 h)) (w0 h d P B K A S true be2 on2 (nI (WN P B K A S))) := va_D.same hD rfl
  have hP : va_P D vwCl (w0 h d P B K A S true be2 on2 (nI (WN P B K A S))) H := hP2
  refine lv_aload_n hx hb dX0_revenue_4 rfl (lv_at hl 0 rfl) ?_
  refine ro_V (ci := 0) (q0 := 0) (rest := []) ⟨hx, hb, hml, hown, hts⟩ (mX0_offered) gX0_offered hdX0_offered ⟨Nat.le_of_ble_eq_true rfl, Nat.le_of_ble_eq_true rfl⟩ hK hP rfl rfl rfl rfl hl.1 rfl (Nat.le_of_ble_eq_true rfl) dX0_revenue_5 ⟨Nat.le_of_ble_eq_true rfl, Nat.le_of_ble_eq_true rfl⟩ ?_
  refine lv_istore_n (lv' := [(1, .int (nI (off S))), (0, .ref (h 0))]) hx hb dX0_revenue_8 rfl hl (by decide) rfl (fun ls hl => ?_)
  have hoff := off_lt S
  have hF := Fb_le (P := P) (B := B) (K := K) hA50 (show 4 ≤ 4 by omega) (off S)
  refine lv_aload_n hx hb dX0_revenue_9 rfl (lv_at hl 1 rfl) ?_
  refine gf0_6 hx hb hts hown hK hP rfl rfl dX0_revenue_10 ?_
  refine lv_sipush (v := nI 1024) hx hb dX0_revenue_13 (by decide +kernel) ?_
  refine lv_iload_n hx hb dX0_revenue_16 rfl (lv_at hl 0 rfl) ?_
  refine ia_N hx hb dX0_revenue_17 ?_
  refine ld_i hx hb hK hP 4 3 rfl rfl (by omega) (by decide) (v := nI (Fb P B K A 4 (off S))) (hT.1 4 _ (by omega) (off_lt S)) dX0_revenue_18 ?_
  refine lv_bipush (v := nI 8) hx hb dX0_revenue_19 (by decide +kernel) ?_
  refine s8_N hx hb dX0_revenue_21 (by omega) ?_
  exact wr_iret hx hb hr hlk hS ((be2, on2)) hP (⟨rfl, hT⟩) dX0_revenue_22
set_option maxHeartbeats 1000000 in
set_option maxRecDepth 100000 in
/-- sold() -/
theorem mX0_sold {l : Launch} {D : va_G} {h : Nat → Nat} {d : Nat → ClassId} {P : Nat} {B K A : Nat → Nat} {S : Nat} {kn : Bool} {be on : Nat → Int32} {wi : Int32}  (hP8 : P < 256) (hB8 : ∀ b, B b < 256) (hK4 : ∀ b, K b < 4) (hA50 : ∀ b, A b ≤ 50) (hks : KS P B K A S kn be on wi)  : WrMet (U := (Nat → Int32) × (Nat → Int32)) l yX0_sold cX0_sold 3 (some .int) 5 112 D (w0 h d P B K A S kn be on wi) (t0 d) (as0 h) [.ref (h 0)] (fun r u => r = nI (un B (WN P B K A S) 8) ∧ Tab P B K A u.1 u.2) (fun u => w0 h d P B K A S true u.1 u.2 (nI (WN P B K A S))) := by
  refine wr_of (lv := [(0, .ref (h 0))]) (by decide) (Nat.le_of_ble_eq_true rfl) rfl ?_
  intro p e s m below meth c hx hb hr hml hown hts hlk hK hP hD hS ls hl
  have hown : s.vm.findClass RX0 = some m.cls := hown
  refine lv_aload_n hx hb dX0_sold_0 rfl (lv_at hl 0 rfl) ?_
  refine wv_V (ci := 0) (q0 := 0) (rest := []) ⟨hx, hb, hml, hown, hts⟩ (mX0_learn hP8 hB8 hK4 hA50 hks) gX0_learn hdX0_learn ⟨Nat.le_of_ble_eq_true rfl, Nat.le_of_ble_eq_true rfl⟩ hK hP hD hS (fun _ z => z) wo_nil wo_dis rfl rfl rfl rfl hl.1 rfl (Nat.le_of_ble_eq_true rfl) dX0_sold_1 ⟨Nat.le_of_ble_eq_true rfl, Nat.le_of_ble_eq_true rfl⟩ (fun u H locs hq hP2 _ hS => ?_)
  obtain ⟨be2, on2⟩ := u
  have hT : Tab P B K A be2 on2 := hq
  have hD : va_D (fun q => q ∈ (as0 h)) (w0 h d P B K A S true be2 on2 (nI (WN P B K A S))) := va_D.same hD rfl
  have hP : va_P D vwCl (w0 h d P B K A S true be2 on2 (nI (WN P B K A S))) H := hP2
  refine lv_iconst (v := nI 0) hx hb dX0_sold_4 (by decide +kernel) ?_
  refine lv_istore_n (lv' := [(1, .int (nI 0)), (0, .ref (h 0))]) hx hb dX0_sold_5 rfl hl (by decide) rfl (fun ls hl => ?_)
  refine lv_iconst (v := nI 0) hx hb dX0_sold_6 (by decide +kernel) ?_
  refine lv_istore_n (lv' := [(2, .int (nI 0)), (1, .int (nI 0)), (0, .ref (h 0))]) hx hb dX0_sold_7 rfl hl (by decide) rfl (fun ls hl => ?_)
  have lp8 : ∀ n i : Nat, i + n = 8 → ∀ (v1 : Int32) (H : Heap) (locs : List Loc) (ls : Array Slot), v1 = nI (un B (WN P B K A S) i) → va_P D vwCl (w0 h d P B K A S true be2 on2 (nI (WN P B K A S))) H → va_D (fun q => q ∈ (as0 h)) (w0 h d P B K A S true be2 on2 (nI (WN P B K A S))) → va_S (fun q => q ∈ (as0 h)) s.heap H locs → lv_has ls 3 [(0, .ref (h 0)), (1, .int (v1)), (2, .int (nI i))] → WR (U := (Nat → Int32) × (Nat → Int32)) p l e s m below meth c 5 112 D (as0 h) [.ref (h 0)] (fun r u => r = nI (un B (WN P B K A S) 8) ∧ Tab P B K A u.1 u.2) (fun u => w0 h d P B K A S true u.1 u.2 (nI (WN P B K A S))) H locs 8 ls [] := by
    intro n
    induction n with
    | zero =>
      intro i hi v1 H locs ls e1 hP hD hS hl
      have hi : i = 8 := by omega
      subst hi
      subst e1
      refine lv_iload_n hx hb dX0_sold_8 rfl (lv_at hl 2 rfl) ?_
      refine lv_bipush (v := nI 8) hx hb dX0_sold_9 (by decide +kernel) ?_
      refine ic_ge (tgt := 40) hx hb dX0_sold_11 (by decide) (by omega) (by omega) (fun c11 => ?_) (fun c11 => absurd c11 (by omega))
      refine lv_iload_n hx hb dX0_sold_40 rfl (lv_at hl 1 rfl) ?_
      exact wr_iret hx hb hr hlk hS ((be2, on2)) hP (⟨rfl, hT⟩) dX0_sold_41
    | succ n ih =>
      intro i hi v1 H locs ls e1 hP hD hS hl
      have hii : i < 8 := by omega
      subst e1
      refine lv_iload_n hx hb dX0_sold_8 rfl (lv_at hl 2 rfl) ?_
      refine lv_bipush (v := nI 8) hx hb dX0_sold_9 (by decide +kernel) ?_
      refine ic_ge (tgt := 40) hx hb dX0_sold_11 (by decide) (by omega) (by omega) (fun c11 => absurd c11 (by omega)) (fun c11 => ?_)
      refine lv_aload_n hx hb dX0_sold_14 rfl (lv_at hl 0 rfl) ?_
      refine gf0_8 hx hb hts hown hK hP rfl rfl dX0_sold_15 ?_
      refine lv_iload_n hx hb dX0_sold_18 rfl (lv_at hl 2 rfl) ?_
      refine lv_ishr hx hb dX0_sold_19 ?_
      refine lv_iconst (v := nI 1) hx hb dX0_sold_20 (by decide +kernel) ?_
      refine bt_N hx hb dX0_sold_21 (by have := WN_lt P B K A S; omega) (by omega) ?_
      refine if_eqB (tgt := 34) hx hb dX0_sold_22 (by decide) (fun c22 => ?_) (fun c22 => ?_)
      · refine lv_iinc (v := nI (i + 1)) (lv' := [(2, .int (nI (i + 1))), (0, .ref (h 0)), (1, .int (nI (un B (WN P B K A S) i)))]) hx hb dX0_sold_34 hl (k := 2) rfl (nI_1 i) (by decide) rfl (fun ls hl => ?_)
        refine lv_goto (tgt := 8) hx hb dX0_sold_37 (by decide) ?_
        exact ih (i + 1) (by omega) _ _ _ ls (by simp [un, c22]) hP hD hS (lv_sub hl [1, 2, 0] rfl)
      · refine lv_iload_n hx hb dX0_sold_25 rfl (lv_at hl 1 rfl) ?_
        refine lv_aload_n hx hb dX0_sold_26 rfl (lv_at hl 0 rfl) ?_
        refine gf0_1 hx hb hts hown hK hP rfl rfl dX0_sold_27 ?_
        refine lv_iload_n hx hb dX0_sold_30 rfl (lv_at hl 2 rfl) ?_
        refine ld_s hx hb hK hP 1 0 rfl rfl (by omega) (by decide) (v := nI (B i)) (rfl) dX0_sold_31 ?_
        refine or_N hx hb dX0_sold_32 ?_
        refine lv_istore_n (lv' := [(1, .int (nI ((un B (WN P B K A S) i) ||| (B i)))), (0, .ref (h 0)), (2, .int (nI i))]) hx hb dX0_sold_33 rfl hl (by decide) rfl (fun ls hl => ?_)
        refine lv_iinc (v := nI (i + 1)) (lv' := [(2, .int (nI (i + 1))), (1, .int (nI ((un B (WN P B K A S) i) ||| (B i)))), (0, .ref (h 0))]) hx hb dX0_sold_34 hl (k := 2) rfl (nI_1 i) (by decide) rfl (fun ls hl => ?_)
        refine lv_goto (tgt := 8) hx hb dX0_sold_37 (by decide) ?_
        exact ih (i + 1) (by omega) _ _ _ ls (by simp [un, c22]) hP hD hS (lv_sub hl [2, 1, 0] rfl)
  exact lp8 8 0 (by omega) _ _ _ ls (rfl) hP hD hS (lv_sub hl [2, 1, 0] rfl)
set_option maxHeartbeats 1000000 in
set_option maxRecDepth 100000 in
/-- revenueWithout: no such bidder -/
theorem mX0_revenueWithout_no {l : Launch} {D : va_G} {h : Nat → Nat} {d : Nat → ClassId} {P : Nat} {B K A : Nat → Nat} {S : Nat} {kn : Bool} {be on : Nat → Int32} {wi : Int32} {x : Int32} (hn : inr 4 x = false) : RoMet l yX0_revenueWithout cX0_revenueWithout 3 (some .int) 5 112 D (w0 h d P B K A S kn be on wi) (t0 d) [.ref (h 0), .int (x)] (-1) := by
  refine ro_of (lv := [(0, .ref (h 0)), (1, .int (x))]) (by decide) (Nat.le_of_ble_eq_true rfl) rfl ?_
  intro p e s m below meth c hx hb hr hml hown hts hlk hP hK ls hl
  have hown : s.vm.findClass RX0 = some m.cls := hown
  refine lv_iload_n hx hb dX0_revenueWithout_0 rfl (lv_at hl 1 rfl) ?_
  refine ro_S (rest := []) ⟨hx, hb, hml, hown, hts⟩ (mX0_isBidder) gX0_isBidder hdX0_isBidder ⟨Nat.le_of_ble_eq_true rfl, Nat.le_of_ble_eq_true rfl⟩ rfl hl.1 rfl (Nat.le_of_ble_eq_true rfl) dX0_revenueWithout_1 ⟨Nat.le_of_ble_eq_true rfl, Nat.le_of_ble_eq_true rfl⟩ ?_
  refine if_neB (tgt := 9) hx hb dX0_revenueWithout_4 (by decide) (fun c4 => absurd c4 (by rw [hn]; decide)) (fun c4 => ?_)
  refine lv_iconst (v := -1) hx hb dX0_revenueWithout_7 (by decide +kernel) ?_
  exact ro_iret hx hb hr hlk (rfl) dX0_revenueWithout_8
set_option maxHeartbeats 1000000 in
set_option maxRecDepth 100000 in
/-- revenueWithout(k) -/
theorem mX0_revenueWithout {l : Launch} {D : va_G} {h : Nat → Nat} {d : Nat → ClassId} {P : Nat} {B K A : Nat → Nat} {S : Nat} {kn : Bool} {be on : Nat → Int32} {wi : Int32} {k : Nat} (hP8 : P < 256) (hB8 : ∀ b, B b < 256) (hK4 : ∀ b, K b < 4) (hA50 : ∀ b, A b ≤ 50) (hks : KS P B K A S kn be on wi) (hk : k < 4) : WrMet (U := (Nat → Int32) × (Nat → Int32)) l yX0_revenueWithout cX0_revenueWithout 3 (some .int) 5 112 D (w0 h d P B K A S kn be on wi) (t0 d) (as0 h) [.ref (h 0), .int (nI k)] (fun r u => r = nI (sw P B K A k (off S) 256 / 256) ∧ Tab P B K A u.1 u.2) (fun u => w0 h d P B K A S true u.1 u.2 (nI (WN P B K A S))) := by
  refine wr_of (lv := [(0, .ref (h 0)), (1, .int (nI k))]) (by decide) (Nat.le_of_ble_eq_true rfl) rfl ?_
  intro p e s m below meth c hx hb hr hml hown hts hlk hK hP hD hS ls hl
  have hown : s.vm.findClass RX0 = some m.cls := hown
  refine lv_iload_n hx hb dX0_revenueWithout_0 rfl (lv_at hl 1 rfl) ?_
  refine ro_S (rest := []) ⟨hx, hb, hml, hown, hts⟩ (mX0_isBidder) gX0_isBidder hdX0_isBidder ⟨Nat.le_of_ble_eq_true rfl, Nat.le_of_ble_eq_true rfl⟩ rfl hl.1 rfl (Nat.le_of_ble_eq_true rfl) dX0_revenueWithout_1 ⟨Nat.le_of_ble_eq_true rfl, Nat.le_of_ble_eq_true rfl⟩ ?_
  refine if_neB (tgt := 9) hx hb dX0_revenueWithout_4 (by decide) (fun c4 => ?_) (fun c4 => absurd c4 (by rw [inr_nI (by decide) hk]; decide))
  refine lv_aload_n hx hb dX0_revenueWithout_9 rfl (lv_at hl 0 rfl) ?_
  refine wv_V (ci := 0) (q0 := 0) (rest := []) ⟨hx, hb, hml, hown, hts⟩ (mX0_learn hP8 hB8 hK4 hA50 hks) gX0_learn hdX0_learn ⟨Nat.le_of_ble_eq_true rfl, Nat.le_of_ble_eq_true rfl⟩ hK hP hD hS (fun _ z => z) wo_nil wo_dis rfl rfl rfl rfl hl.1 rfl (Nat.le_of_ble_eq_true rfl) dX0_revenueWithout_10 ⟨Nat.le_of_ble_eq_true rfl, Nat.le_of_ble_eq_true rfl⟩ (fun u H locs hq hP2 _ hS => ?_)
  obtain ⟨be2, on2⟩ := u
  have hT : Tab P B K A be2 on2 := hq
  have hD : va_D (fun q => q ∈ (as0 h)) (w0 h d P B K A S true be2 on2 (nI (WN P B K A S))) := va_D.same hD rfl
  have hP : va_P D vwCl (w0 h d P B K A S true be2 on2 (nI (WN P B K A S))) H := hP2
  refine lv_aload_n hx hb dX0_revenueWithout_13 rfl (lv_at hl 0 rfl) ?_
  refine ro_V (ci := 0) (q0 := 0) (rest := []) ⟨hx, hb, hml, hown, hts⟩ (mX0_offered) gX0_offered hdX0_offered ⟨Nat.le_of_ble_eq_true rfl, Nat.le_of_ble_eq_true rfl⟩ hK hP rfl rfl rfl rfl hl.1 rfl (Nat.le_of_ble_eq_true rfl) dX0_revenueWithout_14 ⟨Nat.le_of_ble_eq_true rfl, Nat.le_of_ble_eq_true rfl⟩ ?_
  refine lv_istore_n (lv' := [(2, .int (nI (off S))), (0, .ref (h 0)), (1, .int (nI k))]) hx hb dX0_revenueWithout_17 rfl hl (by decide) rfl (fun ls hl => ?_)
  refine lv_aload_n hx hb dX0_revenueWithout_18 rfl (lv_at hl 1 rfl) ?_
  refine lv_iload_n hx hb dX0_revenueWithout_19 rfl (lv_at hl 2 rfl) ?_
  refine lv_iload_n hx hb dX0_revenueWithout_20 rfl (lv_at hl 0 rfl) ?_
  refine ro_V (ci := 0) (q0 := 0) (rest := []) ⟨hx, hb, hml, hown, hts⟩ (mX0_sumWithout hP8 hB8 hK4 hA50 hk (off_lt S) hT.1 hT.2) gX0_sumWithout hdX0_sumWithout ⟨Nat.le_of_ble_eq_true rfl, Nat.le_of_ble_eq_true rfl⟩ hK hP rfl rfl rfl rfl hl.1 rfl (Nat.le_of_ble_eq_true rfl) dX0_revenueWithout_21 ⟨Nat.le_of_ble_eq_true rfl, Nat.le_of_ble_eq_true rfl⟩ ?_
  refine lv_bipush (v := nI 8) hx hb dX0_revenueWithout_24 (by decide +kernel) ?_
  refine s8_N hx hb dX0_revenueWithout_26 (by have := sw_le (P := P) (B := B) (K := K) hA50 (Nat.le_of_lt hk) (off S) 256; omega) ?_
  exact wr_iret hx hb hr hlk hS ((be2, on2)) hP (⟨rfl, hT⟩) dX0_revenueWithout_27
/-- payment(k) -/
def pay (P : Nat) (B K A : Nat → Nat) (S k : Nat) : Int32 := match wk P B K A S k with
  | none => nI 0
  | some b => nI (sw P B K A k (off S) 256 / 256) - (nI (Fb P B K A 4 (off S) / 256) - nI (A b))
set_option maxHeartbeats 1000000 in
set_option maxRecDepth 100000 in
/-- payment: no such bidder -/
theorem mX0_payment_no {l : Launch} {D : va_G} {h : Nat → Nat} {d : Nat → ClassId} {P : Nat} {B K A : Nat → Nat} {S : Nat} {kn : Bool} {be on : Nat → Int32} {wi : Int32} {x : Int32} (hn : inr 4 x = false) : RoMet l yX0_payment cX0_payment 4 (some .int) 6 134 D (w0 h d P B K A S kn be on wi) (t0 d) [.ref (h 0), .int (x)] (-1) := by
  refine ro_of (lv := [(0, .ref (h 0)), (1, .int (x))]) (by decide) (Nat.le_of_ble_eq_true rfl) rfl ?_
  intro p e s m below meth c hx hb hr hml hown hts hlk hP hK ls hl
  have hown : s.vm.findClass RX0 = some m.cls := hown
  refine lv_iload_n hx hb dX0_payment_0 rfl (lv_at hl 1 rfl) ?_
  refine ro_S (rest := []) ⟨hx, hb, hml, hown, hts⟩ (mX0_isBidder) gX0_isBidder hdX0_isBidder ⟨Nat.le_of_ble_eq_true rfl, Nat.le_of_ble_eq_true rfl⟩ rfl hl.1 rfl (Nat.le_of_ble_eq_true rfl) dX0_payment_1 ⟨Nat.le_of_ble_eq_true rfl, Nat.le_of_ble_eq_true rfl⟩ ?_
  refine if_neB (tgt := 9) hx hb dX0_payment_4 (by decide) (fun c4 => absurd c4 (by rw [hn]; decide)) (fun c4 => ?_)
  refine lv_iconst (v := -1) hx hb dX0_payment_7 (by decide +kernel) ?_
  exact ro_iret hx hb hr hlk (rfl) dX0_payment_8
set_option maxHeartbeats 1000000 in
set_option maxRecDepth 100000 in
/-- payment(k) -/
theorem mX0_payment {l : Launch} {D : va_G} {h : Nat → Nat} {d : Nat → ClassId} {P : Nat} {B K A : Nat → Nat} {S : Nat} {kn : Bool} {be on : Nat → Int32} {wi : Int32} {k : Nat} (hP8 : P < 256) (hB8 : ∀ b, B b < 256) (hK4 : ∀ b, K b < 4) (hA50 : ∀ b, A b ≤ 50) (hks : KS P B K A S kn be on wi) (hk : k < 4) : WrMet (U := (Nat → Int32) × (Nat → Int32)) l yX0_payment cX0_payment 4 (some .int) 6 134 D (w0 h d P B K A S kn be on wi) (t0 d) (as0 h) [.ref (h 0), .int (nI k)] (fun r u => r = pay P B K A S k ∧ Tab P B K A u.1 u.2) (fun u => w0 h d P B K A S true u.1 u.2 (nI (WN P B K A S))) := by
  refine wr_of (lv := [(0, .ref (h 0)), (1, .int (nI k))]) (by decide) (Nat.le_of_ble_eq_true rfl) rfl ?_
  intro p e s m below meth c hx hb hr hml hown hts hlk hK hP hD hS ls hl
  have hown : s.vm.findClass RX0 = some m.cls := hown
  refine lv_iload_n hx hb dX0_payment_0 rfl (lv_at hl 1 rfl) ?_
  refine ro_S (rest := []) ⟨hx, hb, hml, hown, hts⟩ (mX0_isBidder) gX0_isBidder hdX0_isBidder ⟨Nat.le_of_ble_eq_true rfl, Nat.le_of_ble_eq_true rfl⟩ rfl hl.1 rfl (Nat.le_of_ble_eq_true rfl) dX0_payment_1 ⟨Nat.le_of_ble_eq_true rfl, Nat.le_of_ble_eq_true rfl⟩ ?_
  refine if_neB (tgt := 9) hx hb dX0_payment_4 (by decide) (fun c4 => ?_) (fun c4 => absurd c4 (by rw [inr_nI (by decide) hk]; decide))
  refine lv_aload_n hx hb dX0_payment_9 rfl (lv_at hl 0 rfl) ?_
  refine wv_V (ci := 0) (q0 := 0) (rest := []) ⟨hx, hb, hml, hown, hts⟩ (mX0_learn hP8 hB8 hK4 hA50 hks) gX0_learn hdX0_learn ⟨Nat.le_of_ble_eq_true rfl, Nat.le_of_ble_eq_true rfl⟩ hK hP hD hS (fun _ z => z) wo_nil wo_dis rfl rfl rfl rfl hl.1 rfl (Nat.le_of_ble_eq_true rfl) dX0_payment_10 ⟨Nat.le_of_ble_eq_true rfl, Nat.le_of_ble_eq_true rfl⟩ (fun u H locs hq hP2 _ hS => ?_)
  obtain ⟨be2, on2⟩ := u
  have hT : Tab P B K A be2 on2 := hq
  have hD : va_D (fun q => q ∈ (as0 h)) (w0 h d P B K A S true be2 on2 (nI (WN P B K A S))) := va_D.same hD rfl
  have hP : va_P D vwCl (w0 h d P B K A S true be2 on2 (nI (WN P B K A S))) H := hP2
  refine lv_iconst (v := nI 0) hx hb dX0_payment_13 (by decide +kernel) ?_
  refine lv_istore_n (lv' := [(2, .int (nI 0)), (0, .ref (h 0)), (1, .int (nI k))]) hx hb dX0_payment_14 rfl hl (by decide) rfl (fun ls hl => ?_)
  have lp15 : ∀ n i : Nat, i + n = 8 → ∀ (H : Heap) (locs : List Loc) (ls : Array Slot), (ff (fun b => (WN P B K A S).testBit b && decide (K b = k)) n i = wk P B K A S k) → va_P D vwCl (w0 h d P B K A S true be2 on2 (nI (WN P B K A S))) H → va_D (fun q => q ∈ (as0 h)) (w0 h d P B K A S true be2 on2 (nI (WN P B K A S))) → va_S (fun q => q ∈ (as0 h)) s.heap H locs → lv_has ls 4 [(0, .ref (h 0)), (1, .int (nI k)), (2, .int (nI i))] → WR (U := (Nat → Int32) × (Nat → Int32)) p l e s m below meth c 6 134 D (as0 h) [.ref (h 0), .int (nI k)] (fun r u => r = pay P B K A S k ∧ Tab P B K A u.1 u.2) (fun u => w0 h d P B K A S true u.1 u.2 (nI (WN P B K A S))) H locs 15 ls [] := by
    intro n
    induction n with
    | zero =>
      intro i hi H locs ls hff hP hD hS hl
      have hi : i = 8 := by omega
      subst hi
      refine lv_iload_n hx hb dX0_payment_15 rfl (lv_at hl 2 rfl) ?_
      refine lv_bipush (v := nI 8) hx hb dX0_payment_16 (by decide +kernel) ?_
      refine ic_ge (tgt := 68) hx hb dX0_payment_18 (by decide) (by omega) (by omega) (fun c18 => ?_) (fun c18 => absurd c18 (by omega))
      refine lv_iconst (v := nI 0) hx hb dX0_payment_68 (by decide +kernel) ?_
      exact wr_iret hx hb hr hlk hS ((be2, on2)) hP (⟨by rw [pay, ← hff]; rfl, hT⟩) dX0_payment_69
    | succ n ih =>
      intro i hi H locs ls hff hP hD hS hl
      have hii : i < 8 := by omega
      have hKi := hK4 i
      refine lv_iload_n hx hb dX0_payment_15 rfl (lv_at hl 2 rfl) ?_
      refine lv_bipush (v := nI 8) hx hb dX0_payment_16 (by decide +kernel) ?_
      refine ic_ge (tgt := 68) hx hb dX0_payment_18 (by decide) (by omega) (by omega) (fun c18 => absurd c18 (by omega)) (fun c18 => ?_)
      refine lv_aload_n hx hb dX0_payment_21 rfl (lv_at hl 0 rfl) ?_
      refine gf0_8 hx hb hts hown hK hP rfl rfl dX0_payment_22 ?_
      refine lv_iload_n hx hb dX0_payment_25 rfl (lv_at hl 2 rfl) ?_
      refine lv_ishr hx hb dX0_payment_26 ?_
      refine lv_iconst (v := nI 1) hx hb dX0_payment_27 (by decide +kernel) ?_
      refine bt_N hx hb dX0_payment_28 (by have := WN_lt P B K A S; omega) (by omega) ?_
      refine if_eqB (tgt := 62) hx hb dX0_payment_29 (by decide) (fun c29 => ?_) (fun c29 => ?_)
      · refine lv_iinc (v := nI (i + 1)) (lv' := [(2, .int (nI (i + 1))), (0, .ref (h 0)), (1, .int (nI k))]) hx hb dX0_payment_62 hl (k := 2) rfl (nI_1 i) (by decide) rfl (fun ls hl => ?_)
        refine lv_goto (tgt := 15) hx hb dX0_payment_65 (by decide) ?_
        exact ih (i + 1) (by omega) _ _ ls (by rw [← hff, ff, if_neg (by simp [c29])]) hP hD hS (lv_sub hl [1, 2, 0] rfl)
      · refine lv_aload_n hx hb dX0_payment_32 rfl (lv_at hl 0 rfl) ?_
        refine gf0_2 hx hb hts hown hK hP rfl rfl dX0_payment_33 ?_
        refine lv_iload_n hx hb dX0_payment_36 rfl (lv_at hl 2 rfl) ?_
        refine ld_b hx hb hK hP 2 1 rfl rfl (by omega) (by decide) (v := nI (K i)) (rfl) dX0_payment_37 ?_
        refine lv_iload_n hx hb dX0_payment_38 rfl (lv_at hl 1 rfl) ?_
        refine ic_ne (tgt := 62) hx hb dX0_payment_39 (by decide) (by omega) (by omega) (fun c39 => ?_) (fun c39 => ?_)
        · refine lv_iinc (v := nI (i + 1)) (lv' := [(2, .int (nI (i + 1))), (0, .ref (h 0)), (1, .int (nI k))]) hx hb dX0_payment_62 hl (k := 2) rfl (nI_1 i) (by decide) rfl (fun ls hl => ?_)
          refine lv_goto (tgt := 15) hx hb dX0_payment_65 (by decide) ?_
          exact ih (i + 1) (by omega) _ _ ls (by rw [← hff, ff, if_neg (by simp [c29, c39])]) hP hD hS (lv_sub hl [1, 2, 0] rfl)
        · refine lv_aload_n hx hb dX0_payment_42 rfl (lv_at hl 0 rfl) ?_
          refine wr_V (ci := 0) (q0 := 0) (rest := []) ⟨hx, hb, hml, hown, hts⟩ (mX0_revenue hP8 hB8 hK4 hA50 (fun _ => ⟨hT, rfl⟩)) gX0_revenue hdX0_revenue ⟨Nat.le_of_ble_eq_true rfl, Nat.le_of_ble_eq_true rfl⟩ hK hP hD hS (fun _ z => z) wo_nil wo_dis rfl rfl rfl rfl hl.1 rfl (Nat.le_of_ble_eq_true rfl) dX0_payment_43 ⟨Nat.le_of_ble_eq_true rfl, Nat.le_of_ble_eq_true rfl⟩ (fun r u H locs hq hP2 _ hS => ?_)
          obtain ⟨be3, on3⟩ := u
          obtain ⟨hrv, hT3⟩ := hq
          subst hrv
          have hT3 : Tab P B K A be3 on3 := hT3
          have hD : va_D (fun q => q ∈ (as0 h)) (w0 h d P B K A S true be3 on3 (nI (WN P B K A S))) := va_D.same hD rfl
          have hP : va_P D vwCl (w0 h d P B K A S true be3 on3 (nI (WN P B K A S))) H := hP2
          refine lv_aload_n hx hb dX0_payment_46 rfl (lv_at hl 0 rfl) ?_
          refine gf0_3 hx hb hts hown hK hP rfl rfl dX0_payment_47 ?_
          refine lv_iload_n hx hb dX0_payment_50 rfl (lv_at hl 2 rfl) ?_
          refine ld_b hx hb hK hP 3 2 rfl rfl (by omega) (by decide) (v := nI (A i)) (rfl) dX0_payment_51 ?_
          refine lv_isub hx hb dX0_payment_52 ?_
          refine lv_istore_n (lv' := [(3, .int ((nI (Fb P B K A 4 (off S) / 256)) - (nI (A i)))), (0, .ref (h 0)), (1, .int (nI k)), (2, .int (nI i))]) hx hb dX0_payment_53 rfl hl (by decide) rfl (fun ls hl => ?_)
          refine lv_aload_n hx hb dX0_payment_54 rfl (lv_at hl 1 rfl) ?_
          refine lv_iload_n hx hb dX0_payment_55 rfl (lv_at hl 2 rfl) ?_
          refine wr_V (ci := 0) (q0 := 0) (rest := []) ⟨hx, hb, hml, hown, hts⟩ (mX0_revenueWithout hP8 hB8 hK4 hA50 (fun _ => ⟨hT3, rfl⟩) hk) gX0_revenueWithout hdX0_revenueWithout ⟨Nat.le_of_ble_eq_true rfl, Nat.le_of_ble_eq_true rfl⟩ hK hP hD hS (fun _ z => z) wo_nil wo_dis rfl rfl rfl rfl hl.1 rfl (Nat.le_of_ble_eq_true rfl) dX0_payment_56 ⟨Nat.le_of_ble_eq_true rfl, Nat.le_of_ble_eq_true rfl⟩ (fun r u H locs hq hP2 _ hS => ?_)
          obtain ⟨be4, on4⟩ := u
          obtain ⟨hrv, hT4⟩ := hq
          subst hrv
          have hT4 : Tab P B K A be4 on4 := hT4
          have hD : va_D (fun q => q ∈ (as0 h)) (w0 h d P B K A S true be4 on4 (nI (WN P B K A S))) := va_D.same hD rfl
          have hP : va_P D vwCl (w0 h d P B K A S true be4 on4 (nI (WN P B K A S))) H := hP2
          refine lv_iload_n hx hb dX0_payment_59 rfl (lv_at hl 0 rfl) ?_
          refine lv_isub hx hb dX0_payment_60 ?_
          exact wr_iret hx hb hr hlk hS ((be4, on4)) hP (⟨by rw [pay, ← hff, ff, if_pos (by simp [c29, c39])], hT4⟩) dX0_payment_61
  exact lp15 8 0 (by omega) _ _ ls (rfl) hP hD hS (lv_sub hl [1, 2, 0] rfl)
/-- threshold(b) of a bid that stands and whose items are offered -/
def thr (P : Nat) (B K A : Nat → Nat) (S b : Nat) : Int32 := match ff (fun w => decide (slk P B K A b (off S) 8 < w * 256 + 2 ^ (7 - b) + sw P B K A (K b) (nd (off S) (B b)) 256)) 50 1 with
  | none => nI 51
  | some w => nI w
set_option maxHeartbeats 1000000 in
set_option maxRecDepth 100000 in
/-- threshold: no such bid -/
theorem mX0_threshold_no {l : Launch} {D : va_G} {h : Nat → Nat} {d : Nat → ClassId} {P : Nat} {B K A : Nat → Nat} {S : Nat} {kn : Bool} {be on : Nat → Int32} {wi : Int32} {x : Int32} (hP8 : P < 256) (hn : hasb P x = false) : RoMet l yX0_threshold cX0_threshold 6 (some .int) 5 112 D (w0 h d P B K A S kn be on wi) (t0 d) [.ref (h 0), .int (x)] (-1) := by
  refine ro_of (lv := [(0, .ref (h 0)), (1, .int (x))]) (by decide) (Nat.le_of_ble_eq_true rfl) rfl ?_
  intro p e s m below meth c hx hb hr hml hown hts hlk hP hK ls hl
  have hown : s.vm.findClass RX0 = some m.cls := hown
  refine lv_aload_n hx hb dX0_threshold_0 rfl (lv_at hl 0 rfl) ?_
  refine lv_iload_n hx hb dX0_threshold_1 rfl (lv_at hl 1 rfl) ?_
  refine ro_V (ci := 0) (q0 := 0) (rest := []) ⟨hx, hb, hml, hown, hts⟩ (mX0_has hP8) gX0_has hdX0_has ⟨Nat.le_of_ble_eq_true rfl, Nat.le_of_ble_eq_true rfl⟩ hK hP rfl rfl rfl rfl hl.1 rfl (Nat.le_of_ble_eq_true rfl) dX0_threshold_2 ⟨Nat.le_of_ble_eq_true rfl, Nat.le_of_ble_eq_true rfl⟩ ?_
  refine if_neB (tgt := 10) hx hb dX0_threshold_5 (by decide) (fun c5 => absurd c5 (by rw [hn]; decide)) (fun c5 => ?_)
  refine lv_iconst (v := -1) hx hb dX0_threshold_8 (by decide +kernel) ?_
  exact ro_iret hx hb hr hlk (rfl) dX0_threshold_9
set_option maxHeartbeats 1000000 in
set_option maxRecDepth 100000 in
/-- threshold: its items are withheld -/
theorem mX0_threshold_held {l : Launch} {D : va_G} {h : Nat → Nat} {d : Nat → ClassId} {P : Nat} {B K A : Nat → Nat} {S : Nat} {kn : Bool} {be on : Nat → Int32} {wi : Int32} {j : Nat} (hP8 : P < 256) (hB8 : ∀ b, B b < 256) (hj : j < 8) (hj1 : P.testBit j = true) (hs : B j &&& S ≠ 0) : RoMet l yX0_threshold cX0_threshold 6 (some .int) 5 112 D (w0 h d P B K A S kn be on wi) (t0 d) [.ref (h 0), .int (nI j)] (nI 51) := by
  refine ro_of (lv := [(0, .ref (h 0)), (1, .int (nI j))]) (by decide) (Nat.le_of_ble_eq_true rfl) rfl ?_
  intro p e s m below meth c hx hb hr hml hown hts hlk hP hK ls hl
  have hown : s.vm.findClass RX0 = some m.cls := hown
  refine lv_aload_n hx hb dX0_threshold_0 rfl (lv_at hl 0 rfl) ?_
  refine lv_iload_n hx hb dX0_threshold_1 rfl (lv_at hl 1 rfl) ?_
  refine ro_V (ci := 0) (q0 := 0) (rest := []) ⟨hx, hb, hml, hown, hts⟩ (mX0_hasj hP8 hj) gX0_has hdX0_has ⟨Nat.le_of_ble_eq_true rfl, Nat.le_of_ble_eq_true rfl⟩ hK hP rfl rfl rfl rfl hl.1 rfl (Nat.le_of_ble_eq_true rfl) dX0_threshold_2 ⟨Nat.le_of_ble_eq_true rfl, Nat.le_of_ble_eq_true rfl⟩ ?_
  refine if_neB (tgt := 10) hx hb dX0_threshold_5 (by decide) (fun c5 => ?_) (fun c5 => absurd c5 (by rw [hj1]; decide))
  refine lv_aload_n hx hb dX0_threshold_10 rfl (lv_at hl 0 rfl) ?_
  refine gf0_1 hx hb hts hown hK hP rfl rfl dX0_threshold_11 ?_
  refine lv_iload_n hx hb dX0_threshold_14 rfl (lv_at hl 1 rfl) ?_
  refine ld_s hx hb hK hP 1 0 rfl rfl (by omega) (by decide) (v := nI (B j)) (rfl) dX0_threshold_15 ?_
  refine lv_aload_n hx hb dX0_threshold_16 rfl (lv_at hl 0 rfl) ?_
  refine gf0_4 hx hb hts hown hK hP rfl rfl dX0_threshold_17 ?_
  refine an_N hx hb dX0_threshold_20 ?_
  refine if_eqN (tgt := 27) hx hb dX0_threshold_21 (by decide) (and_lt (by have := hB8 j; omega)) (fun c21 => absurd c21 (hs)) (fun c21 => ?_)
  refine lv_bipush (v := nI 51) hx hb dX0_threshold_24 (by decide +kernel) ?_
  exact ro_iret hx hb hr hlk (rfl) dX0_threshold_26
set_option maxHeartbeats 1000000 in
set_option maxRecDepth 100000 in
/-- threshold(j) -/
theorem mX0_threshold {l : Launch} {D : va_G} {h : Nat → Nat} {d : Nat → ClassId} {P : Nat} {B K A : Nat → Nat} {S : Nat} {kn : Bool} {be on : Nat → Int32} {wi : Int32} {j : Nat} (hP8 : P < 256) (hB8 : ∀ b, B b < 256) (hK4 : ∀ b, K b < 4) (hA50 : ∀ b, A b ≤ 50) (hks : KS P B K A S kn be on wi) (hj : j < 8) (hj1 : P.testBit j = true) (hs : B j &&& S = 0) : WrMet (U := (Nat → Int32) × (Nat → Int32)) l yX0_threshold cX0_threshold 6 (some .int) 5 112 D (w0 h d P B K A S kn be on wi) (t0 d) (as0 h) [.ref (h 0), .int (nI j)] (fun r u => r = thr P B K A S j ∧ Tab P B K A u.1 u.2) (fun u => w0 h d P B K A S true u.1 u.2 (nI (WN P B K A S))) := by
  refine wr_of (lv := [(0, .ref (h 0)), (1, .int (nI j))]) (by decide) (Nat.le_of_ble_eq_true rfl) rfl ?_
  intro p e s m below meth c hx hb hr hml hown hts hlk hK hP hD hS ls hl
  have hown : s.vm.findClass RX0 = some m.cls := hown
  refine lv_aload_n hx hb dX0_threshold_0 rfl (lv_at hl 0 rfl) ?_
  refine lv_iload_n hx hb dX0_threshold_1 rfl (lv_at hl 1 rfl) ?_
  refine ro_V (ci := 0) (q0 := 0) (rest := []) ⟨hx, hb, hml, hown, hts⟩ (mX0_hasj hP8 hj) gX0_has hdX0_has ⟨Nat.le_of_ble_eq_true rfl, Nat.le_of_ble_eq_true rfl⟩ hK hP rfl rfl rfl rfl hl.1 rfl (Nat.le_of_ble_eq_true rfl) dX0_threshold_2 ⟨Nat.le_of_ble_eq_true rfl, Nat.le_of_ble_eq_true rfl⟩ ?_
  refine if_neB (tgt := 10) hx hb dX0_threshold_5 (by decide) (fun c5 => ?_) (fun c5 => absurd c5 (by rw [hj1]; decide))
  refine lv_aload_n hx hb dX0_threshold_10 rfl (lv_at hl 0 rfl) ?_
  refine gf0_1 hx hb hts hown hK hP rfl rfl dX0_threshold_11 ?_
  refine lv_iload_n hx hb dX0_threshold_14 rfl (lv_at hl 1 rfl) ?_
  refine ld_s hx hb hK hP 1 0 rfl rfl (by omega) (by decide) (v := nI (B j)) (rfl) dX0_threshold_15 ?_
  refine lv_aload_n hx hb dX0_threshold_16 rfl (lv_at hl 0 rfl) ?_
  refine gf0_4 hx hb hts hown hK hP rfl rfl dX0_threshold_17 ?_
  refine an_N hx hb dX0_threshold_20 ?_
  refine if_eqN (tgt := 27) hx hb dX0_threshold_21 (by decide) (and_lt (by have := hB8 j; omega)) (fun c21 => ?_) (fun c21 => absurd c21 (fun z => z hs))
  refine lv_aload_n hx hb dX0_threshold_27 rfl (lv_at hl 0 rfl) ?_
  refine wv_V (ci := 0) (q0 := 0) (rest := []) ⟨hx, hb, hml, hown, hts⟩ (mX0_learn hP8 hB8 hK4 hA50 hks) gX0_learn hdX0_learn ⟨Nat.le_of_ble_eq_true rfl, Nat.le_of_ble_eq_true rfl⟩ hK hP hD hS (fun _ z => z) wo_nil wo_dis rfl rfl rfl rfl hl.1 rfl (Nat.le_of_ble_eq_true rfl) dX0_threshold_28 ⟨Nat.le_of_ble_eq_true rfl, Nat.le_of_ble_eq_true rfl⟩ (fun u H locs hq hP2 _ hS => ?_)
  obtain ⟨be2, on2⟩ := u
  have hT : Tab P B K A be2 on2 := hq
  have hD : va_D (fun q => q ∈ (as0 h)) (w0 h d P B K A S true be2 on2 (nI (WN P B K A S))) := va_D.same hD rfl
  have hP : va_P D vwCl (w0 h d P B K A S true be2 on2 (nI (WN P B K A S))) H := hP2
  refine lv_aload_n hx hb dX0_threshold_31 rfl (lv_at hl 0 rfl) ?_
  refine ro_V (ci := 0) (q0 := 0) (rest := []) ⟨hx, hb, hml, hown, hts⟩ (mX0_offered) gX0_offered hdX0_offered ⟨Nat.le_of_ble_eq_true rfl, Nat.le_of_ble_eq_true rfl⟩ hK hP rfl rfl rfl rfl hl.1 rfl (Nat.le_of_ble_eq_true rfl) dX0_threshold_32 ⟨Nat.le_of_ble_eq_true rfl, Nat.le_of_ble_eq_true rfl⟩ ?_
  refine lv_istore_n (lv' := [(2, .int (nI (off S))), (0, .ref (h 0)), (1, .int (nI j))]) hx hb dX0_threshold_35 rfl hl (by decide) rfl (fun ls hl => ?_)
  refine lv_aload_n hx hb dX0_threshold_36 rfl (lv_at hl 1 rfl) ?_
  refine lv_aload_n hx hb dX0_threshold_37 rfl (lv_at hl 1 rfl) ?_
  refine gf0_2 hx hb hts hown hK hP rfl rfl dX0_threshold_38 ?_
  refine lv_iload_n hx hb dX0_threshold_41 rfl (lv_at hl 2 rfl) ?_
  refine ld_b hx hb hK hP 2 1 rfl rfl (by omega) (by decide) (v := nI (K j)) (rfl) dX0_threshold_42 ?_
  refine lv_iload_n hx hb dX0_threshold_43 rfl (lv_at hl 0 rfl) ?_
  refine lv_aload_n hx hb dX0_threshold_44 rfl (lv_at hl 1 rfl) ?_
  refine gf0_1 hx hb hts hown hK hP rfl rfl dX0_threshold_45 ?_
  refine lv_iload_n hx hb dX0_threshold_48 rfl (lv_at hl 2 rfl) ?_
  refine ld_s hx hb hK hP 1 0 rfl rfl (by omega) (by decide) (v := nI (B j)) (rfl) dX0_threshold_49 ?_
  refine lv_iconst (v := -1) hx hb dX0_threshold_50 (by decide +kernel) ?_
  refine lv_ixor hx hb dX0_threshold_51 ?_
  refine nd_N hx hb dX0_threshold_52 ?_
  refine ro_V (ci := 0) (q0 := 0) (rest := []) ⟨hx, hb, hml, hown, hts⟩ (mX0_sumWithout hP8 hB8 hK4 hA50 (hK4 j) (nd_lt (off_lt S)) hT.1 hT.2) gX0_sumWithout hdX0_sumWithout ⟨Nat.le_of_ble_eq_true rfl, Nat.le_of_ble_eq_true rfl⟩ hK hP rfl rfl rfl rfl hl.1 rfl (Nat.le_of_ble_eq_true rfl) dX0_threshold_53 ⟨Nat.le_of_ble_eq_true rfl, Nat.le_of_ble_eq_true rfl⟩ ?_
  refine lv_istore_n (lv' := [(3, .int (nI (sw P B K A (K j) (nd (off S) (B j)) 256))), (2, .int (nI (off S))), (0, .ref (h 0)), (1, .int (nI j))]) hx hb dX0_threshold_56 rfl hl (by decide) rfl (fun ls hl => ?_)
  refine lv_aload_n hx hb dX0_threshold_57 rfl (lv_at hl 2 rfl) ?_
  refine lv_iload_n hx hb dX0_threshold_58 rfl (lv_at hl 3 rfl) ?_
  refine ro_V (ci := 0) (q0 := 0) (rest := []) ⟨hx, hb, hml, hown, hts⟩ (mX0_sumLacking hP8 hB8 hK4 hA50 hj hT.1 hT.2) gX0_sumLacking hdX0_sumLacking ⟨Nat.le_of_ble_eq_true rfl, Nat.le_of_ble_eq_true rfl⟩ hK hP rfl rfl rfl rfl hl.1 rfl (Nat.le_of_ble_eq_true rfl) dX0_threshold_59 ⟨Nat.le_of_ble_eq_true rfl, Nat.le_of_ble_eq_true rfl⟩ ?_
  refine lv_istore (lv' := [(4, .int (nI (slk P B K A j (off S) 8))), (3, .int (nI (sw P B K A (K j) (nd (off S) (B j)) 256))), (2, .int (nI (off S))), (0, .ref (h 0)), (1, .int (nI j))]) hx hb dX0_threshold_62 hl (by decide) rfl (fun ls hl => ?_)
  have hsw := sw_le (P := P) (B := B) (K := K) hA50 (Nat.le_of_lt (hK4 j)) (nd (off S) (B j)) 256
  have hsl := slk_le (P := P) (B := B) hA50 hK4 j (off S) 8
  have h27 : 2 ^ (7 - j) ≤ 2 ^ 7 := Nat.pow_le_pow_right (by decide) (by omega)
  refine lv_iconst (v := nI 1) hx hb dX0_threshold_64 (by decide +kernel) ?_
  refine lv_istore (lv' := [(5, .int (nI 1)), (4, .int (nI (slk P B K A j (off S) 8))), (3, .int (nI (sw P B K A (K j) (nd (off S) (B j)) 256))), (2, .int (nI (off S))), (0, .ref (h 0)), (1, .int (nI j))]) hx hb dX0_threshold_65 hl (by decide) rfl (fun ls hl => ?_)
  have lp67 : ∀ n i : Nat, i + n = 51 → ∀ (H : Heap) (locs : List Loc) (ls : Array Slot), ((match ff (fun w => decide (slk P B K A j (off S) 8 < w * 256 + 2 ^ (7 - j) + sw P B K A (K j) (nd (off S) (B j)) 256)) n i with | none => nI 51 | some w => nI w) = thr P B K A S j) → va_P D vwCl (w0 h d P B K A S true be2 on2 (nI (WN P B K A S))) H → va_D (fun q => q ∈ (as0 h)) (w0 h d P B K A S true be2 on2 (nI (WN P B K A S))) → va_S (fun q => q ∈ (as0 h)) s.heap H locs → lv_has ls 6 [(0, .ref (h 0)), (1, .int (nI j)), (3, .int (nI (sw P B K A (K j) (nd (off S) (B j)) 256))), (4, .int (nI (slk P B K A j (off S) 8))), (5, .int (nI i))] → WR (U := (Nat → Int32) × (Nat → Int32)) p l e s m below meth c 5 112 D (as0 h) [.ref (h 0), .int (nI j)] (fun r u => r = thr P B K A S j ∧ Tab P B K A u.1 u.2) (fun u => w0 h d P B K A S true u.1 u.2 (nI (WN P B K A S))) H locs 67 ls [] := by
    intro n
    induction n with
    | zero =>
      intro i hi H locs ls hff hP hD hS hl
      have hi : i = 51 := by omega
      subst hi
      refine lv_iload hx hb dX0_threshold_67 (lv_at hl 4 rfl) ?_
      refine lv_bipush (v := nI 50) hx hb dX0_threshold_69 (by decide +kernel) ?_
      refine ic_gt (tgt := 101) hx hb dX0_threshold_71 (by decide) (by omega) (by omega) (fun c71 => ?_) (fun c71 => absurd c71 (by omega))
      refine lv_bipush (v := nI 51) hx hb dX0_threshold_101 (by decide +kernel) ?_
      exact wr_iret hx hb hr hlk hS ((be2, on2)) hP (⟨by rw [← hff]; rfl, hT⟩) dX0_threshold_103
    | succ n ih =>
      intro i hi H locs ls hff hP hD hS hl
      have hii : i < 51 := by omega
      refine lv_iload hx hb dX0_threshold_67 (lv_at hl 4 rfl) ?_
      refine lv_bipush (v := nI 50) hx hb dX0_threshold_69 (by decide +kernel) ?_
      refine ic_gt (tgt := 101) hx hb dX0_threshold_71 (by decide) (by omega) (by omega) (fun c71 => absurd c71 (by omega)) (fun c71 => ?_)
      refine lv_iload hx hb dX0_threshold_74 (lv_at hl 4 rfl) ?_
      refine lv_sipush (v := nI 256) hx hb dX0_threshold_76 (by decide +kernel) ?_
      refine im_N hx hb dX0_threshold_79 ?_
      refine lv_iload_n hx hb dX0_threshold_80 rfl (lv_at hl 1 rfl) ?_
      refine ro_S (rest := [.int (nI (i * 256))]) ⟨hx, hb, hml, hown, hts⟩ (mX0_mark hj) gX0_mark hdX0_mark ⟨Nat.le_of_ble_eq_true rfl, Nat.le_of_ble_eq_true rfl⟩ rfl hl.1 rfl (Nat.le_of_ble_eq_true rfl) dX0_threshold_81 ⟨Nat.le_of_ble_eq_true rfl, Nat.le_of_ble_eq_true rfl⟩ ?_
      refine ia_N hx hb dX0_threshold_84 ?_
      refine lv_iload_n hx hb dX0_threshold_85 rfl (lv_at hl 2 rfl) ?_
      refine ia_N hx hb dX0_threshold_86 ?_
      refine lv_iload hx hb dX0_threshold_87 (lv_at hl 3 rfl) ?_
      refine ic_le (tgt := 95) hx hb dX0_threshold_89 (by decide) (by omega) (by omega) (fun c89 => ?_) (fun c89 => ?_)
      · refine lv_iinc (v := nI (i + 1)) (lv' := [(5, .int (nI (i + 1))), (0, .ref (h 0)), (1, .int (nI j)), (3, .int (nI (sw P B K A (K j) (nd (off S) (B j)) 256))), (4, .int (nI (slk P B K A j (off S) 8)))]) hx hb dX0_threshold_95 hl (k := 4) rfl (nI_1 i) (by decide) rfl (fun ls hl => ?_)
        refine lv_goto (tgt := 67) hx hb dX0_threshold_98 (by decide) ?_
        exact ih (i + 1) (by omega) _ _ ls (by rw [← hff, ff, if_neg (by simp; omega)]) hP hD hS (lv_sub hl [1, 2, 3, 4, 0] rfl)
      · refine lv_iload hx hb dX0_threshold_92 (lv_at hl 4 rfl) ?_
        exact wr_iret hx hb hr hlk hS ((be2, on2)) hP (⟨by rw [← hff, ff, if_pos (by simp; omega)], hT⟩) dX0_threshold_94
  exact lp67 50 1 (by omega) _ _ ls (rfl) hP hD hS (lv_sub hl [4, 5, 2, 1, 0] rfl)
set_option maxHeartbeats 1000000 in
set_option maxRecDepth 100000 in
/-- revenueWith: no such bid -/
theorem mX0_revenueWith_no {l : Launch} {D : va_G} {h : Nat → Nat} {d : Nat → ClassId} {P : Nat} {B K A : Nat → Nat} {S : Nat} {kn : Bool} {be on : Nat → Int32} {wi : Int32} {x : Int32} (hP8 : P < 256) (hn : hasb P x = false) : RoMet l yX0_revenueWith cX0_revenueWith 4 (some .int) 5 112 D (w0 h d P B K A S kn be on wi) (t0 d) [.ref (h 0), .int (x)] (-1) := by
  refine ro_of (lv := [(0, .ref (h 0)), (1, .int (x))]) (by decide) (Nat.le_of_ble_eq_true rfl) rfl ?_
  intro p e s m below meth c hx hb hr hml hown hts hlk hP hK ls hl
  have hown : s.vm.findClass RX0 = some m.cls := hown
  refine lv_aload_n hx hb dX0_revenueWith_0 rfl (lv_at hl 0 rfl) ?_
  refine lv_iload_n hx hb dX0_revenueWith_1 rfl (lv_at hl 1 rfl) ?_
  refine ro_V (ci := 0) (q0 := 0) (rest := []) ⟨hx, hb, hml, hown, hts⟩ (mX0_has hP8) gX0_has hdX0_has ⟨Nat.le_of_ble_eq_true rfl, Nat.le_of_ble_eq_true rfl⟩ hK hP rfl rfl rfl rfl hl.1 rfl (Nat.le_of_ble_eq_true rfl) dX0_revenueWith_2 ⟨Nat.le_of_ble_eq_true rfl, Nat.le_of_ble_eq_true rfl⟩ ?_
  refine if_eqB (tgt := 22) hx hb dX0_revenueWith_5 (by decide) (fun c5 => ?_) (fun c5 => absurd c5 (by rw [hn]; decide))
  refine lv_iconst (v := -1) hx hb dX0_revenueWith_22 (by decide +kernel) ?_
  exact ro_iret hx hb hr hlk (rfl) dX0_revenueWith_23
set_option maxHeartbeats 1000000 in
set_option maxRecDepth 100000 in
/-- revenueWith: its items are withheld -/
theorem mX0_revenueWith_held {l : Launch} {D : va_G} {h : Nat → Nat} {d : Nat → ClassId} {P : Nat} {B K A : Nat → Nat} {S : Nat} {kn : Bool} {be on : Nat → Int32} {wi : Int32} {j : Nat} (hP8 : P < 256) (hB8 : ∀ b, B b < 256) (hj : j < 8) (hj1 : P.testBit j = true) (hs : B j &&& S ≠ 0) : RoMet l yX0_revenueWith cX0_revenueWith 4 (some .int) 5 112 D (w0 h d P B K A S kn be on wi) (t0 d) [.ref (h 0), .int (nI j)] (-1) := by
  refine ro_of (lv := [(0, .ref (h 0)), (1, .int (nI j))]) (by decide) (Nat.le_of_ble_eq_true rfl) rfl ?_
  intro p e s m below meth c hx hb hr hml hown hts hlk hP hK ls hl
  have hown : s.vm.findClass RX0 = some m.cls := hown
  refine lv_aload_n hx hb dX0_revenueWith_0 rfl (lv_at hl 0 rfl) ?_
  refine lv_iload_n hx hb dX0_revenueWith_1 rfl (lv_at hl 1 rfl) ?_
  refine ro_V (ci := 0) (q0 := 0) (rest := []) ⟨hx, hb, hml, hown, hts⟩ (mX0_hasj hP8 hj) gX0_has hdX0_has ⟨Nat.le_of_ble_eq_true rfl, Nat.le_of_ble_eq_true rfl⟩ hK hP rfl rfl rfl rfl hl.1 rfl (Nat.le_of_ble_eq_true rfl) dX0_revenueWith_2 ⟨Nat.le_of_ble_eq_true rfl, Nat.le_of_ble_eq_true rfl⟩ ?_
  refine if_eqB (tgt := 22) hx hb dX0_revenueWith_5 (by decide) (fun c5 => absurd c5 (by rw [hj1]; decide)) (fun c5 => ?_)
  refine lv_aload_n hx hb dX0_revenueWith_8 rfl (lv_at hl 0 rfl) ?_
  refine gf0_1 hx hb hts hown hK hP rfl rfl dX0_revenueWith_9 ?_
  refine lv_iload_n hx hb dX0_revenueWith_12 rfl (lv_at hl 1 rfl) ?_
  refine ld_s hx hb hK hP 1 0 rfl rfl (by omega) (by decide) (v := nI (B j)) (rfl) dX0_revenueWith_13 ?_
  refine lv_aload_n hx hb dX0_revenueWith_14 rfl (lv_at hl 0 rfl) ?_
  refine gf0_4 hx hb hts hown hK hP rfl rfl dX0_revenueWith_15 ?_
  refine an_N hx hb dX0_revenueWith_18 ?_
  refine if_eqN (tgt := 24) hx hb dX0_revenueWith_19 (by decide) (and_lt (by have := hB8 j; omega)) (fun c19 => absurd c19 (hs)) (fun c19 => ?_)
  refine lv_iconst (v := -1) hx hb dX0_revenueWith_22 (by decide +kernel) ?_
  exact ro_iret hx hb hr hlk (rfl) dX0_revenueWith_23
set_option maxHeartbeats 1000000 in
set_option maxRecDepth 100000 in
/-- revenueWith(j) -/
theorem mX0_revenueWith {l : Launch} {D : va_G} {h : Nat → Nat} {d : Nat → ClassId} {P : Nat} {B K A : Nat → Nat} {S : Nat} {kn : Bool} {be on : Nat → Int32} {wi : Int32} {j : Nat} (hP8 : P < 256) (hB8 : ∀ b, B b < 256) (hK4 : ∀ b, K b < 4) (hA50 : ∀ b, A b ≤ 50) (hks : KS P B K A S kn be on wi) (hj : j < 8) (hj1 : P.testBit j = true) (hs : B j &&& S = 0) : WrMet (U := (Nat → Int32) × (Nat → Int32)) l yX0_revenueWith cX0_revenueWith 4 (some .int) 5 112 D (w0 h d P B K A S kn be on wi) (t0 d) (as0 h) [.ref (h 0), .int (nI j)] (fun r u => r = nI (A j + sw P B K A (K j) (nd (off S) (B j)) 256 / 256) ∧ Tab P B K A u.1 u.2) (fun u => w0 h d P B K A S true u.1 u.2 (nI (WN P B K A S))) := by
  refine wr_of (lv := [(0, .ref (h 0)), (1, .int (nI j))]) (by decide) (Nat.le_of_ble_eq_true rfl) rfl ?_
  intro p e s m below meth c hx hb hr hml hown hts hlk hK hP hD hS ls hl
  have hown : s.vm.findClass RX0 = some m.cls := hown
  refine lv_aload_n hx hb dX0_revenueWith_0 rfl (lv_at hl 0 rfl) ?_
  refine lv_iload_n hx hb dX0_revenueWith_1 rfl (lv_at hl 1 rfl) ?_
  refine ro_V (ci := 0) (q0 := 0) (rest := []) ⟨hx, hb, hml, hown, hts⟩ (mX0_hasj hP8 hj) gX0_has hdX0_has ⟨Nat.le_of_ble_eq_true rfl, Nat.le_of_ble_eq_true rfl⟩ hK hP rfl rfl rfl rfl hl.1 rfl (Nat.le_of_ble_eq_true rfl) dX0_revenueWith_2 ⟨Nat.le_of_ble_eq_true rfl, Nat.le_of_ble_eq_true rfl⟩ ?_
  refine if_eqB (tgt := 22) hx hb dX0_revenueWith_5 (by decide) (fun c5 => absurd c5 (by rw [hj1]; decide)) (fun c5 => ?_)
  refine lv_aload_n hx hb dX0_revenueWith_8 rfl (lv_at hl 0 rfl) ?_
  refine gf0_1 hx hb hts hown hK hP rfl rfl dX0_revenueWith_9 ?_
  refine lv_iload_n hx hb dX0_revenueWith_12 rfl (lv_at hl 1 rfl) ?_
  refine ld_s hx hb hK hP 1 0 rfl rfl (by omega) (by decide) (v := nI (B j)) (rfl) dX0_revenueWith_13 ?_
  refine lv_aload_n hx hb dX0_revenueWith_14 rfl (lv_at hl 0 rfl) ?_
  refine gf0_4 hx hb hts hown hK hP rfl rfl dX0_revenueWith_15 ?_
  refine an_N hx hb dX0_revenueWith_18 ?_
  refine if_eqN (tgt := 24) hx hb dX0_revenueWith_19 (by decide) (and_lt (by have := hB8 j; omega)) (fun c19 => ?_) (fun c19 => absurd c19 (fun z => z hs))
  refine lv_aload_n hx hb dX0_revenueWith_24 rfl (lv_at hl 0 rfl) ?_
  refine wv_V (ci := 0) (q0 := 0) (rest := []) ⟨hx, hb, hml, hown, hts⟩ (mX0_learn hP8 hB8 hK4 hA50 hks) gX0_learn hdX0_learn ⟨Nat.le_of_ble_eq_true rfl, Nat.le_of_ble_eq_true rfl⟩ hK hP hD hS (fun _ z => z) wo_nil wo_dis rfl rfl rfl rfl hl.1 rfl (Nat.le_of_ble_eq_true rfl) dX0_revenueWith_25 ⟨Nat.le_of_ble_eq_true rfl, Nat.le_of_ble_eq_true rfl⟩ (fun u H locs hq hP2 _ hS => ?_)
  obtain ⟨be2, on2⟩ := u
  have hT : Tab P B K A be2 on2 := hq
  have hD : va_D (fun q => q ∈ (as0 h)) (w0 h d P B K A S true be2 on2 (nI (WN P B K A S))) := va_D.same hD rfl
  have hP : va_P D vwCl (w0 h d P B K A S true be2 on2 (nI (WN P B K A S))) H := hP2
  refine lv_aload_n hx hb dX0_revenueWith_28 rfl (lv_at hl 0 rfl) ?_
  refine ro_V (ci := 0) (q0 := 0) (rest := []) ⟨hx, hb, hml, hown, hts⟩ (mX0_offered) gX0_offered hdX0_offered ⟨Nat.le_of_ble_eq_true rfl, Nat.le_of_ble_eq_true rfl⟩ hK hP rfl rfl rfl rfl hl.1 rfl (Nat.le_of_ble_eq_true rfl) dX0_revenueWith_29 ⟨Nat.le_of_ble_eq_true rfl, Nat.le_of_ble_eq_true rfl⟩ ?_
  refine lv_aload_n hx hb dX0_revenueWith_32 rfl (lv_at hl 0 rfl) ?_
  refine gf0_1 hx hb hts hown hK hP rfl rfl dX0_revenueWith_33 ?_
  refine lv_iload_n hx hb dX0_revenueWith_36 rfl (lv_at hl 1 rfl) ?_
  refine ld_s hx hb hK hP 1 0 rfl rfl (by omega) (by decide) (v := nI (B j)) (rfl) dX0_revenueWith_37 ?_
  refine lv_iconst (v := -1) hx hb dX0_revenueWith_38 (by decide +kernel) ?_
  refine lv_ixor hx hb dX0_revenueWith_39 ?_
  refine nd_N hx hb dX0_revenueWith_40 ?_
  refine lv_istore_n (lv' := [(2, .int (nI (nd (off S) (B j)))), (0, .ref (h 0)), (1, .int (nI j))]) hx hb dX0_revenueWith_41 rfl hl (by decide) rfl (fun ls hl => ?_)
  refine lv_aload_n hx hb dX0_revenueWith_42 rfl (lv_at hl 1 rfl) ?_
  refine lv_aload_n hx hb dX0_revenueWith_43 rfl (lv_at hl 1 rfl) ?_
  refine gf0_2 hx hb hts hown hK hP rfl rfl dX0_revenueWith_44 ?_
  refine lv_iload_n hx hb dX0_revenueWith_47 rfl (lv_at hl 2 rfl) ?_
  refine ld_b hx hb hK hP 2 1 rfl rfl (by omega) (by decide) (v := nI (K j)) (rfl) dX0_revenueWith_48 ?_
  refine lv_iload_n hx hb dX0_revenueWith_49 rfl (lv_at hl 0 rfl) ?_
  refine ro_V (ci := 0) (q0 := 0) (rest := []) ⟨hx, hb, hml, hown, hts⟩ (mX0_sumWithout hP8 hB8 hK4 hA50 (hK4 j) (nd_lt (off_lt S)) hT.1 hT.2) gX0_sumWithout hdX0_sumWithout ⟨Nat.le_of_ble_eq_true rfl, Nat.le_of_ble_eq_true rfl⟩ hK hP rfl rfl rfl rfl hl.1 rfl (Nat.le_of_ble_eq_true rfl) dX0_revenueWith_50 ⟨Nat.le_of_ble_eq_true rfl, Nat.le_of_ble_eq_true rfl⟩ ?_
  refine lv_istore_n (lv' := [(3, .int (nI (sw P B K A (K j) (nd (off S) (B j)) 256))), (2, .int (nI (nd (off S) (B j)))), (0, .ref (h 0)), (1, .int (nI j))]) hx hb dX0_revenueWith_53 rfl hl (by decide) rfl (fun ls hl => ?_)
  refine lv_aload_n hx hb dX0_revenueWith_54 rfl (lv_at hl 2 rfl) ?_
  refine gf0_3 hx hb hts hown hK hP rfl rfl dX0_revenueWith_55 ?_
  refine lv_iload_n hx hb dX0_revenueWith_58 rfl (lv_at hl 3 rfl) ?_
  refine ld_b hx hb hK hP 3 2 rfl rfl (by omega) (by decide) (v := nI (A j)) (rfl) dX0_revenueWith_59 ?_
  refine lv_iload_n hx hb dX0_revenueWith_60 rfl (lv_at hl 0 rfl) ?_
  refine lv_bipush (v := nI 8) hx hb dX0_revenueWith_61 (by decide +kernel) ?_
  refine s8_N hx hb dX0_revenueWith_63 (by have := sw_le (P := P) (B := B) (K := K) hA50 (Nat.le_of_lt (hK4 j)) (nd (off S) (B j)) 256; omega) ?_
  refine ia_N hx hb dX0_revenueWith_64 ?_
  exact wr_iret hx hb hr hlk hS ((be2, on2)) hP (⟨rfl, hT⟩) dX0_revenueWith_65
set_option maxHeartbeats 1000000 in
set_option maxRecDepth 100000 in
/-- price: no such item -/
theorem mX0_price_no {l : Launch} {D : va_G} {h : Nat → Nat} {d : Nat → ClassId} {P : Nat} {B K A : Nat → Nat} {S : Nat} {kn : Bool} {be on : Nat → Int32} {wi : Int32} {x : Int32} (hn : inr 8 x = false) : RoMet l yX0_price cX0_price 4 (some .int) 6 133 D (w0 h d P B K A S kn be on wi) (t0 d) [.ref (h 0), .int (x)] (-1) := by
  refine ro_of (lv := [(0, .ref (h 0)), (1, .int (x))]) (by decide) (Nat.le_of_ble_eq_true rfl) rfl ?_
  intro p e s m below meth c hx hb hr hml hown hts hlk hP hK ls hl
  have hown : s.vm.findClass RX0 = some m.cls := hown
  refine lv_iload_n hx hb dX0_price_0 rfl (lv_at hl 1 rfl) ?_
  refine lv_if_lt (tgt := 10) hx hb dX0_price_1 (by decide) (fun c1 => ?_) (fun c1 => ?_)
  · refine lv_iconst (v := -1) hx hb dX0_price_10 (by decide +kernel) ?_
    exact ro_iret hx hb hr hlk (rfl) dX0_price_11
  · refine lv_iload_n hx hb dX0_price_4 rfl (lv_at hl 1 rfl) ?_
    refine lv_bipush (v := nI 8) hx hb dX0_price_5 (by decide +kernel) ?_
    refine lv_icmp_lt (tgt := 12) hx hb dX0_price_7 (by decide) (fun c7 => ?_) (fun c7 => ?_)
    · exact absurd (inr_t (n := 8) c1 (fun z => (Int32.not_lt.mpr z) c7)) (by rw [hn]; decide)
    · refine lv_iconst (v := -1) hx hb dX0_price_10 (by decide +kernel) ?_
      exact ro_iret hx hb hr hlk (rfl) dX0_price_11
set_option maxHeartbeats 1000000 in
set_option maxRecDepth 100000 in
/-- price(j) -/
theorem mX0_price {l : Launch} {D : va_G} {h : Nat → Nat} {d : Nat → ClassId} {P : Nat} {B K A : Nat → Nat} {S : Nat} {kn : Bool} {be on : Nat → Int32} {wi : Int32} {j : Nat} (hP8 : P < 256) (hB8 : ∀ b, B b < 256) (hK4 : ∀ b, K b < 4) (hA50 : ∀ b, A b ≤ 50) (hks : KS P B K A S kn be on wi) (hj : j < 8) : WrMet (U := (Nat → Int32) × (Nat → Int32)) l yX0_price cX0_price 4 (some .int) 6 133 D (w0 h d P B K A S kn be on wi) (t0 d) (as0 h) [.ref (h 0), .int (nI j)] (fun r u => r = nI (Fb P B K A 4 (off S) / 256) - nI (Fb P B K A 4 (nd (off S) (2 ^ j)) / 256) ∧ Tab P B K A u.1 u.2) (fun u => w0 h d P B K A S true u.1 u.2 (nI (WN P B K A S))) := by
  refine wr_of (lv := [(0, .ref (h 0)), (1, .int (nI j))]) (by decide) (Nat.le_of_ble_eq_true rfl) rfl ?_
  intro p e s m below meth c hx hb hr hml hown hts hlk hK hP hD hS ls hl
  have hown : s.vm.findClass RX0 = some m.cls := hown
  refine lv_iload_n hx hb dX0_price_0 rfl (lv_at hl 1 rfl) ?_
  refine if_ltN (tgt := 10) hx hb dX0_price_1 (by decide) (by omega) ?_
  refine lv_iload_n hx hb dX0_price_4 rfl (lv_at hl 1 rfl) ?_
  refine lv_bipush (v := nI 8) hx hb dX0_price_5 (by decide +kernel) ?_
  refine ic_lt (tgt := 12) hx hb dX0_price_7 (by decide) (by omega) (by omega) (fun c7 => ?_) (fun c7 => absurd c7 (by omega))
  refine lv_aload_n hx hb dX0_price_12 rfl (lv_at hl 0 rfl) ?_
  refine wv_V (ci := 0) (q0 := 0) (rest := []) ⟨hx, hb, hml, hown, hts⟩ (mX0_learn hP8 hB8 hK4 hA50 hks) gX0_learn hdX0_learn ⟨Nat.le_of_ble_eq_true rfl, Nat.le_of_ble_eq_true rfl⟩ hK hP hD hS (fun _ z => z) wo_nil wo_dis rfl rfl rfl rfl hl.1 rfl (Nat.le_of_ble_eq_true rfl) dX0_price_13 ⟨Nat.le_of_ble_eq_true rfl, Nat.le_of_ble_eq_true rfl⟩ (fun u H locs hq hP2 _ hS => ?_)
  obtain ⟨be2, on2⟩ := u
  have hT : Tab P B K A be2 on2 := hq
  have hD : va_D (fun q => q ∈ (as0 h)) (w0 h d P B K A S true be2 on2 (nI (WN P B K A S))) := va_D.same hD rfl
  have hP : va_P D vwCl (w0 h d P B K A S true be2 on2 (nI (WN P B K A S))) H := hP2
  refine lv_aload_n hx hb dX0_price_16 rfl (lv_at hl 0 rfl) ?_
  refine ro_V (ci := 0) (q0 := 0) (rest := []) ⟨hx, hb, hml, hown, hts⟩ (mX0_offered) gX0_offered hdX0_offered ⟨Nat.le_of_ble_eq_true rfl, Nat.le_of_ble_eq_true rfl⟩ hK hP rfl rfl rfl rfl hl.1 rfl (Nat.le_of_ble_eq_true rfl) dX0_price_17 ⟨Nat.le_of_ble_eq_true rfl, Nat.le_of_ble_eq_true rfl⟩ ?_
  refine lv_iconst (v := nI 1) hx hb dX0_price_20 (by decide +kernel) ?_
  refine lv_iload_n hx hb dX0_price_21 rfl (lv_at hl 1 rfl) ?_
  refine sh_N hx hb dX0_price_22 (by omega) ?_
  refine lv_iconst (v := -1) hx hb dX0_price_23 (by decide +kernel) ?_
  refine lv_ixor hx hb dX0_price_24 ?_
  refine nd_N hx hb dX0_price_25 ?_
  refine lv_istore_n (lv' := [(2, .int (nI (nd (off S) (2 ^ j)))), (0, .ref (h 0)), (1, .int (nI j))]) hx hb dX0_price_26 rfl hl (by decide) rfl (fun ls hl => ?_)
  have hoff := nd_lt (b := 2 ^ j) (off_lt S)
  have hF := Fb_le (P := P) (B := B) (K := K) hA50 (show 4 ≤ 4 by omega) (nd (off S) (2 ^ j))
  refine lv_aload_n hx hb dX0_price_27 rfl (lv_at hl 1 rfl) ?_
  refine gf0_6 hx hb hts hown hK hP rfl rfl dX0_price_28 ?_
  refine lv_sipush (v := nI 1024) hx hb dX0_price_31 (by decide +kernel) ?_
  refine lv_iload_n hx hb dX0_price_34 rfl (lv_at hl 0 rfl) ?_
  refine ia_N hx hb dX0_price_35 ?_
  refine ld_i hx hb hK hP 4 3 rfl rfl (by omega) (by decide) (v := nI (Fb P B K A 4 (nd (off S) (2 ^ j)))) (hT.1 4 _ (by omega) (nd_lt (off_lt S))) dX0_price_36 ?_
  refine lv_bipush (v := nI 8) hx hb dX0_price_37 (by decide +kernel) ?_
  refine s8_N hx hb dX0_price_39 (by omega) ?_
  refine lv_istore_n (lv' := [(3, .int (nI ((Fb P B K A 4 (nd (off S) (2 ^ j))) / 256))), (2, .int (nI (nd (off S) (2 ^ j)))), (0, .ref (h 0)), (1, .int (nI j))]) hx hb dX0_price_40 rfl hl (by decide) rfl (fun ls hl => ?_)
  refine lv_aload_n hx hb dX0_price_41 rfl (lv_at hl 2 rfl) ?_
  refine wr_V (ci := 0) (q0 := 0) (rest := []) ⟨hx, hb, hml, hown, hts⟩ (mX0_revenue hP8 hB8 hK4 hA50 (fun _ => ⟨hT, rfl⟩)) gX0_revenue hdX0_revenue ⟨Nat.le_of_ble_eq_true rfl, Nat.le_of_ble_eq_true rfl⟩ hK hP hD hS (fun _ z => z) wo_nil wo_dis rfl rfl rfl rfl hl.1 rfl (Nat.le_of_ble_eq_true rfl) dX0_price_42 ⟨Nat.le_of_ble_eq_true rfl, Nat.le_of_ble_eq_true rfl⟩ (fun r u H locs hq hP2 _ hS => ?_)
  obtain ⟨be3, on3⟩ := u
  obtain ⟨hrv, hT3⟩ := hq
  subst hrv
  have hT3 : Tab P B K A be3 on3 := hT3
  have hD : va_D (fun q => q ∈ (as0 h)) (w0 h d P B K A S true be3 on3 (nI (WN P B K A S))) := va_D.same hD rfl
  have hP : va_P D vwCl (w0 h d P B K A S true be3 on3 (nI (WN P B K A S))) H := hP2
  refine lv_iload_n hx hb dX0_price_45 rfl (lv_at hl 0 rfl) ?_
  refine lv_isub hx hb dX0_price_46 ?_
  exact wr_iret hx hb hr hlk hS ((be3, on3)) hP (⟨rfl, hT3⟩) dX0_price_47
theorem nI_0_32 {n : Nat} (h : n < 2 ^ 32) : nI n = 0 ↔ n = 0 := by
  constructor
  · intro z
    have h1 := congrArg (fun x : Int32 => x.toBitVec.toNat) z
    have h2 : (nI n).toBitVec.toNat = n := pk_tn h
    have h3 : (0 : Int32).toBitVec.toNat = 0 := rfl
    have h1 : (nI n).toBitVec.toNat = (0 : Int32).toBitVec.toNat := h1
    omega
  · intro z
    rw [z]
    exact nI_0
theorem int_32 (x : Int32) : ∃ n, n < 2 ^ 32 ∧ x = nI n := ⟨x.toBitVec.toNat, x.toBitVec.isLt, Int32.toBitVec_inj.mp (by show _ = BitVec.ofNat 32 _; simp)⟩
set_option maxHeartbeats 1000000 in
set_option maxRecDepth 100000 in
/-- allocation: a bid that does not stand -/
theorem mX0_allocation_no {l : Launch} {D : va_G} {h : Nat → Nat} {d : Nat → ClassId} {P : Nat} {B K A : Nat → Nat} {S : Nat} {kn : Bool} {be on : Nat → Int32} {wi : Int32} {X : Nat} (hX : X < 2 ^ 32) (hn : nd X P ≠ 0) : RoMet l yX0_allocation cX0_allocation 5 (some .boolean) 0 0 D (w0 h d P B K A S kn be on wi) (t0 d) [.ref (h 0), .int (nI X)] (bI false) := by
  refine ro_of (lv := [(0, .ref (h 0)), (1, .int (nI X))]) (by decide) (Nat.le_of_ble_eq_true rfl) rfl ?_
  intro p e s m below meth c hx hb hr hml hown hts hlk hP hK ls hl
  have hown : s.vm.findClass RX0 = some m.cls := hown
  refine lv_iload_n hx hb dX0_allocation_0 rfl (lv_at hl 1 rfl) ?_
  refine lv_aload_n hx hb dX0_allocation_1 rfl (lv_at hl 0 rfl) ?_
  refine gf0_0 hx hb hts hown hK hP rfl rfl dX0_allocation_2 ?_
  refine lv_iconst (v := -1) hx hb dX0_allocation_5 (by decide +kernel) ?_
  refine lv_ixor hx hb dX0_allocation_6 ?_
  refine nd_N hx hb dX0_allocation_7 ?_
  refine lv_if_eq (tgt := 13) hx hb dX0_allocation_8 (by decide) (fun c8 => absurd c8 (fun z => hn ((nI_0_32 (nd_lt hX)).mp z))) (fun c8 => ?_)
  refine lv_iconst (v := nI 0) hx hb dX0_allocation_11 (by decide +kernel) ?_
  exact ro_zret hx hb hr hlk (rfl) (false) rfl dX0_allocation_12
theorem un_lt {B : Nat → Nat} (hB : ∀ b, B b < 256) (X n : Nat) : un B X n < 256 := by
  induction n with
  | zero => simp [un]
  | succ n ih =>
    rw [un]
    split
    · exact or_lt256 ih (hB n)
    · exact ih
theorem pl_lt {K : Nat → Nat} (hK : ∀ b, K b < 4) (X n : Nat) : pl K X n < 256 := by
  induction n with
  | zero => simp [pl]
  | succ n ih =>
    rw [pl]
    split
    · exact or_lt256 ih (two_lt256 (by have := hK n; omega))
    · exact ih
theorem alx_false {B K : Nat → Nat} {S X i : Nat} (hi : i < 8) (h : alx B K S X (i + 1) = false) : alx B K S X 8 = false := by
  have h1 := alx_mono B K S X h (7 - i)
  rw [show i + 1 + (7 - i) = 8 by omega] at h1
  exact h1
set_option maxHeartbeats 1000000 in
set_option maxRecDepth 100000 in
/-- allocation(X) -/
theorem mX0_allocation {l : Launch} {D : va_G} {h : Nat → Nat} {d : Nat → ClassId} {P : Nat} {B K A : Nat → Nat} {S : Nat} {kn : Bool} {be on : Nat → Int32} {wi : Int32} {X : Nat} (hP8 : P < 256) (hB8 : ∀ b, B b < 256) (hK4 : ∀ b, K b < 4) (hS8 : S < 256) (hX : nd X P = 0) : RoMet l yX0_allocation cX0_allocation 5 (some .boolean) 0 0 D (w0 h d P B K A S kn be on wi) (t0 d) [.ref (h 0), .int (nI X)] (bI (alx B K S X 8)) := by
  refine ro_of (lv := [(0, .ref (h 0)), (1, .int (nI X))]) (by decide) (Nat.le_of_ble_eq_true rfl) rfl ?_
  intro p e s m below meth c hx hb hr hml hown hts hlk hP hK ls hl
  have hown : s.vm.findClass RX0 = some m.cls := hown
  refine lv_iload_n hx hb dX0_allocation_0 rfl (lv_at hl 1 rfl) ?_
  refine lv_aload_n hx hb dX0_allocation_1 rfl (lv_at hl 0 rfl) ?_
  refine gf0_0 hx hb hts hown hK hP rfl rfl dX0_allocation_2 ?_
  refine lv_iconst (v := -1) hx hb dX0_allocation_5 (by decide +kernel) ?_
  refine lv_ixor hx hb dX0_allocation_6 ?_
  refine nd_N hx hb dX0_allocation_7 ?_
  refine if_eqN (tgt := 13) hx hb dX0_allocation_8 (by decide) (by rw [hX]; decide) (fun c8 => ?_) (fun c8 => absurd c8 (fun z => z hX))
  have hX8 : X < 256 := Nat.lt_of_le_of_lt (nd_0_le hX) hP8
  refine lv_aload_n hx hb dX0_allocation_13 rfl (lv_at hl 0 rfl) ?_
  refine gf0_4 hx hb hts hown hK hP rfl rfl dX0_allocation_14 ?_
  refine lv_istore_n (lv' := [(2, .int (nI S)), (0, .ref (h 0)), (1, .int (nI X))]) hx hb dX0_allocation_17 rfl hl (by decide) rfl (fun ls hl => ?_)
  refine lv_iconst (v := nI 0) hx hb dX0_allocation_18 (by decide +kernel) ?_
  refine lv_istore_n (lv' := [(3, .int (nI 0)), (2, .int (nI S)), (0, .ref (h 0)), (1, .int (nI X))]) hx hb dX0_allocation_19 rfl hl (by decide) rfl (fun ls hl => ?_)
  refine lv_iconst (v := nI 0) hx hb dX0_allocation_20 (by decide +kernel) ?_
  refine lv_istore (lv' := [(4, .int (nI 0)), (3, .int (nI 0)), (2, .int (nI S)), (0, .ref (h 0)), (1, .int (nI X))]) hx hb dX0_allocation_21 hl (by decide) rfl (fun ls hl => ?_)
  have lp23 : ∀ n i : Nat, i + n = 8 → ∀ (v2 : Int32) (v3 : Int32) (ls : Array Slot), (alx B K S X i = true) → v2 = nI (S ||| un B X i) → v3 = nI (pl K X i) → lv_has ls 5 [(0, .ref (h 0)), (1, .int (nI X)), (2, .int (v2)), (3, .int (v3)), (4, .int (nI i))] → RW p l e s m below meth c 0 0 [.ref (h 0), .int (nI X)] (bI (alx B K S X 8)) 23 ls [] := by
    intro n
    induction n with
    | zero =>
      intro i hi v2 v3 ls hal e2 e3 hl
      have hi : i = 8 := by omega
      subst hi
      subst e2; subst e3
      refine lv_iload hx hb dX0_allocation_23 (lv_at hl 4 rfl) ?_
      refine lv_bipush (v := nI 8) hx hb dX0_allocation_25 (by decide +kernel) ?_
      refine ic_ge (tgt := 95) hx hb dX0_allocation_27 (by decide) (by omega) (by omega) (fun c27 => ?_) (fun c27 => absurd c27 (by omega))
      refine lv_iconst (v := nI 1) hx hb dX0_allocation_95 (by decide +kernel) ?_
      exact ro_zret hx hb hr hlk (by rw [hal]; rfl) (true) rfl dX0_allocation_96
    | succ n ih =>
      intro i hi v2 v3 ls hal e2 e3 hl
      have hii : i < 8 := by omega
      subst e2; subst e3
      have hun : un B X i < 256 := un_lt hB8 X i
      have hpl := pl_lt hK4 X i
      have hBi := hB8 i
      have hKi := hK4 i
      refine lv_iload hx hb dX0_allocation_23 (lv_at hl 4 rfl) ?_
      refine lv_bipush (v := nI 8) hx hb dX0_allocation_25 (by decide +kernel) ?_
      refine ic_ge (tgt := 95) hx hb dX0_allocation_27 (by decide) (by omega) (by omega) (fun c27 => absurd c27 (by omega)) (fun c27 => ?_)
      refine lv_iload_n hx hb dX0_allocation_30 rfl (lv_at hl 1 rfl) ?_
      refine lv_iload hx hb dX0_allocation_31 (lv_at hl 4 rfl) ?_
      refine lv_ishr hx hb dX0_allocation_33 ?_
      refine lv_iconst (v := nI 1) hx hb dX0_allocation_34 (by decide +kernel) ?_
      refine bt_N hx hb dX0_allocation_35 (by omega) (by omega) ?_
      refine if_eqB (tgt := 89) hx hb dX0_allocation_36 (by decide) (fun c36 => ?_) (fun c36 => ?_)
      · refine lv_iinc (v := nI (i + 1)) (lv' := [(4, .int (nI (i + 1))), (0, .ref (h 0)), (1, .int (nI X)), (2, .int (nI (S ||| un B X i))), (3, .int (nI (pl K X i)))]) hx hb dX0_allocation_89 hl (k := 4) rfl (nI_1 i) (by decide) rfl (fun ls hl => ?_)
        refine lv_goto (tgt := 23) hx hb dX0_allocation_92 (by decide) ?_
        exact ih (i + 1) (by omega) _ _ ls (by rw [alx, hal]; simp [c36]) (by simp [un, c36, Nat.or_assoc]) (by simp [pl, c36]) (lv_sub hl [1, 2, 3, 4, 0] rfl)
      · refine lv_iload_n hx hb dX0_allocation_39 rfl (lv_at hl 2 rfl) ?_
        refine lv_aload_n hx hb dX0_allocation_40 rfl (lv_at hl 0 rfl) ?_
        refine gf0_1 hx hb hts hown hK hP rfl rfl dX0_allocation_41 ?_
        refine lv_iload hx hb dX0_allocation_44 (lv_at hl 4 rfl) ?_
        refine ld_s hx hb hK hP 1 0 rfl rfl (by omega) (by decide) (v := nI (B i)) (rfl) dX0_allocation_46 ?_
        refine an_N hx hb dX0_allocation_47 ?_
        refine if_neN (tgt := 65) hx hb dX0_allocation_48 (by decide) (and_lt (by have := or_lt256 hS8 hun; omega)) (fun c48 => ?_) (fun c48 => ?_)
        · refine lv_iconst (v := nI 0) hx hb dX0_allocation_65 (by decide +kernel) ?_
          exact ro_zret hx hb hr hlk (by rw [alx_false (i := i) hii (by simp [alx, c36, c48])]; rfl) (false) rfl dX0_allocation_66
        · refine lv_iload_n hx hb dX0_allocation_51 rfl (lv_at hl 3 rfl) ?_
          refine lv_aload_n hx hb dX0_allocation_52 rfl (lv_at hl 0 rfl) ?_
          refine gf0_2 hx hb hts hown hK hP rfl rfl dX0_allocation_53 ?_
          refine lv_iload hx hb dX0_allocation_56 (lv_at hl 4 rfl) ?_
          refine ld_b hx hb hK hP 2 1 rfl rfl (by omega) (by decide) (v := nI (K i)) (rfl) dX0_allocation_58 ?_
          refine lv_ishr hx hb dX0_allocation_59 ?_
          refine lv_iconst (v := nI 1) hx hb dX0_allocation_60 (by decide +kernel) ?_
          refine bt_N hx hb dX0_allocation_61 (by omega) (by have := hK4 i; omega) ?_
          refine if_eqB (tgt := 67) hx hb dX0_allocation_62 (by decide) (fun c62 => ?_) (fun c62 => ?_)
          · refine lv_iload_n hx hb dX0_allocation_67 rfl (lv_at hl 2 rfl) ?_
            refine lv_aload_n hx hb dX0_allocation_68 rfl (lv_at hl 0 rfl) ?_
            refine gf0_1 hx hb hts hown hK hP rfl rfl dX0_allocation_69 ?_
            refine lv_iload hx hb dX0_allocation_72 (lv_at hl 4 rfl) ?_
            refine ld_s hx hb hK hP 1 0 rfl rfl (by omega) (by decide) (v := nI (B i)) (rfl) dX0_allocation_74 ?_
            refine or_N hx hb dX0_allocation_75 ?_
            refine lv_istore_n (lv' := [(2, .int (nI ((S ||| un B X i) ||| (B i)))), (0, .ref (h 0)), (1, .int (nI X)), (3, .int (nI (pl K X i))), (4, .int (nI i))]) hx hb dX0_allocation_76 rfl hl (by decide) rfl (fun ls hl => ?_)
            refine lv_iload_n hx hb dX0_allocation_77 rfl (lv_at hl 3 rfl) ?_
            refine lv_iconst (v := nI 1) hx hb dX0_allocation_78 (by decide +kernel) ?_
            refine lv_aload_n hx hb dX0_allocation_79 rfl (lv_at hl 1 rfl) ?_
            refine gf0_2 hx hb hts hown hK hP rfl rfl dX0_allocation_80 ?_
            refine lv_iload hx hb dX0_allocation_83 (lv_at hl 4 rfl) ?_
            refine ld_b hx hb hK hP 2 1 rfl rfl (by omega) (by decide) (v := nI (K i)) (rfl) dX0_allocation_85 ?_
            refine sh_N hx hb dX0_allocation_86 (by have := hK4 i; omega) ?_
            refine or_N hx hb dX0_allocation_87 ?_
            refine lv_istore_n (lv' := [(3, .int (nI ((pl K X i) ||| (2 ^ (K i))))), (2, .int (nI ((S ||| un B X i) ||| (B i)))), (0, .ref (h 0)), (1, .int (nI X)), (4, .int (nI i))]) hx hb dX0_allocation_88 rfl hl (by decide) rfl (fun ls hl => ?_)
            refine lv_iinc (v := nI (i + 1)) (lv' := [(4, .int (nI (i + 1))), (3, .int (nI ((pl K X i) ||| (2 ^ (K i))))), (2, .int (nI ((S ||| un B X i) ||| (B i)))), (0, .ref (h 0)), (1, .int (nI X))]) hx hb dX0_allocation_89 hl (k := 4) rfl (nI_1 i) (by decide) rfl (fun ls hl => ?_)
            refine lv_goto (tgt := 23) hx hb dX0_allocation_92 (by decide) ?_
            exact ih (i + 1) (by omega) _ _ ls (by rw [alx, hal]; simp [c36, c48, c62]) (by simp [un, c36, Nat.or_assoc]) (by simp [pl, c36]) (lv_sub hl [3, 4, 2, 1, 0] rfl)
          · refine lv_iconst (v := nI 0) hx hb dX0_allocation_65 (by decide +kernel) ?_
            exact ro_zret hx hb hr hlk (by rw [alx_false (i := i) hii (by simp [alx, c36, c48, c62])]; rfl) (false) rfl dX0_allocation_66
  exact lp23 8 0 (by omega) _ _ ls (rfl) (by rw [un, Nat.or_zero]) (rfl) (lv_sub hl [3, 4, 2, 1, 0] rfl)
end
section
set_option maxRecDepth 100000
def isb (M : Nat → Nat) (x : Int32) : Bool := inr 8 x && decide (0 < M x.toNatClampNeg)
theorem isb_nI {M : Nat → Nat} {j : Nat} (hj : j < 8) : isb M (nI j) = decide (0 < M j) := by
  unfold isb
  rw [inr_nI (by decide) hj, nI_clamp (by omega)]
  rfl
theorem isb_f {M : Nat → Nat} {x : Int32} (h : inr 8 x = false) : isb M x = false := by
  unfold isb
  rw [h]
  rfl
/-- the reference's order of two sets -/
theorem bf_ms {A : Nat → Nat} {X Y : Nat} (h : sm A Y 8 < sm A X 8) : ms A Y < ms A X := by
  have h1 := rv_256 X
  have h2 := rv_256 Y
  unfold ms
  omega
theorem bf_rv {A : Nat → Nat} {X Y i : Nat} (hs : sm A X 8 = sm A Y 8) (he : ∀ j, j < i → X.testBit j = Y.testBit j) (hi : i < 8) (hx : X.testBit i = true) (hy : Y.testBit i = false) : ms A Y < ms A X := by
  have h1 := rv_first he hx hy 8 (by omega) (Nat.le_refl 8)
  unfold ms
  omega
theorem bf_eq {A : Nat → Nat} {X Y : Nat} (he : ∀ j, j < 8 → X.testBit j = Y.testBit j) : ms A X = ms A Y := by
  unfold ms
  rw [sm_cong he, rv_cong he]
theorem lt_succ_all {p : Nat → Prop} {i : Nat} (h : ∀ j, j < i → p j) (hi : p i) : ∀ j, j < i + 1 → p j := by
  intro j hj
  by_cases e : j = i
  · rw [e]; exact hi
  · exact h j (by omega)
set_option maxHeartbeats 1000000 in
set_option maxRecDepth 100000 in
/-- is(x) -/
theorem mX1_is {l : Launch} {D : va_G} {h : Nat → Nat} {d : Nat → ClassId} {M K A : Nat → Nat} {S : Nat} {fi : Nat → Int32} {x : Int32} (hM8 : ∀ b, M b < 256) : RoMet l yX1_is cX1_is 2 (some .boolean) 0 0 D (w1 h d M K A S fi) (t1 d) [.ref (h 0), .int (x)] (bI (isb M x)) := by
  refine ro_of (lv := [(0, .ref (h 0)), (1, .int (x))]) (by decide) (Nat.le_of_ble_eq_true rfl) rfl ?_
  intro p e s m below meth c hx hb hr hml hown hts hlk hP hK ls hl
  have hown : s.vm.findClass RX1 = some m.cls := hown
  refine lv_iload_n hx hb dX1_is_0 rfl (lv_at hl 1 rfl) ?_
  refine lv_if_lt (tgt := 23) hx hb dX1_is_1 (by decide) (fun c1 => ?_) (fun c1 => ?_)
  · refine lv_iconst (v := nI 0) hx hb dX1_is_23 (by decide +kernel) ?_
    exact ro_zret hx hb hr hlk (by rw [isb_f (inr_f1 c1)]; rfl) (false) rfl dX1_is_24
  · refine lv_iload_n hx hb dX1_is_4 rfl (lv_at hl 1 rfl) ?_
    refine lv_bipush (v := nI 8) hx hb dX1_is_5 (by decide +kernel) ?_
    refine lv_icmp_ge (tgt := 23) hx hb dX1_is_7 (by decide) (fun c7 => ?_) (fun c7 => ?_)
    · refine lv_iconst (v := nI 0) hx hb dX1_is_23 (by decide +kernel) ?_
      exact ro_zret hx hb hr hlk (by rw [isb_f (inr_f2 c7)]; rfl) (false) rfl dX1_is_24
    · obtain ⟨j, hj, rfl⟩ := inr_ex (by decide) c1 c7
      have hMj := hM8 j
      refine lv_aload_n hx hb dX1_is_10 rfl (lv_at hl 0 rfl) ?_
      refine gf1_0 hx hb hts hown hK hP rfl rfl dX1_is_11 ?_
      refine lv_iload_n hx hb dX1_is_14 rfl (lv_at hl 1 rfl) ?_
      refine ld_i hx hb hK hP 1 0 rfl rfl (by omega) (by decide) (v := nI (M j)) (rfl) dX1_is_15 ?_
      refine if_leN (tgt := 23) hx hb dX1_is_16 (by decide) (by omega) (fun c16 => ?_) (fun c16 => ?_)
      · refine lv_iconst (v := nI 0) hx hb dX1_is_23 (by decide +kernel) ?_
        exact ro_zret hx hb hr hlk (by rw [isb_nI hj, decide_eq_false (by omega)]; rfl) (false) rfl dX1_is_24
      · refine lv_iconst (v := nI 1) hx hb dX1_is_19 (by decide +kernel) ?_
        refine lv_goto (tgt := 24) hx hb dX1_is_20 (by decide) ?_
        exact ro_zret hx hb hr hlk (by rw [isb_nI hj, decide_eq_true c16]; rfl) (true) rfl dX1_is_24
theorem mX1_isj {l : Launch} {D : va_G} {h : Nat → Nat} {d : Nat → ClassId} {M K A : Nat → Nat} {S : Nat} {fi : Nat → Int32} {j : Nat} (hM8 : ∀ b, M b < 256) (hj : j < 8) : RoMet l yX1_is cX1_is 2 (some .boolean) 0 0 D (w1 h d M K A S fi) (t1 d) [.ref (h 0), .int (nI j)] (bI (decide (0 < M j))) := by
  rw [← isb_nI hj]
  exact mX1_is hM8
set_option maxHeartbeats 1000000 in
set_option maxRecDepth 100000 in
/-- bidder(x) -/
theorem mX1_bidder {l : Launch} {D : va_G} {h : Nat → Nat} {d : Nat → ClassId} {M K A : Nat → Nat} {S : Nat} {fi : Nat → Int32} {x : Int32}  : RoMet l yX1_bidder cX1_bidder 2 (some .boolean) 0 0 D (w1 h d M K A S fi) (t1 d) [.ref (h 0), .int (x)] (bI (inr 4 x)) := by
  refine ro_of (lv := [(0, .ref (h 0)), (1, .int (x))]) (by decide) (Nat.le_of_ble_eq_true rfl) rfl ?_
  intro p e s m below meth c hx hb hr hml hown hts hlk hP hK ls hl
  have hown : s.vm.findClass RX1 = some m.cls := hown
  refine lv_iload_n hx hb dX1_bidder_0 rfl (lv_at hl 1 rfl) ?_
  refine lv_if_lt (tgt := 13) hx hb dX1_bidder_1 (by decide) (fun c1 => ?_) (fun c1 => ?_)
  · refine lv_iconst (v := nI 0) hx hb dX1_bidder_13 (by decide +kernel) ?_
    exact ro_zret hx hb hr hlk (by rw [inr_f1 c1]; rfl) (false) rfl dX1_bidder_14
  · refine lv_iload_n hx hb dX1_bidder_4 rfl (lv_at hl 1 rfl) ?_
    refine lv_iconst (v := nI 3) hx hb dX1_bidder_5 (by decide +kernel) ?_
    refine lv_icmp_gt (tgt := 13) hx hb dX1_bidder_6 (by decide) (fun c6 => ?_) (fun c6 => ?_)
    · refine lv_iconst (v := nI 0) hx hb dX1_bidder_13 (by decide +kernel) ?_
      exact ro_zret hx hb hr hlk (by rw [inr_f2 ((nI_gt_ge (n := 3) (by decide) x).mp c6)]; rfl) (false) rfl dX1_bidder_14
    · refine lv_iconst (v := nI 1) hx hb dX1_bidder_9 (by decide +kernel) ?_
      refine lv_goto (tgt := 14) hx hb dX1_bidder_10 (by decide) ?_
      exact ro_zret hx hb hr hlk (by rw [inr_t c1 (fun z => c6 ((nI_gt_ge (n := 3) (by decide) x).mpr z))]; rfl) (true) rfl dX1_bidder_14
set_option maxHeartbeats 1000000 in
set_option maxRecDepth 100000 in
/-- bids() -/
theorem mX1_bids {l : Launch} {D : va_G} {h : Nat → Nat} {d : Nat → ClassId} {M K A : Nat → Nat} {S : Nat} {fi : Nat → Int32}  (hM8 : ∀ b, M b < 256) : RoMet l yX1_bids cX1_bids 3 (some .int) 1 21 D (w1 h d M K A S fi) (t1 d) [.ref (h 0)] (nI (gat (fun b => decide (0 < M b)) 8)) := by
  refine ro_of (lv := [(0, .ref (h 0))]) (by decide) (Nat.le_of_ble_eq_true rfl) rfl ?_
  intro p e s m below meth c hx hb hr hml hown hts hlk hP hK ls hl
  have hown : s.vm.findClass RX1 = some m.cls := hown
  refine lv_iconst (v := nI 0) hx hb dX1_bids_0 (by decide +kernel) ?_
  refine lv_istore_n (lv' := [(1, .int (nI 0)), (0, .ref (h 0))]) hx hb dX1_bids_1 rfl hl (by decide) rfl (fun ls hl => ?_)
  refine lv_iconst (v := nI 0) hx hb dX1_bids_2 (by decide +kernel) ?_
  refine lv_istore_n (lv' := [(2, .int (nI 0)), (1, .int (nI 0)), (0, .ref (h 0))]) hx hb dX1_bids_3 rfl hl (by decide) rfl (fun ls hl => ?_)
  have lp4 : ∀ n i : Nat, i + n = 8 → ∀ (v1 : Int32) (ls : Array Slot), v1 = nI (gat (fun b => decide (0 < M b)) i) → lv_has ls 3 [(0, .ref (h 0)), (1, .int (v1)), (2, .int (nI i))] → RW p l e s m below meth c 1 21 [.ref (h 0)] (nI (gat (fun b => decide (0 < M b)) 8)) 4 ls [] := by
    intro n
    induction n with
    | zero =>
      intro i hi v1 ls e1 hl
      have hi : 8 = i := by omega
      subst hi
      subst e1
      refine lv_iload_n hx hb dX1_bids_4 rfl (lv_at hl 2 rfl) ?_
      refine lv_bipush (v := nI 8) hx hb dX1_bids_5 (by decide +kernel) ?_
      refine ic_ge (tgt := 34) hx hb dX1_bids_7 (by decide) (by omega) (by omega) (fun c7 => ?_) (fun c7 => absurd c7 (by omega))
      refine lv_iload_n hx hb dX1_bids_34 rfl (lv_at hl 1 rfl) ?_
      exact ro_iret hx hb hr hlk (rfl) dX1_bids_35
    | succ n ih =>
      intro i hi v1 ls e1 hl
      have hii : i < 8 := by omega
      subst e1
      refine lv_iload_n hx hb dX1_bids_4 rfl (lv_at hl 2 rfl) ?_
      refine lv_bipush (v := nI 8) hx hb dX1_bids_5 (by decide +kernel) ?_
      refine ic_ge (tgt := 34) hx hb dX1_bids_7 (by decide) (by omega) (by omega) (fun c7 => absurd c7 (by omega)) (fun c7 => ?_)
      refine lv_iload_n hx hb dX1_bids_10 rfl (lv_at hl 1 rfl) ?_
      refine lv_aload_n hx hb dX1_bids_11 rfl (lv_at hl 0 rfl) ?_
      refine lv_iload_n hx hb dX1_bids_12 rfl (lv_at hl 2 rfl) ?_
      refine ro_V (ci := 1) (q0 := 0) (rest := [.int (nI (gat (fun b => decide (0 < M b)) i))]) ⟨hx, hb, hml, hown, hts⟩ (mX1_isj hM8 hii) gX1_is hdX1_is ⟨Nat.le_of_ble_eq_true rfl, Nat.le_of_ble_eq_true rfl⟩ hK hP rfl rfl rfl rfl hl.1 rfl (Nat.le_of_ble_eq_true rfl) dX1_bids_13 ⟨Nat.le_of_ble_eq_true rfl, Nat.le_of_ble_eq_true rfl⟩ ?_
      refine if_eqB (tgt := 25) hx hb dX1_bids_16 (by decide) (fun c16 => ?_) (fun c16 => ?_)
      · refine lv_iconst (v := nI 0) hx hb dX1_bids_25 (by decide +kernel) ?_
        refine or_N hx hb dX1_bids_26 ?_
        refine lv_istore_n (lv' := [(1, .int (nI ((gat (fun b => decide (0 < M b)) i) ||| 0))), (0, .ref (h 0)), (2, .int (nI i))]) hx hb dX1_bids_27 rfl hl (by decide) rfl (fun ls hl => ?_)
        refine lv_iinc (v := nI (i + 1)) (lv' := [(2, .int (nI (i + 1))), (1, .int (nI ((gat (fun b => decide (0 < M b)) i) ||| 0))), (0, .ref (h 0))]) hx hb dX1_bids_28 hl (k := 2) rfl (nI_1 i) (by decide) rfl (fun ls hl => ?_)
        refine lv_goto (tgt := 4) hx hb dX1_bids_31 (by decide) ?_
        exact ih (i + 1) (by omega) _ ls (by rw [gat, c16]; rfl) (lv_sub hl [2, 1, 0] rfl)
      · refine lv_iconst (v := nI 1) hx hb dX1_bids_19 (by decide +kernel) ?_
        refine lv_iload_n hx hb dX1_bids_20 rfl (lv_at hl 2 rfl) ?_
        refine sh_N hx hb dX1_bids_21 (by omega) ?_
        refine lv_goto (tgt := 26) hx hb dX1_bids_22 (by decide) ?_
        refine or_N hx hb dX1_bids_26 ?_
        refine lv_istore_n (lv' := [(1, .int (nI ((gat (fun b => decide (0 < M b)) i) ||| (2 ^ i)))), (0, .ref (h 0)), (2, .int (nI i))]) hx hb dX1_bids_27 rfl hl (by decide) rfl (fun ls hl => ?_)
        refine lv_iinc (v := nI (i + 1)) (lv' := [(2, .int (nI (i + 1))), (1, .int (nI ((gat (fun b => decide (0 < M b)) i) ||| (2 ^ i)))), (0, .ref (h 0))]) hx hb dX1_bids_28 hl (k := 2) rfl (nI_1 i) (by decide) rfl (fun ls hl => ?_)
        refine lv_goto (tgt := 4) hx hb dX1_bids_31 (by decide) ?_
        exact ih (i + 1) (by omega) _ ls (by rw [gat, c16]; rfl) (lv_sub hl [2, 1, 0] rfl)
  exact lp4 8 0 (by omega) _ ls (rfl) (lv_sub hl [2, 1, 0] rfl)
set_option maxHeartbeats 1000000 in
set_option maxRecDepth 100000 in
/-- withheld() -/
theorem mX1_withheld {l : Launch} {D : va_G} {h : Nat → Nat} {d : Nat → ClassId} {M K A : Nat → Nat} {S : Nat} {fi : Nat → Int32}   : RoMet l yX1_withheld cX1_withheld 1 (some .int) 0 0 D (w1 h d M K A S fi) (t1 d) [.ref (h 0)] (nI S) := by
  refine ro_of (lv := [(0, .ref (h 0))]) (by decide) (Nat.le_of_ble_eq_true rfl) rfl ?_
  intro p e s m below meth c hx hb hr hml hown hts hlk hP hK ls hl
  have hown : s.vm.findClass RX1 = some m.cls := hown
  refine lv_aload_n hx hb dX1_withheld_0 rfl (lv_at hl 0 rfl) ?_
  refine gf1_3 hx hb hts hown hK hP rfl rfl dX1_withheld_1 ?_
  exact ro_iret hx hb hr hlk (rfl) dX1_withheld_4
set_option maxHeartbeats 1000000 in
set_option maxRecDepth 100000 in
/-- of(k) -/
theorem mX1_of {l : Launch} {D : va_G} {h : Nat → Nat} {d : Nat → ClassId} {M K A : Nat → Nat} {S : Nat} {fi : Nat → Int32} {k : Nat} (hM8 : ∀ b, M b < 256) (hK4 : ∀ b, K b < 4) (hk : k < 4) : RoMet l yX1_of cX1_of 4 (some .int) 1 21 D (w1 h d M K A S fi) (t1 d) [.ref (h 0), .int (nI k)] (nI (ofk M K k)) := by
  refine ro_of (lv := [(0, .ref (h 0)), (1, .int (nI k))]) (by decide) (Nat.le_of_ble_eq_true rfl) rfl ?_
  intro p e s m below meth c hx hb hr hml hown hts hlk hP hK ls hl
  have hown : s.vm.findClass RX1 = some m.cls := hown
  refine lv_iconst (v := nI 0) hx hb dX1_of_0 (by decide +kernel) ?_
  refine lv_istore_n (lv' := [(2, .int (nI 0)), (0, .ref (h 0)), (1, .int (nI k))]) hx hb dX1_of_1 rfl hl (by decide) rfl (fun ls hl => ?_)
  refine lv_iconst (v := nI 0) hx hb dX1_of_2 (by decide +kernel) ?_
  refine lv_istore_n (lv' := [(3, .int (nI 0)), (2, .int (nI 0)), (0, .ref (h 0)), (1, .int (nI k))]) hx hb dX1_of_3 rfl hl (by decide) rfl (fun ls hl => ?_)
  have lp4 : ∀ n i : Nat, i + n = 8 → ∀ (v2 : Int32) (ls : Array Slot), v2 = nI (gat (fun b => decide (0 < M b) && decide (K b = k)) i) → lv_has ls 4 [(0, .ref (h 0)), (1, .int (nI k)), (2, .int (v2)), (3, .int (nI i))] → RW p l e s m below meth c 1 21 [.ref (h 0), .int (nI k)] (nI (ofk M K k)) 4 ls [] := by
    intro n
    induction n with
    | zero =>
      intro i hi v2 ls e2 hl
      have hi : 8 = i := by omega
      subst hi
      subst e2
      refine lv_iload_n hx hb dX1_of_4 rfl (lv_at hl 3 rfl) ?_
      refine lv_bipush (v := nI 8) hx hb dX1_of_5 (by decide +kernel) ?_
      refine ic_ge (tgt := 44) hx hb dX1_of_7 (by decide) (by omega) (by omega) (fun c7 => ?_) (fun c7 => absurd c7 (by omega))
      refine lv_iload_n hx hb dX1_of_44 rfl (lv_at hl 2 rfl) ?_
      exact ro_iret hx hb hr hlk (rfl) dX1_of_45
    | succ n ih =>
      intro i hi v2 ls e2 hl
      have hii : i < 8 := by omega
      subst e2
      have hKi := hK4 i
      refine lv_iload_n hx hb dX1_of_4 rfl (lv_at hl 3 rfl) ?_
      refine lv_bipush (v := nI 8) hx hb dX1_of_5 (by decide +kernel) ?_
      refine ic_ge (tgt := 44) hx hb dX1_of_7 (by decide) (by omega) (by omega) (fun c7 => absurd c7 (by omega)) (fun c7 => ?_)
      refine lv_iload_n hx hb dX1_of_10 rfl (lv_at hl 2 rfl) ?_
      refine lv_aload_n hx hb dX1_of_11 rfl (lv_at hl 0 rfl) ?_
      refine lv_iload_n hx hb dX1_of_12 rfl (lv_at hl 3 rfl) ?_
      refine ro_V (ci := 1) (q0 := 0) (rest := [.int (nI (gat (fun b => decide (0 < M b) && decide (K b = k)) i))]) ⟨hx, hb, hml, hown, hts⟩ (mX1_isj hM8 hii) gX1_is hdX1_is ⟨Nat.le_of_ble_eq_true rfl, Nat.le_of_ble_eq_true rfl⟩ hK hP rfl rfl rfl rfl hl.1 rfl (Nat.le_of_ble_eq_true rfl) dX1_of_13 ⟨Nat.le_of_ble_eq_true rfl, Nat.le_of_ble_eq_true rfl⟩ ?_
      refine if_eqB (tgt := 35) hx hb dX1_of_16 (by decide) (fun c16 => ?_) (fun c16 => ?_)
      · refine lv_iconst (v := nI 0) hx hb dX1_of_35 (by decide +kernel) ?_
        refine or_N hx hb dX1_of_36 ?_
        refine lv_istore_n (lv' := [(2, .int (nI ((gat (fun b => decide (0 < M b) && decide (K b = k)) i) ||| 0))), (0, .ref (h 0)), (1, .int (nI k)), (3, .int (nI i))]) hx hb dX1_of_37 rfl hl (by decide) rfl (fun ls hl => ?_)
        refine lv_iinc (v := nI (i + 1)) (lv' := [(3, .int (nI (i + 1))), (2, .int (nI ((gat (fun b => decide (0 < M b) && decide (K b = k)) i) ||| 0))), (0, .ref (h 0)), (1, .int (nI k))]) hx hb dX1_of_38 hl (k := 3) rfl (nI_1 i) (by decide) rfl (fun ls hl => ?_)
        refine lv_goto (tgt := 4) hx hb dX1_of_41 (by decide) ?_
        exact ih (i + 1) (by omega) _ ls (by rw [gat, show decide (0 < M i) = false from c16]; rfl) (lv_sub hl [2, 3, 1, 0] rfl)
      · refine lv_aload_n hx hb dX1_of_19 rfl (lv_at hl 0 rfl) ?_
        refine gf1_1 hx hb hts hown hK hP rfl rfl dX1_of_20 ?_
        refine lv_iload_n hx hb dX1_of_23 rfl (lv_at hl 3 rfl) ?_
        refine ld_i hx hb hK hP 2 1 rfl rfl (by omega) (by decide) (v := nI (K i)) (rfl) dX1_of_24 ?_
        refine lv_iload_n hx hb dX1_of_25 rfl (lv_at hl 1 rfl) ?_
        refine ic_ne (tgt := 35) hx hb dX1_of_26 (by decide) (by omega) (by omega) (fun c26 => ?_) (fun c26 => ?_)
        · refine lv_iconst (v := nI 0) hx hb dX1_of_35 (by decide +kernel) ?_
          refine or_N hx hb dX1_of_36 ?_
          refine lv_istore_n (lv' := [(2, .int (nI ((gat (fun b => decide (0 < M b) && decide (K b = k)) i) ||| 0))), (0, .ref (h 0)), (1, .int (nI k)), (3, .int (nI i))]) hx hb dX1_of_37 rfl hl (by decide) rfl (fun ls hl => ?_)
          refine lv_iinc (v := nI (i + 1)) (lv' := [(3, .int (nI (i + 1))), (2, .int (nI ((gat (fun b => decide (0 < M b) && decide (K b = k)) i) ||| 0))), (0, .ref (h 0)), (1, .int (nI k))]) hx hb dX1_of_38 hl (k := 3) rfl (nI_1 i) (by decide) rfl (fun ls hl => ?_)
          refine lv_goto (tgt := 4) hx hb dX1_of_41 (by decide) ?_
          exact ih (i + 1) (by omega) _ ls (by rw [gat, show decide (0 < M i) = true from c16, decide_eq_false c26]; rfl) (lv_sub hl [2, 3, 1, 0] rfl)
        · refine lv_iconst (v := nI 1) hx hb dX1_of_29 (by decide +kernel) ?_
          refine lv_iload_n hx hb dX1_of_30 rfl (lv_at hl 3 rfl) ?_
          refine sh_N hx hb dX1_of_31 (by omega) ?_
          refine lv_goto (tgt := 36) hx hb dX1_of_32 (by decide) ?_
          refine or_N hx hb dX1_of_36 ?_
          refine lv_istore_n (lv' := [(2, .int (nI ((gat (fun b => decide (0 < M b) && decide (K b = k)) i) ||| (2 ^ i)))), (0, .ref (h 0)), (1, .int (nI k)), (3, .int (nI i))]) hx hb dX1_of_37 rfl hl (by decide) rfl (fun ls hl => ?_)
          refine lv_iinc (v := nI (i + 1)) (lv' := [(3, .int (nI (i + 1))), (2, .int (nI ((gat (fun b => decide (0 < M b) && decide (K b = k)) i) ||| (2 ^ i)))), (0, .ref (h 0)), (1, .int (nI k))]) hx hb dX1_of_38 hl (k := 3) rfl (nI_1 i) (by decide) rfl (fun ls hl => ?_)
          refine lv_goto (tgt := 4) hx hb dX1_of_41 (by decide) ?_
          exact ih (i + 1) (by omega) _ ls (by rw [gat, show decide (0 < M i) = true from c16, decide_eq_true c26]; rfl) (lv_sub hl [2, 3, 1, 0] rfl)
  exact lp4 8 0 (by omega) _ ls (rfl) (lv_sub hl [2, 3, 1, 0] rfl)
set_option maxHeartbeats 1000000 in
set_option maxRecDepth 100000 in
/-- sum(X) -/
theorem mX1_sum {l : Launch} {D : va_G} {h : Nat → Nat} {d : Nat → ClassId} {M K A : Nat → Nat} {S : Nat} {fi : Nat → Int32} {X : Nat} (hX : X < 256) : RoMet l yX1_sum cX1_sum 4 (some .int) 0 0 D (w1 h d M K A S fi) (t1 d) [.ref (h 0), .int (nI X)] (nI (sm A X 8)) := by
  refine ro_of (lv := [(0, .ref (h 0)), (1, .int (nI X))]) (by decide) (Nat.le_of_ble_eq_true rfl) rfl ?_
  intro p e s m below meth c hx hb hr hml hown hts hlk hP hK ls hl
  have hown : s.vm.findClass RX1 = some m.cls := hown
  refine lv_iconst (v := nI 0) hx hb dX1_sum_0 (by decide +kernel) ?_
  refine lv_istore_n (lv' := [(2, .int (nI 0)), (0, .ref (h 0)), (1, .int (nI X))]) hx hb dX1_sum_1 rfl hl (by decide) rfl (fun ls hl => ?_)
  refine lv_iconst (v := nI 0) hx hb dX1_sum_2 (by decide +kernel) ?_
  refine lv_istore_n (lv' := [(3, .int (nI 0)), (2, .int (nI 0)), (0, .ref (h 0)), (1, .int (nI X))]) hx hb dX1_sum_3 rfl hl (by decide) rfl (fun ls hl => ?_)
  have lp4 : ∀ n i : Nat, i + n = 8 → ∀ (v2 : Int32) (ls : Array Slot), v2 = nI (sm A X i) → lv_has ls 4 [(0, .ref (h 0)), (1, .int (nI X)), (2, .int (v2)), (3, .int (nI i))] → RW p l e s m below meth c 0 0 [.ref (h 0), .int (nI X)] (nI (sm A X 8)) 4 ls [] := by
    intro n
    induction n with
    | zero =>
      intro i hi v2 ls e2 hl
      have hi : 8 = i := by omega
      subst hi
      subst e2
      refine lv_iload_n hx hb dX1_sum_4 rfl (lv_at hl 3 rfl) ?_
      refine lv_bipush (v := nI 8) hx hb dX1_sum_5 (by decide +kernel) ?_
      refine ic_ge (tgt := 38) hx hb dX1_sum_7 (by decide) (by omega) (by omega) (fun c7 => ?_) (fun c7 => absurd c7 (by omega))
      refine lv_iload_n hx hb dX1_sum_38 rfl (lv_at hl 2 rfl) ?_
      exact ro_iret hx hb hr hlk (rfl) dX1_sum_39
    | succ n ih =>
      intro i hi v2 ls e2 hl
      have hii : i < 8 := by omega
      subst e2
      refine lv_iload_n hx hb dX1_sum_4 rfl (lv_at hl 3 rfl) ?_
      refine lv_bipush (v := nI 8) hx hb dX1_sum_5 (by decide +kernel) ?_
      refine ic_ge (tgt := 38) hx hb dX1_sum_7 (by decide) (by omega) (by omega) (fun c7 => absurd c7 (by omega)) (fun c7 => ?_)
      refine lv_iload_n hx hb dX1_sum_10 rfl (lv_at hl 2 rfl) ?_
      refine lv_iload_n hx hb dX1_sum_11 rfl (lv_at hl 1 rfl) ?_
      refine lv_iload_n hx hb dX1_sum_12 rfl (lv_at hl 3 rfl) ?_
      refine lv_ishr hx hb dX1_sum_13 ?_
      refine lv_iconst (v := nI 1) hx hb dX1_sum_14 (by decide +kernel) ?_
      refine bt_N hx hb dX1_sum_15 (by omega) (by omega) ?_
      refine lv_iconst (v := nI 1) hx hb dX1_sum_16 (by decide +kernel) ?_
      refine ic_neB (tgt := 29) hx hb dX1_sum_17 (by decide) (fun c17 => ?_) (fun c17 => ?_)
      · refine lv_iconst (v := nI 0) hx hb dX1_sum_29 (by decide +kernel) ?_
        refine ia_N hx hb dX1_sum_30 ?_
        refine lv_istore_n (lv' := [(2, .int (nI ((sm A X i) + 0))), (0, .ref (h 0)), (1, .int (nI X)), (3, .int (nI i))]) hx hb dX1_sum_31 rfl hl (by decide) rfl (fun ls hl => ?_)
        refine lv_iinc (v := nI (i + 1)) (lv' := [(3, .int (nI (i + 1))), (2, .int (nI ((sm A X i) + 0))), (0, .ref (h 0)), (1, .int (nI X))]) hx hb dX1_sum_32 hl (k := 3) rfl (nI_1 i) (by decide) rfl (fun ls hl => ?_)
        refine lv_goto (tgt := 4) hx hb dX1_sum_35 (by decide) ?_
        exact ih (i + 1) (by omega) _ ls (by rw [sm, c17]; rfl) (lv_sub hl [2, 3, 1, 0] rfl)
      · refine lv_aload_n hx hb dX1_sum_20 rfl (lv_at hl 0 rfl) ?_
        refine gf1_2 hx hb hts hown hK hP rfl rfl dX1_sum_21 ?_
        refine lv_iload_n hx hb dX1_sum_24 rfl (lv_at hl 3 rfl) ?_
        refine ld_i hx hb hK hP 3 2 rfl rfl (by omega) (by decide) (v := nI (A i)) (rfl) dX1_sum_25 ?_
        refine lv_goto (tgt := 30) hx hb dX1_sum_26 (by decide) ?_
        refine ia_N hx hb dX1_sum_30 ?_
        refine lv_istore_n (lv' := [(2, .int (nI ((sm A X i) + (A i)))), (0, .ref (h 0)), (1, .int (nI X)), (3, .int (nI i))]) hx hb dX1_sum_31 rfl hl (by decide) rfl (fun ls hl => ?_)
        refine lv_iinc (v := nI (i + 1)) (lv' := [(3, .int (nI (i + 1))), (2, .int (nI ((sm A X i) + (A i)))), (0, .ref (h 0)), (1, .int (nI X))]) hx hb dX1_sum_32 hl (k := 3) rfl (nI_1 i) (by decide) rfl (fun ls hl => ?_)
        refine lv_goto (tgt := 4) hx hb dX1_sum_35 (by decide) ?_
        exact ih (i + 1) (by omega) _ ls (by rw [sm, c17]; rfl) (lv_sub hl [2, 3, 1, 0] rfl)
  exact lp4 8 0 (by omega) _ ls (rfl) (lv_sub hl [2, 3, 1, 0] rfl)
set_option maxHeartbeats 1000000 in
set_option maxRecDepth 100000 in
/-- before(X, Y) -/
theorem mX1_before {l : Launch} {D : va_G} {h : Nat → Nat} {d : Nat → ClassId} {M K A : Nat → Nat} {S : Nat} {fi : Nat → Int32} {X Y : Nat} (hA50 : ∀ b, A b ≤ 50) (hX : X < 256) (hY : Y < 256) : RoMet l yX1_before cX1_before 6 (some .boolean) 1 23 D (w1 h d M K A S fi) (t1 d) [.ref (h 0), .int (nI X), .int (nI Y)] (bI (decide (ms A Y < ms A X))) := by
  refine ro_of (lv := [(0, .ref (h 0)), (1, .int (nI X)), (2, .int (nI Y))]) (by decide) (Nat.le_of_ble_eq_true rfl) rfl ?_
  intro p e s m below meth c hx hb hr hml hown hts hlk hP hK ls hl
  have hown : s.vm.findClass RX1 = some m.cls := hown
  refine lv_aload_n hx hb dX1_before_0 rfl (lv_at hl 0 rfl) ?_
  refine lv_iload_n hx hb dX1_before_1 rfl (lv_at hl 1 rfl) ?_
  refine ro_V (ci := 1) (q0 := 0) (rest := []) ⟨hx, hb, hml, hown, hts⟩ (mX1_sum hX) gX1_sum hdX1_sum ⟨Nat.le_of_ble_eq_true rfl, Nat.le_of_ble_eq_true rfl⟩ hK hP rfl rfl rfl rfl hl.1 rfl (Nat.le_of_ble_eq_true rfl) dX1_before_2 ⟨Nat.le_of_ble_eq_true rfl, Nat.le_of_ble_eq_true rfl⟩ ?_
  refine lv_istore_n (lv' := [(3, .int (nI (sm A X 8))), (0, .ref (h 0)), (1, .int (nI X)), (2, .int (nI Y))]) hx hb dX1_before_5 rfl hl (by decide) rfl (fun ls hl => ?_)
  refine lv_aload_n hx hb dX1_before_6 rfl (lv_at hl 1 rfl) ?_
  refine lv_iload_n hx hb dX1_before_7 rfl (lv_at hl 3 rfl) ?_
  refine ro_V (ci := 1) (q0 := 0) (rest := []) ⟨hx, hb, hml, hown, hts⟩ (mX1_sum hY) gX1_sum hdX1_sum ⟨Nat.le_of_ble_eq_true rfl, Nat.le_of_ble_eq_true rfl⟩ hK hP rfl rfl rfl rfl hl.1 rfl (Nat.le_of_ble_eq_true rfl) dX1_before_8 ⟨Nat.le_of_ble_eq_true rfl, Nat.le_of_ble_eq_true rfl⟩ ?_
  refine lv_istore (lv' := [(4, .int (nI (sm A Y 8))), (3, .int (nI (sm A X 8))), (0, .ref (h 0)), (1, .int (nI X)), (2, .int (nI Y))]) hx hb dX1_before_11 hl (by decide) rfl (fun ls hl => ?_)
  have hsX := sm_le hA50 X 8
  have hsY := sm_le hA50 Y 8
  refine lv_iload_n hx hb dX1_before_13 rfl (lv_at hl 1 rfl) ?_
  refine lv_iload hx hb dX1_before_14 (lv_at hl 0 rfl) ?_
  refine ic_eq (tgt := 31) hx hb dX1_before_16 (by decide) (by omega) (by omega) (fun c16 => ?_) (fun c16 => ?_)
  · refine lv_iconst (v := nI 0) hx hb dX1_before_31 (by decide +kernel) ?_
    refine lv_istore (lv' := [(5, .int (nI 0)), (4, .int (nI (sm A Y 8))), (3, .int (nI (sm A X 8))), (0, .ref (h 0)), (1, .int (nI X)), (2, .int (nI Y))]) hx hb dX1_before_32 hl (by decide) rfl (fun ls hl => ?_)
    have lp34 : ∀ n i : Nat, i + n = 8 → ∀ (ls : Array Slot), (∀ j, j < i → X.testBit j = Y.testBit j) → lv_has ls 6 [(0, .ref (h 0)), (1, .int (nI X)), (2, .int (nI Y)), (5, .int (nI i))] → RW p l e s m below meth c 1 23 [.ref (h 0), .int (nI X), .int (nI Y)] (bI (decide (ms A Y < ms A X))) 34 ls [] := by
      intro n
      induction n with
      | zero =>
        intro i hi ls he hl
        have hi : 8 = i := by omega
        subst hi
        refine lv_iload hx hb dX1_before_34 (lv_at hl 3 rfl) ?_
        refine lv_bipush (v := nI 8) hx hb dX1_before_36 (by decide +kernel) ?_
        refine ic_ge (tgt := 78) hx hb dX1_before_38 (by decide) (by omega) (by omega) (fun c38 => ?_) (fun c38 => absurd c38 (by omega))
        refine lv_iconst (v := nI 0) hx hb dX1_before_78 (by decide +kernel) ?_
        exact ro_zret hx hb hr hlk (by rw [decide_eq_false (by have := bf_eq (A := A) he; omega)]; rfl) (false) rfl dX1_before_79
      | succ n ih =>
        intro i hi ls he hl
        have hii : i < 8 := by omega
        refine lv_iload hx hb dX1_before_34 (lv_at hl 3 rfl) ?_
        refine lv_bipush (v := nI 8) hx hb dX1_before_36 (by decide +kernel) ?_
        refine ic_ge (tgt := 78) hx hb dX1_before_38 (by decide) (by omega) (by omega) (fun c38 => absurd c38 (by omega)) (fun c38 => ?_)
        refine lv_iload_n hx hb dX1_before_41 rfl (lv_at hl 1 rfl) ?_
        refine lv_iload hx hb dX1_before_42 (lv_at hl 3 rfl) ?_
        refine lv_ishr hx hb dX1_before_44 ?_
        refine lv_iconst (v := nI 1) hx hb dX1_before_45 (by decide +kernel) ?_
        refine bt_N hx hb dX1_before_46 (by omega) (by omega) ?_
        refine lv_iload_n hx hb dX1_before_47 rfl (lv_at hl 2 rfl) ?_
        refine lv_iload hx hb dX1_before_48 (lv_at hl 3 rfl) ?_
        refine lv_ishr hx hb dX1_before_50 ?_
        refine lv_iconst (v := nI 1) hx hb dX1_before_51 (by decide +kernel) ?_
        refine bt_N hx hb dX1_before_52 (by omega) (by omega) ?_
        refine ic_eqBB (tgt := 72) hx hb dX1_before_53 (by decide) (fun c53 => ?_) (fun c53 => ?_)
        · refine lv_iinc (v := nI (i + 1)) (lv' := [(5, .int (nI (i + 1))), (0, .ref (h 0)), (1, .int (nI X)), (2, .int (nI Y))]) hx hb dX1_before_72 hl (k := 3) rfl (nI_1 i) (by decide) rfl (fun ls hl => ?_)
          refine lv_goto (tgt := 34) hx hb dX1_before_75 (by decide) ?_
          exact ih (i + 1) (by omega) ls (lt_succ_all he c53) (lv_sub hl [1, 2, 3, 0] rfl)
        · refine lv_iload_n hx hb dX1_before_56 rfl (lv_at hl 1 rfl) ?_
          refine lv_iload hx hb dX1_before_57 (lv_at hl 3 rfl) ?_
          refine lv_ishr hx hb dX1_before_59 ?_
          refine lv_iconst (v := nI 1) hx hb dX1_before_60 (by decide +kernel) ?_
          refine bt_N hx hb dX1_before_61 (by omega) (by omega) ?_
          refine lv_iconst (v := nI 1) hx hb dX1_before_62 (by decide +kernel) ?_
          refine ic_neB (tgt := 70) hx hb dX1_before_63 (by decide) (fun c63 => ?_) (fun c63 => ?_)
          · refine lv_iconst (v := nI 0) hx hb dX1_before_70 (by decide +kernel) ?_
            exact ro_zret hx hb hr hlk (by rw [decide_eq_false (by have := bf_rv (A := A) (X := Y) (Y := X) c16.symm (fun j hj => (he j hj).symm) hii (by cases hy : Y.testBit i with | true => rfl | false => exact absurd (c63.trans hy.symm) c53) c63; omega)]; rfl) (false) rfl dX1_before_71
          · refine lv_iconst (v := nI 1) hx hb dX1_before_66 (by decide +kernel) ?_
            refine lv_goto (tgt := 71) hx hb dX1_before_67 (by decide) ?_
            exact ro_zret hx hb hr hlk (by rw [decide_eq_true (bf_rv c16 he hii c63 (by cases hy : Y.testBit i with | false => rfl | true => exact absurd (c63.trans hy.symm) c53))]; rfl) (true) rfl dX1_before_71
    exact lp34 8 0 (by omega) ls (fun j hj => absurd hj (by omega)) (lv_sub hl [3, 4, 5, 0] rfl)
  · refine lv_iload_n hx hb dX1_before_19 rfl (lv_at hl 1 rfl) ?_
    refine lv_iload hx hb dX1_before_20 (lv_at hl 0 rfl) ?_
    refine ic_le (tgt := 29) hx hb dX1_before_22 (by decide) (by omega) (by omega) (fun c22 => ?_) (fun c22 => ?_)
    · refine lv_iconst (v := nI 0) hx hb dX1_before_29 (by decide +kernel) ?_
      exact ro_zret hx hb hr hlk (by rw [decide_eq_false (by have := bf_ms (A := A) (X := Y) (Y := X) (by omega); omega)]; rfl) (false) rfl dX1_before_30
    · refine lv_iconst (v := nI 1) hx hb dX1_before_25 (by decide +kernel) ?_
      refine lv_goto (tgt := 30) hx hb dX1_before_26 (by decide) ?_
      exact ro_zret hx hb hr hlk (by rw [decide_eq_true (bf_ms c22)]; rfl) (true) rfl dX1_before_30
set_option maxHeartbeats 1000000 in
set_option maxRecDepth 100000 in
/-- allocates(X) -/
theorem mX1_allocates {l : Launch} {D : va_G} {h : Nat → Nat} {d : Nat → ClassId} {M K A : Nat → Nat} {S : Nat} {fi : Nat → Int32} {X : Nat} (hM8 : ∀ b, M b < 256) (hK4 : ∀ b, K b < 4) (hS8 : S < 256) (hX : X < 256) : RoMet l yX1_allocates cX1_allocates 7 (some .boolean) 1 21 D (w1 h d M K A S fi) (t1 d) [.ref (h 0), .int (nI X)] (bI (alo M K S X 8)) := by
  refine ro_of (lv := [(0, .ref (h 0)), (1, .int (nI X))]) (by decide) (Nat.le_of_ble_eq_true rfl) rfl ?_
  intro p e s m below meth c hx hb hr hml hown hts hlk hP hK ls hl
  have hown : s.vm.findClass RX1 = some m.cls := hown
  refine lv_iconst (v := nI 1) hx hb dX1_allocates_0 (by decide +kernel) ?_
  refine lv_istore_n (lv' := [(2, .int (nI 1)), (0, .ref (h 0)), (1, .int (nI X))]) hx hb dX1_allocates_1 rfl hl (by decide) rfl (fun ls hl => ?_)
  refine lv_iconst (v := nI 0) hx hb dX1_allocates_2 (by decide +kernel) ?_
  refine lv_istore_n (lv' := [(3, .int (nI 0)), (2, .int (nI 1)), (0, .ref (h 0)), (1, .int (nI X))]) hx hb dX1_allocates_3 rfl hl (by decide) rfl (fun ls hl => ?_)
  have lp4 : ∀ n b : Nat, b + n = 8 → ∀ (v2 : Int32) (ls : Array Slot), v2 = bI (alo M K S X b) → lv_has ls 7 [(0, .ref (h 0)), (1, .int (nI X)), (2, .int (v2)), (3, .int (nI b))] → RW p l e s m below meth c 1 21 [.ref (h 0), .int (nI X)] (bI (alo M K S X 8)) 4 ls [] := by
    intro n
    induction n with
    | zero =>
      intro b hi v2 ls e2 hl
      have hi : 8 = b := by omega
      subst hi
      subst e2
      refine lv_iload_n hx hb dX1_allocates_4 rfl (lv_at hl 3 rfl) ?_
      refine lv_bipush (v := nI 8) hx hb dX1_allocates_5 (by decide +kernel) ?_
      refine ic_ge (tgt := 154) hx hb dX1_allocates_7 (by decide) (by omega) (by omega) (fun c7 => ?_) (fun c7 => absurd c7 (by omega))
      refine lv_iload_n hx hb dX1_allocates_154 rfl (lv_at hl 2 rfl) ?_
      exact ro_zret hx hb hr hlk (rfl) (alo M K S X 8) rfl dX1_allocates_155
    | succ n ih =>
      intro b hi v2 ls e2 hl
      have hib : b < 8 := by omega
      subst e2
      have hMb := hM8 b
      have hKb := hK4 b
      refine lv_iload_n hx hb dX1_allocates_4 rfl (lv_at hl 3 rfl) ?_
      refine lv_bipush (v := nI 8) hx hb dX1_allocates_5 (by decide +kernel) ?_
      refine ic_ge (tgt := 154) hx hb dX1_allocates_7 (by decide) (by omega) (by omega) (fun c7 => absurd c7 (by omega)) (fun c7 => ?_)
      have ct24 : ∀ (ls : Array Slot), lv_has ls 7 [(0, .ref (h 0)), (1, .int (nI X)), (2, .int (bI (alo M K S X b))), (3, .int (nI b))] → RW p l e s m below meth c 1 21 [.ref (h 0), .int (nI X)] (bI (alo M K S X 8)) 24 ls [.int (bI (X.testBit b))] := by
        intro  ls  hl
        refine lv_istore (lv' := [(4, .int (bI (X.testBit b))), (0, .ref (h 0)), (1, .int (nI X)), (2, .int (bI (alo M K S X b))), (3, .int (nI b))]) hx hb dX1_allocates_24 hl (by decide) rfl (fun ls hl => ?_)
        have ct62 : ∀ (ls : Array Slot), lv_has ls 7 [(0, .ref (h 0)), (1, .int (nI X)), (3, .int (nI b)), (4, .int (bI (X.testBit b)))] → RW p l e s m below meth c 1 21 [.ref (h 0), .int (nI X)] (bI (alo M K S X 8)) 62 ls [.int (bI (alo M K S X b && (!X.testBit b || (decide (0 < M b) && decide (M b &&& S = 0)))))] := by
          intro  ls  hl
          refine lv_istore_n (lv' := [(2, .int (bI (alo M K S X b && (!X.testBit b || (decide (0 < M b) && decide (M b &&& S = 0)))))), (0, .ref (h 0)), (1, .int (nI X)), (3, .int (nI b)), (4, .int (bI (X.testBit b)))]) hx hb dX1_allocates_62 rfl hl (by decide) rfl (fun ls hl => ?_)
          refine lv_iconst (v := nI 0) hx hb dX1_allocates_63 (by decide +kernel) ?_
          refine lv_istore (lv' := [(5, .int (nI 0)), (2, .int (bI (alo M K S X b && (!X.testBit b || (decide (0 < M b) && decide (M b &&& S = 0)))))), (0, .ref (h 0)), (1, .int (nI X)), (3, .int (nI b)), (4, .int (bI (X.testBit b)))]) hx hb dX1_allocates_64 hl (by decide) rfl (fun ls hl => ?_)
          have lp66 : ∀ n q : Nat, q + n = b → ∀ (v2 : Int32) (ls : Array Slot), v2 = bI ((alo M K S X b && (!X.testBit b || (decide (0 < M b) && decide (M b &&& S = 0)))) && ali M K X b q) → lv_has ls 7 [(0, .ref (h 0)), (1, .int (nI X)), (2, .int (v2)), (3, .int (nI b)), (4, .int (bI (X.testBit b))), (5, .int (nI q))] → RW p l e s m below meth c 1 21 [.ref (h 0), .int (nI X)] (bI (alo M K S X 8)) 66 ls [] := by
            intro n
            induction n with
            | zero =>
              intro q hi v2 ls e2 hl
              have hi : b = q := by omega
              subst hi
              subst e2
              refine lv_iload hx hb dX1_allocates_66 (lv_at hl 5 rfl) ?_
              refine lv_iload_n hx hb dX1_allocates_68 rfl (lv_at hl 3 rfl) ?_
              refine ic_ge (tgt := 148) hx hb dX1_allocates_69 (by decide) (by omega) (by omega) (fun c69 => ?_) (fun c69 => absurd c69 (by omega))
              refine lv_iinc (v := nI (b + 1)) (lv' := [(3, .int (nI (b + 1))), (0, .ref (h 0)), (1, .int (nI X)), (2, .int (bI ((alo M K S X b && (!X.testBit b || (decide (0 < M b) && decide (M b &&& S = 0)))) && ali M K X b b))), (4, .int (bI (X.testBit b))), (5, .int (nI b))]) hx hb dX1_allocates_148 hl (k := 3) rfl (nI_1 b) (by decide) rfl (fun ls hl => ?_)
              refine lv_goto (tgt := 4) hx hb dX1_allocates_151 (by decide) ?_
              exact ih (b + 1) (by omega) _ ls (rfl) (lv_sub hl [1, 2, 3, 0] rfl)
            | succ n ih =>
              intro q hi v2 ls e2 hl
              have hiq : q < b := by omega
              subst e2
              have hMq := hM8 q
              have hKq := hK4 q
              refine lv_iload hx hb dX1_allocates_66 (lv_at hl 5 rfl) ?_
              refine lv_iload_n hx hb dX1_allocates_68 rfl (lv_at hl 3 rfl) ?_
              refine ic_ge (tgt := 148) hx hb dX1_allocates_69 (by decide) (by omega) (by omega) (fun c69 => absurd c69 (by omega)) (fun c69 => ?_)
              have ct92 : ∀ (ls : Array Slot), lv_has ls 7 [(0, .ref (h 0)), (1, .int (nI X)), (2, .int (bI ((alo M K S X b && (!X.testBit b || (decide (0 < M b) && decide (M b &&& S = 0)))) && ali M K X b q))), (3, .int (nI b)), (4, .int (bI (X.testBit b))), (5, .int (nI q))] → RW p l e s m below meth c 1 21 [.ref (h 0), .int (nI X)] (bI (alo M K S X 8)) 92 ls [.int (bI (X.testBit b && X.testBit q))] := by
                intro  ls  hl
                refine lv_istore (lv' := [(6, .int (bI (X.testBit b && X.testBit q))), (0, .ref (h 0)), (1, .int (nI X)), (2, .int (bI ((alo M K S X b && (!X.testBit b || (decide (0 < M b) && decide (M b &&& S = 0)))) && ali M K X b q))), (3, .int (nI b)), (4, .int (bI (X.testBit b))), (5, .int (nI q))]) hx hb dX1_allocates_92 hl (by decide) rfl (fun ls hl => ?_)
                have ct141 : ∀ (ls : Array Slot), lv_has ls 7 [(0, .ref (h 0)), (1, .int (nI X)), (3, .int (nI b)), (4, .int (bI (X.testBit b))), (5, .int (nI q))] → RW p l e s m below meth c 1 21 [.ref (h 0), .int (nI X)] (bI (alo M K S X 8)) 141 ls [.int (bI (((alo M K S X b && (!X.testBit b || (decide (0 < M b) && decide (M b &&& S = 0)))) && ali M K X b q) && !((X.testBit b && X.testBit q) && (decide (M b &&& M q ≠ 0) || decide (K b = K q)))))] := by
                  intro  ls  hl
                  refine lv_istore_n (lv' := [(2, .int (bI (((alo M K S X b && (!X.testBit b || (decide (0 < M b) && decide (M b &&& S = 0)))) && ali M K X b q) && !((X.testBit b && X.testBit q) && (decide (M b &&& M q ≠ 0) || decide (K b = K q)))))), (0, .ref (h 0)), (1, .int (nI X)), (3, .int (nI b)), (4, .int (bI (X.testBit b))), (5, .int (nI q))]) hx hb dX1_allocates_141 rfl hl (by decide) rfl (fun ls hl => ?_)
                  refine lv_iinc (v := nI (q + 1)) (lv' := [(5, .int (nI (q + 1))), (2, .int (bI (((alo M K S X b && (!X.testBit b || (decide (0 < M b) && decide (M b &&& S = 0)))) && ali M K X b q) && !((X.testBit b && X.testBit q) && (decide (M b &&& M q ≠ 0) || decide (K b = K q)))))), (0, .ref (h 0)), (1, .int (nI X)), (3, .int (nI b)), (4, .int (bI (X.testBit b)))]) hx hb dX1_allocates_142 hl (k := 5) rfl (nI_1 q) (by decide) rfl (fun ls hl => ?_)
                  refine lv_goto (tgt := 66) hx hb dX1_allocates_145 (by decide) ?_
                  exact ih (q + 1) (by omega) _ ls (by rw [ali, Bool.and_assoc]) (lv_sub hl [2, 3, 1, 4, 5, 0] rfl)
                refine lv_iload_n hx hb dX1_allocates_94 rfl (lv_at hl 3 rfl) ?_
                refine if_eqB (tgt := 140) hx hb dX1_allocates_95 (by decide) (fun c95 => ?_) (fun c95 => ?_)
                · refine lv_iconst (v := nI 0) hx hb dX1_allocates_140 (by decide +kernel) ?_
                  refine rtq (y := bI (((alo M K S X b && (!X.testBit b || (decide (0 < M b) && decide (M b &&& S = 0)))) && ali M K X b q) && !((X.testBit b && X.testBit q) && (decide (M b &&& M q ≠ 0) || decide (K b = K q))))) (by rw [c95]; rfl) ?_
                  exact ct141  ls  (lv_sub hl [1, 2, 4, 5, 6] rfl)
                · refine lv_iload hx hb dX1_allocates_98 (lv_at hl 0 rfl) ?_
                  refine if_eqB (tgt := 136) hx hb dX1_allocates_100 (by decide) (fun c100 => ?_) (fun c100 => ?_)
                  · refine lv_iconst (v := nI 1) hx hb dX1_allocates_136 (by decide +kernel) ?_
                    refine lv_goto (tgt := 141) hx hb dX1_allocates_137 (by decide) ?_
                    refine rtq (y := bI (((alo M K S X b && (!X.testBit b || (decide (0 < M b) && decide (M b &&& S = 0)))) && ali M K X b q) && !((X.testBit b && X.testBit q) && (decide (M b &&& M q ≠ 0) || decide (K b = K q))))) (by rw [c95, c100]; rfl) ?_
                    exact ct141  ls  (lv_sub hl [1, 2, 4, 5, 6] rfl)
                  · refine lv_aload_n hx hb dX1_allocates_103 rfl (lv_at hl 1 rfl) ?_
                    refine gf1_0 hx hb hts hown hK hP rfl rfl dX1_allocates_104 ?_
                    refine lv_iload_n hx hb dX1_allocates_107 rfl (lv_at hl 4 rfl) ?_
                    refine ld_i hx hb hK hP 1 0 rfl rfl (by omega) (by decide) (v := nI (M b)) (rfl) dX1_allocates_108 ?_
                    refine lv_aload_n hx hb dX1_allocates_109 rfl (lv_at hl 1 rfl) ?_
                    refine gf1_0 hx hb hts hown hK hP rfl rfl dX1_allocates_110 ?_
                    refine lv_iload hx hb dX1_allocates_113 (lv_at hl 6 rfl) ?_
                    refine ld_i hx hb hK hP 1 0 rfl rfl (by omega) (by decide) (v := nI (M q)) (rfl) dX1_allocates_115 ?_
                    refine an_N hx hb dX1_allocates_116 ?_
                    refine if_neN (tgt := 140) hx hb dX1_allocates_117 (by decide) (and_lt (by omega)) (fun c117 => ?_) (fun c117 => ?_)
                    · refine lv_iconst (v := nI 0) hx hb dX1_allocates_140 (by decide +kernel) ?_
                      refine rtq (y := bI (((alo M K S X b && (!X.testBit b || (decide (0 < M b) && decide (M b &&& S = 0)))) && ali M K X b q) && !((X.testBit b && X.testBit q) && (decide (M b &&& M q ≠ 0) || decide (K b = K q))))) (by rw [c95, c100, decide_eq_true c117]; rfl) ?_
                      exact ct141  ls  (lv_sub hl [1, 2, 4, 5, 6] rfl)
                    · refine lv_aload_n hx hb dX1_allocates_120 rfl (lv_at hl 1 rfl) ?_
                      refine gf1_1 hx hb hts hown hK hP rfl rfl dX1_allocates_121 ?_
                      refine lv_iload_n hx hb dX1_allocates_124 rfl (lv_at hl 4 rfl) ?_
                      refine ld_i hx hb hK hP 2 1 rfl rfl (by omega) (by decide) (v := nI (K b)) (rfl) dX1_allocates_125 ?_
                      refine lv_aload_n hx hb dX1_allocates_126 rfl (lv_at hl 1 rfl) ?_
                      refine gf1_1 hx hb hts hown hK hP rfl rfl dX1_allocates_127 ?_
                      refine lv_iload hx hb dX1_allocates_130 (lv_at hl 6 rfl) ?_
                      refine ld_i hx hb hK hP 2 1 rfl rfl (by omega) (by decide) (v := nI (K q)) (rfl) dX1_allocates_132 ?_
                      refine ic_eq (tgt := 140) hx hb dX1_allocates_133 (by decide) (by omega) (by omega) (fun c133 => ?_) (fun c133 => ?_)
                      · refine lv_iconst (v := nI 0) hx hb dX1_allocates_140 (by decide +kernel) ?_
                        refine rtq (y := bI (((alo M K S X b && (!X.testBit b || (decide (0 < M b) && decide (M b &&& S = 0)))) && ali M K X b q) && !((X.testBit b && X.testBit q) && (decide (M b &&& M q ≠ 0) || decide (K b = K q))))) (by rw [c95, c100, decide_eq_false (fun z => z c117), decide_eq_true c133]; rfl) ?_
                        exact ct141  ls  (lv_sub hl [1, 2, 4, 5, 6] rfl)
                      · refine lv_iconst (v := nI 1) hx hb dX1_allocates_136 (by decide +kernel) ?_
                        refine lv_goto (tgt := 141) hx hb dX1_allocates_137 (by decide) ?_
                        refine rtq (y := bI (((alo M K S X b && (!X.testBit b || (decide (0 < M b) && decide (M b &&& S = 0)))) && ali M K X b q) && !((X.testBit b && X.testBit q) && (decide (M b &&& M q ≠ 0) || decide (K b = K q))))) (by rw [c95, c100, decide_eq_false (fun z => z c117), decide_eq_false c133]; rfl) ?_
                        exact ct141  ls  (lv_sub hl [1, 2, 4, 5, 6] rfl)
              refine lv_iload hx hb dX1_allocates_72 (lv_at hl 4 rfl) ?_
              refine if_eqB (tgt := 91) hx hb dX1_allocates_74 (by decide) (fun c74 => ?_) (fun c74 => ?_)
              · refine lv_iconst (v := nI 0) hx hb dX1_allocates_91 (by decide +kernel) ?_
                refine rtq (y := bI (X.testBit b && X.testBit q)) (by rw [c74]; rfl) ?_
                exact ct92  ls  (lv_sub hl [0, 1, 2, 3, 4, 5] rfl)
              · refine lv_iload_n hx hb dX1_allocates_77 rfl (lv_at hl 1 rfl) ?_
                refine lv_iload hx hb dX1_allocates_78 (lv_at hl 5 rfl) ?_
                refine lv_ishr hx hb dX1_allocates_80 ?_
                refine lv_iconst (v := nI 1) hx hb dX1_allocates_81 (by decide +kernel) ?_
                refine bt_N hx hb dX1_allocates_82 (by omega) (by omega) ?_
                refine lv_iconst (v := nI 1) hx hb dX1_allocates_83 (by decide +kernel) ?_
                refine ic_neB (tgt := 91) hx hb dX1_allocates_84 (by decide) (fun c84 => ?_) (fun c84 => ?_)
                · refine lv_iconst (v := nI 0) hx hb dX1_allocates_91 (by decide +kernel) ?_
                  refine rtq (y := bI (X.testBit b && X.testBit q)) (by rw [c74, c84]; rfl) ?_
                  exact ct92  ls  (lv_sub hl [0, 1, 2, 3, 4, 5] rfl)
                · refine lv_iconst (v := nI 1) hx hb dX1_allocates_87 (by decide +kernel) ?_
                  refine lv_goto (tgt := 92) hx hb dX1_allocates_88 (by decide) ?_
                  refine rtq (y := bI (X.testBit b && X.testBit q)) (by rw [c74, c84]; rfl) ?_
                  exact ct92  ls  (lv_sub hl [0, 1, 2, 3, 4, 5] rfl)
          exact lp66 b 0 (by omega) _ ls (by simp [ali]) (lv_sub hl [2, 3, 1, 4, 5, 0] rfl)
        refine lv_iload_n hx hb dX1_allocates_26 rfl (lv_at hl 3 rfl) ?_
        refine if_eqB (tgt := 61) hx hb dX1_allocates_27 (by decide) (fun c27 => ?_) (fun c27 => ?_)
        · refine lv_iconst (v := nI 0) hx hb dX1_allocates_61 (by decide +kernel) ?_
          refine rtq (y := bI (alo M K S X b && (!X.testBit b || (decide (0 < M b) && decide (M b &&& S = 0))))) (by rw [c27]; rfl) ?_
          exact ct62  ls  (lv_sub hl [1, 2, 4, 0] rfl)
        · refine lv_iload hx hb dX1_allocates_30 (lv_at hl 0 rfl) ?_
          refine if_eqB (tgt := 57) hx hb dX1_allocates_32 (by decide) (fun c32 => ?_) (fun c32 => ?_)
          · refine lv_iconst (v := nI 1) hx hb dX1_allocates_57 (by decide +kernel) ?_
            refine lv_goto (tgt := 62) hx hb dX1_allocates_58 (by decide) ?_
            refine rtq (y := bI (alo M K S X b && (!X.testBit b || (decide (0 < M b) && decide (M b &&& S = 0))))) (by rw [c27, c32]; rfl) ?_
            exact ct62  ls  (lv_sub hl [1, 2, 4, 0] rfl)
          · refine lv_aload_n hx hb dX1_allocates_35 rfl (lv_at hl 1 rfl) ?_
            refine lv_iload_n hx hb dX1_allocates_36 rfl (lv_at hl 4 rfl) ?_
            refine ro_V (ci := 1) (q0 := 0) (rest := []) ⟨hx, hb, hml, hown, hts⟩ (mX1_isj hM8 hib) gX1_is hdX1_is ⟨Nat.le_of_ble_eq_true rfl, Nat.le_of_ble_eq_true rfl⟩ hK hP rfl rfl rfl rfl hl.1 rfl (Nat.le_of_ble_eq_true rfl) dX1_allocates_37 ⟨Nat.le_of_ble_eq_true rfl, Nat.le_of_ble_eq_true rfl⟩ ?_
            refine if_eqB (tgt := 61) hx hb dX1_allocates_40 (by decide) (fun c40 => ?_) (fun c40 => ?_)
            · refine lv_iconst (v := nI 0) hx hb dX1_allocates_61 (by decide +kernel) ?_
              refine rtq (y := bI (alo M K S X b && (!X.testBit b || (decide (0 < M b) && decide (M b &&& S = 0))))) (by rw [c27, c32, c40]; rfl) ?_
              exact ct62  ls  (lv_sub hl [1, 2, 4, 0] rfl)
            · refine lv_aload_n hx hb dX1_allocates_43 rfl (lv_at hl 1 rfl) ?_
              refine gf1_0 hx hb hts hown hK hP rfl rfl dX1_allocates_44 ?_
              refine lv_iload_n hx hb dX1_allocates_47 rfl (lv_at hl 4 rfl) ?_
              refine ld_i hx hb hK hP 1 0 rfl rfl (by omega) (by decide) (v := nI (M b)) (rfl) dX1_allocates_48 ?_
              refine lv_aload_n hx hb dX1_allocates_49 rfl (lv_at hl 1 rfl) ?_
              refine gf1_3 hx hb hts hown hK hP rfl rfl dX1_allocates_50 ?_
              refine an_N hx hb dX1_allocates_53 ?_
              refine if_neN (tgt := 61) hx hb dX1_allocates_54 (by decide) (and_lt (by omega)) (fun c54 => ?_) (fun c54 => ?_)
              · refine lv_iconst (v := nI 0) hx hb dX1_allocates_61 (by decide +kernel) ?_
                refine rtq (y := bI (alo M K S X b && (!X.testBit b || (decide (0 < M b) && decide (M b &&& S = 0))))) (by rw [c27, c32, c40, decide_eq_false c54]; rfl) ?_
                exact ct62  ls  (lv_sub hl [1, 2, 4, 0] rfl)
              · refine lv_iconst (v := nI 1) hx hb dX1_allocates_57 (by decide +kernel) ?_
                refine lv_goto (tgt := 62) hx hb dX1_allocates_58 (by decide) ?_
                refine rtq (y := bI (alo M K S X b && (!X.testBit b || (decide (0 < M b) && decide (M b &&& S = 0))))) (by rw [c27, c32, c40, decide_eq_true c54]; rfl) ?_
                exact ct62  ls  (lv_sub hl [1, 2, 4, 0] rfl)
      refine lv_iload_n hx hb dX1_allocates_10 rfl (lv_at hl 1 rfl) ?_
      refine lv_iload_n hx hb dX1_allocates_11 rfl (lv_at hl 3 rfl) ?_
      refine lv_ishr hx hb dX1_allocates_12 ?_
      refine lv_iconst (v := nI 1) hx hb dX1_allocates_13 (by decide +kernel) ?_
      refine bt_N hx hb dX1_allocates_14 (by omega) (by omega) ?_
      refine lv_iconst (v := nI 1) hx hb dX1_allocates_15 (by decide +kernel) ?_
      refine ic_neB (tgt := 23) hx hb dX1_allocates_16 (by decide) (fun c16 => ?_) (fun c16 => ?_)
      · refine lv_iconst (v := nI 0) hx hb dX1_allocates_23 (by decide +kernel) ?_
        refine rtq (y := bI (X.testBit b)) (by rw [c16]; rfl) ?_
        exact ct24  ls  (lv_sub hl [0, 1, 2, 3] rfl)
      · refine lv_iconst (v := nI 1) hx hb dX1_allocates_19 (by decide +kernel) ?_
        refine lv_goto (tgt := 24) hx hb dX1_allocates_20 (by decide) ?_
        refine rtq (y := bI (X.testBit b)) (by rw [c16]; rfl) ?_
        exact ct24  ls  (lv_sub hl [0, 1, 2, 3] rfl)
  exact lp4 8 0 (by omega) _ ls (rfl) (lv_sub hl [2, 3, 1, 0] rfl)
set_option maxHeartbeats 1000000 in
set_option maxRecDepth 100000 in
/-- best(must, never) -/
theorem mX1_best {l : Launch} {D : va_G} {h : Nat → Nat} {d : Nat → ClassId} {M K A : Nat → Nat} {S : Nat} {fi : Nat → Int32} {mu nv : Nat} {fb : Nat → Bool} (hA50 : ∀ b, A b ≤ 50) (hmu : mu < 256) (hnv : nv < 256) (hfb : ∀ q, q < 256 → fi q = bI (fb q)) : RoMet l yX1_best cX1_best 5 (some .int) 2 48 D (w1 h d M K A S fi) (t1 d) [.ref (h 0), .int (nI mu), .int (nI nv)] (oI (bst A fb mu nv 256)) := by
  refine ro_of (lv := [(0, .ref (h 0)), (1, .int (nI mu)), (2, .int (nI nv))]) (by decide) (Nat.le_of_ble_eq_true rfl) rfl ?_
  intro p e s m below meth c hx hb hr hml hown hts hlk hP hK ls hl
  have hown : s.vm.findClass RX1 = some m.cls := hown
  refine lv_iconst (v := -1) hx hb dX1_best_0 (by decide +kernel) ?_
  refine lv_istore_n (lv' := [(3, .int (-1)), (0, .ref (h 0)), (1, .int (nI mu)), (2, .int (nI nv))]) hx hb dX1_best_1 rfl hl (by decide) rfl (fun ls hl => ?_)
  refine lv_iconst (v := nI 0) hx hb dX1_best_2 (by decide +kernel) ?_
  refine lv_istore (lv' := [(4, .int (nI 0)), (3, .int (-1)), (0, .ref (h 0)), (1, .int (nI mu)), (2, .int (nI nv))]) hx hb dX1_best_3 hl (by decide) rfl (fun ls hl => ?_)
  have lp5 : ∀ n i : Nat, i + n = 256 → ∀ (v3 : Int32) (ls : Array Slot), v3 = oI (bst A fb mu nv i) → lv_has ls 5 [(0, .ref (h 0)), (1, .int (nI mu)), (2, .int (nI nv)), (3, .int (v3)), (4, .int (nI i))] → RW p l e s m below meth c 2 48 [.ref (h 0), .int (nI mu), .int (nI nv)] (oI (bst A fb mu nv 256)) 5 ls [] := by
    intro n
    induction n with
    | zero =>
      intro i hi v3 ls e3 hl
      have hi : 256 = i := by omega
      subst hi
      refine lv_iload hx hb dX1_best_5 (lv_at hl 4 rfl) ?_
      refine lv_sipush (v := nI 256) hx hb dX1_best_7 (by decide +kernel) ?_
      refine ic_ge (tgt := 62) hx hb dX1_best_10 (by decide) (by omega) (by omega) (fun c10 => ?_) (fun c10 => absurd c10 (by omega))
      refine lv_iload_n hx hb dX1_best_62 rfl (lv_at hl 3 rfl) ?_
      exact ro_iret hx hb hr hlk (e3) dX1_best_63
    | succ n ih =>
      intro i hi v3 ls e3 hl
      have hii : i < 256 := by omega
      refine lv_iload hx hb dX1_best_5 (lv_at hl 4 rfl) ?_
      refine lv_sipush (v := nI 256) hx hb dX1_best_7 (by decide +kernel) ?_
      refine ic_ge (tgt := 62) hx hb dX1_best_10 (by decide) (by omega) (by omega) (fun c10 => absurd c10 (by omega)) (fun c10 => ?_)
      refine lv_aload_n hx hb dX1_best_13 rfl (lv_at hl 0 rfl) ?_
      refine gf1_4 hx hb hts hown hK hP rfl rfl dX1_best_14 ?_
      refine lv_iload hx hb dX1_best_17 (lv_at hl 4 rfl) ?_
      refine ld_z hx hb hK hP 4 3 rfl rfl (by omega) (by decide) (v := bI (fb i)) (hfb i hii) dX1_best_19 ?_
      refine if_eqB (tgt := 56) hx hb dX1_best_20 (by decide) (fun c20 => ?_) (fun c20 => ?_)
      · refine lv_iinc (v := nI (i + 1)) (lv' := [(4, .int (nI (i + 1))), (0, .ref (h 0)), (1, .int (nI mu)), (2, .int (nI nv)), (3, .int (v3))]) hx hb dX1_best_56 hl (k := 4) rfl (nI_1 i) (by decide) rfl (fun ls hl => ?_)
        refine lv_goto (tgt := 5) hx hb dX1_best_59 (by decide) ?_
        exact ih (i + 1) (by omega) _ ls (by rw [e3, bst, if_neg (by simp [c20])]) (lv_sub hl [1, 2, 3, 4, 0] rfl)
      · refine lv_iload_n hx hb dX1_best_23 rfl (lv_at hl 1 rfl) ?_
        refine lv_iload hx hb dX1_best_24 (lv_at hl 4 rfl) ?_
        refine lv_iconst (v := -1) hx hb dX1_best_26 (by decide +kernel) ?_
        refine lv_ixor hx hb dX1_best_27 ?_
        refine nd_N hx hb dX1_best_28 ?_
        refine if_neN (tgt := 56) hx hb dX1_best_29 (by decide) (Nat.lt_of_le_of_lt (nd_le _ _) (by omega)) (fun c29 => ?_) (fun c29 => ?_)
        · refine lv_iinc (v := nI (i + 1)) (lv' := [(4, .int (nI (i + 1))), (0, .ref (h 0)), (1, .int (nI mu)), (2, .int (nI nv)), (3, .int (v3))]) hx hb dX1_best_56 hl (k := 4) rfl (nI_1 i) (by decide) rfl (fun ls hl => ?_)
          refine lv_goto (tgt := 5) hx hb dX1_best_59 (by decide) ?_
          exact ih (i + 1) (by omega) _ ls (by rw [e3, bst, if_neg (by simp [c20, c29])]) (lv_sub hl [1, 2, 3, 4, 0] rfl)
        · refine lv_iload_n hx hb dX1_best_32 rfl (lv_at hl 2 rfl) ?_
          refine lv_iload hx hb dX1_best_33 (lv_at hl 4 rfl) ?_
          refine an_N hx hb dX1_best_35 ?_
          refine if_neN (tgt := 56) hx hb dX1_best_36 (by decide) (and_lt (by omega)) (fun c36 => ?_) (fun c36 => ?_)
          · refine lv_iinc (v := nI (i + 1)) (lv' := [(4, .int (nI (i + 1))), (0, .ref (h 0)), (1, .int (nI mu)), (2, .int (nI nv)), (3, .int (v3))]) hx hb dX1_best_56 hl (k := 4) rfl (nI_1 i) (by decide) rfl (fun ls hl => ?_)
            refine lv_goto (tgt := 5) hx hb dX1_best_59 (by decide) ?_
            exact ih (i + 1) (by omega) _ ls (by rw [e3, bst, if_neg (by simp [c20, c29, c36])]) (lv_sub hl [1, 2, 3, 4, 0] rfl)
          · cases hbs : bst A fb mu nv i with
            | none =>
              rw [hbs] at e3
              subst e3
              have hl : lv_has ls 5 [(0, .ref (h 0)), (1, .int (nI mu)), (2, .int (nI nv)), (3, .int (-1)), (4, .int (nI i))] := hl
              refine lv_iload_n hx hb dX1_best_39 rfl (lv_at hl 3 rfl) ?_
              refine if_ltM (tgt := 53) hx hb dX1_best_40 (by decide) ?_
              refine lv_iload hx hb dX1_best_53 (lv_at hl 4 rfl) ?_
              refine lv_istore_n (lv' := [(3, .int (nI i)), (0, .ref (h 0)), (1, .int (nI mu)), (2, .int (nI nv)), (4, .int (nI i))]) hx hb dX1_best_55 rfl hl (by decide) rfl (fun ls hl => ?_)
              refine lv_iinc (v := nI (i + 1)) (lv' := [(4, .int (nI (i + 1))), (3, .int (nI i)), (0, .ref (h 0)), (1, .int (nI mu)), (2, .int (nI nv))]) hx hb dX1_best_56 hl (k := 4) rfl (nI_1 i) (by decide) rfl (fun ls hl => ?_)
              refine lv_goto (tgt := 5) hx hb dX1_best_59 (by decide) ?_
              exact ih (i + 1) (by omega) _ ls (by rw [bst, if_pos ⟨c20, c29, c36, by rw [hbs]; rfl⟩]; rfl) (lv_sub hl [2, 3, 4, 1, 0] rfl)
            | some y =>
              rw [hbs] at e3
              subst e3
              have hl : lv_has ls 5 [(0, .ref (h 0)), (1, .int (nI mu)), (2, .int (nI nv)), (3, .int (nI y)), (4, .int (nI i))] := hl
              have hy := bst_lt hbs
              refine lv_iload_n hx hb dX1_best_39 rfl (lv_at hl 3 rfl) ?_
              refine if_ltN (tgt := 53) hx hb dX1_best_40 (by decide) (by omega) ?_
              refine lv_aload_n hx hb dX1_best_43 rfl (lv_at hl 0 rfl) ?_
              refine lv_iload hx hb dX1_best_44 (lv_at hl 4 rfl) ?_
              refine lv_iload_n hx hb dX1_best_46 rfl (lv_at hl 3 rfl) ?_
              refine ro_V (ci := 1) (q0 := 0) (rest := []) ⟨hx, hb, hml, hown, hts⟩ (mX1_before hA50 hii (Nat.lt_trans (bst_lt hbs) hii)) gX1_before hdX1_before ⟨Nat.le_of_ble_eq_true rfl, Nat.le_of_ble_eq_true rfl⟩ hK hP rfl rfl rfl rfl hl.1 rfl (Nat.le_of_ble_eq_true rfl) dX1_best_47 ⟨Nat.le_of_ble_eq_true rfl, Nat.le_of_ble_eq_true rfl⟩ ?_
              refine if_eqB (tgt := 56) hx hb dX1_best_50 (by decide) (fun c50 => ?_) (fun c50 => ?_)
              · refine lv_iinc (v := nI (i + 1)) (lv' := [(4, .int (nI (i + 1))), (0, .ref (h 0)), (1, .int (nI mu)), (2, .int (nI nv)), (3, .int (nI y))]) hx hb dX1_best_56 hl (k := 4) rfl (nI_1 i) (by decide) rfl (fun ls hl => ?_)
                refine lv_goto (tgt := 5) hx hb dX1_best_59 (by decide) ?_
                exact ih (i + 1) (by omega) _ ls (by rw [bst, if_neg (by rw [hbs]; rintro ⟨-, -, -, z⟩; exact absurd (z.symm.trans c50) (by decide)), hbs]; rfl) (lv_sub hl [1, 2, 3, 4, 0] rfl)
              · refine lv_iload hx hb dX1_best_53 (lv_at hl 4 rfl) ?_
                refine lv_istore_n (lv' := [(3, .int (nI i)), (0, .ref (h 0)), (1, .int (nI mu)), (2, .int (nI nv)), (4, .int (nI i))]) hx hb dX1_best_55 rfl hl (by decide) rfl (fun ls hl => ?_)
                refine lv_iinc (v := nI (i + 1)) (lv' := [(4, .int (nI (i + 1))), (3, .int (nI i)), (0, .ref (h 0)), (1, .int (nI mu)), (2, .int (nI nv))]) hx hb dX1_best_56 hl (k := 4) rfl (nI_1 i) (by decide) rfl (fun ls hl => ?_)
                refine lv_goto (tgt := 5) hx hb dX1_best_59 (by decide) ?_
                exact ih (i + 1) (by omega) _ ls (by rw [bst, if_pos ⟨c20, c29, c36, by rw [hbs]; exact c50⟩]; rfl) (lv_sub hl [2, 3, 4, 1, 0] rfl)
  exact lp5 256 0 (by omega) _ ls (rfl) (lv_sub hl [2, 3, 4, 1, 0] rfl)
set_option maxHeartbeats 1000000 in
set_option maxRecDepth 100000 in
/-- allocation: out of range -/
theorem mX1_allocation_no {l : Launch} {D : va_G} {h : Nat → Nat} {d : Nat → ClassId} {M K A : Nat → Nat} {S : Nat} {fi : Nat → Int32} {x : Int32} (hn : inr 256 x = false) : RoMet l yX1_allocation cX1_allocation 2 (some .boolean) 2 47 D (w1 h d M K A S fi) (t1 d) [.ref (h 0), .int (x)] (bI false) := by
  refine ro_of (lv := [(0, .ref (h 0)), (1, .int (x))]) (by decide) (Nat.le_of_ble_eq_true rfl) rfl ?_
  intro p e s m below meth c hx hb hr hml hown hts hlk hP hK ls hl
  have hown : s.vm.findClass RX1 = some m.cls := hown
  refine lv_iload_n hx hb dX1_allocation_0 rfl (lv_at hl 1 rfl) ?_
  refine lv_if_lt (tgt := 23) hx hb dX1_allocation_1 (by decide) (fun c1 => ?_) (fun c1 => ?_)
  · refine lv_iconst (v := nI 0) hx hb dX1_allocation_23 (by decide +kernel) ?_
    exact ro_zret hx hb hr hlk (rfl) (false) rfl dX1_allocation_24
  · refine lv_iload_n hx hb dX1_allocation_4 rfl (lv_at hl 1 rfl) ?_
    refine lv_sipush (v := nI 256) hx hb dX1_allocation_5 (by decide +kernel) ?_
    refine lv_icmp_ge (tgt := 23) hx hb dX1_allocation_8 (by decide) (fun c8 => ?_) (fun c8 => ?_)
    · refine lv_iconst (v := nI 0) hx hb dX1_allocation_23 (by decide +kernel) ?_
      exact ro_zret hx hb hr hlk (rfl) (false) rfl dX1_allocation_24
    · exact absurd (inr_t c1 c8) (by rw [hn]; decide)
set_option maxHeartbeats 1000000 in
set_option maxRecDepth 100000 in
/-- allocation(X) -/
theorem mX1_allocation {l : Launch} {D : va_G} {h : Nat → Nat} {d : Nat → ClassId} {M K A : Nat → Nat} {S : Nat} {fi : Nat → Int32} {X : Nat} (hM8 : ∀ b, M b < 256) (hK4 : ∀ b, K b < 4) (hS8 : S < 256) (hX : X < 256) : RoMet l yX1_allocation cX1_allocation 2 (some .boolean) 2 47 D (w1 h d M K A S fi) (t1 d) [.ref (h 0), .int (nI X)] (bI (alo M K S X 8)) := by
  refine ro_of (lv := [(0, .ref (h 0)), (1, .int (nI X))]) (by decide) (Nat.le_of_ble_eq_true rfl) rfl ?_
  intro p e s m below meth c hx hb hr hml hown hts hlk hP hK ls hl
  have hown : s.vm.findClass RX1 = some m.cls := hown
  refine lv_iload_n hx hb dX1_allocation_0 rfl (lv_at hl 1 rfl) ?_
  refine if_ltN (tgt := 23) hx hb dX1_allocation_1 (by decide) (by omega) ?_
  refine lv_iload_n hx hb dX1_allocation_4 rfl (lv_at hl 1 rfl) ?_
  refine lv_sipush (v := nI 256) hx hb dX1_allocation_5 (by decide +kernel) ?_
  refine ic_ge (tgt := 23) hx hb dX1_allocation_8 (by decide) (by omega) (by omega) (fun c8 => absurd c8 (by omega)) (fun c8 => ?_)
  refine lv_aload_n hx hb dX1_allocation_11 rfl (lv_at hl 0 rfl) ?_
  refine lv_iload_n hx hb dX1_allocation_12 rfl (lv_at hl 1 rfl) ?_
  refine ro_V (ci := 1) (q0 := 0) (rest := []) ⟨hx, hb, hml, hown, hts⟩ (mX1_allocates hM8 hK4 hS8 hX) gX1_allocates hdX1_allocates ⟨Nat.le_of_ble_eq_true rfl, Nat.le_of_ble_eq_true rfl⟩ hK hP rfl rfl rfl rfl hl.1 rfl (Nat.le_of_ble_eq_true rfl) dX1_allocation_13 ⟨Nat.le_of_ble_eq_true rfl, Nat.le_of_ble_eq_true rfl⟩ ?_
  refine if_eqB (tgt := 23) hx hb dX1_allocation_16 (by decide) (fun c16 => ?_) (fun c16 => ?_)
  · refine lv_iconst (v := nI 0) hx hb dX1_allocation_23 (by decide +kernel) ?_
    exact ro_zret hx hb hr hlk (by rw [c16]; rfl) (false) rfl dX1_allocation_24
  · refine lv_iconst (v := nI 1) hx hb dX1_allocation_19 (by decide +kernel) ?_
    refine lv_goto (tgt := 24) hx hb dX1_allocation_20 (by decide) ?_
    exact ro_zret hx hb hr hlk (by rw [c16]; rfl) (true) rfl dX1_allocation_24
end
section
set_option maxRecDepth 100000
/-- the reference's first free place -/
def frm (M : Nat → Nat) : Option Nat := ff (fun b => decide (M b = 0)) 8 0
theorem uN_self (A : Nat → Nat) (j : Nat) : uN A j (A j) = A := by
  funext q
  unfold uN
  by_cases e : q = j
  · rw [if_pos e, e]
  · rw [if_neg e]
theorem uN_uN (A : Nat → Nat) (j v w : Nat) : uN (uN A j v) j w = uN A j w := by
  funext q
  unfold uN
  by_cases e : q = j
  · rw [if_pos e, if_pos e]
  · rw [if_neg e, if_neg e, if_neg e]
theorem uN_le {A : Nat → Nat} (hA : ∀ b, A b ≤ 50) {j v : Nat} (hv : v ≤ 50) : ∀ b, uN A j v b ≤ 50 := by
  intro b
  unfold uN
  split
  · exact hv
  · exact hA b
set_option maxHeartbeats 1000000 in
set_option maxRecDepth 100000 in
/-- bid: bad arguments -/
theorem mX1_bid_bad {l : Launch} {D : va_G} {h : Nat → Nat} {d : Nat → ClassId} {M K A : Nat → Nat} {S : Nat} {fi : Nat → Int32} {x y z : Int32} (hbad : ¬ bok x y z) : RoMet l yX1_bid cX1_bid 5 (some .int) 1 21 D (w1 h d M K A S fi) (t1 d) [.ref (h 0), .int (x), .int (y), .int (z)] (-1) := by
  refine ro_of (lv := [(0, .ref (h 0)), (1, .int (x)), (2, .int (y)), (3, .int (z))]) (by decide) (Nat.le_of_ble_eq_true rfl) rfl ?_
  intro p e s m below meth c hx hb hr hml hown hts hlk hP hK ls hl
  have hown : s.vm.findClass RX1 = some m.cls := hown
  refine lv_iload_n hx hb dX1_bid_0 rfl (lv_at hl 1 rfl) ?_
  refine lv_iconst (v := nI 1) hx hb dX1_bid_1 (by decide +kernel) ?_
  refine lv_icmp_lt (tgt := 31) hx hb dX1_bid_2 (by decide) (fun c2 => ?_) (fun c2 => ?_)
  · refine lv_iconst (v := -1) hx hb dX1_bid_31 (by decide +kernel) ?_
    exact ro_iret hx hb hr hlk (rfl) dX1_bid_32
  · refine lv_iload_n hx hb dX1_bid_5 rfl (lv_at hl 1 rfl) ?_
    refine lv_sipush (v := nI 255) hx hb dX1_bid_6 (by decide +kernel) ?_
    refine lv_icmp_gt (tgt := 31) hx hb dX1_bid_9 (by decide) (fun c9 => ?_) (fun c9 => ?_)
    · refine lv_iconst (v := -1) hx hb dX1_bid_31 (by decide +kernel) ?_
      exact ro_iret hx hb hr hlk (rfl) dX1_bid_32
    · refine lv_aload_n hx hb dX1_bid_12 rfl (lv_at hl 0 rfl) ?_
      refine lv_iload_n hx hb dX1_bid_13 rfl (lv_at hl 2 rfl) ?_
      refine ro_V (ci := 1) (q0 := 0) (rest := []) ⟨hx, hb, hml, hown, hts⟩ (mX1_bidder) gX1_bidder hdX1_bidder ⟨Nat.le_of_ble_eq_true rfl, Nat.le_of_ble_eq_true rfl⟩ hK hP rfl rfl rfl rfl hl.1 rfl (Nat.le_of_ble_eq_true rfl) dX1_bid_14 ⟨Nat.le_of_ble_eq_true rfl, Nat.le_of_ble_eq_true rfl⟩ ?_
      refine if_eqB (tgt := 31) hx hb dX1_bid_17 (by decide) (fun c17 => ?_) (fun c17 => ?_)
      · refine lv_iconst (v := -1) hx hb dX1_bid_31 (by decide +kernel) ?_
        exact ro_iret hx hb hr hlk (rfl) dX1_bid_32
      · refine lv_iload_n hx hb dX1_bid_20 rfl (lv_at hl 3 rfl) ?_
        refine lv_iconst (v := nI 1) hx hb dX1_bid_21 (by decide +kernel) ?_
        refine lv_icmp_lt (tgt := 31) hx hb dX1_bid_22 (by decide) (fun c22 => ?_) (fun c22 => ?_)
        · refine lv_iconst (v := -1) hx hb dX1_bid_31 (by decide +kernel) ?_
          exact ro_iret hx hb hr hlk (rfl) dX1_bid_32
        · refine lv_iload_n hx hb dX1_bid_25 rfl (lv_at hl 3 rfl) ?_
          refine lv_bipush (v := nI 50) hx hb dX1_bid_26 (by decide +kernel) ?_
          refine lv_icmp_le (tgt := 33) hx hb dX1_bid_28 (by decide) (fun c28 => ?_) (fun c28 => ?_)
          · exact absurd ⟨c2, fun q => c9 ((nI_gt_ge (n := 255) (by decide) x).mpr q), c17, c22, c28⟩ hbad
          · refine lv_iconst (v := -1) hx hb dX1_bid_31 (by decide +kernel) ?_
            exact ro_iret hx hb hr hlk (rfl) dX1_bid_32
set_option maxHeartbeats 1000000 in
set_option maxRecDepth 100000 in
/-- bid: no free place -/
theorem mX1_bid_full {l : Launch} {D : va_G} {h : Nat → Nat} {d : Nat → ClassId} {M K A : Nat → Nat} {S : Nat} {fi : Nat → Int32} {bu k a : Nat} (hM8 : ∀ b, M b < 256) (hb1 : 1 ≤ bu) (hb2 : bu < 256) (hk : k < 4) (ha1 : 1 ≤ a) (ha2 : a ≤ 50) (hfr : frm M = none) : RoMet l yX1_bid cX1_bid 5 (some .int) 1 21 D (w1 h d M K A S fi) (t1 d) [.ref (h 0), .int (nI bu), .int (nI k), .int (nI a)] (-2) := by
  refine ro_of (lv := [(0, .ref (h 0)), (1, .int (nI bu)), (2, .int (nI k)), (3, .int (nI a))]) (by decide) (Nat.le_of_ble_eq_true rfl) rfl ?_
  intro p e s m below meth c hx hb hr hml hown hts hlk hP hK ls hl
  have hown : s.vm.findClass RX1 = some m.cls := hown
  refine lv_iload_n hx hb dX1_bid_0 rfl (lv_at hl 1 rfl) ?_
  refine lv_iconst (v := nI 1) hx hb dX1_bid_1 (by decide +kernel) ?_
  refine ic_lt (tgt := 31) hx hb dX1_bid_2 (by decide) (by omega) (by omega) (fun c2 => absurd c2 (by omega)) (fun c2 => ?_)
  refine lv_iload_n hx hb dX1_bid_5 rfl (lv_at hl 1 rfl) ?_
  refine lv_sipush (v := nI 255) hx hb dX1_bid_6 (by decide +kernel) ?_
  refine ic_gt (tgt := 31) hx hb dX1_bid_9 (by decide) (by omega) (by omega) (fun c9 => absurd c9 (by omega)) (fun c9 => ?_)
  refine lv_aload_n hx hb dX1_bid_12 rfl (lv_at hl 0 rfl) ?_
  refine lv_iload_n hx hb dX1_bid_13 rfl (lv_at hl 2 rfl) ?_
  refine ro_V (ci := 1) (q0 := 0) (rest := []) ⟨hx, hb, hml, hown, hts⟩ (mX1_bidder) gX1_bidder hdX1_bidder ⟨Nat.le_of_ble_eq_true rfl, Nat.le_of_ble_eq_true rfl⟩ hK hP rfl rfl rfl rfl hl.1 rfl (Nat.le_of_ble_eq_true rfl) dX1_bid_14 ⟨Nat.le_of_ble_eq_true rfl, Nat.le_of_ble_eq_true rfl⟩ ?_
  refine if_eqB (tgt := 31) hx hb dX1_bid_17 (by decide) (fun c17 => absurd c17 (by rw [inr_nI (by decide) hk]; decide)) (fun c17 => ?_)
  refine lv_iload_n hx hb dX1_bid_20 rfl (lv_at hl 3 rfl) ?_
  refine lv_iconst (v := nI 1) hx hb dX1_bid_21 (by decide +kernel) ?_
  refine ic_lt (tgt := 31) hx hb dX1_bid_22 (by decide) (by omega) (by omega) (fun c22 => absurd c22 (by omega)) (fun c22 => ?_)
  refine lv_iload_n hx hb dX1_bid_25 rfl (lv_at hl 3 rfl) ?_
  refine lv_bipush (v := nI 50) hx hb dX1_bid_26 (by decide +kernel) ?_
  refine ic_le (tgt := 33) hx hb dX1_bid_28 (by decide) (by omega) (by omega) (fun c28 => ?_) (fun c28 => absurd c28 (by omega))
  refine lv_iconst (v := nI 0) hx hb dX1_bid_33 (by decide +kernel) ?_
  refine lv_istore (lv' := [(4, .int (nI 0)), (0, .ref (h 0)), (1, .int (nI bu)), (2, .int (nI k)), (3, .int (nI a))]) hx hb dX1_bid_34 hl (by decide) rfl (fun ls hl => ?_)
  have lp36 : ∀ n i : Nat, i + n = 8 → ∀ (ls : Array Slot), (ff (fun b => decide (M b = 0)) n i = none) → lv_has ls 5 [(0, .ref (h 0)), (1, .int (nI bu)), (2, .int (nI k)), (3, .int (nI a)), (4, .int (nI i))] → RW p l e s m below meth c 1 21 [.ref (h 0), .int (nI bu), .int (nI k), .int (nI a)] (-2) 36 ls [] := by
    intro n
    induction n with
    | zero =>
      intro i hi ls hff hl
      have hi : 8 = i := by omega
      subst hi
      refine lv_iload hx hb dX1_bid_36 (lv_at hl 4 rfl) ?_
      refine lv_bipush (v := nI 8) hx hb dX1_bid_38 (by decide +kernel) ?_
      refine ic_ge (tgt := 86) hx hb dX1_bid_40 (by decide) (by omega) (by omega) (fun c40 => ?_) (fun c40 => absurd c40 (by omega))
      refine lv_bipush (v := -2) hx hb dX1_bid_86 (by decide +kernel) ?_
      exact ro_iret hx hb hr hlk (rfl) dX1_bid_88
    | succ n ih =>
      intro i hi ls hff hl
      have hii : i < 8 := by omega
      have hMi := hM8 i
      refine lv_iload hx hb dX1_bid_36 (lv_at hl 4 rfl) ?_
      refine lv_bipush (v := nI 8) hx hb dX1_bid_38 (by decide +kernel) ?_
      refine ic_ge (tgt := 86) hx hb dX1_bid_40 (by decide) (by omega) (by omega) (fun c40 => absurd c40 (by omega)) (fun c40 => ?_)
      refine lv_aload_n hx hb dX1_bid_43 rfl (lv_at hl 0 rfl) ?_
      refine gf1_0 hx hb hts hown hK hP rfl rfl dX1_bid_44 ?_
      refine lv_iload hx hb dX1_bid_47 (lv_at hl 4 rfl) ?_
      refine ld_i hx hb hK hP 1 0 rfl rfl (by omega) (by decide) (v := nI (M i)) (rfl) dX1_bid_49 ?_
      refine if_neN (tgt := 80) hx hb dX1_bid_50 (by decide) (by omega) (fun c50 => ?_) (fun c50 => ?_)
      · refine lv_iinc (v := nI (i + 1)) (lv' := [(4, .int (nI (i + 1))), (0, .ref (h 0)), (1, .int (nI bu)), (2, .int (nI k)), (3, .int (nI a))]) hx hb dX1_bid_80 hl (k := 4) rfl (nI_1 i) (by decide) rfl (fun ls hl => ?_)
        refine lv_goto (tgt := 36) hx hb dX1_bid_83 (by decide) ?_
        exact ih (i + 1) (by omega) ls (by rw [ff, if_neg (by simp [c50])] at hff; exact hff) (lv_sub hl [1, 2, 3, 4, 0] rfl)
      · exact absurd hff (by rw [ff, if_pos (by simp [c50])]; intro z; cases z)
  exact lp36 8 0 (by omega) ls (hfr) (lv_sub hl [1, 2, 3, 4, 0] rfl)
set_option maxHeartbeats 1000000 in
set_option maxRecDepth 100000 in
/-- bid: into place b0 -/
theorem mX1_bid_in {l : Launch} {D : va_G} {h : Nat → Nat} {d : Nat → ClassId} {M K A : Nat → Nat} {S : Nat} {fi : Nat → Int32} {bu k a : Nat} {b0 : Nat} (hM8 : ∀ b, M b < 256) (hb1 : 1 ≤ bu) (hb2 : bu < 256) (hk : k < 4) (ha1 : 1 ≤ a) (ha2 : a ≤ 50) (hfr : frm M = some b0) : WrMet (U := Unit) l yX1_bid cX1_bid 5 (some .int) 1 21 D (w1 h d M K A S fi) (t1 d) (as1 h) [.ref (h 0), .int (nI bu), .int (nI k), .int (nI a)] (fun r (_ : Unit) => r = nI b0) (fun _ => w1 h d (uN M b0 bu) (uN K b0 k) (uN A b0 a) S fi) := by
  refine wr_of (lv := [(0, .ref (h 0)), (1, .int (nI bu)), (2, .int (nI k)), (3, .int (nI a))]) (by decide) (Nat.le_of_ble_eq_true rfl) rfl ?_
  intro p e s m below meth c hx hb hr hml hown hts hlk hK hP hD hS ls hl
  have hown : s.vm.findClass RX1 = some m.cls := hown
  refine lv_iload_n hx hb dX1_bid_0 rfl (lv_at hl 1 rfl) ?_
  refine lv_iconst (v := nI 1) hx hb dX1_bid_1 (by decide +kernel) ?_
  refine ic_lt (tgt := 31) hx hb dX1_bid_2 (by decide) (by omega) (by omega) (fun c2 => absurd c2 (by omega)) (fun c2 => ?_)
  refine lv_iload_n hx hb dX1_bid_5 rfl (lv_at hl 1 rfl) ?_
  refine lv_sipush (v := nI 255) hx hb dX1_bid_6 (by decide +kernel) ?_
  refine ic_gt (tgt := 31) hx hb dX1_bid_9 (by decide) (by omega) (by omega) (fun c9 => absurd c9 (by omega)) (fun c9 => ?_)
  refine lv_aload_n hx hb dX1_bid_12 rfl (lv_at hl 0 rfl) ?_
  refine lv_iload_n hx hb dX1_bid_13 rfl (lv_at hl 2 rfl) ?_
  refine ro_V (ci := 1) (q0 := 0) (rest := []) ⟨hx, hb, hml, hown, hts⟩ (mX1_bidder) gX1_bidder hdX1_bidder ⟨Nat.le_of_ble_eq_true rfl, Nat.le_of_ble_eq_true rfl⟩ hK hP rfl rfl rfl rfl hl.1 rfl (Nat.le_of_ble_eq_true rfl) dX1_bid_14 ⟨Nat.le_of_ble_eq_true rfl, Nat.le_of_ble_eq_true rfl⟩ ?_
  refine if_eqB (tgt := 31) hx hb dX1_bid_17 (by decide) (fun c17 => absurd c17 (by rw [inr_nI (by decide) hk]; decide)) (fun c17 => ?_)
  refine lv_iload_n hx hb dX1_bid_20 rfl (lv_at hl 3 rfl) ?_
  refine lv_iconst (v := nI 1) hx hb dX1_bid_21 (by decide +kernel) ?_
  refine ic_lt (tgt := 31) hx hb dX1_bid_22 (by decide) (by omega) (by omega) (fun c22 => absurd c22 (by omega)) (fun c22 => ?_)
  refine lv_iload_n hx hb dX1_bid_25 rfl (lv_at hl 3 rfl) ?_
  refine lv_bipush (v := nI 50) hx hb dX1_bid_26 (by decide +kernel) ?_
  refine ic_le (tgt := 33) hx hb dX1_bid_28 (by decide) (by omega) (by omega) (fun c28 => ?_) (fun c28 => absurd c28 (by omega))
  refine lv_iconst (v := nI 0) hx hb dX1_bid_33 (by decide +kernel) ?_
  refine lv_istore (lv' := [(4, .int (nI 0)), (0, .ref (h 0)), (1, .int (nI bu)), (2, .int (nI k)), (3, .int (nI a))]) hx hb dX1_bid_34 hl (by decide) rfl (fun ls hl => ?_)
  have lp36 : ∀ n i : Nat, i + n = 8 → ∀ (H : Heap) (locs : List Loc) (ls : Array Slot), (ff (fun b => decide (M b = 0)) n i = some b0) → va_P D vwCl (w1 h d M K A S fi) H → va_D (fun q => q ∈ (as1 h)) (w1 h d M K A S fi) → va_S (fun q => q ∈ (as1 h)) s.heap H locs → lv_has ls 5 [(0, .ref (h 0)), (1, .int (nI bu)), (2, .int (nI k)), (3, .int (nI a)), (4, .int (nI i))] → WR (U := Unit) p l e s m below meth c 1 21 D (as1 h) [.ref (h 0), .int (nI bu), .int (nI k), .int (nI a)] (fun r (_ : Unit) => r = nI b0) (fun _ => w1 h d (uN M b0 bu) (uN K b0 k) (uN A b0 a) S fi) H locs 36 ls [] := by
    intro n
    induction n with
    | zero =>
      intro i hi H locs ls hff hP hD hS hl
      have hi : 8 = i := by omega
      subst hi
      refine lv_iload hx hb dX1_bid_36 (lv_at hl 4 rfl) ?_
      refine lv_bipush (v := nI 8) hx hb dX1_bid_38 (by decide +kernel) ?_
      refine ic_ge (tgt := 86) hx hb dX1_bid_40 (by decide) (by omega) (by omega) (fun c40 => ?_) (fun c40 => absurd c40 (by omega))
      exact absurd hff (by intro z; cases z)
    | succ n ih =>
      intro i hi H locs ls hff hP hD hS hl
      have hii : i < 8 := by omega
      have hMi := hM8 i
      refine lv_iload hx hb dX1_bid_36 (lv_at hl 4 rfl) ?_
      refine lv_bipush (v := nI 8) hx hb dX1_bid_38 (by decide +kernel) ?_
      refine ic_ge (tgt := 86) hx hb dX1_bid_40 (by decide) (by omega) (by omega) (fun c40 => absurd c40 (by omega)) (fun c40 => ?_)
      refine lv_aload_n hx hb dX1_bid_43 rfl (lv_at hl 0 rfl) ?_
      refine gf1_0 hx hb hts hown hK hP rfl rfl dX1_bid_44 ?_
      refine lv_iload hx hb dX1_bid_47 (lv_at hl 4 rfl) ?_
      refine ld_i hx hb hK hP 1 0 rfl rfl (by omega) (by decide) (v := nI (M i)) (rfl) dX1_bid_49 ?_
      refine if_neN (tgt := 80) hx hb dX1_bid_50 (by decide) (by omega) (fun c50 => ?_) (fun c50 => ?_)
      · refine lv_iinc (v := nI (i + 1)) (lv' := [(4, .int (nI (i + 1))), (0, .ref (h 0)), (1, .int (nI bu)), (2, .int (nI k)), (3, .int (nI a))]) hx hb dX1_bid_80 hl (k := 4) rfl (nI_1 i) (by decide) rfl (fun ls hl => ?_)
        refine lv_goto (tgt := 36) hx hb dX1_bid_83 (by decide) ?_
        exact ih (i + 1) (by omega) _ _ ls (by rw [ff, if_neg (by simp [c50])] at hff; exact hff) hP hD hS (lv_sub hl [1, 2, 3, 4, 0] rfl)
      · obtain rfl : i = b0 := by rw [ff, if_pos (by simp [c50])] at hff; exact Option.some.inj hff
        refine lv_aload_n hx hb dX1_bid_53 rfl (lv_at hl 0 rfl) ?_
        refine gf1_0 hx hb hts hown hK hP rfl rfl dX1_bid_54 ?_
        refine lv_iload hx hb dX1_bid_57 (lv_at hl 4 rfl) ?_
        refine lv_iload_n hx hb dX1_bid_59 rfl (lv_at hl 1 rfl) ?_
        refine st_i (g := aN (uN M i bu)) (w' := w1 h d (uN M i bu) K A S fi) hx hb hK hP hD hS 1 0 rfl rfl (by omega) (by decide) (aN_u _ _ _) rfl dX1_bid_60 (fun H locs hP hD hS => ?_)
        refine lv_aload_n hx hb dX1_bid_61 rfl (lv_at hl 0 rfl) ?_
        refine gf1_1 hx hb hts hown hK hP rfl rfl dX1_bid_62 ?_
        refine lv_iload hx hb dX1_bid_65 (lv_at hl 4 rfl) ?_
        refine lv_iload_n hx hb dX1_bid_67 rfl (lv_at hl 2 rfl) ?_
        refine st_i (g := aN (uN K i k)) (w' := w1 h d (uN M i bu) (uN K i k) A S fi) hx hb hK hP hD hS 2 1 rfl rfl (by omega) (by decide) (aN_u _ _ _) rfl dX1_bid_68 (fun H locs hP hD hS => ?_)
        refine lv_aload_n hx hb dX1_bid_69 rfl (lv_at hl 0 rfl) ?_
        refine gf1_2 hx hb hts hown hK hP rfl rfl dX1_bid_70 ?_
        refine lv_iload hx hb dX1_bid_73 (lv_at hl 4 rfl) ?_
        refine lv_iload_n hx hb dX1_bid_75 rfl (lv_at hl 3 rfl) ?_
        refine st_i (g := aN (uN A i a)) (w' := w1 h d (uN M i bu) (uN K i k) (uN A i a) S fi) hx hb hK hP hD hS 3 2 rfl rfl (by omega) (by decide) (aN_u _ _ _) rfl dX1_bid_76 (fun H locs hP hD hS => ?_)
        refine lv_iload hx hb dX1_bid_77 (lv_at hl 4 rfl) ?_
        exact wr_iret hx hb hr hlk hS (()) hP (rfl) dX1_bid_79
  exact lp36 8 0 (by omega) _ _ ls (hfr) hP hD hS (lv_sub hl [1, 2, 3, 4, 0] rfl)
set_option maxHeartbeats 1000000 in
set_option maxRecDepth 100000 in
/-- retract: no such bid -/
theorem mX1_retract_no {l : Launch} {D : va_G} {h : Nat → Nat} {d : Nat → ClassId} {M K A : Nat → Nat} {S : Nat} {fi : Nat → Int32} {x : Int32} (hM8 : ∀ b, M b < 256) (hn : isb M x = false) : RoMet l yX1_retract cX1_retract 2 (some .boolean) 1 21 D (w1 h d M K A S fi) (t1 d) [.ref (h 0), .int (x)] (bI false) := by
  refine ro_of (lv := [(0, .ref (h 0)), (1, .int (x))]) (by decide) (Nat.le_of_ble_eq_true rfl) rfl ?_
  intro p e s m below meth c hx hb hr hml hown hts hlk hP hK ls hl
  have hown : s.vm.findClass RX1 = some m.cls := hown
  refine lv_aload_n hx hb dX1_retract_0 rfl (lv_at hl 0 rfl) ?_
  refine lv_iload_n hx hb dX1_retract_1 rfl (lv_at hl 1 rfl) ?_
  refine ro_V (ci := 1) (q0 := 0) (rest := []) ⟨hx, hb, hml, hown, hts⟩ (mX1_is hM8) gX1_is hdX1_is ⟨Nat.le_of_ble_eq_true rfl, Nat.le_of_ble_eq_true rfl⟩ hK hP rfl rfl rfl rfl hl.1 rfl (Nat.le_of_ble_eq_true rfl) dX1_retract_2 ⟨Nat.le_of_ble_eq_true rfl, Nat.le_of_ble_eq_true rfl⟩ ?_
  refine if_neB (tgt := 10) hx hb dX1_retract_5 (by decide) (fun c5 => absurd c5 (by rw [hn]; decide)) (fun c5 => ?_)
  refine lv_iconst (v := nI 0) hx hb dX1_retract_8 (by decide +kernel) ?_
  exact ro_zret hx hb hr hlk (rfl) (false) rfl dX1_retract_9
set_option maxHeartbeats 1000000 in
set_option maxRecDepth 100000 in
/-- retract bid j -/
theorem mX1_retract_ok {l : Launch} {D : va_G} {h : Nat → Nat} {d : Nat → ClassId} {M K A : Nat → Nat} {S : Nat} {fi : Nat → Int32} {j : Nat} (hM8 : ∀ b, M b < 256) (hj : j < 8) (hj1 : 0 < M j) : WrMet (U := Unit) l yX1_retract cX1_retract 2 (some .boolean) 1 21 D (w1 h d M K A S fi) (t1 d) (as1 h) [.ref (h 0), .int (nI j)] (fun r (_ : Unit) => r = bI true) (fun _ => w1 h d (uN M j 0) K A S fi) := by
  refine wr_of (lv := [(0, .ref (h 0)), (1, .int (nI j))]) (by decide) (Nat.le_of_ble_eq_true rfl) rfl ?_
  intro p e s m below meth c hx hb hr hml hown hts hlk hK hP hD hS ls hl
  have hown : s.vm.findClass RX1 = some m.cls := hown
  refine lv_aload_n hx hb dX1_retract_0 rfl (lv_at hl 0 rfl) ?_
  refine lv_iload_n hx hb dX1_retract_1 rfl (lv_at hl 1 rfl) ?_
  refine ro_V (ci := 1) (q0 := 0) (rest := []) ⟨hx, hb, hml, hown, hts⟩ (mX1_isj hM8 hj) gX1_is hdX1_is ⟨Nat.le_of_ble_eq_true rfl, Nat.le_of_ble_eq_true rfl⟩ hK hP rfl rfl rfl rfl hl.1 rfl (Nat.le_of_ble_eq_true rfl) dX1_retract_2 ⟨Nat.le_of_ble_eq_true rfl, Nat.le_of_ble_eq_true rfl⟩ ?_
  refine if_neB (tgt := 10) hx hb dX1_retract_5 (by decide) (fun c5 => ?_) (fun c5 => absurd c5 (by rw [decide_eq_true hj1]; decide))
  refine lv_aload_n hx hb dX1_retract_10 rfl (lv_at hl 0 rfl) ?_
  refine gf1_0 hx hb hts hown hK hP rfl rfl dX1_retract_11 ?_
  refine lv_iload_n hx hb dX1_retract_14 rfl (lv_at hl 1 rfl) ?_
  refine lv_iconst (v := nI 0) hx hb dX1_retract_15 (by decide +kernel) ?_
  refine st_i (g := aN (uN M j 0)) (w' := w1 h d (uN M j 0) K A S fi) hx hb hK hP hD hS 1 0 rfl rfl (by omega) (by decide) (aN_u _ _ _) rfl dX1_retract_16 (fun H locs hP hD hS => ?_)
  refine lv_iconst (v := nI 1) hx hb dX1_retract_17 (by decide +kernel) ?_
  exact wr_zret hx hb hr hlk hS (()) hP (rfl) (true) rfl dX1_retract_18
set_option maxHeartbeats 1000000 in
set_option maxRecDepth 100000 in
/-- raise: no such bid, or a bad amount -/
theorem mX1_raise_no {l : Launch} {D : va_G} {h : Nat → Nat} {d : Nat → ClassId} {M K A : Nat → Nat} {S : Nat} {fi : Nat → Int32} {x z : Int32} (hM8 : ∀ b, M b < 256) (hn : ¬ (isb M x = true ∧ ¬ z < nI 1 ∧ z ≤ nI 50)) : RoMet l yX1_raise cX1_raise 3 (some .boolean) 1 21 D (w1 h d M K A S fi) (t1 d) [.ref (h 0), .int (x), .int (z)] (bI false) := by
  refine ro_of (lv := [(0, .ref (h 0)), (1, .int (x)), (2, .int (z))]) (by decide) (Nat.le_of_ble_eq_true rfl) rfl ?_
  intro p e s m below meth c hx hb hr hml hown hts hlk hP hK ls hl
  have hown : s.vm.findClass RX1 = some m.cls := hown
  refine lv_aload_n hx hb dX1_raise_0 rfl (lv_at hl 0 rfl) ?_
  refine lv_iload_n hx hb dX1_raise_1 rfl (lv_at hl 1 rfl) ?_
  refine ro_V (ci := 1) (q0 := 0) (rest := []) ⟨hx, hb, hml, hown, hts⟩ (mX1_is hM8) gX1_is hdX1_is ⟨Nat.le_of_ble_eq_true rfl, Nat.le_of_ble_eq_true rfl⟩ hK hP rfl rfl rfl rfl hl.1 rfl (Nat.le_of_ble_eq_true rfl) dX1_raise_2 ⟨Nat.le_of_ble_eq_true rfl, Nat.le_of_ble_eq_true rfl⟩ ?_
  refine if_eqB (tgt := 19) hx hb dX1_raise_5 (by decide) (fun c5 => ?_) (fun c5 => ?_)
  · refine lv_iconst (v := nI 0) hx hb dX1_raise_19 (by decide +kernel) ?_
    exact ro_zret hx hb hr hlk (rfl) (false) rfl dX1_raise_20
  · refine lv_iload_n hx hb dX1_raise_8 rfl (lv_at hl 2 rfl) ?_
    refine lv_iconst (v := nI 1) hx hb dX1_raise_9 (by decide +kernel) ?_
    refine lv_icmp_lt (tgt := 19) hx hb dX1_raise_10 (by decide) (fun c10 => ?_) (fun c10 => ?_)
    · refine lv_iconst (v := nI 0) hx hb dX1_raise_19 (by decide +kernel) ?_
      exact ro_zret hx hb hr hlk (rfl) (false) rfl dX1_raise_20
    · refine lv_iload_n hx hb dX1_raise_13 rfl (lv_at hl 2 rfl) ?_
      refine lv_bipush (v := nI 50) hx hb dX1_raise_14 (by decide +kernel) ?_
      refine lv_icmp_le (tgt := 21) hx hb dX1_raise_16 (by decide) (fun c16 => ?_) (fun c16 => ?_)
      · exact absurd ⟨c5, c10, c16⟩ hn
      · refine lv_iconst (v := nI 0) hx hb dX1_raise_19 (by decide +kernel) ?_
        exact ro_zret hx hb hr hlk (rfl) (false) rfl dX1_raise_20
set_option maxHeartbeats 1000000 in
set_option maxRecDepth 100000 in
/-- raise bid j to a -/
theorem mX1_raise_ok {l : Launch} {D : va_G} {h : Nat → Nat} {d : Nat → ClassId} {M K A : Nat → Nat} {S : Nat} {fi : Nat → Int32} {j a : Nat} (hM8 : ∀ b, M b < 256) (hj : j < 8) (hj1 : 0 < M j) (ha1 : 1 ≤ a) (ha2 : a ≤ 50) : WrMet (U := Unit) l yX1_raise cX1_raise 3 (some .boolean) 1 21 D (w1 h d M K A S fi) (t1 d) (as1 h) [.ref (h 0), .int (nI j), .int (nI a)] (fun r (_ : Unit) => r = bI true) (fun _ => w1 h d M K (uN A j a) S fi) := by
  refine wr_of (lv := [(0, .ref (h 0)), (1, .int (nI j)), (2, .int (nI a))]) (by decide) (Nat.le_of_ble_eq_true rfl) rfl ?_
  intro p e s m below meth c hx hb hr hml hown hts hlk hK hP hD hS ls hl
  have hown : s.vm.findClass RX1 = some m.cls := hown
  refine lv_aload_n hx hb dX1_raise_0 rfl (lv_at hl 0 rfl) ?_
  refine lv_iload_n hx hb dX1_raise_1 rfl (lv_at hl 1 rfl) ?_
  refine ro_V (ci := 1) (q0 := 0) (rest := []) ⟨hx, hb, hml, hown, hts⟩ (mX1_isj hM8 hj) gX1_is hdX1_is ⟨Nat.le_of_ble_eq_true rfl, Nat.le_of_ble_eq_true rfl⟩ hK hP rfl rfl rfl rfl hl.1 rfl (Nat.le_of_ble_eq_true rfl) dX1_raise_2 ⟨Nat.le_of_ble_eq_true rfl, Nat.le_of_ble_eq_true rfl⟩ ?_
  refine if_eqB (tgt := 19) hx hb dX1_raise_5 (by decide) (fun c5 => absurd c5 (by rw [decide_eq_true hj1]; decide)) (fun c5 => ?_)
  refine lv_iload_n hx hb dX1_raise_8 rfl (lv_at hl 2 rfl) ?_
  refine lv_iconst (v := nI 1) hx hb dX1_raise_9 (by decide +kernel) ?_
  refine ic_lt (tgt := 19) hx hb dX1_raise_10 (by decide) (by omega) (by omega) (fun c10 => absurd c10 (by omega)) (fun c10 => ?_)
  refine lv_iload_n hx hb dX1_raise_13 rfl (lv_at hl 2 rfl) ?_
  refine lv_bipush (v := nI 50) hx hb dX1_raise_14 (by decide +kernel) ?_
  refine ic_le (tgt := 21) hx hb dX1_raise_16 (by decide) (by omega) (by omega) (fun c16 => ?_) (fun c16 => absurd c16 (by omega))
  refine lv_aload_n hx hb dX1_raise_21 rfl (lv_at hl 0 rfl) ?_
  refine gf1_2 hx hb hts hown hK hP rfl rfl dX1_raise_22 ?_
  refine lv_iload_n hx hb dX1_raise_25 rfl (lv_at hl 1 rfl) ?_
  refine lv_iload_n hx hb dX1_raise_26 rfl (lv_at hl 2 rfl) ?_
  refine st_i (g := aN (uN A j a)) (w' := w1 h d M K (uN A j a) S fi) hx hb hK hP hD hS 3 2 rfl rfl (by omega) (by decide) (aN_u _ _ _) rfl dX1_raise_27 (fun H locs hP hD hS => ?_)
  refine lv_iconst (v := nI 1) hx hb dX1_raise_28 (by decide +kernel) ?_
  exact wr_zret hx hb hr hlk hS (()) hP (rfl) (true) rfl dX1_raise_29
set_option maxHeartbeats 1000000 in
set_option maxRecDepth 100000 in
/-- withhold: no such item -/
theorem mX1_withhold_no {l : Launch} {D : va_G} {h : Nat → Nat} {d : Nat → ClassId} {M K A : Nat → Nat} {S : Nat} {fi : Nat → Int32} {x y : Int32} (hn : inr 8 x = false) : RoMet l yX1_withhold cX1_withhold 3 (some .boolean) 0 0 D (w1 h d M K A S fi) (t1 d) [.ref (h 0), .int (x), .int (y)] (bI false) := by
  refine ro_of (lv := [(0, .ref (h 0)), (1, .int (x)), (2, .int (y))]) (by decide) (Nat.le_of_ble_eq_true rfl) rfl ?_
  intro p e s m below meth c hx hb hr hml hown hts hlk hP hK ls hl
  have hown : s.vm.findClass RX1 = some m.cls := hown
  refine lv_iload_n hx hb dX1_withhold_0 rfl (lv_at hl 1 rfl) ?_
  refine lv_if_lt (tgt := 10) hx hb dX1_withhold_1 (by decide) (fun c1 => ?_) (fun c1 => ?_)
  · refine lv_iconst (v := nI 0) hx hb dX1_withhold_10 (by decide +kernel) ?_
    exact ro_zret hx hb hr hlk (rfl) (false) rfl dX1_withhold_11
  · refine lv_iload_n hx hb dX1_withhold_4 rfl (lv_at hl 1 rfl) ?_
    refine lv_bipush (v := nI 7) hx hb dX1_withhold_5 (by decide +kernel) ?_
    refine lv_icmp_le (tgt := 12) hx hb dX1_withhold_7 (by decide) (fun c7 => ?_) (fun c7 => ?_)
    · exact absurd (inr_t (n := 8) c1 (fun z => (Int32.not_lt.mpr c7) ((nI_gt_ge (n := 7) (by decide) x).mpr z))) (by rw [hn]; decide)
    · refine lv_iconst (v := nI 0) hx hb dX1_withhold_10 (by decide +kernel) ?_
      exact ro_zret hx hb hr hlk (rfl) (false) rfl dX1_withhold_11
set_option maxHeartbeats 1000000 in
set_option maxRecDepth 100000 in
/-- withhold item j: on -/
theorem mX1_withhold_on {l : Launch} {D : va_G} {h : Nat → Nat} {d : Nat → ClassId} {M K A : Nat → Nat} {S : Nat} {fi : Nat → Int32} {j : Nat} (hS8 : S < 256) (hj : j < 8) : WrMet (U := Unit) l yX1_withhold cX1_withhold 3 (some .boolean) 0 0 D (w1 h d M K A S fi) (t1 d) (as1 h) [.ref (h 0), .int (nI j), .int (nI 1)] (fun r (_ : Unit) => r = bI true) (fun _ => w1 h d M K A (S ||| 2 ^ j) fi) := by
  refine wr_of (lv := [(0, .ref (h 0)), (1, .int (nI j)), (2, .int (nI 1))]) (by decide) (Nat.le_of_ble_eq_true rfl) rfl ?_
  intro p e s m below meth c hx hb hr hml hown hts hlk hK hP hD hS ls hl
  have hown : s.vm.findClass RX1 = some m.cls := hown
  refine lv_iload_n hx hb dX1_withhold_0 rfl (lv_at hl 1 rfl) ?_
  refine if_ltN (tgt := 10) hx hb dX1_withhold_1 (by decide) (by omega) ?_
  refine lv_iload_n hx hb dX1_withhold_4 rfl (lv_at hl 1 rfl) ?_
  refine lv_bipush (v := nI 7) hx hb dX1_withhold_5 (by decide +kernel) ?_
  refine ic_le (tgt := 12) hx hb dX1_withhold_7 (by decide) (by omega) (by omega) (fun c7 => ?_) (fun c7 => absurd c7 (by omega))
  refine lv_aload_n hx hb dX1_withhold_12 rfl (lv_at hl 0 rfl) ?_
  refine lv_iload_n hx hb dX1_withhold_13 rfl (lv_at hl 2 rfl) ?_
  refine if_eqN (tgt := 28) hx hb dX1_withhold_14 (by decide) (by omega) (fun c14 => absurd c14 (by decide)) (fun c14 => ?_)
  refine lv_aload_n hx hb dX1_withhold_17 rfl (lv_at hl 0 rfl) ?_
  refine gf1_3 hx hb hts hown hK hP rfl rfl dX1_withhold_18 ?_
  refine lv_iconst (v := nI 1) hx hb dX1_withhold_21 (by decide +kernel) ?_
  refine lv_iload_n hx hb dX1_withhold_22 rfl (lv_at hl 1 rfl) ?_
  refine sh_N hx hb dX1_withhold_23 (by omega) ?_
  refine or_N hx hb dX1_withhold_24 ?_
  refine lv_goto (tgt := 38) hx hb dX1_withhold_25 (by decide) ?_
  refine pf1_3 (w' := w1 h d M K A (S ||| (2 ^ j)) fi) hx hb hts hown hK hP hD hS rfl rfl rfl (Nat.le_of_ble_eq_true rfl) rfl dX1_withhold_38 (fun H locs hP hD hS => ?_)
  refine lv_iconst (v := nI 1) hx hb dX1_withhold_41 (by decide +kernel) ?_
  exact wr_zret hx hb hr hlk hS (()) hP (rfl) (true) rfl dX1_withhold_42
set_option maxHeartbeats 1000000 in
set_option maxRecDepth 100000 in
/-- withhold item j: off -/
theorem mX1_withhold_off {l : Launch} {D : va_G} {h : Nat → Nat} {d : Nat → ClassId} {M K A : Nat → Nat} {S : Nat} {fi : Nat → Int32} {j : Nat} (hS8 : S < 256) (hj : j < 8) : WrMet (U := Unit) l yX1_withhold cX1_withhold 3 (some .boolean) 0 0 D (w1 h d M K A S fi) (t1 d) (as1 h) [.ref (h 0), .int (nI j), .int (nI 0)] (fun r (_ : Unit) => r = bI true) (fun _ => w1 h d M K A (nd S (2 ^ j)) fi) := by
  refine wr_of (lv := [(0, .ref (h 0)), (1, .int (nI j)), (2, .int (nI 0))]) (by decide) (Nat.le_of_ble_eq_true rfl) rfl ?_
  intro p e s m below meth c hx hb hr hml hown hts hlk hK hP hD hS ls hl
  have hown : s.vm.findClass RX1 = some m.cls := hown
  refine lv_iload_n hx hb dX1_withhold_0 rfl (lv_at hl 1 rfl) ?_
  refine if_ltN (tgt := 10) hx hb dX1_withhold_1 (by decide) (by omega) ?_
  refine lv_iload_n hx hb dX1_withhold_4 rfl (lv_at hl 1 rfl) ?_
  refine lv_bipush (v := nI 7) hx hb dX1_withhold_5 (by decide +kernel) ?_
  refine ic_le (tgt := 12) hx hb dX1_withhold_7 (by decide) (by omega) (by omega) (fun c7 => ?_) (fun c7 => absurd c7 (by omega))
  refine lv_aload_n hx hb dX1_withhold_12 rfl (lv_at hl 0 rfl) ?_
  refine lv_iload_n hx hb dX1_withhold_13 rfl (lv_at hl 2 rfl) ?_
  refine if_eqN (tgt := 28) hx hb dX1_withhold_14 (by decide) (by omega) (fun c14 => ?_) (fun c14 => absurd c14 (by decide))
  refine lv_aload_n hx hb dX1_withhold_28 rfl (lv_at hl 0 rfl) ?_
  refine gf1_3 hx hb hts hown hK hP rfl rfl dX1_withhold_29 ?_
  refine lv_iconst (v := nI 1) hx hb dX1_withhold_32 (by decide +kernel) ?_
  refine lv_iload_n hx hb dX1_withhold_33 rfl (lv_at hl 1 rfl) ?_
  refine sh_N hx hb dX1_withhold_34 (by omega) ?_
  refine lv_iconst (v := -1) hx hb dX1_withhold_35 (by decide +kernel) ?_
  refine lv_ixor hx hb dX1_withhold_36 ?_
  refine nd_N hx hb dX1_withhold_37 ?_
  refine pf1_3 (w' := w1 h d M K A (nd S (2 ^ j)) fi) hx hb hts hown hK hP hD hS rfl rfl rfl (Nat.le_of_ble_eq_true rfl) rfl dX1_withhold_38 (fun H locs hP hD hS => ?_)
  refine lv_iconst (v := nI 1) hx hb dX1_withhold_41 (by decide +kernel) ?_
  exact wr_zret hx hb hr hlk hS (()) hP (rfl) (true) rfl dX1_withhold_42
end
section
set_option maxRecDepth 100000
set_option maxHeartbeats 1000000 in
set_option maxRecDepth 100000 in
/-- work(): fine -/
theorem mX1_work {l : Launch} {D : va_G} {h : Nat → Nat} {d : Nat → ClassId} {M K A : Nat → Nat} {S : Nat} {fi : Nat → Int32}  (hM8 : ∀ b, M b < 256) (hK4 : ∀ b, K b < 4) (hS8 : S < 256) : WvMet (U := Nat → Int32) l yX1_work cX1_work 2 2 47 D (w1 h d M K A S fi) (t1 d) (as1 h) [.ref (h 0)] (fun u => ∀ q, q < 256 → u q = bI (alo M K S q 8)) (fun u => w1 h d M K A S u) := by
  refine wv_of (lv := [(0, .ref (h 0))]) (by decide) (Nat.le_of_ble_eq_true rfl) rfl ?_
  intro p e s m below meth c hx hb hr hml hown hts hlk hK hP hD hS ls hl
  have hown : s.vm.findClass RX1 = some m.cls := hown
  refine lv_iconst (v := nI 0) hx hb dX1_work_0 (by decide +kernel) ?_
  refine lv_istore_n (lv' := [(1, .int (nI 0)), (0, .ref (h 0))]) hx hb dX1_work_1 rfl hl (by decide) rfl (fun ls hl => ?_)
  have lp2 : ∀ n i : Nat, i + n = 256 → ∀ (fi1 : Nat → Int32) (H : Heap) (locs : List Loc) (ls : Array Slot), (∀ q, q < i → fi1 q = bI (alo M K S q 8)) → va_P D vwCl (w1 h d M K A S fi1) H → va_D (fun q => q ∈ (as1 h)) (w1 h d M K A S fi1) → va_S (fun q => q ∈ (as1 h)) s.heap H locs → lv_has ls 2 [(0, .ref (h 0)), (1, .int (nI i))] → WV (U := Nat → Int32) p l e s m below meth c 2 47 D (as1 h) [.ref (h 0)] (fun u => ∀ q, q < 256 → u q = bI (alo M K S q 8)) (fun u => w1 h d M K A S u) H locs 2 ls [] := by
    intro n
    induction n with
    | zero =>
      intro i hi fi1 H locs ls hz hP hD hS hl
      have hi : 256 = i := by omega
      subst hi
      refine lv_iload_n hx hb dX1_work_2 rfl (lv_at hl 1 rfl) ?_
      refine lv_sipush (v := nI 256) hx hb dX1_work_3 (by decide +kernel) ?_
      refine ic_ge (tgt := 26) hx hb dX1_work_6 (by decide) (by omega) (by omega) (fun c6 => ?_) (fun c6 => absurd c6 (by omega))
      exact wv_ret hx hb hr hlk hS (fi1) hP (hz) dX1_work_26
    | succ n ih =>
      intro i hi fi1 H locs ls hz hP hD hS hl
      have hii : i < 256 := by omega
      refine lv_iload_n hx hb dX1_work_2 rfl (lv_at hl 1 rfl) ?_
      refine lv_sipush (v := nI 256) hx hb dX1_work_3 (by decide +kernel) ?_
      refine ic_ge (tgt := 26) hx hb dX1_work_6 (by decide) (by omega) (by omega) (fun c6 => absurd c6 (by omega)) (fun c6 => ?_)
      refine lv_aload_n hx hb dX1_work_9 rfl (lv_at hl 0 rfl) ?_
      refine gf1_4 hx hb hts hown hK hP rfl rfl dX1_work_10 ?_
      refine lv_iload_n hx hb dX1_work_13 rfl (lv_at hl 1 rfl) ?_
      refine lv_aload_n hx hb dX1_work_14 rfl (lv_at hl 0 rfl) ?_
      refine lv_iload_n hx hb dX1_work_15 rfl (lv_at hl 1 rfl) ?_
      refine ro_V (ci := 1) (q0 := 0) (rest := [.int (nI i), .ref (h 4)]) ⟨hx, hb, hml, hown, hts⟩ (mX1_allocates hM8 hK4 hS8 hii) gX1_allocates hdX1_allocates ⟨Nat.le_of_ble_eq_true rfl, Nat.le_of_ble_eq_true rfl⟩ hK hP rfl rfl rfl rfl hl.1 rfl (Nat.le_of_ble_eq_true rfl) dX1_work_16 ⟨Nat.le_of_ble_eq_true rfl, Nat.le_of_ble_eq_true rfl⟩ ?_
      refine st_z (g := upd fi1 i (bI (alo M K S i 8))) (w' := w1 h d M K A S (upd fi1 i (bI (alo M K S i 8)))) hx hb hK hP hD hS 4 3 rfl rfl (by omega) (by decide) (by rw [bI_vp]) rfl dX1_work_19 (fun H locs hP hD hS => ?_)
      refine lv_iinc (v := nI (i + 1)) (lv' := [(1, .int (nI (i + 1))), (0, .ref (h 0))]) hx hb dX1_work_20 hl (k := 1) rfl (nI_1 i) (by decide) rfl (fun ls hl => ?_)
      refine lv_goto (tgt := 2) hx hb dX1_work_23 (by decide) ?_
      exact ih (i + 1) (by omega) _ _ _ ls (lt_succ_all (fun q hq => by rw [pk_un (Nat.ne_of_lt hq)]; exact hz q hq) pk_us) hP hD hS (lv_sub hl [1, 0] rfl)
  exact lp2 256 0 (by omega) _ _ _ ls (fun q hq => absurd hq (by omega)) hP hD hS (lv_sub hl [1, 0] rfl)
set_option maxHeartbeats 1000000 in
set_option maxRecDepth 100000 in
/-- winners() -/
theorem mX1_winners {l : Launch} {D : va_G} {h : Nat → Nat} {d : Nat → ClassId} {M K A : Nat → Nat} {S : Nat} {fi : Nat → Int32} {Y : Nat} (hM8 : ∀ b, M b < 256) (hK4 : ∀ b, K b < 4) (hA50 : ∀ b, A b ≤ 50) (hS8 : S < 256) (hbs : bst A (fun X => alo M K S X 8) 0 0 256 = some Y) : WrMet (U := Nat → Int32) l yX1_winners cX1_winners 1 (some .int) 3 72 D (w1 h d M K A S fi) (t1 d) (as1 h) [.ref (h 0)] (fun r (_ : Nat → Int32) => r = nI Y) (fun u => w1 h d M K A S u) := by
  refine wr_of (lv := [(0, .ref (h 0))]) (by decide) (Nat.le_of_ble_eq_true rfl) rfl ?_
  intro p e s m below meth c hx hb hr hml hown hts hlk hK hP hD hS ls hl
  have hown : s.vm.findClass RX1 = some m.cls := hown
  refine lv_aload_n hx hb dX1_winners_0 rfl (lv_at hl 0 rfl) ?_
  refine wv_V (ci := 1) (q0 := 0) (rest := []) ⟨hx, hb, hml, hown, hts⟩ (mX1_work hM8 hK4 hS8) gX1_work hdX1_work ⟨Nat.le_of_ble_eq_true rfl, Nat.le_of_ble_eq_true rfl⟩ hK hP hD hS (fun _ z => z) wo_nil wo_dis rfl rfl rfl rfl hl.1 rfl (Nat.le_of_ble_eq_true rfl) dX1_winners_1 ⟨Nat.le_of_ble_eq_true rfl, Nat.le_of_ble_eq_true rfl⟩ (fun fi2 H locs hq hP2 _ hS => ?_)
  have hfi : ∀ q, q < 256 → fi2 q = bI (alo M K S q 8) := hq
  have hD : va_D (fun q => q ∈ (as1 h)) (w1 h d M K A S fi2) := va_D.same hD rfl
  have hP : va_P D vwCl (w1 h d M K A S fi2) H := hP2
  refine lv_aload_n hx hb dX1_winners_4 rfl (lv_at hl 0 rfl) ?_
  refine lv_iconst (v := nI 0) hx hb dX1_winners_5 (by decide +kernel) ?_
  refine lv_iconst (v := nI 0) hx hb dX1_winners_6 (by decide +kernel) ?_
  refine ro_V (ci := 1) (q0 := 0) (rest := []) ⟨hx, hb, hml, hown, hts⟩ (mX1_best (fb := (fun X => alo M K S X 8)) hA50 (by decide) (by decide) hfi) gX1_best hdX1_best ⟨Nat.le_of_ble_eq_true rfl, Nat.le_of_ble_eq_true rfl⟩ hK hP rfl rfl rfl rfl hl.1 rfl (Nat.le_of_ble_eq_true rfl) dX1_winners_7 ⟨Nat.le_of_ble_eq_true rfl, Nat.le_of_ble_eq_true rfl⟩ ?_
  refine rtq (y := nI Y) (by rw [hbs]; rfl) ?_
  exact wr_iret hx hb hr hlk hS (fi2) hP (rfl) dX1_winners_10
set_option maxHeartbeats 1000000 in
set_option maxRecDepth 100000 in
/-- revenue() -/
theorem mX1_revenue {l : Launch} {D : va_G} {h : Nat → Nat} {d : Nat → ClassId} {M K A : Nat → Nat} {S : Nat} {fi : Nat → Int32} {Y : Nat} (hM8 : ∀ b, M b < 256) (hK4 : ∀ b, K b < 4) (hA50 : ∀ b, A b ≤ 50) (hS8 : S < 256) (hbs : bst A (fun X => alo M K S X 8) 0 0 256 = some Y) : WrMet (U := Nat → Int32) l yX1_revenue cX1_revenue 2 (some .int) 4 92 D (w1 h d M K A S fi) (t1 d) (as1 h) [.ref (h 0)] (fun r (_ : Nat → Int32) => r = nI (sm A Y 8)) (fun u => w1 h d M K A S u) := by
  refine wr_of (lv := [(0, .ref (h 0))]) (by decide) (Nat.le_of_ble_eq_true rfl) rfl ?_
  intro p e s m below meth c hx hb hr hml hown hts hlk hK hP hD hS ls hl
  have hown : s.vm.findClass RX1 = some m.cls := hown
  refine lv_aload_n hx hb dX1_revenue_0 rfl (lv_at hl 0 rfl) ?_
  refine wr_V (ci := 1) (q0 := 0) (rest := []) ⟨hx, hb, hml, hown, hts⟩ (mX1_winners hM8 hK4 hA50 hS8 hbs) gX1_winners hdX1_winners ⟨Nat.le_of_ble_eq_true rfl, Nat.le_of_ble_eq_true rfl⟩ hK hP hD hS (fun _ z => z) wo_nil wo_dis rfl rfl rfl rfl hl.1 rfl (Nat.le_of_ble_eq_true rfl) dX1_revenue_1 ⟨Nat.le_of_ble_eq_true rfl, Nat.le_of_ble_eq_true rfl⟩ (fun r fi3 H locs hq hP2 _ hS => ?_)
  have hrv : r = nI Y := hq
  subst hrv
  have hD : va_D (fun q => q ∈ (as1 h)) (w1 h d M K A S fi3) := va_D.same hD rfl
  have hP : va_P D vwCl (w1 h d M K A S fi3) H := hP2
  refine lv_istore_n (lv' := [(1, .int (nI Y)), (0, .ref (h 0))]) hx hb dX1_revenue_4 rfl hl (by decide) rfl (fun ls hl => ?_)
  refine lv_aload_n hx hb dX1_revenue_5 rfl (lv_at hl 1 rfl) ?_
  refine lv_iload_n hx hb dX1_revenue_6 rfl (lv_at hl 0 rfl) ?_
  refine ro_V (ci := 1) (q0 := 0) (rest := []) ⟨hx, hb, hml, hown, hts⟩ (mX1_sum (bst_lt hbs)) gX1_sum hdX1_sum ⟨Nat.le_of_ble_eq_true rfl, Nat.le_of_ble_eq_true rfl⟩ hK hP rfl rfl rfl rfl hl.1 rfl (Nat.le_of_ble_eq_true rfl) dX1_revenue_7 ⟨Nat.le_of_ble_eq_true rfl, Nat.le_of_ble_eq_true rfl⟩ ?_
  exact wr_iret hx hb hr hlk hS (fi3) hP (rfl) dX1_revenue_10
set_option maxHeartbeats 1000000 in
set_option maxRecDepth 100000 in
/-- sold() -/
theorem mX1_sold {l : Launch} {D : va_G} {h : Nat → Nat} {d : Nat → ClassId} {M K A : Nat → Nat} {S : Nat} {fi : Nat → Int32} {Y : Nat} (hM8 : ∀ b, M b < 256) (hK4 : ∀ b, K b < 4) (hA50 : ∀ b, A b ≤ 50) (hS8 : S < 256) (hbs : bst A (fun X => alo M K S X 8) 0 0 256 = some Y) : WrMet (U := Nat → Int32) l yX1_sold cX1_sold 4 (some .int) 4 92 D (w1 h d M K A S fi) (t1 d) (as1 h) [.ref (h 0)] (fun r (_ : Nat → Int32) => r = nI (un M Y 8)) (fun u => w1 h d M K A S u) := by
  refine wr_of (lv := [(0, .ref (h 0))]) (by decide) (Nat.le_of_ble_eq_true rfl) rfl ?_
  intro p e s m below meth c hx hb hr hml hown hts hlk hK hP hD hS ls hl
  have hown : s.vm.findClass RX1 = some m.cls := hown
  refine lv_aload_n hx hb dX1_sold_0 rfl (lv_at hl 0 rfl) ?_
  refine wr_V (ci := 1) (q0 := 0) (rest := []) ⟨hx, hb, hml, hown, hts⟩ (mX1_winners hM8 hK4 hA50 hS8 hbs) gX1_winners hdX1_winners ⟨Nat.le_of_ble_eq_true rfl, Nat.le_of_ble_eq_true rfl⟩ hK hP hD hS (fun _ z => z) wo_nil wo_dis rfl rfl rfl rfl hl.1 rfl (Nat.le_of_ble_eq_true rfl) dX1_sold_1 ⟨Nat.le_of_ble_eq_true rfl, Nat.le_of_ble_eq_true rfl⟩ (fun r fi3 H locs hq hP2 _ hS => ?_)
  have hrv : r = nI Y := hq
  subst hrv
  have hD : va_D (fun q => q ∈ (as1 h)) (w1 h d M K A S fi3) := va_D.same hD rfl
  have hP : va_P D vwCl (w1 h d M K A S fi3) H := hP2
  refine lv_istore_n (lv' := [(1, .int (nI Y)), (0, .ref (h 0))]) hx hb dX1_sold_4 rfl hl (by decide) rfl (fun ls hl => ?_)
  have hY := bst_lt hbs
  refine lv_iconst (v := nI 0) hx hb dX1_sold_5 (by decide +kernel) ?_
  refine lv_istore_n (lv' := [(2, .int (nI 0)), (1, .int (nI Y)), (0, .ref (h 0))]) hx hb dX1_sold_6 rfl hl (by decide) rfl (fun ls hl => ?_)
  refine lv_iconst (v := nI 0) hx hb dX1_sold_7 (by decide +kernel) ?_
  refine lv_istore_n (lv' := [(3, .int (nI 0)), (2, .int (nI 0)), (1, .int (nI Y)), (0, .ref (h 0))]) hx hb dX1_sold_8 rfl hl (by decide) rfl (fun ls hl => ?_)
  have lp9 : ∀ n i : Nat, i + n = 8 → ∀ (v2 : Int32) (H : Heap) (locs : List Loc) (ls : Array Slot), v2 = nI (un M Y i) → va_P D vwCl (w1 h d M K A S fi3) H → va_D (fun q => q ∈ (as1 h)) (w1 h d M K A S fi3) → va_S (fun q => q ∈ (as1 h)) s.heap H locs → lv_has ls 4 [(0, .ref (h 0)), (1, .int (nI Y)), (2, .int (v2)), (3, .int (nI i))] → WR (U := Nat → Int32) p l e s m below meth c 4 92 D (as1 h) [.ref (h 0)] (fun r (_ : Nat → Int32) => r = nI (un M Y 8)) (fun u => w1 h d M K A S u) H locs 9 ls [] := by
    intro n
    induction n with
    | zero =>
      intro i hi v2 H locs ls e2 hP hD hS hl
      have hi : 8 = i := by omega
      subst hi
      subst e2
      refine lv_iload_n hx hb dX1_sold_9 rfl (lv_at hl 3 rfl) ?_
      refine lv_bipush (v := nI 8) hx hb dX1_sold_10 (by decide +kernel) ?_
      refine ic_ge (tgt := 43) hx hb dX1_sold_12 (by decide) (by omega) (by omega) (fun c12 => ?_) (fun c12 => absurd c12 (by omega))
      refine lv_iload_n hx hb dX1_sold_43 rfl (lv_at hl 2 rfl) ?_
      exact wr_iret hx hb hr hlk hS (fi3) hP (rfl) dX1_sold_44
    | succ n ih =>
      intro i hi v2 H locs ls e2 hP hD hS hl
      have hii : i < 8 := by omega
      subst e2
      refine lv_iload_n hx hb dX1_sold_9 rfl (lv_at hl 3 rfl) ?_
      refine lv_bipush (v := nI 8) hx hb dX1_sold_10 (by decide +kernel) ?_
      refine ic_ge (tgt := 43) hx hb dX1_sold_12 (by decide) (by omega) (by omega) (fun c12 => absurd c12 (by omega)) (fun c12 => ?_)
      refine lv_iload_n hx hb dX1_sold_15 rfl (lv_at hl 1 rfl) ?_
      refine lv_iload_n hx hb dX1_sold_16 rfl (lv_at hl 3 rfl) ?_
      refine lv_ishr hx hb dX1_sold_17 ?_
      refine lv_iconst (v := nI 1) hx hb dX1_sold_18 (by decide +kernel) ?_
      refine bt_N hx hb dX1_sold_19 (by omega) (by omega) ?_
      refine lv_iconst (v := nI 1) hx hb dX1_sold_20 (by decide +kernel) ?_
      refine ic_neB (tgt := 35) hx hb dX1_sold_21 (by decide) (fun c21 => ?_) (fun c21 => ?_)
      · refine lv_iload_n hx hb dX1_sold_35 rfl (lv_at hl 2 rfl) ?_
        refine lv_istore_n (lv' := [(2, .int (nI (un M Y i))), (0, .ref (h 0)), (1, .int (nI Y)), (3, .int (nI i))]) hx hb dX1_sold_36 rfl hl (by decide) rfl (fun ls hl => ?_)
        refine lv_iinc (v := nI (i + 1)) (lv' := [(3, .int (nI (i + 1))), (2, .int (nI (un M Y i))), (0, .ref (h 0)), (1, .int (nI Y))]) hx hb dX1_sold_37 hl (k := 3) rfl (nI_1 i) (by decide) rfl (fun ls hl => ?_)
        refine lv_goto (tgt := 9) hx hb dX1_sold_40 (by decide) ?_
        exact ih (i + 1) (by omega) _ _ _ ls (by simp [un, c21]) hP hD hS (lv_sub hl [2, 3, 1, 0] rfl)
      · refine lv_iload_n hx hb dX1_sold_24 rfl (lv_at hl 2 rfl) ?_
        refine lv_aload_n hx hb dX1_sold_25 rfl (lv_at hl 0 rfl) ?_
        refine gf1_0 hx hb hts hown hK hP rfl rfl dX1_sold_26 ?_
        refine lv_iload_n hx hb dX1_sold_29 rfl (lv_at hl 3 rfl) ?_
        refine ld_i hx hb hK hP 1 0 rfl rfl (by omega) (by decide) (v := nI (M i)) (rfl) dX1_sold_30 ?_
        refine or_N hx hb dX1_sold_31 ?_
        refine lv_goto (tgt := 36) hx hb dX1_sold_32 (by decide) ?_
        refine lv_istore_n (lv' := [(2, .int (nI ((un M Y i) ||| (M i)))), (0, .ref (h 0)), (1, .int (nI Y)), (3, .int (nI i))]) hx hb dX1_sold_36 rfl hl (by decide) rfl (fun ls hl => ?_)
        refine lv_iinc (v := nI (i + 1)) (lv' := [(3, .int (nI (i + 1))), (2, .int (nI ((un M Y i) ||| (M i)))), (0, .ref (h 0)), (1, .int (nI Y))]) hx hb dX1_sold_37 hl (k := 3) rfl (nI_1 i) (by decide) rfl (fun ls hl => ?_)
        refine lv_goto (tgt := 9) hx hb dX1_sold_40 (by decide) ?_
        exact ih (i + 1) (by omega) _ _ _ ls (by simp [un, c21]) hP hD hS (lv_sub hl [2, 3, 1, 0] rfl)
  exact lp9 8 0 (by omega) _ _ _ ls (rfl) hP hD hS (lv_sub hl [3, 2, 1, 0] rfl)
set_option maxHeartbeats 1000000 in
set_option maxRecDepth 100000 in
/-- revenueWithout: no such bidder -/
theorem mX1_revenueWithout_no {l : Launch} {D : va_G} {h : Nat → Nat} {d : Nat → ClassId} {M K A : Nat → Nat} {S : Nat} {fi : Nat → Int32} {x : Int32} (hn : inr 4 x = false) : RoMet l yX1_revenueWithout cX1_revenueWithout 3 (some .int) 3 72 D (w1 h d M K A S fi) (t1 d) [.ref (h 0), .int (x)] (-1) := by
  refine ro_of (lv := [(0, .ref (h 0)), (1, .int (x))]) (by decide) (Nat.le_of_ble_eq_true rfl) rfl ?_
  intro p e s m below meth c hx hb hr hml hown hts hlk hP hK ls hl
  have hown : s.vm.findClass RX1 = some m.cls := hown
  refine lv_aload_n hx hb dX1_revenueWithout_0 rfl (lv_at hl 0 rfl) ?_
  refine lv_iload_n hx hb dX1_revenueWithout_1 rfl (lv_at hl 1 rfl) ?_
  refine ro_V (ci := 1) (q0 := 0) (rest := []) ⟨hx, hb, hml, hown, hts⟩ (mX1_bidder) gX1_bidder hdX1_bidder ⟨Nat.le_of_ble_eq_true rfl, Nat.le_of_ble_eq_true rfl⟩ hK hP rfl rfl rfl rfl hl.1 rfl (Nat.le_of_ble_eq_true rfl) dX1_revenueWithout_2 ⟨Nat.le_of_ble_eq_true rfl, Nat.le_of_ble_eq_true rfl⟩ ?_
  refine if_neB (tgt := 10) hx hb dX1_revenueWithout_5 (by decide) (fun c5 => absurd c5 (by rw [hn]; decide)) (fun c5 => ?_)
  refine lv_iconst (v := -1) hx hb dX1_revenueWithout_8 (by decide +kernel) ?_
  exact ro_iret hx hb hr hlk (rfl) dX1_revenueWithout_9
set_option maxHeartbeats 1000000 in
set_option maxRecDepth 100000 in
/-- revenueWithout(k) -/
theorem mX1_revenueWithout {l : Launch} {D : va_G} {h : Nat → Nat} {d : Nat → ClassId} {M K A : Nat → Nat} {S : Nat} {fi : Nat → Int32} {k Z : Nat} (hM8 : ∀ b, M b < 256) (hK4 : ∀ b, K b < 4) (hA50 : ∀ b, A b ≤ 50) (hS8 : S < 256) (hk : k < 4) (hbz : bst A (fun X => alo M K S X 8) 0 (ofk M K k) 256 = some Z) : WrMet (U := Nat → Int32) l yX1_revenueWithout cX1_revenueWithout 3 (some .int) 3 72 D (w1 h d M K A S fi) (t1 d) (as1 h) [.ref (h 0), .int (nI k)] (fun r (_ : Nat → Int32) => r = nI (sm A Z 8)) (fun u => w1 h d M K A S u) := by
  refine wr_of (lv := [(0, .ref (h 0)), (1, .int (nI k))]) (by decide) (Nat.le_of_ble_eq_true rfl) rfl ?_
  intro p e s m below meth c hx hb hr hml hown hts hlk hK hP hD hS ls hl
  have hown : s.vm.findClass RX1 = some m.cls := hown
  refine lv_aload_n hx hb dX1_revenueWithout_0 rfl (lv_at hl 0 rfl) ?_
  refine lv_iload_n hx hb dX1_revenueWithout_1 rfl (lv_at hl 1 rfl) ?_
  refine ro_V (ci := 1) (q0 := 0) (rest := []) ⟨hx, hb, hml, hown, hts⟩ (mX1_bidder) gX1_bidder hdX1_bidder ⟨Nat.le_of_ble_eq_true rfl, Nat.le_of_ble_eq_true rfl⟩ hK hP rfl rfl rfl rfl hl.1 rfl (Nat.le_of_ble_eq_true rfl) dX1_revenueWithout_2 ⟨Nat.le_of_ble_eq_true rfl, Nat.le_of_ble_eq_true rfl⟩ ?_
  refine if_neB (tgt := 10) hx hb dX1_revenueWithout_5 (by decide) (fun c5 => ?_) (fun c5 => absurd c5 (by rw [inr_nI (by decide) hk]; decide))
  refine lv_aload_n hx hb dX1_revenueWithout_10 rfl (lv_at hl 0 rfl) ?_
  refine wv_V (ci := 1) (q0 := 0) (rest := []) ⟨hx, hb, hml, hown, hts⟩ (mX1_work hM8 hK4 hS8) gX1_work hdX1_work ⟨Nat.le_of_ble_eq_true rfl, Nat.le_of_ble_eq_true rfl⟩ hK hP hD hS (fun _ z => z) wo_nil wo_dis rfl rfl rfl rfl hl.1 rfl (Nat.le_of_ble_eq_true rfl) dX1_revenueWithout_11 ⟨Nat.le_of_ble_eq_true rfl, Nat.le_of_ble_eq_true rfl⟩ (fun fi2 H locs hq hP2 _ hS => ?_)
  have hfi : ∀ q, q < 256 → fi2 q = bI (alo M K S q 8) := hq
  have hD : va_D (fun q => q ∈ (as1 h)) (w1 h d M K A S fi2) := va_D.same hD rfl
  have hP : va_P D vwCl (w1 h d M K A S fi2) H := hP2
  refine lv_aload_n hx hb dX1_revenueWithout_14 rfl (lv_at hl 0 rfl) ?_
  refine lv_iconst (v := nI 0) hx hb dX1_revenueWithout_15 (by decide +kernel) ?_
  refine lv_aload_n hx hb dX1_revenueWithout_16 rfl (lv_at hl 0 rfl) ?_
  refine lv_iload_n hx hb dX1_revenueWithout_17 rfl (lv_at hl 1 rfl) ?_
  refine ro_V (ci := 1) (q0 := 0) (rest := [.int (nI 0), .ref (h 0)]) ⟨hx, hb, hml, hown, hts⟩ (mX1_of hM8 hK4 hk) gX1_of hdX1_of ⟨Nat.le_of_ble_eq_true rfl, Nat.le_of_ble_eq_true rfl⟩ hK hP rfl rfl rfl rfl hl.1 rfl (Nat.le_of_ble_eq_true rfl) dX1_revenueWithout_18 ⟨Nat.le_of_ble_eq_true rfl, Nat.le_of_ble_eq_true rfl⟩ ?_
  refine ro_V (ci := 1) (q0 := 0) (rest := []) ⟨hx, hb, hml, hown, hts⟩ (mX1_best (fb := (fun X => alo M K S X 8)) hA50 (by decide) (ofk_lt k) hfi) gX1_best hdX1_best ⟨Nat.le_of_ble_eq_true rfl, Nat.le_of_ble_eq_true rfl⟩ hK hP rfl rfl rfl rfl hl.1 rfl (Nat.le_of_ble_eq_true rfl) dX1_revenueWithout_21 ⟨Nat.le_of_ble_eq_true rfl, Nat.le_of_ble_eq_true rfl⟩ ?_
  refine rtq (y := nI Z) (by rw [hbz]; rfl) ?_
  refine lv_istore_n (lv' := [(2, .int (nI Z)), (0, .ref (h 0)), (1, .int (nI k))]) hx hb dX1_revenueWithout_24 rfl hl (by decide) rfl (fun ls hl => ?_)
  refine lv_aload_n hx hb dX1_revenueWithout_25 rfl (lv_at hl 1 rfl) ?_
  refine lv_iload_n hx hb dX1_revenueWithout_26 rfl (lv_at hl 0 rfl) ?_
  refine ro_V (ci := 1) (q0 := 0) (rest := []) ⟨hx, hb, hml, hown, hts⟩ (mX1_sum (bst_lt hbz)) gX1_sum hdX1_sum ⟨Nat.le_of_ble_eq_true rfl, Nat.le_of_ble_eq_true rfl⟩ hK hP rfl rfl rfl rfl hl.1 rfl (Nat.le_of_ble_eq_true rfl) dX1_revenueWithout_27 ⟨Nat.le_of_ble_eq_true rfl, Nat.le_of_ble_eq_true rfl⟩ ?_
  exact wr_iret hx hb hr hlk hS (fi2) hP (rfl) dX1_revenueWithout_30
set_option maxHeartbeats 1000000 in
set_option maxRecDepth 100000 in
/-- payment: no such bidder -/
theorem mX1_payment_no {l : Launch} {D : va_G} {h : Nat → Nat} {d : Nat → ClassId} {M K A : Nat → Nat} {S : Nat} {fi : Nat → Int32} {x : Int32} (hn : inr 4 x = false) : RoMet l yX1_payment cX1_payment 4 (some .int) 4 94 D (w1 h d M K A S fi) (t1 d) [.ref (h 0), .int (x)] (-1) := by
  refine ro_of (lv := [(0, .ref (h 0)), (1, .int (x))]) (by decide) (Nat.le_of_ble_eq_true rfl) rfl ?_
  intro p e s m below meth c hx hb hr hml hown hts hlk hP hK ls hl
  have hown : s.vm.findClass RX1 = some m.cls := hown
  refine lv_aload_n hx hb dX1_payment_0 rfl (lv_at hl 0 rfl) ?_
  refine lv_iload_n hx hb dX1_payment_1 rfl (lv_at hl 1 rfl) ?_
  refine ro_V (ci := 1) (q0 := 0) (rest := []) ⟨hx, hb, hml, hown, hts⟩ (mX1_bidder) gX1_bidder hdX1_bidder ⟨Nat.le_of_ble_eq_true rfl, Nat.le_of_ble_eq_true rfl⟩ hK hP rfl rfl rfl rfl hl.1 rfl (Nat.le_of_ble_eq_true rfl) dX1_payment_2 ⟨Nat.le_of_ble_eq_true rfl, Nat.le_of_ble_eq_true rfl⟩ ?_
  refine if_neB (tgt := 10) hx hb dX1_payment_5 (by decide) (fun c5 => absurd c5 (by rw [hn]; decide)) (fun c5 => ?_)
  refine lv_iconst (v := -1) hx hb dX1_payment_8 (by decide +kernel) ?_
  exact ro_iret hx hb hr hlk (rfl) dX1_payment_9
set_option maxHeartbeats 1000000 in
set_option maxRecDepth 100000 in
/-- payment(k), 0 -/
theorem mX1_payment_0 {l : Launch} {D : va_G} {h : Nat → Nat} {d : Nat → ClassId} {M K A : Nat → Nat} {S : Nat} {fi : Nat → Int32} {k Y Z : Nat} (hM8 : ∀ b, M b < 256) (hK4 : ∀ b, K b < 4) (hA50 : ∀ b, A b ≤ 50) (hS8 : S < 256) (hbs : bst A (fun X => alo M K S X 8) 0 0 256 = some Y) (hk : k < 4) (hbz : bst A (fun X => alo M K S X 8) 0 (ofk M K k) 256 = some Z) (hm : Y &&& ofk M K k = 0) : WrMet (U := Nat → Int32) l yX1_payment cX1_payment 4 (some .int) 4 94 D (w1 h d M K A S fi) (t1 d) (as1 h) [.ref (h 0), .int (nI k)] (fun r (_ : Nat → Int32) => r = nI 0) (fun u => w1 h d M K A S u) := by
  refine wr_of (lv := [(0, .ref (h 0)), (1, .int (nI k))]) (by decide) (Nat.le_of_ble_eq_true rfl) rfl ?_
  intro p e s m below meth c hx hb hr hml hown hts hlk hK hP hD hS ls hl
  have hown : s.vm.findClass RX1 = some m.cls := hown
  refine lv_aload_n hx hb dX1_payment_0 rfl (lv_at hl 0 rfl) ?_
  refine lv_iload_n hx hb dX1_payment_1 rfl (lv_at hl 1 rfl) ?_
  refine ro_V (ci := 1) (q0 := 0) (rest := []) ⟨hx, hb, hml, hown, hts⟩ (mX1_bidder) gX1_bidder hdX1_bidder ⟨Nat.le_of_ble_eq_true rfl, Nat.le_of_ble_eq_true rfl⟩ hK hP rfl rfl rfl rfl hl.1 rfl (Nat.le_of_ble_eq_true rfl) dX1_payment_2 ⟨Nat.le_of_ble_eq_true rfl, Nat.le_of_ble_eq_true rfl⟩ ?_
  refine if_neB (tgt := 10) hx hb dX1_payment_5 (by decide) (fun c5 => ?_) (fun c5 => absurd c5 (by rw [inr_nI (by decide) hk]; decide))
  refine lv_aload_n hx hb dX1_payment_10 rfl (lv_at hl 0 rfl) ?_
  refine wr_V (ci := 1) (q0 := 0) (rest := []) ⟨hx, hb, hml, hown, hts⟩ (mX1_winners hM8 hK4 hA50 hS8 hbs) gX1_winners hdX1_winners ⟨Nat.le_of_ble_eq_true rfl, Nat.le_of_ble_eq_true rfl⟩ hK hP hD hS (fun _ z => z) wo_nil wo_dis rfl rfl rfl rfl hl.1 rfl (Nat.le_of_ble_eq_true rfl) dX1_payment_11 ⟨Nat.le_of_ble_eq_true rfl, Nat.le_of_ble_eq_true rfl⟩ (fun r fi3 H locs hq hP2 _ hS => ?_)
  have hrv : r = nI Y := hq
  subst hrv
  have hD : va_D (fun q => q ∈ (as1 h)) (w1 h d M K A S fi3) := va_D.same hD rfl
  have hP : va_P D vwCl (w1 h d M K A S fi3) H := hP2
  refine lv_istore_n (lv' := [(2, .int (nI Y)), (0, .ref (h 0)), (1, .int (nI k))]) hx hb dX1_payment_14 rfl hl (by decide) rfl (fun ls hl => ?_)
  refine lv_iload_n hx hb dX1_payment_15 rfl (lv_at hl 0 rfl) ?_
  refine lv_aload_n hx hb dX1_payment_16 rfl (lv_at hl 1 rfl) ?_
  refine lv_iload_n hx hb dX1_payment_17 rfl (lv_at hl 2 rfl) ?_
  refine ro_V (ci := 1) (q0 := 0) (rest := [.int (nI Y)]) ⟨hx, hb, hml, hown, hts⟩ (mX1_of hM8 hK4 hk) gX1_of hdX1_of ⟨Nat.le_of_ble_eq_true rfl, Nat.le_of_ble_eq_true rfl⟩ hK hP rfl rfl rfl rfl hl.1 rfl (Nat.le_of_ble_eq_true rfl) dX1_payment_18 ⟨Nat.le_of_ble_eq_true rfl, Nat.le_of_ble_eq_true rfl⟩ ?_
  refine an_N hx hb dX1_payment_21 ?_
  refine lv_istore_n (lv' := [(3, .int (nI (Y &&& (ofk M K k)))), (2, .int (nI Y)), (0, .ref (h 0)), (1, .int (nI k))]) hx hb dX1_payment_22 rfl hl (by decide) rfl (fun ls hl => ?_)
  refine lv_iload_n hx hb dX1_payment_23 rfl (lv_at hl 0 rfl) ?_
  refine if_neN (tgt := 31) hx hb dX1_payment_24 (by decide) (and_lt (by have := bst_lt hbs; omega)) (fun c24 => absurd c24 (fun z => z hm)) (fun c24 => ?_)
  refine lv_iconst (v := nI 0) hx hb dX1_payment_27 (by decide +kernel) ?_
  refine lv_goto (tgt := 48) hx hb dX1_payment_28 (by decide) ?_
  exact wr_iret hx hb hr hlk hS (fi3) hP (rfl) dX1_payment_48
set_option maxHeartbeats 1000000 in
set_option maxRecDepth 100000 in
/-- payment(k), 1 -/
theorem mX1_payment_1 {l : Launch} {D : va_G} {h : Nat → Nat} {d : Nat → ClassId} {M K A : Nat → Nat} {S : Nat} {fi : Nat → Int32} {k Y Z : Nat} (hM8 : ∀ b, M b < 256) (hK4 : ∀ b, K b < 4) (hA50 : ∀ b, A b ≤ 50) (hS8 : S < 256) (hbs : bst A (fun X => alo M K S X 8) 0 0 256 = some Y) (hk : k < 4) (hbz : bst A (fun X => alo M K S X 8) 0 (ofk M K k) 256 = some Z) (hm : Y &&& ofk M K k ≠ 0) : WrMet (U := Nat → Int32) l yX1_payment cX1_payment 4 (some .int) 4 94 D (w1 h d M K A S fi) (t1 d) (as1 h) [.ref (h 0), .int (nI k)] (fun r (_ : Nat → Int32) => r = nI (sm A Z 8) - (nI (sm A Y 8) - nI (sm A (Y &&& ofk M K k) 8))) (fun u => w1 h d M K A S u) := by
  refine wr_of (lv := [(0, .ref (h 0)), (1, .int (nI k))]) (by decide) (Nat.le_of_ble_eq_true rfl) rfl ?_
  intro p e s m below meth c hx hb hr hml hown hts hlk hK hP hD hS ls hl
  have hown : s.vm.findClass RX1 = some m.cls := hown
  refine lv_aload_n hx hb dX1_payment_0 rfl (lv_at hl 0 rfl) ?_
  refine lv_iload_n hx hb dX1_payment_1 rfl (lv_at hl 1 rfl) ?_
  refine ro_V (ci := 1) (q0 := 0) (rest := []) ⟨hx, hb, hml, hown, hts⟩ (mX1_bidder) gX1_bidder hdX1_bidder ⟨Nat.le_of_ble_eq_true rfl, Nat.le_of_ble_eq_true rfl⟩ hK hP rfl rfl rfl rfl hl.1 rfl (Nat.le_of_ble_eq_true rfl) dX1_payment_2 ⟨Nat.le_of_ble_eq_true rfl, Nat.le_of_ble_eq_true rfl⟩ ?_
  refine if_neB (tgt := 10) hx hb dX1_payment_5 (by decide) (fun c5 => ?_) (fun c5 => absurd c5 (by rw [inr_nI (by decide) hk]; decide))
  refine lv_aload_n hx hb dX1_payment_10 rfl (lv_at hl 0 rfl) ?_
  refine wr_V (ci := 1) (q0 := 0) (rest := []) ⟨hx, hb, hml, hown, hts⟩ (mX1_winners hM8 hK4 hA50 hS8 hbs) gX1_winners hdX1_winners ⟨Nat.le_of_ble_eq_true rfl, Nat.le_of_ble_eq_true rfl⟩ hK hP hD hS (fun _ z => z) wo_nil wo_dis rfl rfl rfl rfl hl.1 rfl (Nat.le_of_ble_eq_true rfl) dX1_payment_11 ⟨Nat.le_of_ble_eq_true rfl, Nat.le_of_ble_eq_true rfl⟩ (fun r fi3 H locs hq hP2 _ hS => ?_)
  have hrv : r = nI Y := hq
  subst hrv
  have hD : va_D (fun q => q ∈ (as1 h)) (w1 h d M K A S fi3) := va_D.same hD rfl
  have hP : va_P D vwCl (w1 h d M K A S fi3) H := hP2
  refine lv_istore_n (lv' := [(2, .int (nI Y)), (0, .ref (h 0)), (1, .int (nI k))]) hx hb dX1_payment_14 rfl hl (by decide) rfl (fun ls hl => ?_)
  refine lv_iload_n hx hb dX1_payment_15 rfl (lv_at hl 0 rfl) ?_
  refine lv_aload_n hx hb dX1_payment_16 rfl (lv_at hl 1 rfl) ?_
  refine lv_iload_n hx hb dX1_payment_17 rfl (lv_at hl 2 rfl) ?_
  refine ro_V (ci := 1) (q0 := 0) (rest := [.int (nI Y)]) ⟨hx, hb, hml, hown, hts⟩ (mX1_of hM8 hK4 hk) gX1_of hdX1_of ⟨Nat.le_of_ble_eq_true rfl, Nat.le_of_ble_eq_true rfl⟩ hK hP rfl rfl rfl rfl hl.1 rfl (Nat.le_of_ble_eq_true rfl) dX1_payment_18 ⟨Nat.le_of_ble_eq_true rfl, Nat.le_of_ble_eq_true rfl⟩ ?_
  refine an_N hx hb dX1_payment_21 ?_
  refine lv_istore_n (lv' := [(3, .int (nI (Y &&& (ofk M K k)))), (2, .int (nI Y)), (0, .ref (h 0)), (1, .int (nI k))]) hx hb dX1_payment_22 rfl hl (by decide) rfl (fun ls hl => ?_)
  refine lv_iload_n hx hb dX1_payment_23 rfl (lv_at hl 0 rfl) ?_
  refine if_neN (tgt := 31) hx hb dX1_payment_24 (by decide) (and_lt (by have := bst_lt hbs; omega)) (fun c24 => ?_) (fun c24 => absurd c24 (hm))
  refine lv_aload_n hx hb dX1_payment_31 rfl (lv_at hl 2 rfl) ?_
  refine lv_iload_n hx hb dX1_payment_32 rfl (lv_at hl 3 rfl) ?_
  refine wr_V (ci := 1) (q0 := 0) (rest := []) ⟨hx, hb, hml, hown, hts⟩ (mX1_revenueWithout hM8 hK4 hA50 hS8 hk hbz) gX1_revenueWithout hdX1_revenueWithout ⟨Nat.le_of_ble_eq_true rfl, Nat.le_of_ble_eq_true rfl⟩ hK hP hD hS (fun _ z => z) wo_nil wo_dis rfl rfl rfl rfl hl.1 rfl (Nat.le_of_ble_eq_true rfl) dX1_payment_33 ⟨Nat.le_of_ble_eq_true rfl, Nat.le_of_ble_eq_true rfl⟩ (fun r fi4 H locs hq hP2 _ hS => ?_)
  have hrv : r = nI (sm A Z 8) := hq
  subst hrv
  have hD : va_D (fun q => q ∈ (as1 h)) (w1 h d M K A S fi4) := va_D.same hD rfl
  have hP : va_P D vwCl (w1 h d M K A S fi4) H := hP2
  refine lv_aload_n hx hb dX1_payment_36 rfl (lv_at hl 2 rfl) ?_
  refine lv_iload_n hx hb dX1_payment_37 rfl (lv_at hl 1 rfl) ?_
  refine ro_V (ci := 1) (q0 := 0) (rest := [.int (nI (sm A Z 8))]) ⟨hx, hb, hml, hown, hts⟩ (mX1_sum (bst_lt hbs)) gX1_sum hdX1_sum ⟨Nat.le_of_ble_eq_true rfl, Nat.le_of_ble_eq_true rfl⟩ hK hP rfl rfl rfl rfl hl.1 rfl (Nat.le_of_ble_eq_true rfl) dX1_payment_38 ⟨Nat.le_of_ble_eq_true rfl, Nat.le_of_ble_eq_true rfl⟩ ?_
  refine lv_aload_n hx hb dX1_payment_41 rfl (lv_at hl 2 rfl) ?_
  refine lv_iload_n hx hb dX1_payment_42 rfl (lv_at hl 0 rfl) ?_
  refine ro_V (ci := 1) (q0 := 0) (rest := [.int (nI (sm A Y 8)), .int (nI (sm A Z 8))]) ⟨hx, hb, hml, hown, hts⟩ (mX1_sum (and_lt (bst_lt hbs))) gX1_sum hdX1_sum ⟨Nat.le_of_ble_eq_true rfl, Nat.le_of_ble_eq_true rfl⟩ hK hP rfl rfl rfl rfl hl.1 rfl (Nat.le_of_ble_eq_true rfl) dX1_payment_43 ⟨Nat.le_of_ble_eq_true rfl, Nat.le_of_ble_eq_true rfl⟩ ?_
  refine lv_isub hx hb dX1_payment_46 ?_
  refine lv_isub hx hb dX1_payment_47 ?_
  exact wr_iret hx hb hr hlk hS (fi4) hP (rfl) dX1_payment_48
set_option maxHeartbeats 1000000 in
set_option maxRecDepth 100000 in
/-- threshold: no such bid -/
theorem mX1_threshold_no {l : Launch} {D : va_G} {h : Nat → Nat} {d : Nat → ClassId} {M K A : Nat → Nat} {S : Nat} {fi : Nat → Int32} {x : Int32} (hM8 : ∀ b, M b < 256) (hn : isb M x = false) : RoMet l yX1_threshold cX1_threshold 5 (some .int) 3 72 D (w1 h d M K A S fi) (t1 d) [.ref (h 0), .int (x)] (-1) := by
  refine ro_of (lv := [(0, .ref (h 0)), (1, .int (x))]) (by decide) (Nat.le_of_ble_eq_true rfl) rfl ?_
  intro p e s m below meth c hx hb hr hml hown hts hlk hP hK ls hl
  have hown : s.vm.findClass RX1 = some m.cls := hown
  refine lv_aload_n hx hb dX1_threshold_0 rfl (lv_at hl 0 rfl) ?_
  refine lv_iload_n hx hb dX1_threshold_1 rfl (lv_at hl 1 rfl) ?_
  refine ro_V (ci := 1) (q0 := 0) (rest := []) ⟨hx, hb, hml, hown, hts⟩ (mX1_is hM8) gX1_is hdX1_is ⟨Nat.le_of_ble_eq_true rfl, Nat.le_of_ble_eq_true rfl⟩ hK hP rfl rfl rfl rfl hl.1 rfl (Nat.le_of_ble_eq_true rfl) dX1_threshold_2 ⟨Nat.le_of_ble_eq_true rfl, Nat.le_of_ble_eq_true rfl⟩ ?_
  refine if_neB (tgt := 10) hx hb dX1_threshold_5 (by decide) (fun c5 => absurd c5 (by rw [hn]; decide)) (fun c5 => ?_)
  refine lv_iconst (v := -1) hx hb dX1_threshold_8 (by decide +kernel) ?_
  exact ro_iret hx hb hr hlk (rfl) dX1_threshold_9
set_option maxHeartbeats 1000000 in
set_option maxRecDepth 100000 in
/-- threshold(j) -/
theorem mX1_threshold {l : Launch} {D : va_G} {h : Nat → Nat} {d : Nat → ClassId} {M K A : Nat → Nat} {S : Nat} {fi : Nat → Int32} {j : Nat} (hM8 : ∀ b, M b < 256) (hK4 : ∀ b, K b < 4) (hA50 : ∀ b, A b ≤ 50) (hS8 : S < 256) (hj : j < 8) (hj1 : 0 < M j) : WrMet (U := Nat → Int32) l yX1_threshold cX1_threshold 5 (some .int) 3 72 D (w1 h d M K A S fi) (t1 d) (as1 h) [.ref (h 0), .int (nI j)] (fun r (_ : Nat → Int32) => r = nI (lm (hb_ A (fun X => alo M K S X 8) j) 50 51)) (fun u => w1 h d M K A S u) := by
  refine wr_of (lv := [(0, .ref (h 0)), (1, .int (nI j))]) (by decide) (Nat.le_of_ble_eq_true rfl) rfl ?_
  intro p e s m below meth c hx hb hr hml hown hts hlk hK hP hD hS ls hl
  have hown : s.vm.findClass RX1 = some m.cls := hown
  refine lv_aload_n hx hb dX1_threshold_0 rfl (lv_at hl 0 rfl) ?_
  refine lv_iload_n hx hb dX1_threshold_1 rfl (lv_at hl 1 rfl) ?_
  refine ro_V (ci := 1) (q0 := 0) (rest := []) ⟨hx, hb, hml, hown, hts⟩ (mX1_isj hM8 hj) gX1_is hdX1_is ⟨Nat.le_of_ble_eq_true rfl, Nat.le_of_ble_eq_true rfl⟩ hK hP rfl rfl rfl rfl hl.1 rfl (Nat.le_of_ble_eq_true rfl) dX1_threshold_2 ⟨Nat.le_of_ble_eq_true rfl, Nat.le_of_ble_eq_true rfl⟩ ?_
  refine if_neB (tgt := 10) hx hb dX1_threshold_5 (by decide) (fun c5 => ?_) (fun c5 => absurd c5 (by rw [decide_eq_true hj1]; decide))
  refine lv_aload_n hx hb dX1_threshold_10 rfl (lv_at hl 0 rfl) ?_
  refine wv_V (ci := 1) (q0 := 0) (rest := []) ⟨hx, hb, hml, hown, hts⟩ (mX1_work hM8 hK4 hS8) gX1_work hdX1_work ⟨Nat.le_of_ble_eq_true rfl, Nat.le_of_ble_eq_true rfl⟩ hK hP hD hS (fun _ z => z) wo_nil wo_dis rfl rfl rfl rfl hl.1 rfl (Nat.le_of_ble_eq_true rfl) dX1_threshold_11 ⟨Nat.le_of_ble_eq_true rfl, Nat.le_of_ble_eq_true rfl⟩ (fun fi2 H locs hq hP2 _ hS => ?_)
  have hfi : ∀ q, q < 256 → fi2 q = bI (alo M K S q 8) := hq
  have hD : va_D (fun q => q ∈ (as1 h)) (w1 h d M K A S fi2) := va_D.same hD rfl
  have hP : va_P D vwCl (w1 h d M K A S fi2) H := hP2
  refine lv_aload_n hx hb dX1_threshold_14 rfl (lv_at hl 0 rfl) ?_
  refine gf1_2 hx hb hts hown hK hP rfl rfl dX1_threshold_15 ?_
  refine lv_iload_n hx hb dX1_threshold_18 rfl (lv_at hl 1 rfl) ?_
  refine ld_i hx hb hK hP 3 2 rfl rfl (by omega) (by decide) (v := nI (A j)) (rfl) dX1_threshold_19 ?_
  refine lv_istore_n (lv' := [(2, .int (nI (A j))), (0, .ref (h 0)), (1, .int (nI j))]) hx hb dX1_threshold_20 rfl hl (by decide) rfl (fun ls hl => ?_)
  refine lv_bipush (v := nI 51) hx hb dX1_threshold_21 (by decide +kernel) ?_
  refine lv_istore_n (lv' := [(3, .int (nI 51)), (2, .int (nI (A j))), (0, .ref (h 0)), (1, .int (nI j))]) hx hb dX1_threshold_23 rfl hl (by decide) rfl (fun ls hl => ?_)
  refine lv_bipush (v := nI 50) hx hb dX1_threshold_24 (by decide +kernel) ?_
  refine lv_istore (lv' := [(4, .int (nI 50)), (3, .int (nI 51)), (2, .int (nI (A j))), (0, .ref (h 0)), (1, .int (nI j))]) hx hb dX1_threshold_26 hl (by decide) rfl (fun ls hl => ?_)
  have lp28 : ∀ a : Nat, a ≤ 50 → ∀ (A1 : Nat → Nat) (x1 : Nat) (H : Heap) (locs : List Loc) (ls : Array Slot), (∀ v, uN A1 j v = uN A j v) → (lm (hb_ A (fun X => alo M K S X 8) j) a x1 = lm (hb_ A (fun X => alo M K S X 8) j) 50 51) → va_P D vwCl (w1 h d M K A1 S fi2) H → va_D (fun q => q ∈ (as1 h)) (w1 h d M K A1 S fi2) → va_S (fun q => q ∈ (as1 h)) s.heap H locs → lv_has ls 5 [(0, .ref (h 0)), (1, .int (nI j)), (2, .int (nI (A j))), (3, .int (nI x1)), (4, .int (nI a))] → WR (U := Nat → Int32) p l e s m below meth c 3 72 D (as1 h) [.ref (h 0), .int (nI j)] (fun r (_ : Nat → Int32) => r = nI (lm (hb_ A (fun X => alo M K S X 8) j) 50 51)) (fun u => w1 h d M K A S u) H locs 28 ls [] := by
    intro a
    induction a with
    | zero =>
      intro hi A1 x1 H locs ls hA1 hlm hP hD hS hl
      have hl : lv_has ls 5 [(0, .ref (h 0)), (1, .int (nI j)), (2, .int (nI (A j))), (3, .int (nI x1)), (4, .int (nI 0))] := hl
      refine lv_iload hx hb dX1_threshold_28 (lv_at hl 4 rfl) ?_
      refine lv_iconst (v := nI 1) hx hb dX1_threshold_30 (by decide +kernel) ?_
      refine ic_lt (tgt := 69) hx hb dX1_threshold_31 (by decide) (by omega) (by omega) (fun c31 => ?_) (fun c31 => absurd c31 (by omega))
      refine lv_aload_n hx hb dX1_threshold_69 rfl (lv_at hl 0 rfl) ?_
      refine gf1_2 hx hb hts hown hK hP rfl rfl dX1_threshold_70 ?_
      refine lv_iload_n hx hb dX1_threshold_73 rfl (lv_at hl 1 rfl) ?_
      refine lv_iload_n hx hb dX1_threshold_74 rfl (lv_at hl 2 rfl) ?_
      refine st_i (g := aN A) (w' := w1 h d M K A S fi2) hx hb hK hP hD hS 3 2 rfl rfl (by omega) (by decide) (by rw [aN_u, hA1, uN_self]) rfl dX1_threshold_75 (fun H locs hP hD hS => ?_)
      refine lv_iload_n hx hb dX1_threshold_76 rfl (lv_at hl 3 rfl) ?_
      exact wr_iret hx hb hr hlk hS (fi2) hP (by rw [← hlm]; rfl) dX1_threshold_77
    | succ a ih =>
      intro hi A1 x1 H locs ls hA1 hlm hP hD hS hl
      have hl : lv_has ls 5 [(0, .ref (h 0)), (1, .int (nI j)), (2, .int (nI (A j))), (3, .int (nI x1)), (4, .int (nI (a + 1)))] := hl
      refine lv_iload hx hb dX1_threshold_28 (lv_at hl 4 rfl) ?_
      refine lv_iconst (v := nI 1) hx hb dX1_threshold_30 (by decide +kernel) ?_
      refine ic_lt (tgt := 69) hx hb dX1_threshold_31 (by decide) (by omega) (by omega) (fun c31 => absurd c31 (by omega)) (fun c31 => ?_)
      refine lv_aload_n hx hb dX1_threshold_34 rfl (lv_at hl 0 rfl) ?_
      refine gf1_2 hx hb hts hown hK hP rfl rfl dX1_threshold_35 ?_
      refine lv_iload_n hx hb dX1_threshold_38 rfl (lv_at hl 1 rfl) ?_
      refine lv_iload hx hb dX1_threshold_39 (lv_at hl 4 rfl) ?_
      refine st_i (g := aN (uN A j (a + 1))) (w' := w1 h d M K (uN A j (a + 1)) S fi2) hx hb hK hP hD hS 3 2 rfl rfl (by omega) (by decide) (by rw [aN_u, hA1]) rfl dX1_threshold_41 (fun H locs hP hD hS => ?_)
      obtain ⟨Y, hY, hbs⟩ := bst_some (A := uN A j (a + 1)) (fi := (fun X => alo M K S X 8)) (fi_0 (fi := (fun X => alo M K S X 8)) (fun _ _ => rfl))
      have hbq : hb_ A (fun X => alo M K S X 8) j (a + 1) = Y.testBit j := by unfold hb_; rw [hbs]
      refine lv_aload_n hx hb dX1_threshold_42 rfl (lv_at hl 0 rfl) ?_
      refine lv_iconst (v := nI 0) hx hb dX1_threshold_43 (by decide +kernel) ?_
      refine lv_iconst (v := nI 0) hx hb dX1_threshold_44 (by decide +kernel) ?_
      refine ro_V (ci := 1) (q0 := 0) (rest := []) ⟨hx, hb, hml, hown, hts⟩ (mX1_best (fb := (fun X => alo M K S X 8)) (uN_le hA50 (by omega)) (by decide) (by decide) hfi) gX1_best hdX1_best ⟨Nat.le_of_ble_eq_true rfl, Nat.le_of_ble_eq_true rfl⟩ hK hP rfl rfl rfl rfl hl.1 rfl (Nat.le_of_ble_eq_true rfl) dX1_threshold_45 ⟨Nat.le_of_ble_eq_true rfl, Nat.le_of_ble_eq_true rfl⟩ ?_
      refine rtq (y := nI Y) (by rw [hbs]; rfl) ?_
      refine lv_iload_n hx hb dX1_threshold_48 rfl (lv_at hl 1 rfl) ?_
      refine lv_ishr hx hb dX1_threshold_49 ?_
      refine lv_iconst (v := nI 1) hx hb dX1_threshold_50 (by decide +kernel) ?_
      refine bt_N hx hb dX1_threshold_51 (by omega) (by omega) ?_
      refine lv_iconst (v := nI 1) hx hb dX1_threshold_52 (by decide +kernel) ?_
      refine ic_neB (tgt := 61) hx hb dX1_threshold_53 (by decide) (fun c53 => ?_) (fun c53 => ?_)
      · refine lv_iload_n hx hb dX1_threshold_61 rfl (lv_at hl 3 rfl) ?_
        refine lv_istore_n (lv' := [(3, .int (nI x1)), (0, .ref (h 0)), (1, .int (nI j)), (2, .int (nI (A j))), (4, .int (nI (a + 1)))]) hx hb dX1_threshold_62 rfl hl (by decide) rfl (fun ls hl => ?_)
        refine lv_iinc (v := nI a) (lv' := [(4, .int (nI a)), (3, .int (nI x1)), (0, .ref (h 0)), (1, .int (nI j)), (2, .int (nI (A j)))]) hx hb dX1_threshold_63 hl (k := 4) rfl (pk_m1 a) (by decide) rfl (fun ls hl => ?_)
        refine lv_goto (tgt := 28) hx hb dX1_threshold_66 (by decide) ?_
        exact ih (by omega) _ _ _ _ ls (fun v => uN_uN A j (a + 1) v) (by rw [← hlm, lm, hbq, if_neg (by rw [c53]; decide)]) hP hD hS (lv_sub hl [2, 3, 4, 1, 0] rfl)
      · refine lv_iload hx hb dX1_threshold_56 (lv_at hl 4 rfl) ?_
        refine lv_goto (tgt := 62) hx hb dX1_threshold_58 (by decide) ?_
        refine lv_istore_n (lv' := [(3, .int (nI (a + 1))), (0, .ref (h 0)), (1, .int (nI j)), (2, .int (nI (A j))), (4, .int (nI (a + 1)))]) hx hb dX1_threshold_62 rfl hl (by decide) rfl (fun ls hl => ?_)
        refine lv_iinc (v := nI a) (lv' := [(4, .int (nI a)), (3, .int (nI (a + 1))), (0, .ref (h 0)), (1, .int (nI j)), (2, .int (nI (A j)))]) hx hb dX1_threshold_63 hl (k := 4) rfl (pk_m1 a) (by decide) rfl (fun ls hl => ?_)
        refine lv_goto (tgt := 28) hx hb dX1_threshold_66 (by decide) ?_
        exact ih (by omega) _ _ _ _ ls (fun v => uN_uN A j (a + 1) v) (by rw [← hlm, lm, hbq, if_pos c53]) hP hD hS (lv_sub hl [2, 3, 4, 1, 0] rfl)
  exact lp28 50 (by omega) A 51 _ _ ls (fun _ => rfl) (rfl) hP hD hS (lv_sub hl [3, 4, 2, 1, 0] rfl)
set_option maxHeartbeats 1000000 in
set_option maxRecDepth 100000 in
/-- revenueWith: no such bid -/
theorem mX1_revenueWith_no {l : Launch} {D : va_G} {h : Nat → Nat} {d : Nat → ClassId} {M K A : Nat → Nat} {S : Nat} {fi : Nat → Int32} {x : Int32} (hM8 : ∀ b, M b < 256) (hn : isb M x = false) : RoMet l yX1_revenueWith cX1_revenueWith 3 (some .int) 3 72 D (w1 h d M K A S fi) (t1 d) [.ref (h 0), .int (x)] (-1) := by
  refine ro_of (lv := [(0, .ref (h 0)), (1, .int (x))]) (by decide) (Nat.le_of_ble_eq_true rfl) rfl ?_
  intro p e s m below meth c hx hb hr hml hown hts hlk hP hK ls hl
  have hown : s.vm.findClass RX1 = some m.cls := hown
  refine lv_aload_n hx hb dX1_revenueWith_0 rfl (lv_at hl 0 rfl) ?_
  refine lv_iload_n hx hb dX1_revenueWith_1 rfl (lv_at hl 1 rfl) ?_
  refine ro_V (ci := 1) (q0 := 0) (rest := []) ⟨hx, hb, hml, hown, hts⟩ (mX1_is hM8) gX1_is hdX1_is ⟨Nat.le_of_ble_eq_true rfl, Nat.le_of_ble_eq_true rfl⟩ hK hP rfl rfl rfl rfl hl.1 rfl (Nat.le_of_ble_eq_true rfl) dX1_revenueWith_2 ⟨Nat.le_of_ble_eq_true rfl, Nat.le_of_ble_eq_true rfl⟩ ?_
  refine if_neB (tgt := 10) hx hb dX1_revenueWith_5 (by decide) (fun c5 => absurd c5 (by rw [hn]; decide)) (fun c5 => ?_)
  refine lv_iconst (v := -1) hx hb dX1_revenueWith_8 (by decide +kernel) ?_
  exact ro_iret hx hb hr hlk (rfl) dX1_revenueWith_9
set_option maxHeartbeats 1000000 in
set_option maxRecDepth 100000 in
/-- revenueWith(j), none -/
theorem mX1_revenueWith_none {l : Launch} {D : va_G} {h : Nat → Nat} {d : Nat → ClassId} {M K A : Nat → Nat} {S : Nat} {fi : Nat → Int32} {j : Nat} (hM8 : ∀ b, M b < 256) (hK4 : ∀ b, K b < 4) (hA50 : ∀ b, A b ≤ 50) (hS8 : S < 256) (hj : j < 8) (hj1 : 0 < M j) (hbs : bst A (fun X => alo M K S X 8) (2 ^ j) 0 256 = none) : WrMet (U := Nat → Int32) l yX1_revenueWith cX1_revenueWith 3 (some .int) 3 72 D (w1 h d M K A S fi) (t1 d) (as1 h) [.ref (h 0), .int (nI j)] (fun r (_ : Nat → Int32) => r = -1) (fun u => w1 h d M K A S u) := by
  refine wr_of (lv := [(0, .ref (h 0)), (1, .int (nI j))]) (by decide) (Nat.le_of_ble_eq_true rfl) rfl ?_
  intro p e s m below meth c hx hb hr hml hown hts hlk hK hP hD hS ls hl
  have hown : s.vm.findClass RX1 = some m.cls := hown
  refine lv_aload_n hx hb dX1_revenueWith_0 rfl (lv_at hl 0 rfl) ?_
  refine lv_iload_n hx hb dX1_revenueWith_1 rfl (lv_at hl 1 rfl) ?_
  refine ro_V (ci := 1) (q0 := 0) (rest := []) ⟨hx, hb, hml, hown, hts⟩ (mX1_isj hM8 hj) gX1_is hdX1_is ⟨Nat.le_of_ble_eq_true rfl, Nat.le_of_ble_eq_true rfl⟩ hK hP rfl rfl rfl rfl hl.1 rfl (Nat.le_of_ble_eq_true rfl) dX1_revenueWith_2 ⟨Nat.le_of_ble_eq_true rfl, Nat.le_of_ble_eq_true rfl⟩ ?_
  refine if_neB (tgt := 10) hx hb dX1_revenueWith_5 (by decide) (fun c5 => ?_) (fun c5 => absurd c5 (by rw [decide_eq_true hj1]; decide))
  refine lv_aload_n hx hb dX1_revenueWith_10 rfl (lv_at hl 0 rfl) ?_
  refine wv_V (ci := 1) (q0 := 0) (rest := []) ⟨hx, hb, hml, hown, hts⟩ (mX1_work hM8 hK4 hS8) gX1_work hdX1_work ⟨Nat.le_of_ble_eq_true rfl, Nat.le_of_ble_eq_true rfl⟩ hK hP hD hS (fun _ z => z) wo_nil wo_dis rfl rfl rfl rfl hl.1 rfl (Nat.le_of_ble_eq_true rfl) dX1_revenueWith_11 ⟨Nat.le_of_ble_eq_true rfl, Nat.le_of_ble_eq_true rfl⟩ (fun fi2 H locs hq hP2 _ hS => ?_)
  have hfi : ∀ q, q < 256 → fi2 q = bI (alo M K S q 8) := hq
  have hD : va_D (fun q => q ∈ (as1 h)) (w1 h d M K A S fi2) := va_D.same hD rfl
  have hP : va_P D vwCl (w1 h d M K A S fi2) H := hP2
  refine lv_aload_n hx hb dX1_revenueWith_14 rfl (lv_at hl 0 rfl) ?_
  refine lv_iconst (v := nI 1) hx hb dX1_revenueWith_15 (by decide +kernel) ?_
  refine lv_iload_n hx hb dX1_revenueWith_16 rfl (lv_at hl 1 rfl) ?_
  refine sh_N hx hb dX1_revenueWith_17 (by omega) ?_
  refine lv_iconst (v := nI 0) hx hb dX1_revenueWith_18 (by decide +kernel) ?_
  refine ro_V (ci := 1) (q0 := 0) (rest := []) ⟨hx, hb, hml, hown, hts⟩ (mX1_best (fb := (fun X => alo M K S X 8)) hA50 (two_lt256 hj) (by decide) hfi) gX1_best hdX1_best ⟨Nat.le_of_ble_eq_true rfl, Nat.le_of_ble_eq_true rfl⟩ hK hP rfl rfl rfl rfl hl.1 rfl (Nat.le_of_ble_eq_true rfl) dX1_revenueWith_19 ⟨Nat.le_of_ble_eq_true rfl, Nat.le_of_ble_eq_true rfl⟩ ?_
  refine rtq (y := -1) (by rw [hbs]; rfl) ?_
  refine lv_istore_n (lv' := [(2, .int (-1)), (0, .ref (h 0)), (1, .int (nI j))]) hx hb dX1_revenueWith_22 rfl hl (by decide) rfl (fun ls hl => ?_)
  refine lv_iload_n hx hb dX1_revenueWith_23 rfl (lv_at hl 0 rfl) ?_
  refine if_geM (tgt := 31) hx hb dX1_revenueWith_24 (by decide) ?_
  refine lv_iconst (v := -1) hx hb dX1_revenueWith_27 (by decide +kernel) ?_
  refine lv_goto (tgt := 36) hx hb dX1_revenueWith_28 (by decide) ?_
  exact wr_iret hx hb hr hlk hS (fi2) hP (rfl) dX1_revenueWith_36
set_option maxHeartbeats 1000000 in
set_option maxRecDepth 100000 in
/-- revenueWith(j), some -/
theorem mX1_revenueWith_some {l : Launch} {D : va_G} {h : Nat → Nat} {d : Nat → ClassId} {M K A : Nat → Nat} {S : Nat} {fi : Nat → Int32} {j Y : Nat} (hM8 : ∀ b, M b < 256) (hK4 : ∀ b, K b < 4) (hA50 : ∀ b, A b ≤ 50) (hS8 : S < 256) (hj : j < 8) (hj1 : 0 < M j) (hbs : bst A (fun X => alo M K S X 8) (2 ^ j) 0 256 = some Y) : WrMet (U := Nat → Int32) l yX1_revenueWith cX1_revenueWith 3 (some .int) 3 72 D (w1 h d M K A S fi) (t1 d) (as1 h) [.ref (h 0), .int (nI j)] (fun r (_ : Nat → Int32) => r = nI (sm A Y 8)) (fun u => w1 h d M K A S u) := by
  refine wr_of (lv := [(0, .ref (h 0)), (1, .int (nI j))]) (by decide) (Nat.le_of_ble_eq_true rfl) rfl ?_
  intro p e s m below meth c hx hb hr hml hown hts hlk hK hP hD hS ls hl
  have hown : s.vm.findClass RX1 = some m.cls := hown
  refine lv_aload_n hx hb dX1_revenueWith_0 rfl (lv_at hl 0 rfl) ?_
  refine lv_iload_n hx hb dX1_revenueWith_1 rfl (lv_at hl 1 rfl) ?_
  refine ro_V (ci := 1) (q0 := 0) (rest := []) ⟨hx, hb, hml, hown, hts⟩ (mX1_isj hM8 hj) gX1_is hdX1_is ⟨Nat.le_of_ble_eq_true rfl, Nat.le_of_ble_eq_true rfl⟩ hK hP rfl rfl rfl rfl hl.1 rfl (Nat.le_of_ble_eq_true rfl) dX1_revenueWith_2 ⟨Nat.le_of_ble_eq_true rfl, Nat.le_of_ble_eq_true rfl⟩ ?_
  refine if_neB (tgt := 10) hx hb dX1_revenueWith_5 (by decide) (fun c5 => ?_) (fun c5 => absurd c5 (by rw [decide_eq_true hj1]; decide))
  refine lv_aload_n hx hb dX1_revenueWith_10 rfl (lv_at hl 0 rfl) ?_
  refine wv_V (ci := 1) (q0 := 0) (rest := []) ⟨hx, hb, hml, hown, hts⟩ (mX1_work hM8 hK4 hS8) gX1_work hdX1_work ⟨Nat.le_of_ble_eq_true rfl, Nat.le_of_ble_eq_true rfl⟩ hK hP hD hS (fun _ z => z) wo_nil wo_dis rfl rfl rfl rfl hl.1 rfl (Nat.le_of_ble_eq_true rfl) dX1_revenueWith_11 ⟨Nat.le_of_ble_eq_true rfl, Nat.le_of_ble_eq_true rfl⟩ (fun fi2 H locs hq hP2 _ hS => ?_)
  have hfi : ∀ q, q < 256 → fi2 q = bI (alo M K S q 8) := hq
  have hD : va_D (fun q => q ∈ (as1 h)) (w1 h d M K A S fi2) := va_D.same hD rfl
  have hP : va_P D vwCl (w1 h d M K A S fi2) H := hP2
  refine lv_aload_n hx hb dX1_revenueWith_14 rfl (lv_at hl 0 rfl) ?_
  refine lv_iconst (v := nI 1) hx hb dX1_revenueWith_15 (by decide +kernel) ?_
  refine lv_iload_n hx hb dX1_revenueWith_16 rfl (lv_at hl 1 rfl) ?_
  refine sh_N hx hb dX1_revenueWith_17 (by omega) ?_
  refine lv_iconst (v := nI 0) hx hb dX1_revenueWith_18 (by decide +kernel) ?_
  refine ro_V (ci := 1) (q0 := 0) (rest := []) ⟨hx, hb, hml, hown, hts⟩ (mX1_best (fb := (fun X => alo M K S X 8)) hA50 (two_lt256 hj) (by decide) hfi) gX1_best hdX1_best ⟨Nat.le_of_ble_eq_true rfl, Nat.le_of_ble_eq_true rfl⟩ hK hP rfl rfl rfl rfl hl.1 rfl (Nat.le_of_ble_eq_true rfl) dX1_revenueWith_19 ⟨Nat.le_of_ble_eq_true rfl, Nat.le_of_ble_eq_true rfl⟩ ?_
  refine rtq (y := nI Y) (by rw [hbs]; rfl) ?_
  refine lv_istore_n (lv' := [(2, .int (nI Y)), (0, .ref (h 0)), (1, .int (nI j))]) hx hb dX1_revenueWith_22 rfl hl (by decide) rfl (fun ls hl => ?_)
  refine lv_iload_n hx hb dX1_revenueWith_23 rfl (lv_at hl 0 rfl) ?_
  refine if_geN (tgt := 31) hx hb dX1_revenueWith_24 (by decide) (by have := bst_lt hbs; omega) ?_
  refine lv_aload_n hx hb dX1_revenueWith_31 rfl (lv_at hl 1 rfl) ?_
  refine lv_iload_n hx hb dX1_revenueWith_32 rfl (lv_at hl 0 rfl) ?_
  refine ro_V (ci := 1) (q0 := 0) (rest := []) ⟨hx, hb, hml, hown, hts⟩ (mX1_sum (bst_lt hbs)) gX1_sum hdX1_sum ⟨Nat.le_of_ble_eq_true rfl, Nat.le_of_ble_eq_true rfl⟩ hK hP rfl rfl rfl rfl hl.1 rfl (Nat.le_of_ble_eq_true rfl) dX1_revenueWith_33 ⟨Nat.le_of_ble_eq_true rfl, Nat.le_of_ble_eq_true rfl⟩ ?_
  exact wr_iret hx hb hr hlk hS (fi2) hP (rfl) dX1_revenueWith_36
set_option maxHeartbeats 1000000 in
set_option maxRecDepth 100000 in
/-- price: no such item -/
theorem mX1_price_no {l : Launch} {D : va_G} {h : Nat → Nat} {d : Nat → ClassId} {M K A : Nat → Nat} {S : Nat} {fi : Nat → Int32} {x : Int32} (hn : inr 8 x = false) : RoMet l yX1_price cX1_price 5 (some .int) 5 113 D (w1 h d M K A S fi) (t1 d) [.ref (h 0), .int (x)] (-1) := by
  refine ro_of (lv := [(0, .ref (h 0)), (1, .int (x))]) (by decide) (Nat.le_of_ble_eq_true rfl) rfl ?_
  intro p e s m below meth c hx hb hr hml hown hts hlk hP hK ls hl
  have hown : s.vm.findClass RX1 = some m.cls := hown
  refine lv_iload_n hx hb dX1_price_0 rfl (lv_at hl 1 rfl) ?_
  refine lv_if_lt (tgt := 10) hx hb dX1_price_1 (by decide) (fun c1 => ?_) (fun c1 => ?_)
  · refine lv_iconst (v := -1) hx hb dX1_price_10 (by decide +kernel) ?_
    exact ro_iret hx hb hr hlk (rfl) dX1_price_11
  · refine lv_iload_n hx hb dX1_price_4 rfl (lv_at hl 1 rfl) ?_
    refine lv_bipush (v := nI 7) hx hb dX1_price_5 (by decide +kernel) ?_
    refine lv_icmp_le (tgt := 12) hx hb dX1_price_7 (by decide) (fun c7 => ?_) (fun c7 => ?_)
    · exact absurd (inr_t (n := 8) c1 (fun z => (Int32.not_lt.mpr c7) ((nI_gt_ge (n := 7) (by decide) x).mpr z))) (by rw [hn]; decide)
    · refine lv_iconst (v := -1) hx hb dX1_price_10 (by decide +kernel) ?_
      exact ro_iret hx hb hr hlk (rfl) dX1_price_11
set_option maxHeartbeats 1000000 in
set_option maxRecDepth 100000 in
/-- price(j) -/
theorem mX1_price {l : Launch} {D : va_G} {h : Nat → Nat} {d : Nat → ClassId} {M K A : Nat → Nat} {S : Nat} {fi : Nat → Int32} {j Y Y2 : Nat} (hM8 : ∀ b, M b < 256) (hK4 : ∀ b, K b < 4) (hA50 : ∀ b, A b ≤ 50) (hS8 : S < 256) (hbs : bst A (fun X => alo M K S X 8) 0 0 256 = some Y) (hbs2 : bst A (fun X => alo M K (S ||| 2 ^ j) X 8) 0 0 256 = some Y2) (hj : j < 8) : WrMet (U := Nat → Int32) l yX1_price cX1_price 5 (some .int) 5 113 D (w1 h d M K A S fi) (t1 d) (as1 h) [.ref (h 0), .int (nI j)] (fun r (_ : Nat → Int32) => r = nI (sm A Y 8) - nI (sm A Y2 8)) (fun u => w1 h d M K A S u) := by
  refine wr_of (lv := [(0, .ref (h 0)), (1, .int (nI j))]) (by decide) (Nat.le_of_ble_eq_true rfl) rfl ?_
  intro p e s m below meth c hx hb hr hml hown hts hlk hK hP hD hS ls hl
  have hown : s.vm.findClass RX1 = some m.cls := hown
  refine lv_iload_n hx hb dX1_price_0 rfl (lv_at hl 1 rfl) ?_
  refine if_ltN (tgt := 10) hx hb dX1_price_1 (by decide) (by omega) ?_
  refine lv_iload_n hx hb dX1_price_4 rfl (lv_at hl 1 rfl) ?_
  refine lv_bipush (v := nI 7) hx hb dX1_price_5 (by decide +kernel) ?_
  refine ic_le (tgt := 12) hx hb dX1_price_7 (by decide) (by omega) (by omega) (fun c7 => ?_) (fun c7 => absurd c7 (by omega))
  refine lv_aload_n hx hb dX1_price_12 rfl (lv_at hl 0 rfl) ?_
  refine wr_V (ci := 1) (q0 := 0) (rest := []) ⟨hx, hb, hml, hown, hts⟩ (mX1_revenue hM8 hK4 hA50 hS8 hbs) gX1_revenue hdX1_revenue ⟨Nat.le_of_ble_eq_true rfl, Nat.le_of_ble_eq_true rfl⟩ hK hP hD hS (fun _ z => z) wo_nil wo_dis rfl rfl rfl rfl hl.1 rfl (Nat.le_of_ble_eq_true rfl) dX1_price_13 ⟨Nat.le_of_ble_eq_true rfl, Nat.le_of_ble_eq_true rfl⟩ (fun r fi3 H locs hq hP2 _ hS => ?_)
  have hrv : r = nI (sm A Y 8) := hq
  subst hrv
  have hD : va_D (fun q => q ∈ (as1 h)) (w1 h d M K A S fi3) := va_D.same hD rfl
  have hP : va_P D vwCl (w1 h d M K A S fi3) H := hP2
  refine lv_istore_n (lv' := [(2, .int (nI (sm A Y 8))), (0, .ref (h 0)), (1, .int (nI j))]) hx hb dX1_price_16 rfl hl (by decide) rfl (fun ls hl => ?_)
  refine lv_aload_n hx hb dX1_price_17 rfl (lv_at hl 1 rfl) ?_
  refine gf1_3 hx hb hts hown hK hP rfl rfl dX1_price_18 ?_
  refine lv_istore_n (lv' := [(3, .int (nI S)), (2, .int (nI (sm A Y 8))), (0, .ref (h 0)), (1, .int (nI j))]) hx hb dX1_price_21 rfl hl (by decide) rfl (fun ls hl => ?_)
  refine lv_aload_n hx hb dX1_price_22 rfl (lv_at hl 2 rfl) ?_
  refine lv_aload_n hx hb dX1_price_23 rfl (lv_at hl 2 rfl) ?_
  refine gf1_3 hx hb hts hown hK hP rfl rfl dX1_price_24 ?_
  refine lv_iconst (v := nI 1) hx hb dX1_price_27 (by decide +kernel) ?_
  refine lv_iload_n hx hb dX1_price_28 rfl (lv_at hl 3 rfl) ?_
  refine sh_N hx hb dX1_price_29 (by omega) ?_
  refine or_N hx hb dX1_price_30 ?_
  refine pf1_3 (w' := w1 h d M K A (S ||| (2 ^ j)) fi3) hx hb hts hown hK hP hD hS rfl rfl rfl (Nat.le_of_ble_eq_true rfl) rfl dX1_price_31 (fun H locs hP hD hS => ?_)
  refine lv_aload_n hx hb dX1_price_34 rfl (lv_at hl 2 rfl) ?_
  refine wr_V (ci := 1) (q0 := 0) (rest := []) ⟨hx, hb, hml, hown, hts⟩ (mX1_revenue hM8 hK4 hA50 (or_lt256 hS8 (two_lt256 hj)) hbs2) gX1_revenue hdX1_revenue ⟨Nat.le_of_ble_eq_true rfl, Nat.le_of_ble_eq_true rfl⟩ hK hP hD hS (fun _ z => z) wo_nil wo_dis rfl rfl rfl rfl hl.1 rfl (Nat.le_of_ble_eq_true rfl) dX1_price_35 ⟨Nat.le_of_ble_eq_true rfl, Nat.le_of_ble_eq_true rfl⟩ (fun r fi4 H locs hq hP2 _ hS => ?_)
  have hrv : r = nI (sm A Y2 8) := hq
  subst hrv
  have hD : va_D (fun q => q ∈ (as1 h)) (w1 h d M K A (S ||| (2 ^ j)) fi4) := va_D.same hD rfl
  have hP : va_P D vwCl (w1 h d M K A (S ||| (2 ^ j)) fi4) H := hP2
  refine lv_istore (lv' := [(4, .int (nI (sm A Y2 8))), (3, .int (nI S)), (2, .int (nI (sm A Y 8))), (0, .ref (h 0)), (1, .int (nI j))]) hx hb dX1_price_38 hl (by decide) rfl (fun ls hl => ?_)
  refine lv_aload_n hx hb dX1_price_40 rfl (lv_at hl 3 rfl) ?_
  refine lv_iload_n hx hb dX1_price_41 rfl (lv_at hl 1 rfl) ?_
  refine pf1_3 (w' := w1 h d M K A S fi4) hx hb hts hown hK hP hD hS rfl rfl rfl (Nat.le_of_ble_eq_true rfl) rfl dX1_price_42 (fun H locs hP hD hS => ?_)
  refine lv_iload_n hx hb dX1_price_45 rfl (lv_at hl 2 rfl) ?_
  refine lv_iload hx hb dX1_price_46 (lv_at hl 0 rfl) ?_
  refine lv_isub hx hb dX1_price_48 ?_
  exact wr_iret hx hb hr hlk hS (fi4) hP (rfl) dX1_price_49
end
section
set_option maxRecDepth 100000
abbrev zN : Nat → Nat := fun _ => 0
abbrev i0 : List Value := [.int 0, .null, .null, .null, .int 0, .int 0, .null, .null, .int 0]
abbrev i1 : List Value := [.null, .null, .null, .int 0, .null]
abbrev w0z (h : Nat → Nat) (d : Nat → ClassId) : va_W := w0 h d 0 zN zN zN 0 false (aN zN) (aN zN) (nI 0)
abbrev w1z (h : Nat → Nat) (d : Nat → ClassId) : va_W := w1 h d zN zN zN 0 (aN zN)
set_option maxHeartbeats 1000000 in
set_option maxRecDepth 100000 in
/-- the constructor of class 0: 5 arrays of zeros -/
theorem mX0_init (l : Launch) (D : va_G) (h0 sz : Nat) : Met l yX0_init (ws_ yX0_init cX0_init 1 none) ({ frames := 1, cells := 5, slots := 2584, locals := 20 }) (va_Pc [.ref h0] (fun U => U.heap.size = sz ∧ va_P D vwCl [(h0, .inr (0, i0))] U.heap ∧ va_K D vwCl [] U ∧ va_D (fun _ => True) [(h0, .inr (0, i0))])) (va_Qv (fun u : (Nat → Nat) × (Nat → ClassId) => u.1 0 = h0) (fun u t => va_P D vwCl (w0z u.1 u.2) t.heap ∧ va_K D vwCl (t0 u.2) t ∧ va_D (va_A [(h0, .inr (0, i0))] sz) (w0z u.1 u.2)) (va_A [(h0, .inr (0, i0))] sz)) 5 2584 (va_A [(h0, .inr (0, i0))] sz) := by
  refine Met.ofW (cc := cX0_init) (maxL := 1) (ret := none) (by decide) rfl ?_
  intro p e s m args below meth c s₁ B hml hv
  obtain ⟨rfl, hsz, hP, hK, hD0⟩ := hv
  have hx := B.exec
  have hb := B.bytes
  have hr := B.returns
  have hts := atoms_spec (ws := ws_ yX0_init cX0_init 1 none) B.pre
  have hts : ∀ w ∈ lw_all, w.before _ s = true := fun w h => hts w (List.mem_cons_of_mem _ h)
  have hown : s.vm.findClass RX0 = some m.cls := findClass_of_methodNamed B.named
  have hlocks := B.notSynchronized
  have hin : meth.name = "<init>" := (name_of_methodNamed B.named B.method).1
  subst hsz
  have hD := hD0.self (sz := s.heap.size)
  generalize hAe : va_A [(h0, .inr (0, i0))] s.heap.size = A at hD ⊢
  have hA : ∀ q : Nat, s.heap.size ≤ q → A q := fun q h => by rw [← hAe]; exact Or.inr h
  have hS : va_S A s.heap s.heap [] := va_S.rf
  have hP : va_P D vwCl [(h0, .inr (0, i0))] s.heap := hP
  have hl := lv_entry ([.ref h0]) (n := 1) (Nat.le_of_ble_eq_true rfl)
  rw [lg_entry_eq]
  generalize (lg_sl ([.ref h0]) ++ List.replicate (1 - (lg_sl ([.ref h0])).length) Slot.unset).toArray = ls at hl ⊢
  have hl : lv_has ls 1 [(0, .ref h0)] := hl
  refine lv_aload_n hx hb dX0_init_0 rfl (lv_at hl 0 rfl) ?_
  refine W.objInit hx hb hown (hts _ q26) (hts _ q27) (hts _ q28) rfl (by rw [hml]; exact hl.1) rfl dX0_init_1 (Nat.le_of_ble_eq_true rfl) (Nat.le_of_ble_eq_true rfl) ?_
  refine W.eq (g2 := F0 m 4 ls []) rfl ?_
  refine lv_aload_n hx hb dX0_init_4 rfl (lv_at hl 0 rfl) ?_
  refine lv_bipush (v := nI 8) hx hb dX0_init_5 (by decide +kernel) ?_
  refine va_newa (atype := .short) (a0 := (8, .inl (aN zN))) (n := nI 8) (N' := 8) hx hb (hts _ q57) rfl hK hP hD hS hA (fun _ => rfl) (by decide) (by decide +kernel) (by decide) (Nat.le_of_ble_eq_true rfl) (Nat.le_of_ble_eq_true rfl) dX0_init_7 (fun q1 d1 H hK hP hD hS => ?_)
  have hK : va_K D vwCl [(d1, .short)] s := hK
  have hP : va_P D vwCl [(h0, .inr (0, [.int 0, .null, .null, .null, .int 0, .int 0, .null, .null, .int 0])), (q1, .inl (d1, 8, .inl (aN zN)))] H := hP
  have hD : va_D A [(h0, .inr (0, [.int 0, .null, .null, .null, .int 0, .int 0, .null, .null, .int 0])), (q1, .inl (d1, 8, .inl (aN zN)))] := hD
  refine W.widen (k := 1) (n := 8) (Nat.le_of_ble_eq_true rfl) (Nat.le_of_ble_eq_true rfl) ?_
  refine pF0_1 (w' := [(h0, .inr (0, [.int 0, .ref q1, .null, .null, .int 0, .int 0, .null, .null, .int 0])), (q1, .inl (d1, 8, .inl (aN zN)))]) hx hb hts hown hin hK hP hD hS rfl rfl rfl (Nat.le_of_ble_eq_true rfl) rfl dX0_init_9 (fun H locs hP hD hS => ?_)
  refine lv_aload_n hx hb dX0_init_12 rfl (lv_at hl 0 rfl) ?_
  refine lv_bipush (v := nI 8) hx hb dX0_init_13 (by decide +kernel) ?_
  refine va_newa (atype := .byte) (a0 := (8, .inl (aN zN))) (n := nI 8) (N' := 8) hx hb (hts _ q58) rfl hK hP hD hS hA (fun _ => rfl) (by decide) (by decide +kernel) (by decide) (Nat.le_of_ble_eq_true rfl) (Nat.le_of_ble_eq_true rfl) dX0_init_15 (fun q2 d2 H hK hP hD hS => ?_)
  have hK : va_K D vwCl [(d1, .short), (d2, .byte)] s := hK
  have hP : va_P D vwCl [(h0, .inr (0, [.int 0, .ref q1, .null, .null, .int 0, .int 0, .null, .null, .int 0])), (q1, .inl (d1, 8, .inl (aN zN))), (q2, .inl (d2, 8, .inl (aN zN)))] H := hP
  have hD : va_D A [(h0, .inr (0, [.int 0, .ref q1, .null, .null, .int 0, .int 0, .null, .null, .int 0])), (q1, .inl (d1, 8, .inl (aN zN))), (q2, .inl (d2, 8, .inl (aN zN)))] := hD
  refine W.widen (k := 2) (n := 16) (Nat.le_of_ble_eq_true rfl) (Nat.le_of_ble_eq_true rfl) ?_
  refine pF0_2 (w' := [(h0, .inr (0, [.int 0, .ref q1, .ref q2, .null, .int 0, .int 0, .null, .null, .int 0])), (q1, .inl (d1, 8, .inl (aN zN))), (q2, .inl (d2, 8, .inl (aN zN)))]) hx hb hts hown hin hK hP hD hS rfl rfl rfl (Nat.le_of_ble_eq_true rfl) rfl dX0_init_17 (fun H locs hP hD hS => ?_)
  refine lv_aload_n hx hb dX0_init_20 rfl (lv_at hl 0 rfl) ?_
  refine lv_bipush (v := nI 8) hx hb dX0_init_21 (by decide +kernel) ?_
  refine va_newa (atype := .byte) (a0 := (8, .inl (aN zN))) (n := nI 8) (N' := 8) hx hb (hts _ q58) rfl hK hP hD hS hA (fun _ => rfl) (by decide) (by decide +kernel) (by decide) (Nat.le_of_ble_eq_true rfl) (Nat.le_of_ble_eq_true rfl) dX0_init_23 (fun q3 d3 H hK hP hD hS => ?_)
  have hK : va_K D vwCl [(d1, .short), (d2, .byte), (d3, .byte)] s := hK
  have hP : va_P D vwCl [(h0, .inr (0, [.int 0, .ref q1, .ref q2, .null, .int 0, .int 0, .null, .null, .int 0])), (q1, .inl (d1, 8, .inl (aN zN))), (q2, .inl (d2, 8, .inl (aN zN))), (q3, .inl (d3, 8, .inl (aN zN)))] H := hP
  have hD : va_D A [(h0, .inr (0, [.int 0, .ref q1, .ref q2, .null, .int 0, .int 0, .null, .null, .int 0])), (q1, .inl (d1, 8, .inl (aN zN))), (q2, .inl (d2, 8, .inl (aN zN))), (q3, .inl (d3, 8, .inl (aN zN)))] := hD
  refine W.widen (k := 3) (n := 24) (Nat.le_of_ble_eq_true rfl) (Nat.le_of_ble_eq_true rfl) ?_
  refine pF0_3 (w' := [(h0, .inr (0, [.int 0, .ref q1, .ref q2, .ref q3, .int 0, .int 0, .null, .null, .int 0])), (q1, .inl (d1, 8, .inl (aN zN))), (q2, .inl (d2, 8, .inl (aN zN))), (q3, .inl (d3, 8, .inl (aN zN)))]) hx hb hts hown hin hK hP hD hS rfl rfl rfl (Nat.le_of_ble_eq_true rfl) rfl dX0_init_25 (fun H locs hP hD hS => ?_)
  refine lv_aload_n hx hb dX0_init_28 rfl (lv_at hl 0 rfl) ?_
  refine lv_sipush (v := nI 1280) hx hb dX0_init_29 (by decide +kernel) ?_
  refine va_newa (atype := .int) (a0 := (1280, .inl (aN zN))) (n := nI 1280) (N' := 1280) hx hb (hts _ q59) rfl hK hP hD hS hA (fun _ => rfl) (by decide) (by decide +kernel) (by decide) (Nat.le_of_ble_eq_true rfl) (Nat.le_of_ble_eq_true rfl) dX0_init_32 (fun q4 d4 H hK hP hD hS => ?_)
  have hK : va_K D vwCl [(d1, .short), (d2, .byte), (d3, .byte), (d4, .int)] s := hK
  have hP : va_P D vwCl [(h0, .inr (0, [.int 0, .ref q1, .ref q2, .ref q3, .int 0, .int 0, .null, .null, .int 0])), (q1, .inl (d1, 8, .inl (aN zN))), (q2, .inl (d2, 8, .inl (aN zN))), (q3, .inl (d3, 8, .inl (aN zN))), (q4, .inl (d4, 1280, .inl (aN zN)))] H := hP
  have hD : va_D A [(h0, .inr (0, [.int 0, .ref q1, .ref q2, .ref q3, .int 0, .int 0, .null, .null, .int 0])), (q1, .inl (d1, 8, .inl (aN zN))), (q2, .inl (d2, 8, .inl (aN zN))), (q3, .inl (d3, 8, .inl (aN zN))), (q4, .inl (d4, 1280, .inl (aN zN)))] := hD
  refine W.widen (k := 4) (n := 1304) (Nat.le_of_ble_eq_true rfl) (Nat.le_of_ble_eq_true rfl) ?_
  refine pF0_6 (w' := [(h0, .inr (0, [.int 0, .ref q1, .ref q2, .ref q3, .int 0, .int 0, .ref q4, .null, .int 0])), (q1, .inl (d1, 8, .inl (aN zN))), (q2, .inl (d2, 8, .inl (aN zN))), (q3, .inl (d3, 8, .inl (aN zN))), (q4, .inl (d4, 1280, .inl (aN zN)))]) hx hb hts hown hin hK hP hD hS rfl rfl rfl (Nat.le_of_ble_eq_true rfl) rfl dX0_init_34 (fun H locs hP hD hS => ?_)
  refine lv_aload_n hx hb dX0_init_37 rfl (lv_at hl 0 rfl) ?_
  refine lv_sipush (v := nI 1280) hx hb dX0_init_38 (by decide +kernel) ?_
  refine va_newa (atype := .int) (a0 := (1280, .inl (aN zN))) (n := nI 1280) (N' := 1280) hx hb (hts _ q59) rfl hK hP hD hS hA (fun _ => rfl) (by decide) (by decide +kernel) (by decide) (Nat.le_of_ble_eq_true rfl) (Nat.le_of_ble_eq_true rfl) dX0_init_41 (fun q5 d5 H hK hP hD hS => ?_)
  have hK : va_K D vwCl [(d1, .short), (d2, .byte), (d3, .byte), (d4, .int), (d5, .int)] s := hK
  have hP : va_P D vwCl [(h0, .inr (0, [.int 0, .ref q1, .ref q2, .ref q3, .int 0, .int 0, .ref q4, .null, .int 0])), (q1, .inl (d1, 8, .inl (aN zN))), (q2, .inl (d2, 8, .inl (aN zN))), (q3, .inl (d3, 8, .inl (aN zN))), (q4, .inl (d4, 1280, .inl (aN zN))), (q5, .inl (d5, 1280, .inl (aN zN)))] H := hP
  have hD : va_D A [(h0, .inr (0, [.int 0, .ref q1, .ref q2, .ref q3, .int 0, .int 0, .ref q4, .null, .int 0])), (q1, .inl (d1, 8, .inl (aN zN))), (q2, .inl (d2, 8, .inl (aN zN))), (q3, .inl (d3, 8, .inl (aN zN))), (q4, .inl (d4, 1280, .inl (aN zN))), (q5, .inl (d5, 1280, .inl (aN zN)))] := hD
  refine W.widen (k := 5) (n := 2584) (Nat.le_of_ble_eq_true rfl) (Nat.le_of_ble_eq_true rfl) ?_
  refine pF0_7 (w' := [(h0, .inr (0, [.int 0, .ref q1, .ref q2, .ref q3, .int 0, .int 0, .ref q4, .ref q5, .int 0])), (q1, .inl (d1, 8, .inl (aN zN))), (q2, .inl (d2, 8, .inl (aN zN))), (q3, .inl (d3, 8, .inl (aN zN))), (q4, .inl (d4, 1280, .inl (aN zN))), (q5, .inl (d5, 1280, .inl (aN zN)))]) hx hb hts hown hin hK hP hD hS rfl rfl rfl (Nat.le_of_ble_eq_true rfl) rfl dX0_init_43 (fun H locs hP hD hS => ?_)
  have hP9 : va_P D vwCl (w0z (fun k => match k with | 0 => h0 | 1 => q1 | 2 => q2 | 3 => q3 | 4 => q4 | _ => q5) (fun k => match k with | 1 => d1 | 2 => d2 | 3 => d3 | 4 => d4 | _ => d5)) H := hP
  have hK9 : va_K D vwCl (t0 (fun k => match k with | 1 => d1 | 2 => d2 | 3 => d3 | 4 => d4 | _ => d5)) s := hK
  have hD9 : va_D A (w0z (fun k => match k with | 0 => h0 | 1 => q1 | 2 => q2 | 3 => q3 | 4 => q4 | _ => q5) (fun k => match k with | 1 => d1 | 2 => d2 | 3 => d3 | 4 => d4 | _ => d5)) := hD
  exact W.vret hx hb hr (fun t ht hW => ⟨⟨((fun k => match k with | 0 => h0 | 1 => q1 | 2 => q2 | 3 => q3 | 4 => q4 | _ => q5), (fun k => match k with | 1 => d1 | 2 => d2 | 3 => d3 | 4 => d4 | _ => d5)), rfl, rfl, by show va_P D vwCl (w0z (fun k => match k with | 0 => h0 | 1 => q1 | 2 => q2 | 3 => q3 | 4 => q4 | _ => q5) (fun k => match k with | 1 => d1 | 2 => d2 | 3 => d3 | 4 => d4 | _ => d5)) t.heap; rw [ht]; exact hP9, va_K.moved hW.alike hK9, hD9⟩, hS.F ht⟩) hS.2.2 dX0_init_46
set_option maxHeartbeats 1000000 in
set_option maxRecDepth 100000 in
/-- the constructor of class 1: 4 arrays of zeros -/
theorem mX1_init (l : Launch) (D : va_G) (h0 sz : Nat) : Met l yX1_init (ws_ yX1_init cX1_init 1 none) ({ frames := 1, cells := 4, slots := 280, locals := 20 }) (va_Pc [.ref h0] (fun U => U.heap.size = sz ∧ va_P D vwCl [(h0, .inr (1, i1))] U.heap ∧ va_K D vwCl [] U ∧ va_D (fun _ => True) [(h0, .inr (1, i1))])) (va_Qv (fun u : (Nat → Nat) × (Nat → ClassId) => u.1 0 = h0) (fun u t => va_P D vwCl (w1z u.1 u.2) t.heap ∧ va_K D vwCl (t1 u.2) t ∧ va_D (va_A [(h0, .inr (1, i1))] sz) (w1z u.1 u.2)) (va_A [(h0, .inr (1, i1))] sz)) 4 280 (va_A [(h0, .inr (1, i1))] sz) := by
  refine Met.ofW (cc := cX1_init) (maxL := 1) (ret := none) (by decide) rfl ?_
  intro p e s m args below meth c s₁ B hml hv
  obtain ⟨rfl, hsz, hP, hK, hD0⟩ := hv
  have hx := B.exec
  have hb := B.bytes
  have hr := B.returns
  have hts := atoms_spec (ws := ws_ yX1_init cX1_init 1 none) B.pre
  have hts : ∀ w ∈ lw_all, w.before _ s = true := fun w h => hts w (List.mem_cons_of_mem _ h)
  have hown : s.vm.findClass RX1 = some m.cls := findClass_of_methodNamed B.named
  have hlocks := B.notSynchronized
  have hin : meth.name = "<init>" := (name_of_methodNamed B.named B.method).1
  subst hsz
  have hD := hD0.self (sz := s.heap.size)
  generalize hAe : va_A [(h0, .inr (1, i1))] s.heap.size = A at hD ⊢
  have hA : ∀ q : Nat, s.heap.size ≤ q → A q := fun q h => by rw [← hAe]; exact Or.inr h
  have hS : va_S A s.heap s.heap [] := va_S.rf
  have hP : va_P D vwCl [(h0, .inr (1, i1))] s.heap := hP
  have hl := lv_entry ([.ref h0]) (n := 1) (Nat.le_of_ble_eq_true rfl)
  rw [lg_entry_eq]
  generalize (lg_sl ([.ref h0]) ++ List.replicate (1 - (lg_sl ([.ref h0])).length) Slot.unset).toArray = ls at hl ⊢
  have hl : lv_has ls 1 [(0, .ref h0)] := hl
  refine lv_aload_n hx hb dX1_init_0 rfl (lv_at hl 0 rfl) ?_
  refine W.objInit hx hb hown (hts _ q173) (hts _ q27) (hts _ q28) rfl (by rw [hml]; exact hl.1) rfl dX1_init_1 (Nat.le_of_ble_eq_true rfl) (Nat.le_of_ble_eq_true rfl) ?_
  refine W.eq (g2 := F0 m 4 ls []) rfl ?_
  refine lv_aload_n hx hb dX1_init_4 rfl (lv_at hl 0 rfl) ?_
  refine lv_bipush (v := nI 8) hx hb dX1_init_5 (by decide +kernel) ?_
  refine va_newa (atype := .int) (a0 := (8, .inl (aN zN))) (n := nI 8) (N' := 8) hx hb (hts _ q59) rfl hK hP hD hS hA (fun _ => rfl) (by decide) (by decide +kernel) (by decide) (Nat.le_of_ble_eq_true rfl) (Nat.le_of_ble_eq_true rfl) dX1_init_7 (fun q1 d1 H hK hP hD hS => ?_)
  have hK : va_K D vwCl [(d1, .int)] s := hK
  have hP : va_P D vwCl [(h0, .inr (1, [.null, .null, .null, .int 0, .null])), (q1, .inl (d1, 8, .inl (aN zN)))] H := hP
  have hD : va_D A [(h0, .inr (1, [.null, .null, .null, .int 0, .null])), (q1, .inl (d1, 8, .inl (aN zN)))] := hD
  refine W.widen (k := 1) (n := 8) (Nat.le_of_ble_eq_true rfl) (Nat.le_of_ble_eq_true rfl) ?_
  refine pf1_0 (w' := [(h0, .inr (1, [.ref q1, .null, .null, .int 0, .null])), (q1, .inl (d1, 8, .inl (aN zN)))]) hx hb hts hown hK hP hD hS rfl rfl rfl (Nat.le_of_ble_eq_true rfl) rfl dX1_init_9 (fun H locs hP hD hS => ?_)
  refine lv_aload_n hx hb dX1_init_12 rfl (lv_at hl 0 rfl) ?_
  refine lv_bipush (v := nI 8) hx hb dX1_init_13 (by decide +kernel) ?_
  refine va_newa (atype := .int) (a0 := (8, .inl (aN zN))) (n := nI 8) (N' := 8) hx hb (hts _ q59) rfl hK hP hD hS hA (fun _ => rfl) (by decide) (by decide +kernel) (by decide) (Nat.le_of_ble_eq_true rfl) (Nat.le_of_ble_eq_true rfl) dX1_init_15 (fun q2 d2 H hK hP hD hS => ?_)
  have hK : va_K D vwCl [(d1, .int), (d2, .int)] s := hK
  have hP : va_P D vwCl [(h0, .inr (1, [.ref q1, .null, .null, .int 0, .null])), (q1, .inl (d1, 8, .inl (aN zN))), (q2, .inl (d2, 8, .inl (aN zN)))] H := hP
  have hD : va_D A [(h0, .inr (1, [.ref q1, .null, .null, .int 0, .null])), (q1, .inl (d1, 8, .inl (aN zN))), (q2, .inl (d2, 8, .inl (aN zN)))] := hD
  refine W.widen (k := 2) (n := 16) (Nat.le_of_ble_eq_true rfl) (Nat.le_of_ble_eq_true rfl) ?_
  refine pf1_1 (w' := [(h0, .inr (1, [.ref q1, .ref q2, .null, .int 0, .null])), (q1, .inl (d1, 8, .inl (aN zN))), (q2, .inl (d2, 8, .inl (aN zN)))]) hx hb hts hown hK hP hD hS rfl rfl rfl (Nat.le_of_ble_eq_true rfl) rfl dX1_init_17 (fun H locs hP hD hS => ?_)
  refine lv_aload_n hx hb dX1_init_20 rfl (lv_at hl 0 rfl) ?_
  refine lv_bipush (v := nI 8) hx hb dX1_init_21 (by decide +kernel) ?_
  refine va_newa (atype := .int) (a0 := (8, .inl (aN zN))) (n := nI 8) (N' := 8) hx hb (hts _ q59) rfl hK hP hD hS hA (fun _ => rfl) (by decide) (by decide +kernel) (by decide) (Nat.le_of_ble_eq_true rfl) (Nat.le_of_ble_eq_true rfl) dX1_init_23 (fun q3 d3 H hK hP hD hS => ?_)
  have hK : va_K D vwCl [(d1, .int), (d2, .int), (d3, .int)] s := hK
  have hP : va_P D vwCl [(h0, .inr (1, [.ref q1, .ref q2, .null, .int 0, .null])), (q1, .inl (d1, 8, .inl (aN zN))), (q2, .inl (d2, 8, .inl (aN zN))), (q3, .inl (d3, 8, .inl (aN zN)))] H := hP
  have hD : va_D A [(h0, .inr (1, [.ref q1, .ref q2, .null, .int 0, .null])), (q1, .inl (d1, 8, .inl (aN zN))), (q2, .inl (d2, 8, .inl (aN zN))), (q3, .inl (d3, 8, .inl (aN zN)))] := hD
  refine W.widen (k := 3) (n := 24) (Nat.le_of_ble_eq_true rfl) (Nat.le_of_ble_eq_true rfl) ?_
  refine pf1_2 (w' := [(h0, .inr (1, [.ref q1, .ref q2, .ref q3, .int 0, .null])), (q1, .inl (d1, 8, .inl (aN zN))), (q2, .inl (d2, 8, .inl (aN zN))), (q3, .inl (d3, 8, .inl (aN zN)))]) hx hb hts hown hK hP hD hS rfl rfl rfl (Nat.le_of_ble_eq_true rfl) rfl dX1_init_25 (fun H locs hP hD hS => ?_)
  refine lv_aload_n hx hb dX1_init_28 rfl (lv_at hl 0 rfl) ?_
  refine lv_sipush (v := nI 256) hx hb dX1_init_29 (by decide +kernel) ?_
  refine va_newa (atype := .boolean) (a0 := (256, .inl (aN zN))) (n := nI 256) (N' := 256) hx hb (hts _ q190) rfl hK hP hD hS hA (fun _ => rfl) (by decide) (by decide +kernel) (by decide) (Nat.le_of_ble_eq_true rfl) (Nat.le_of_ble_eq_true rfl) dX1_init_32 (fun q4 d4 H hK hP hD hS => ?_)
  have hK : va_K D vwCl [(d1, .int), (d2, .int), (d3, .int), (d4, .boolean)] s := hK
  have hP : va_P D vwCl [(h0, .inr (1, [.ref q1, .ref q2, .ref q3, .int 0, .null])), (q1, .inl (d1, 8, .inl (aN zN))), (q2, .inl (d2, 8, .inl (aN zN))), (q3, .inl (d3, 8, .inl (aN zN))), (q4, .inl (d4, 256, .inl (aN zN)))] H := hP
  have hD : va_D A [(h0, .inr (1, [.ref q1, .ref q2, .ref q3, .int 0, .null])), (q1, .inl (d1, 8, .inl (aN zN))), (q2, .inl (d2, 8, .inl (aN zN))), (q3, .inl (d3, 8, .inl (aN zN))), (q4, .inl (d4, 256, .inl (aN zN)))] := hD
  refine W.widen (k := 4) (n := 280) (Nat.le_of_ble_eq_true rfl) (Nat.le_of_ble_eq_true rfl) ?_
  refine pf1_4 (w' := [(h0, .inr (1, [.ref q1, .ref q2, .ref q3, .int 0, .ref q4])), (q1, .inl (d1, 8, .inl (aN zN))), (q2, .inl (d2, 8, .inl (aN zN))), (q3, .inl (d3, 8, .inl (aN zN))), (q4, .inl (d4, 256, .inl (aN zN)))]) hx hb hts hown hK hP hD hS rfl rfl rfl (Nat.le_of_ble_eq_true rfl) rfl dX1_init_34 (fun H locs hP hD hS => ?_)
  have hP9 : va_P D vwCl (w1z (fun k => match k with | 0 => h0 | 1 => q1 | 2 => q2 | 3 => q3 | _ => q4) (fun k => match k with | 1 => d1 | 2 => d2 | 3 => d3 | _ => d4)) H := hP
  have hK9 : va_K D vwCl (t1 (fun k => match k with | 1 => d1 | 2 => d2 | 3 => d3 | _ => d4)) s := hK
  have hD9 : va_D A (w1z (fun k => match k with | 0 => h0 | 1 => q1 | 2 => q2 | 3 => q3 | _ => q4) (fun k => match k with | 1 => d1 | 2 => d2 | 3 => d3 | _ => d4)) := hD
  exact W.vret hx hb hr (fun t ht hW => ⟨⟨((fun k => match k with | 0 => h0 | 1 => q1 | 2 => q2 | 3 => q3 | _ => q4), (fun k => match k with | 1 => d1 | 2 => d2 | 3 => d3 | _ => d4)), rfl, rfl, by show va_P D vwCl (w1z (fun k => match k with | 0 => h0 | 1 => q1 | 2 => q2 | 3 => q3 | _ => q4) (fun k => match k with | 1 => d1 | 2 => d2 | 3 => d3 | _ => d4)) t.heap; rw [ht]; exact hP9, va_K.moved hW.alike hK9, hD9⟩, hS.F ht⟩) hS.2.2 dX1_init_37
end
section
set_option maxRecDepth 100000
/-! the law: its invariant and its rows -/
/-- the class's state and the reference's -/
def Inv (P : Nat) (B K A : Nat → Nat) (S : Nat) (M : Nat → Nat) : Prop := P < 256 ∧ (∀ b, B b < 256) ∧ (∀ b, K b < 4) ∧ (∀ b, A b ≤ 50) ∧ S < 256 ∧ (∀ b, M b = if P.testBit b = true then B b else 0) ∧ ∀ b, P.testBit b = true → 0 < B b
theorem inv_M8 {P : Nat} {B K A : Nat → Nat} {S : Nat} {M : Nat → Nat} (hI : Inv P B K A S M) : ∀ b, M b < 256 := by
  intro b
  rw [hI.2.2.2.2.2.1 b]
  split
  · exact hI.2.1 b
  · decide
theorem frm_eq {P : Nat} {B K A : Nat → Nat} {S : Nat} {M : Nat → Nat} (hI : Inv P B K A S M) : frm M = fre P := by
  refine ff_cong (fun j => ?_) 8 0
  have h := M_pos hI.2.2.2.2.2.1 hI.2.2.2.2.2.2 j
  cases hp : P.testBit j with
  | true => rw [decide_eq_false (by have := h.mpr hp; omega)]; rfl
  | false => rw [decide_eq_true (by rcases Nat.eq_zero_or_pos (M j) with z | z; exact z; rw [h.mp z] at hp; cases hp)]; rfl
theorem isb_eq {P : Nat} {B K A : Nat → Nat} {S : Nat} {M : Nat → Nat} (hI : Inv P B K A S M) (x : Int32) : isb M x = hasb P x := by
  unfold isb hasb
  have h := M_pos hI.2.2.2.2.2.1 hI.2.2.2.2.2.2 x.toNatClampNeg
  cases hp : P.testBit x.toNatClampNeg with
  | true => rw [decide_eq_true (h.mpr hp)]
  | false => rw [decide_eq_false (fun z => by rw [h.mp z] at hp; cases hp)]
theorem inv_0 : Inv 0 zN zN zN 0 zN := ⟨by decide, fun _ => (by decide : 0 < 256), fun _ => (by decide : 0 < 4), fun _ => (by decide : 0 ≤ 50), by decide, fun b => by rw [Nat.zero_testBit]; rfl, fun b h => by rw [Nat.zero_testBit] at h; cases h⟩
theorem inv_bid {P : Nat} {B K A : Nat → Nat} {S : Nat} {M : Nat → Nat} {b0 bu k a : Nat} (hI : Inv P B K A S M) (h0 : b0 < 8) (hb1 : 1 ≤ bu) (hb2 : bu < 256) (hk : k < 4) (ha : a ≤ 50) : Inv (P ||| 2 ^ b0) (uN B b0 bu) (uN K b0 k) (uN A b0 a) S (uN M b0 bu) := by
  obtain ⟨h1, h2, h3, h4, h5, h6, h7⟩ := hI
  refine ⟨or_lt256 h1 (two_lt256 h0), fun b => ?_, fun b => ?_, fun b => ?_, h5, fun b => ?_, fun b hb => ?_⟩
  · unfold uN; split
    · exact hb2
    · exact h2 b
  · unfold uN; split
    · exact hk
    · exact h3 b
  · unfold uN; split
    · exact ha
    · exact h4 b
  · rw [or_two]
    by_cases e : b = b0
    · subst e; rw [uN_s, uN_s]; simp
    · rw [uN_n e, uN_n e, decide_eq_false e, Bool.or_false]; exact h6 b
  · rw [or_two] at hb
    by_cases e : b = b0
    · subst e; rw [uN_s]; omega
    · rw [uN_n e]; rw [decide_eq_false e, Bool.or_false] at hb; exact h7 b hb
theorem inv_ret {P : Nat} {B K A : Nat → Nat} {S : Nat} {M : Nat → Nat} {j : Nat} (hI : Inv P B K A S M) : Inv (nd P (2 ^ j)) B K A S (uN M j 0) := by
  obtain ⟨h1, h2, h3, h4, h5, h6, h7⟩ := hI
  refine ⟨nd_lt h1, h2, h3, h4, h5, fun b => ?_, fun b hb => ?_⟩
  · rw [nd_two]
    by_cases e : b = j
    · subst e; rw [uN_s]; simp
    · rw [uN_n e, decide_eq_false e, Bool.not_false, Bool.and_true]; exact h6 b
  · rw [nd_two, Bool.and_eq_true] at hb
    exact h7 b hb.1
theorem inv_raise {P : Nat} {B K A : Nat → Nat} {S : Nat} {M : Nat → Nat} {j a : Nat} (hI : Inv P B K A S M) (ha : a ≤ 50) : Inv P B K (uN A j a) S M :=
  ⟨hI.1, hI.2.1, hI.2.2.1, uN_le hI.2.2.2.1 ha, hI.2.2.2.2⟩
theorem inv_S {P : Nat} {B K A : Nat → Nat} {S S2 : Nat} {M : Nat → Nat} (hI : Inv P B K A S M) (h : S2 < 256) : Inv P B K A S2 M :=
  ⟨hI.1, hI.2.1, hI.2.2.1, hI.2.2.2.1, h, hI.2.2.2.2.2⟩
theorem amt_nat {z : Int32} (h1 : ¬ z < nI 1) (h2 : z ≤ nI 50) : ∃ a, 1 ≤ a ∧ a ≤ 50 ∧ z = nI a := by
  have h0 : ¬ z < 0 := fun q => h1 (by rw [Int32.lt_iff_toInt_lt] at q ⊢; rw [nI_toInt (by decide)]; rw [Int32.toInt_zero] at q; omega)
  obtain ⟨a, ha, rfl⟩ := nI_of h0
  have e1 := (nI_leI ha (by decide)).mp h2
  have e2 : ¬ a < 1 := fun q => h1 ((nI_ltI ha (by decide)).mpr q)
  exact ⟨a, by omega, e1, rfl⟩
theorem bok_nat {x y z : Int32} (hq : bok x y z) : ∃ bu k a, x = nI bu ∧ y = nI k ∧ z = nI a ∧ 1 ≤ bu ∧ bu < 256 ∧ k < 4 ∧ 1 ≤ a ∧ a ≤ 50 := by
  obtain ⟨h1, h2, h3, h4, h5⟩ := hq
  obtain ⟨k, hk, ek⟩ := inr_of (by decide) h3
  obtain ⟨a, ha1, ha2, ea⟩ := amt_nat h4 h5
  have h0 : ¬ x < 0 := fun q => h1 (by rw [Int32.lt_iff_toInt_lt] at q ⊢; rw [nI_toInt (by decide)]; rw [Int32.toInt_zero] at q; omega)
  obtain ⟨bu, hbu, rfl⟩ := nI_of h0
  have e1 : ¬ bu < 1 := fun q => h1 ((nI_ltI hbu (by decide)).mpr q)
  have e2 : ¬ 256 ≤ bu := fun q => h2 ((nI_leI (by decide) hbu).mpr q)
  exact ⟨bu, k, a, rfl, ek, ea, by omega, by omega, hk, ha1, ha2⟩
theorem ks_no {P : Nat} {B K A : Nat → Nat} {S : Nat} {be on : Nat → Int32} {wi : Int32} : KS P B K A S false be on wi := fun z => by cases z
theorem lw_cmp {n i : Nat} (hn : n < 2 ^ 30) (hi : i < 2 ^ 30) : nI n - nI 4 < nI i ↔ n < i + 4 := by
  rw [Int32.lt_iff_toInt_lt, pk_sub_toInt hn (by decide), nI_toInt (by omega)]
  omega
theorem w1_dis {X : List Nat} {g : Nat → Nat} {d2 : Nat → ClassId} {M K A : Nat → Nat} {S : Nat} {fi : Nat → Int32} (hd : ∀ a ∈ as1 g, a ∉ X) : ∀ q ∈ w1 g d2 M K A S fi, q.1 ∉ X := fun q hq => hd q.1 (List.mem_map.mpr ⟨q, hq, rfl⟩ : q.1 ∈ (w1 g d2 M K A S fi).map Prod.fst)
theorem w0_dis {X : List Nat} {h : Nat → Nat} {d : Nat → ClassId} {P : Nat} {B K A : Nat → Nat} {S : Nat} {kn : Bool} {be on : Nat → Int32} {wi : Int32} (hd : ∀ a ∈ as0 h, a ∉ X) : ∀ q ∈ w0 h d P B K A S kn be on wi, q.1 ∉ X := fun q hq => hd q.1 (List.mem_map.mpr ⟨q, hq, rfl⟩ : q.1 ∈ (w0 h d P B K A S kn be on wi).map Prod.fst)
/-- the two objects' cells: their classes, apart from each other, new since the start -/
def LC (s : State) (D : va_G) (h : Nat → Nat) (d : Nat → ClassId) (g : Nat → Nat) (d2 : Nat → ClassId) : Prop := va_K D vwCl (t0 d) s ∧ va_K D vwCl (t1 d2) s ∧ (∀ q ∈ as0 h, s.heap.size ≤ q) ∧ (∀ q ∈ as1 g, s.heap.size ≤ q) ∧ (∀ a ∈ as1 g, a ∉ as0 h) ∧ (∀ a ∈ as0 h, a ∉ as1 g) ∧ va_D (fun q => q ∈ as0 h) (w0z h d) ∧ va_D (fun q => q ∈ as1 g) (w1z g d2)
abbrev LW (p : Program) (l : Launch) (e : Env) (s : State) (m : MethodId) (b : Nat) (below : List Frame) (meth : Method) (c : Code) (H : Heap) (locs : List Loc) (pc : Nat) (ls : Array Slot) (st : List Value) : Prop :=
  W p l e room_1 s m #[Value.ref b] below meth c H locs 600000 7290000 (lw_Z below #[Value.ref b] s) (F0 m pc ls st)
/-- the loop's end, from every state that agrees -/
abbrev LN (p : Program) (l : Launch) (e : Env) (s : State) (m : MethodId) (b : Nat) (below : List Frame) (meth : Method) (c : Code) (D : va_G) (h : Nat → Nat) (d : Nat → ClassId) (g : Nat → Nat) (d2 : Nat → ClassId) (ls : Array Slot) : Prop :=
  ∀ (P : Nat) (B K A : Nat → Nat) (S : Nat) (kn : Bool) (be on : Nat → Int32) (wi : Int32) (M : Nat → Nat) (fi : Nat → Int32) (H : Heap) (locs : List Loc), Inv P B K A S M → KS P B K A S kn be on wi → va_P D vwCl (w0 h d P B K A S kn be on wi) H → va_P D vwCl (w1 g d2 M K A S fi) H → va_S (fun q : Nat => s.heap.size ≤ q) s.heap H locs → LW p l e s m b below meth c H locs 459 ls []
section LWS
variable {p : Program} {l : Launch} {e : Env} {R : Room} {s : State} {m : MethodId} {args : Array Value} {below : List Frame} {meth : Method} {c : Code} {H : Heap} {locs : List Loc} {cells slots : Nat} {Q : State → Prop} {cc : ByteArray} {pc : Nat} {ls : Array Slot} {rest : List Value} {b L : Nat} {xs : Nat → Int32}
theorem sl_N (hx : p.tables.exec = Jvm.exec) (hb : c.code = cc) (hX : va_X b L xs s s.heap) (hbl : b < s.heap.size) (hS : va_S (fun q : Nat => s.heap.size ≤ q) s.heap H locs) (hL : L ≤ 256) {j : Nat} (hj : j < L) (hdg : decode cc pc = .ok (.iaload, 1)) (kk : W p l e R s m args below meth c H locs cells slots Q (F0 m (pc + 1) ls (.int (xs j) :: rest))) : W p l e R s m args below meth c H locs cells slots Q (F0 m pc ls (.int (nI j) :: .ref b :: rest)) := by
  refine va_sld hx hb hX hbl (Nat.not_le.mpr hbl) hS (vp_in_nI hj (by omega)) hdg ?_
  rw [nI_clamp (by omega)]
  exact kk
end LWS
end
section
set_option maxRecDepth 100000
section LCA
variable {p : Program} {l : Launch} {e : Env} {s : State} {m : MethodId} {below : List Frame} {meth : Method} {c : Code} {b L i : Nat} {xs : Nat → Int32} {D : va_G} {h g : Nat → Nat} {d d2 : Nat → ClassId} {P : Nat} {B K A : Nat → Nat} {S : Nat} {kn : Bool} {be on : Nat → Int32} {wi : Int32} {M : Nat → Nat} {fi : Nat → Int32} {H : Heap} {locs : List Loc} {ls : Array Slot}
set_option maxHeartbeats 1000000 in
set_option maxRecDepth 100000 in
/-- the law: bid -/
theorem law_bid (hL : L ≤ 256) (C0 : lw_At p s m meth c b L xs) (hC : LC s D h d g d2) (hi : i + 4 ≤ L) (hI : Inv P B K A S M) (hKs : KS P B K A S kn be on wi) (hP0 : va_P D vwCl (w0 h d P B K A S kn be on wi) H) (hP1 : va_P D vwCl (w1 g d2 M K A S fi) H) (hS : va_S (fun q : Nat => s.heap.size ≤ q) s.heap H locs) (hl : lv_has ls 4 [(0, .ref b), (1, .ref (h 0)), (2, .ref (g 0)), (3, .int (nI i))]) (next : LN p l e s m b below meth c D h d g d2 ls) : LW p l e s m b below meth c H locs 108 ls [] := by
  obtain ⟨hx, hb, hr, hml, hown, hts, hX, hbl, hlocks, hgv⟩ := C0
  have hta : ∀ w ∈ lw_all, w.before #[Value.ref b] s = true := fun w hw => hts w (lw_all_tbl hw)
  obtain ⟨hK0, hK1, hA0, hA1, hd10, hd01, hD0, hD1⟩ := hC
  obtain ⟨hP8, hB8, hK4, hA50, hS8, hM, hB1⟩ := id hI
  have hM8 := inv_M8 hI
  by_cases hok : bok (xs (i + 1)) (xs (i + 2)) (xs (i + 3))
  · obtain ⟨bu, k, a, e1, e2, e3, hb1, hb2, hk, ha1, ha2⟩ := bok_nat hok
    cases hfr : fre P with
    | none =>
      refine lv_aload_n hx hb dL_law_108 rfl (lv_at hl 1 rfl) ?_
      refine lv_aload_n hx hb dL_law_109 rfl (lv_at hl 0 rfl) ?_
      refine lv_iload_n hx hb dL_law_110 rfl (lv_at hl 3 rfl) ?_
      refine lv_iconst (v := nI 1) hx hb dL_law_111 (by decide +kernel) ?_
      refine ia_N hx hb dL_law_112 ?_
      refine sl_N hx hb hX hbl hS hL (by omega) dL_law_113 ?_
      refine rtq e1 ?_
      refine lv_aload_n hx hb dL_law_114 rfl (lv_at hl 0 rfl) ?_
      refine lv_iload_n hx hb dL_law_115 rfl (lv_at hl 3 rfl) ?_
      refine lv_iconst (v := nI 2) hx hb dL_law_116 (by decide +kernel) ?_
      refine ia_N hx hb dL_law_117 ?_
      refine sl_N hx hb hX hbl hS hL (by omega) dL_law_118 ?_
      refine rtq e2 ?_
      refine lv_aload_n hx hb dL_law_119 rfl (lv_at hl 0 rfl) ?_
      refine lv_iload_n hx hb dL_law_120 rfl (lv_at hl 3 rfl) ?_
      refine lv_iconst (v := nI 3) hx hb dL_law_121 (by decide +kernel) ?_
      refine ia_N hx hb dL_law_122 ?_
      refine sl_N hx hb hX hbl hS hL (by omega) dL_law_123 ?_
      refine rtq e3 ?_
      refine ro_V (ci := 0) (q0 := 0) (rest := []) ⟨hx, hb, hml, hown, hta⟩ (mX0_bid_full hP8 hb1 hb2 hk ha1 ha2 hfr) gLX0_bid hdX0_bid ⟨Nat.le_of_ble_eq_true rfl, Nat.le_of_ble_eq_true rfl⟩ hK0 hP0 rfl rfl rfl rfl hl.1 rfl (Nat.le_of_ble_eq_true rfl) dL_law_124 ⟨Nat.le_of_ble_eq_true rfl, Nat.le_of_ble_eq_true rfl⟩ ?_
      refine lv_aload_n hx hb dL_law_127 rfl (lv_at hl 2 rfl) ?_
      refine lv_aload_n hx hb dL_law_128 rfl (lv_at hl 0 rfl) ?_
      refine lv_iload_n hx hb dL_law_129 rfl (lv_at hl 3 rfl) ?_
      refine lv_iconst (v := nI 1) hx hb dL_law_130 (by decide +kernel) ?_
      refine ia_N hx hb dL_law_131 ?_
      refine sl_N hx hb hX hbl hS hL (by omega) dL_law_132 ?_
      refine rtq e1 ?_
      refine lv_aload_n hx hb dL_law_133 rfl (lv_at hl 0 rfl) ?_
      refine lv_iload_n hx hb dL_law_134 rfl (lv_at hl 3 rfl) ?_
      refine lv_iconst (v := nI 2) hx hb dL_law_135 (by decide +kernel) ?_
      refine ia_N hx hb dL_law_136 ?_
      refine sl_N hx hb hX hbl hS hL (by omega) dL_law_137 ?_
      refine rtq e2 ?_
      refine lv_aload_n hx hb dL_law_138 rfl (lv_at hl 0 rfl) ?_
      refine lv_iload_n hx hb dL_law_139 rfl (lv_at hl 3 rfl) ?_
      refine lv_iconst (v := nI 3) hx hb dL_law_140 (by decide +kernel) ?_
      refine ia_N hx hb dL_law_141 ?_
      refine sl_N hx hb hX hbl hS hL (by omega) dL_law_142 ?_
      refine rtq e3 ?_
      refine ro_V (ci := 1) (q0 := 0) (rest := [.int (-2)]) ⟨hx, hb, hml, hown, hta⟩ (mX1_bid_full hM8 hb1 hb2 hk ha1 ha2 ((frm_eq hI).trans hfr)) gLX1_bid hdX1_bid ⟨Nat.le_of_ble_eq_true rfl, Nat.le_of_ble_eq_true rfl⟩ hK1 hP1 rfl rfl rfl rfl hl.1 rfl (Nat.le_of_ble_eq_true rfl) dL_law_143 ⟨Nat.le_of_ble_eq_true rfl, Nat.le_of_ble_eq_true rfl⟩ ?_
      refine lv_icmp_eq (tgt := 459) hx hb dL_law_146 (by decide) (fun _ => ?_) (fun z => absurd (rfl) z)
      exact next _ _ _ _ _ _ _ _ _ _ _ _ _ (hI) (hKs) hP0 hP1 hS
    | some b0 =>
      have hb0 : b0 < 8 := by have := (ff_some hfr).2.1; omega
      refine lv_aload_n hx hb dL_law_108 rfl (lv_at hl 1 rfl) ?_
      refine lv_aload_n hx hb dL_law_109 rfl (lv_at hl 0 rfl) ?_
      refine lv_iload_n hx hb dL_law_110 rfl (lv_at hl 3 rfl) ?_
      refine lv_iconst (v := nI 1) hx hb dL_law_111 (by decide +kernel) ?_
      refine ia_N hx hb dL_law_112 ?_
      refine sl_N hx hb hX hbl hS hL (by omega) dL_law_113 ?_
      refine rtq e1 ?_
      refine lv_aload_n hx hb dL_law_114 rfl (lv_at hl 0 rfl) ?_
      refine lv_iload_n hx hb dL_law_115 rfl (lv_at hl 3 rfl) ?_
      refine lv_iconst (v := nI 2) hx hb dL_law_116 (by decide +kernel) ?_
      refine ia_N hx hb dL_law_117 ?_
      refine sl_N hx hb hX hbl hS hL (by omega) dL_law_118 ?_
      refine rtq e2 ?_
      refine lv_aload_n hx hb dL_law_119 rfl (lv_at hl 0 rfl) ?_
      refine lv_iload_n hx hb dL_law_120 rfl (lv_at hl 3 rfl) ?_
      refine lv_iconst (v := nI 3) hx hb dL_law_121 (by decide +kernel) ?_
      refine ia_N hx hb dL_law_122 ?_
      refine sl_N hx hb hX hbl hS hL (by omega) dL_law_123 ?_
      refine rtq e3 ?_
      refine wr_V (ci := 0) (q0 := 0) (rest := []) ⟨hx, hb, hml, hown, hta⟩ (mX0_bid_in hP8 hb1 hb2 hk ha1 ha2 hfr) gLX0_bid hdX0_bid ⟨Nat.le_of_ble_eq_true rfl, Nat.le_of_ble_eq_true rfl⟩ hK0 hP0 (va_D.same hD0 rfl) hS hA0 hP1 (w1_dis hd10) rfl rfl rfl rfl hl.1 rfl (Nat.le_of_ble_eq_true rfl) dL_law_124 ⟨Nat.le_of_ble_eq_true rfl, Nat.le_of_ble_eq_true rfl⟩ (fun r u H locs hq hP0 hP1 hS => ?_)
      have hrv : r = nI b0 := hq
      subst hrv
      have hP0 : va_P D vwCl (w0 h d (P ||| 2 ^ b0) (uN B b0 bu) (uN K b0 k) (uN A b0 a) S false be on wi) H := hP0
      refine lv_aload_n hx hb dL_law_127 rfl (lv_at hl 2 rfl) ?_
      refine lv_aload_n hx hb dL_law_128 rfl (lv_at hl 0 rfl) ?_
      refine lv_iload_n hx hb dL_law_129 rfl (lv_at hl 3 rfl) ?_
      refine lv_iconst (v := nI 1) hx hb dL_law_130 (by decide +kernel) ?_
      refine ia_N hx hb dL_law_131 ?_
      refine sl_N hx hb hX hbl hS hL (by omega) dL_law_132 ?_
      refine rtq e1 ?_
      refine lv_aload_n hx hb dL_law_133 rfl (lv_at hl 0 rfl) ?_
      refine lv_iload_n hx hb dL_law_134 rfl (lv_at hl 3 rfl) ?_
      refine lv_iconst (v := nI 2) hx hb dL_law_135 (by decide +kernel) ?_
      refine ia_N hx hb dL_law_136 ?_
      refine sl_N hx hb hX hbl hS hL (by omega) dL_law_137 ?_
      refine rtq e2 ?_
      refine lv_aload_n hx hb dL_law_138 rfl (lv_at hl 0 rfl) ?_
      refine lv_iload_n hx hb dL_law_139 rfl (lv_at hl 3 rfl) ?_
      refine lv_iconst (v := nI 3) hx hb dL_law_140 (by decide +kernel) ?_
      refine ia_N hx hb dL_law_141 ?_
      refine sl_N hx hb hX hbl hS hL (by omega) dL_law_142 ?_
      refine rtq e3 ?_
      refine wr_V (ci := 1) (q0 := 0) (rest := [.int (nI b0)]) ⟨hx, hb, hml, hown, hta⟩ (mX1_bid_in hM8 hb1 hb2 hk ha1 ha2 ((frm_eq hI).trans hfr)) gLX1_bid hdX1_bid ⟨Nat.le_of_ble_eq_true rfl, Nat.le_of_ble_eq_true rfl⟩ hK1 hP1 (va_D.same hD1 rfl) hS hA1 hP0 (w0_dis hd01) rfl rfl rfl rfl hl.1 rfl (Nat.le_of_ble_eq_true rfl) dL_law_143 ⟨Nat.le_of_ble_eq_true rfl, Nat.le_of_ble_eq_true rfl⟩ (fun r u2 H locs hq hP1 hP0 hS => ?_)
      have hrv : r = nI b0 := hq
      subst hrv
      have hP1 : va_P D vwCl (w1 g d2 (uN M b0 bu) (uN K b0 k) (uN A b0 a) S fi) H := hP1
      refine lv_icmp_eq (tgt := 459) hx hb dL_law_146 (by decide) (fun _ => ?_) (fun z => absurd (rfl) z)
      exact next _ _ _ _ _ _ _ _ _ _ _ _ _ (inv_bid hI hb0 hb1 hb2 hk ha2) (ks_no) hP0 hP1 hS
  · refine lv_aload_n hx hb dL_law_108 rfl (lv_at hl 1 rfl) ?_
    refine lv_aload_n hx hb dL_law_109 rfl (lv_at hl 0 rfl) ?_
    refine lv_iload_n hx hb dL_law_110 rfl (lv_at hl 3 rfl) ?_
    refine lv_iconst (v := nI 1) hx hb dL_law_111 (by decide +kernel) ?_
    refine ia_N hx hb dL_law_112 ?_
    refine sl_N hx hb hX hbl hS hL (by omega) dL_law_113 ?_
    refine lv_aload_n hx hb dL_law_114 rfl (lv_at hl 0 rfl) ?_
    refine lv_iload_n hx hb dL_law_115 rfl (lv_at hl 3 rfl) ?_
    refine lv_iconst (v := nI 2) hx hb dL_law_116 (by decide +kernel) ?_
    refine ia_N hx hb dL_law_117 ?_
    refine sl_N hx hb hX hbl hS hL (by omega) dL_law_118 ?_
    refine lv_aload_n hx hb dL_law_119 rfl (lv_at hl 0 rfl) ?_
    refine lv_iload_n hx hb dL_law_120 rfl (lv_at hl 3 rfl) ?_
    refine lv_iconst (v := nI 3) hx hb dL_law_121 (by decide +kernel) ?_
    refine ia_N hx hb dL_law_122 ?_
    refine sl_N hx hb hX hbl hS hL (by omega) dL_law_123 ?_
    refine ro_V (ci := 0) (q0 := 0) (rest := []) ⟨hx, hb, hml, hown, hta⟩ (mX0_bid_bad hok) gLX0_bid hdX0_bid ⟨Nat.le_of_ble_eq_true rfl, Nat.le_of_ble_eq_true rfl⟩ hK0 hP0 rfl rfl rfl rfl hl.1 rfl (Nat.le_of_ble_eq_true rfl) dL_law_124 ⟨Nat.le_of_ble_eq_true rfl, Nat.le_of_ble_eq_true rfl⟩ ?_
    refine lv_aload_n hx hb dL_law_127 rfl (lv_at hl 2 rfl) ?_
    refine lv_aload_n hx hb dL_law_128 rfl (lv_at hl 0 rfl) ?_
    refine lv_iload_n hx hb dL_law_129 rfl (lv_at hl 3 rfl) ?_
    refine lv_iconst (v := nI 1) hx hb dL_law_130 (by decide +kernel) ?_
    refine ia_N hx hb dL_law_131 ?_
    refine sl_N hx hb hX hbl hS hL (by omega) dL_law_132 ?_
    refine lv_aload_n hx hb dL_law_133 rfl (lv_at hl 0 rfl) ?_
    refine lv_iload_n hx hb dL_law_134 rfl (lv_at hl 3 rfl) ?_
    refine lv_iconst (v := nI 2) hx hb dL_law_135 (by decide +kernel) ?_
    refine ia_N hx hb dL_law_136 ?_
    refine sl_N hx hb hX hbl hS hL (by omega) dL_law_137 ?_
    refine lv_aload_n hx hb dL_law_138 rfl (lv_at hl 0 rfl) ?_
    refine lv_iload_n hx hb dL_law_139 rfl (lv_at hl 3 rfl) ?_
    refine lv_iconst (v := nI 3) hx hb dL_law_140 (by decide +kernel) ?_
    refine ia_N hx hb dL_law_141 ?_
    refine sl_N hx hb hX hbl hS hL (by omega) dL_law_142 ?_
    refine ro_V (ci := 1) (q0 := 0) (rest := [.int (-1)]) ⟨hx, hb, hml, hown, hta⟩ (mX1_bid_bad hok) gLX1_bid hdX1_bid ⟨Nat.le_of_ble_eq_true rfl, Nat.le_of_ble_eq_true rfl⟩ hK1 hP1 rfl rfl rfl rfl hl.1 rfl (Nat.le_of_ble_eq_true rfl) dL_law_143 ⟨Nat.le_of_ble_eq_true rfl, Nat.le_of_ble_eq_true rfl⟩ ?_
    refine lv_icmp_eq (tgt := 459) hx hb dL_law_146 (by decide) (fun _ => ?_) (fun z => absurd (rfl) z)
    exact next _ _ _ _ _ _ _ _ _ _ _ _ _ (hI) (hKs) hP0 hP1 hS
set_option maxHeartbeats 1000000 in
set_option maxRecDepth 100000 in
/-- the law: retract -/
theorem law_retract (hL : L ≤ 256) (C0 : lw_At p s m meth c b L xs) (hC : LC s D h d g d2) (hi : i + 4 ≤ L) (hI : Inv P B K A S M) (hKs : KS P B K A S kn be on wi) (hP0 : va_P D vwCl (w0 h d P B K A S kn be on wi) H) (hP1 : va_P D vwCl (w1 g d2 M K A S fi) H) (hS : va_S (fun q : Nat => s.heap.size ≤ q) s.heap H locs) (hl : lv_has ls 4 [(0, .ref b), (1, .ref (h 0)), (2, .ref (g 0)), (3, .int (nI i))]) (next : LN p l e s m b below meth c D h d g d2 ls) : LW p l e s m b below meth c H locs 151 ls [] := by
  obtain ⟨hx, hb, hr, hml, hown, hts, hX, hbl, hlocks, hgv⟩ := C0
  have hta : ∀ w ∈ lw_all, w.before #[Value.ref b] s = true := fun w hw => hts w (lw_all_tbl hw)
  obtain ⟨hK0, hK1, hA0, hA1, hd10, hd01, hD0, hD1⟩ := hC
  obtain ⟨hP8, hB8, hK4, hA50, hS8, hM, hB1⟩ := id hI
  have hM8 := inv_M8 hI
  cases hh : hasb P (xs (i + 1)) with
  | false =>
    refine lv_aload_n hx hb dL_law_151 rfl (lv_at hl 1 rfl) ?_
    refine lv_aload_n hx hb dL_law_152 rfl (lv_at hl 0 rfl) ?_
    refine lv_iload_n hx hb dL_law_153 rfl (lv_at hl 3 rfl) ?_
    refine lv_iconst (v := nI 1) hx hb dL_law_154 (by decide +kernel) ?_
    refine ia_N hx hb dL_law_155 ?_
    refine sl_N hx hb hX hbl hS hL (by omega) dL_law_156 ?_
    refine ro_V (ci := 0) (q0 := 0) (rest := []) ⟨hx, hb, hml, hown, hta⟩ (mX0_retract_no hP8 hh) gLX0_retract hdX0_retract ⟨Nat.le_of_ble_eq_true rfl, Nat.le_of_ble_eq_true rfl⟩ hK0 hP0 rfl rfl rfl rfl hl.1 rfl (Nat.le_of_ble_eq_true rfl) dL_law_157 ⟨Nat.le_of_ble_eq_true rfl, Nat.le_of_ble_eq_true rfl⟩ ?_
    refine lv_aload_n hx hb dL_law_160 rfl (lv_at hl 2 rfl) ?_
    refine lv_aload_n hx hb dL_law_161 rfl (lv_at hl 0 rfl) ?_
    refine lv_iload_n hx hb dL_law_162 rfl (lv_at hl 3 rfl) ?_
    refine lv_iconst (v := nI 1) hx hb dL_law_163 (by decide +kernel) ?_
    refine ia_N hx hb dL_law_164 ?_
    refine sl_N hx hb hX hbl hS hL (by omega) dL_law_165 ?_
    refine ro_V (ci := 1) (q0 := 0) (rest := [.int (bI false)]) ⟨hx, hb, hml, hown, hta⟩ (mX1_retract_no hM8 ((isb_eq hI _).trans hh)) gLX1_retract hdX1_retract ⟨Nat.le_of_ble_eq_true rfl, Nat.le_of_ble_eq_true rfl⟩ hK1 hP1 rfl rfl rfl rfl hl.1 rfl (Nat.le_of_ble_eq_true rfl) dL_law_166 ⟨Nat.le_of_ble_eq_true rfl, Nat.le_of_ble_eq_true rfl⟩ ?_
    refine lv_icmp_eq (tgt := 459) hx hb dL_law_169 (by decide) (fun _ => ?_) (fun z => absurd (rfl) z)
    exact next _ _ _ _ _ _ _ _ _ _ _ _ _ (hI) (hKs) hP0 hP1 hS
  | true =>
    obtain ⟨j, hj, e1, hj1⟩ := hasb_of hh
    have hj2 : 0 < M j := (M_pos hM hB1 j).mpr hj1
    refine lv_aload_n hx hb dL_law_151 rfl (lv_at hl 1 rfl) ?_
    refine lv_aload_n hx hb dL_law_152 rfl (lv_at hl 0 rfl) ?_
    refine lv_iload_n hx hb dL_law_153 rfl (lv_at hl 3 rfl) ?_
    refine lv_iconst (v := nI 1) hx hb dL_law_154 (by decide +kernel) ?_
    refine ia_N hx hb dL_law_155 ?_
    refine sl_N hx hb hX hbl hS hL (by omega) dL_law_156 ?_
    refine rtq e1 ?_
    refine wr_V (ci := 0) (q0 := 0) (rest := []) ⟨hx, hb, hml, hown, hta⟩ (mX0_retract_ok hP8 hj hj1) gLX0_retract hdX0_retract ⟨Nat.le_of_ble_eq_true rfl, Nat.le_of_ble_eq_true rfl⟩ hK0 hP0 (va_D.same hD0 rfl) hS hA0 hP1 (w1_dis hd10) rfl rfl rfl rfl hl.1 rfl (Nat.le_of_ble_eq_true rfl) dL_law_157 ⟨Nat.le_of_ble_eq_true rfl, Nat.le_of_ble_eq_true rfl⟩ (fun r u H locs hq hP0 hP1 hS => ?_)
    have hrv : r = bI true := hq
    subst hrv
    have hP0 : va_P D vwCl (w0 h d (nd P (2 ^ j)) B K A S false be on wi) H := hP0
    refine lv_aload_n hx hb dL_law_160 rfl (lv_at hl 2 rfl) ?_
    refine lv_aload_n hx hb dL_law_161 rfl (lv_at hl 0 rfl) ?_
    refine lv_iload_n hx hb dL_law_162 rfl (lv_at hl 3 rfl) ?_
    refine lv_iconst (v := nI 1) hx hb dL_law_163 (by decide +kernel) ?_
    refine ia_N hx hb dL_law_164 ?_
    refine sl_N hx hb hX hbl hS hL (by omega) dL_law_165 ?_
    refine rtq e1 ?_
    refine wr_V (ci := 1) (q0 := 0) (rest := [.int (bI true)]) ⟨hx, hb, hml, hown, hta⟩ (mX1_retract_ok hM8 hj hj2) gLX1_retract hdX1_retract ⟨Nat.le_of_ble_eq_true rfl, Nat.le_of_ble_eq_true rfl⟩ hK1 hP1 (va_D.same hD1 rfl) hS hA1 hP0 (w0_dis hd01) rfl rfl rfl rfl hl.1 rfl (Nat.le_of_ble_eq_true rfl) dL_law_166 ⟨Nat.le_of_ble_eq_true rfl, Nat.le_of_ble_eq_true rfl⟩ (fun r u2 H locs hq hP1 hP0 hS => ?_)
    have hrv : r = bI true := hq
    subst hrv
    have hP1 : va_P D vwCl (w1 g d2 (uN M j 0) K A S fi) H := hP1
    refine lv_icmp_eq (tgt := 459) hx hb dL_law_169 (by decide) (fun _ => ?_) (fun z => absurd (rfl) z)
    exact next _ _ _ _ _ _ _ _ _ _ _ _ _ (inv_ret hI) (ks_no) hP0 hP1 hS
set_option maxHeartbeats 1000000 in
set_option maxRecDepth 100000 in
/-- the law: raise -/
theorem law_raise (hL : L ≤ 256) (C0 : lw_At p s m meth c b L xs) (hC : LC s D h d g d2) (hi : i + 4 ≤ L) (hI : Inv P B K A S M) (hKs : KS P B K A S kn be on wi) (hP0 : va_P D vwCl (w0 h d P B K A S kn be on wi) H) (hP1 : va_P D vwCl (w1 g d2 M K A S fi) H) (hS : va_S (fun q : Nat => s.heap.size ≤ q) s.heap H locs) (hl : lv_has ls 4 [(0, .ref b), (1, .ref (h 0)), (2, .ref (g 0)), (3, .int (nI i))]) (next : LN p l e s m b below meth c D h d g d2 ls) : LW p l e s m b below meth c H locs 174 ls [] := by
  obtain ⟨hx, hb, hr, hml, hown, hts, hX, hbl, hlocks, hgv⟩ := C0
  have hta : ∀ w ∈ lw_all, w.before #[Value.ref b] s = true := fun w hw => hts w (lw_all_tbl hw)
  obtain ⟨hK0, hK1, hA0, hA1, hd10, hd01, hD0, hD1⟩ := hC
  obtain ⟨hP8, hB8, hK4, hA50, hS8, hM, hB1⟩ := id hI
  have hM8 := inv_M8 hI
  by_cases hq0 : hasb P (xs (i + 1)) = true ∧ ¬ xs (i + 2) < nI 1 ∧ xs (i + 2) ≤ nI 50
  · obtain ⟨hh, ha3, ha4⟩ := hq0
    obtain ⟨j, hj, e1, hj1⟩ := hasb_of hh
    have hj2 : 0 < M j := (M_pos hM hB1 j).mpr hj1
    obtain ⟨a, ha1, ha2, e2⟩ := amt_nat ha3 ha4
    refine lv_aload_n hx hb dL_law_174 rfl (lv_at hl 1 rfl) ?_
    refine lv_aload_n hx hb dL_law_175 rfl (lv_at hl 0 rfl) ?_
    refine lv_iload_n hx hb dL_law_176 rfl (lv_at hl 3 rfl) ?_
    refine lv_iconst (v := nI 1) hx hb dL_law_177 (by decide +kernel) ?_
    refine ia_N hx hb dL_law_178 ?_
    refine sl_N hx hb hX hbl hS hL (by omega) dL_law_179 ?_
    refine rtq e1 ?_
    refine lv_aload_n hx hb dL_law_180 rfl (lv_at hl 0 rfl) ?_
    refine lv_iload_n hx hb dL_law_181 rfl (lv_at hl 3 rfl) ?_
    refine lv_iconst (v := nI 2) hx hb dL_law_182 (by decide +kernel) ?_
    refine ia_N hx hb dL_law_183 ?_
    refine sl_N hx hb hX hbl hS hL (by omega) dL_law_184 ?_
    refine rtq e2 ?_
    refine wr_V (ci := 0) (q0 := 0) (rest := []) ⟨hx, hb, hml, hown, hta⟩ (mX0_raise_ok hP8 hj hj1 ha1 ha2) gLX0_raise hdX0_raise ⟨Nat.le_of_ble_eq_true rfl, Nat.le_of_ble_eq_true rfl⟩ hK0 hP0 (va_D.same hD0 rfl) hS hA0 hP1 (w1_dis hd10) rfl rfl rfl rfl hl.1 rfl (Nat.le_of_ble_eq_true rfl) dL_law_185 ⟨Nat.le_of_ble_eq_true rfl, Nat.le_of_ble_eq_true rfl⟩ (fun r u H locs hq hP0 hP1 hS => ?_)
    have hrv : r = bI true := hq
    subst hrv
    have hP0 : va_P D vwCl (w0 h d P B K (uN A j a) S false be on wi) H := hP0
    refine lv_aload_n hx hb dL_law_188 rfl (lv_at hl 2 rfl) ?_
    refine lv_aload_n hx hb dL_law_189 rfl (lv_at hl 0 rfl) ?_
    refine lv_iload_n hx hb dL_law_190 rfl (lv_at hl 3 rfl) ?_
    refine lv_iconst (v := nI 1) hx hb dL_law_191 (by decide +kernel) ?_
    refine ia_N hx hb dL_law_192 ?_
    refine sl_N hx hb hX hbl hS hL (by omega) dL_law_193 ?_
    refine rtq e1 ?_
    refine lv_aload_n hx hb dL_law_194 rfl (lv_at hl 0 rfl) ?_
    refine lv_iload_n hx hb dL_law_195 rfl (lv_at hl 3 rfl) ?_
    refine lv_iconst (v := nI 2) hx hb dL_law_196 (by decide +kernel) ?_
    refine ia_N hx hb dL_law_197 ?_
    refine sl_N hx hb hX hbl hS hL (by omega) dL_law_198 ?_
    refine rtq e2 ?_
    refine wr_V (ci := 1) (q0 := 0) (rest := [.int (bI true)]) ⟨hx, hb, hml, hown, hta⟩ (mX1_raise_ok hM8 hj hj2 ha1 ha2) gLX1_raise hdX1_raise ⟨Nat.le_of_ble_eq_true rfl, Nat.le_of_ble_eq_true rfl⟩ hK1 hP1 (va_D.same hD1 rfl) hS hA1 hP0 (w0_dis hd01) rfl rfl rfl rfl hl.1 rfl (Nat.le_of_ble_eq_true rfl) dL_law_199 ⟨Nat.le_of_ble_eq_true rfl, Nat.le_of_ble_eq_true rfl⟩ (fun r u2 H locs hq hP1 hP0 hS => ?_)
    have hrv : r = bI true := hq
    subst hrv
    have hP1 : va_P D vwCl (w1 g d2 M K (uN A j a) S fi) H := hP1
    refine lv_icmp_eq (tgt := 459) hx hb dL_law_202 (by decide) (fun _ => ?_) (fun z => absurd (rfl) z)
    exact next _ _ _ _ _ _ _ _ _ _ _ _ _ (inv_raise hI ha2) (ks_no) hP0 hP1 hS
  · have hq1 : ¬ (isb M (xs (i + 1)) = true ∧ ¬ xs (i + 2) < nI 1 ∧ xs (i + 2) ≤ nI 50) := by rw [isb_eq hI]; exact hq0
    refine lv_aload_n hx hb dL_law_174 rfl (lv_at hl 1 rfl) ?_
    refine lv_aload_n hx hb dL_law_175 rfl (lv_at hl 0 rfl) ?_
    refine lv_iload_n hx hb dL_law_176 rfl (lv_at hl 3 rfl) ?_
    refine lv_iconst (v := nI 1) hx hb dL_law_177 (by decide +kernel) ?_
    refine ia_N hx hb dL_law_178 ?_
    refine sl_N hx hb hX hbl hS hL (by omega) dL_law_179 ?_
    refine lv_aload_n hx hb dL_law_180 rfl (lv_at hl 0 rfl) ?_
    refine lv_iload_n hx hb dL_law_181 rfl (lv_at hl 3 rfl) ?_
    refine lv_iconst (v := nI 2) hx hb dL_law_182 (by decide +kernel) ?_
    refine ia_N hx hb dL_law_183 ?_
    refine sl_N hx hb hX hbl hS hL (by omega) dL_law_184 ?_
    refine ro_V (ci := 0) (q0 := 0) (rest := []) ⟨hx, hb, hml, hown, hta⟩ (mX0_raise_no hP8 hq0) gLX0_raise hdX0_raise ⟨Nat.le_of_ble_eq_true rfl, Nat.le_of_ble_eq_true rfl⟩ hK0 hP0 rfl rfl rfl rfl hl.1 rfl (Nat.le_of_ble_eq_true rfl) dL_law_185 ⟨Nat.le_of_ble_eq_true rfl, Nat.le_of_ble_eq_true rfl⟩ ?_
    refine lv_aload_n hx hb dL_law_188 rfl (lv_at hl 2 rfl) ?_
    refine lv_aload_n hx hb dL_law_189 rfl (lv_at hl 0 rfl) ?_
    refine lv_iload_n hx hb dL_law_190 rfl (lv_at hl 3 rfl) ?_
    refine lv_iconst (v := nI 1) hx hb dL_law_191 (by decide +kernel) ?_
    refine ia_N hx hb dL_law_192 ?_
    refine sl_N hx hb hX hbl hS hL (by omega) dL_law_193 ?_
    refine lv_aload_n hx hb dL_law_194 rfl (lv_at hl 0 rfl) ?_
    refine lv_iload_n hx hb dL_law_195 rfl (lv_at hl 3 rfl) ?_
    refine lv_iconst (v := nI 2) hx hb dL_law_196 (by decide +kernel) ?_
    refine ia_N hx hb dL_law_197 ?_
    refine sl_N hx hb hX hbl hS hL (by omega) dL_law_198 ?_
    refine ro_V (ci := 1) (q0 := 0) (rest := [.int (bI false)]) ⟨hx, hb, hml, hown, hta⟩ (mX1_raise_no hM8 hq1) gLX1_raise hdX1_raise ⟨Nat.le_of_ble_eq_true rfl, Nat.le_of_ble_eq_true rfl⟩ hK1 hP1 rfl rfl rfl rfl hl.1 rfl (Nat.le_of_ble_eq_true rfl) dL_law_199 ⟨Nat.le_of_ble_eq_true rfl, Nat.le_of_ble_eq_true rfl⟩ ?_
    refine lv_icmp_eq (tgt := 459) hx hb dL_law_202 (by decide) (fun _ => ?_) (fun z => absurd (rfl) z)
    exact next _ _ _ _ _ _ _ _ _ _ _ _ _ (hI) (hKs) hP0 hP1 hS
set_option maxHeartbeats 1000000 in
set_option maxRecDepth 100000 in
/-- the law: withhold -/
theorem law_withhold (hL : L ≤ 256) (C0 : lw_At p s m meth c b L xs) (hC : LC s D h d g d2) (hi : i + 4 ≤ L) (hI : Inv P B K A S M) (hKs : KS P B K A S kn be on wi) (hP0 : va_P D vwCl (w0 h d P B K A S kn be on wi) H) (hP1 : va_P D vwCl (w1 g d2 M K A S fi) H) (hS : va_S (fun q : Nat => s.heap.size ≤ q) s.heap H locs) (hl : lv_has ls 4 [(0, .ref b), (1, .ref (h 0)), (2, .ref (g 0)), (3, .int (nI i))]) (next : LN p l e s m b below meth c D h d g d2 ls) : LW p l e s m b below meth c H locs 207 ls [] := by
  obtain ⟨hx, hb, hr, hml, hown, hts, hX, hbl, hlocks, hgv⟩ := C0
  have hta : ∀ w ∈ lw_all, w.before #[Value.ref b] s = true := fun w hw => hts w (lw_all_tbl hw)
  obtain ⟨hK0, hK1, hA0, hA1, hd10, hd01, hD0, hD1⟩ := hC
  obtain ⟨hP8, hB8, hK4, hA50, hS8, hM, hB1⟩ := id hI
  have hM8 := inv_M8 hI
  cases hh : inr 8 (xs (i + 1)) with
  | false =>
    by_cases hz : xs (i + 2) = 0
    · refine lv_aload_n hx hb dL_law_207 rfl (lv_at hl 1 rfl) ?_
      refine lv_aload_n hx hb dL_law_208 rfl (lv_at hl 0 rfl) ?_
      refine lv_iload_n hx hb dL_law_209 rfl (lv_at hl 3 rfl) ?_
      refine lv_iconst (v := nI 1) hx hb dL_law_210 (by decide +kernel) ?_
      refine ia_N hx hb dL_law_211 ?_
      refine sl_N hx hb hX hbl hS hL (by omega) dL_law_212 ?_
      refine lv_aload_n hx hb dL_law_213 rfl (lv_at hl 0 rfl) ?_
      refine lv_iload_n hx hb dL_law_214 rfl (lv_at hl 3 rfl) ?_
      refine lv_iconst (v := nI 2) hx hb dL_law_215 (by decide +kernel) ?_
      refine ia_N hx hb dL_law_216 ?_
      refine sl_N hx hb hX hbl hS hL (by omega) dL_law_217 ?_
      refine lv_if_eq (tgt := 225) hx hb dL_law_218 (by decide) (fun _ => ?_) (fun z => absurd hz z)
      refine lv_iconst (v := nI 0) hx hb dL_law_225 (by decide +kernel) ?_
      refine ro_V (ci := 0) (q0 := 0) (rest := []) ⟨hx, hb, hml, hown, hta⟩ (mX0_withhold_no (y := nI 0) hh) gLX0_withhold hdX0_withhold ⟨Nat.le_of_ble_eq_true rfl, Nat.le_of_ble_eq_true rfl⟩ hK0 hP0 rfl rfl rfl rfl hl.1 rfl (Nat.le_of_ble_eq_true rfl) dL_law_226 ⟨Nat.le_of_ble_eq_true rfl, Nat.le_of_ble_eq_true rfl⟩ ?_
      refine lv_aload_n hx hb dL_law_229 rfl (lv_at hl 2 rfl) ?_
      refine lv_aload_n hx hb dL_law_230 rfl (lv_at hl 0 rfl) ?_
      refine lv_iload_n hx hb dL_law_231 rfl (lv_at hl 3 rfl) ?_
      refine lv_iconst (v := nI 1) hx hb dL_law_232 (by decide +kernel) ?_
      refine ia_N hx hb dL_law_233 ?_
      refine sl_N hx hb hX hbl hS hL (by omega) dL_law_234 ?_
      refine lv_aload_n hx hb dL_law_235 rfl (lv_at hl 0 rfl) ?_
      refine lv_iload_n hx hb dL_law_236 rfl (lv_at hl 3 rfl) ?_
      refine lv_iconst (v := nI 2) hx hb dL_law_237 (by decide +kernel) ?_
      refine ia_N hx hb dL_law_238 ?_
      refine sl_N hx hb hX hbl hS hL (by omega) dL_law_239 ?_
      refine lv_if_eq (tgt := 247) hx hb dL_law_240 (by decide) (fun _ => ?_) (fun z => absurd hz z)
      refine lv_iconst (v := nI 0) hx hb dL_law_247 (by decide +kernel) ?_
      refine ro_V (ci := 1) (q0 := 0) (rest := [.int (bI false)]) ⟨hx, hb, hml, hown, hta⟩ (mX1_withhold_no (y := nI 0) hh) gLX1_withhold hdX1_withhold ⟨Nat.le_of_ble_eq_true rfl, Nat.le_of_ble_eq_true rfl⟩ hK1 hP1 rfl rfl rfl rfl hl.1 rfl (Nat.le_of_ble_eq_true rfl) dL_law_248 ⟨Nat.le_of_ble_eq_true rfl, Nat.le_of_ble_eq_true rfl⟩ ?_
      refine lv_icmp_eq (tgt := 459) hx hb dL_law_251 (by decide) (fun _ => ?_) (fun z => absurd (rfl) z)
      exact next _ _ _ _ _ _ _ _ _ _ _ _ _ (hI) (hKs) hP0 hP1 hS
    · refine lv_aload_n hx hb dL_law_207 rfl (lv_at hl 1 rfl) ?_
      refine lv_aload_n hx hb dL_law_208 rfl (lv_at hl 0 rfl) ?_
      refine lv_iload_n hx hb dL_law_209 rfl (lv_at hl 3 rfl) ?_
      refine lv_iconst (v := nI 1) hx hb dL_law_210 (by decide +kernel) ?_
      refine ia_N hx hb dL_law_211 ?_
      refine sl_N hx hb hX hbl hS hL (by omega) dL_law_212 ?_
      refine lv_aload_n hx hb dL_law_213 rfl (lv_at hl 0 rfl) ?_
      refine lv_iload_n hx hb dL_law_214 rfl (lv_at hl 3 rfl) ?_
      refine lv_iconst (v := nI 2) hx hb dL_law_215 (by decide +kernel) ?_
      refine ia_N hx hb dL_law_216 ?_
      refine sl_N hx hb hX hbl hS hL (by omega) dL_law_217 ?_
      refine lv_if_eq (tgt := 225) hx hb dL_law_218 (by decide) (fun z => absurd z hz) (fun _ => ?_)
      refine lv_iconst (v := nI 1) hx hb dL_law_221 (by decide +kernel) ?_
      refine lv_goto (tgt := 226) hx hb dL_law_222 (by decide) ?_
      refine ro_V (ci := 0) (q0 := 0) (rest := []) ⟨hx, hb, hml, hown, hta⟩ (mX0_withhold_no (y := nI 1) hh) gLX0_withhold hdX0_withhold ⟨Nat.le_of_ble_eq_true rfl, Nat.le_of_ble_eq_true rfl⟩ hK0 hP0 rfl rfl rfl rfl hl.1 rfl (Nat.le_of_ble_eq_true rfl) dL_law_226 ⟨Nat.le_of_ble_eq_true rfl, Nat.le_of_ble_eq_true rfl⟩ ?_
      refine lv_aload_n hx hb dL_law_229 rfl (lv_at hl 2 rfl) ?_
      refine lv_aload_n hx hb dL_law_230 rfl (lv_at hl 0 rfl) ?_
      refine lv_iload_n hx hb dL_law_231 rfl (lv_at hl 3 rfl) ?_
      refine lv_iconst (v := nI 1) hx hb dL_law_232 (by decide +kernel) ?_
      refine ia_N hx hb dL_law_233 ?_
      refine sl_N hx hb hX hbl hS hL (by omega) dL_law_234 ?_
      refine lv_aload_n hx hb dL_law_235 rfl (lv_at hl 0 rfl) ?_
      refine lv_iload_n hx hb dL_law_236 rfl (lv_at hl 3 rfl) ?_
      refine lv_iconst (v := nI 2) hx hb dL_law_237 (by decide +kernel) ?_
      refine ia_N hx hb dL_law_238 ?_
      refine sl_N hx hb hX hbl hS hL (by omega) dL_law_239 ?_
      refine lv_if_eq (tgt := 247) hx hb dL_law_240 (by decide) (fun z => absurd z hz) (fun _ => ?_)
      refine lv_iconst (v := nI 1) hx hb dL_law_243 (by decide +kernel) ?_
      refine lv_goto (tgt := 248) hx hb dL_law_244 (by decide) ?_
      refine ro_V (ci := 1) (q0 := 0) (rest := [.int (bI false)]) ⟨hx, hb, hml, hown, hta⟩ (mX1_withhold_no (y := nI 1) hh) gLX1_withhold hdX1_withhold ⟨Nat.le_of_ble_eq_true rfl, Nat.le_of_ble_eq_true rfl⟩ hK1 hP1 rfl rfl rfl rfl hl.1 rfl (Nat.le_of_ble_eq_true rfl) dL_law_248 ⟨Nat.le_of_ble_eq_true rfl, Nat.le_of_ble_eq_true rfl⟩ ?_
      refine lv_icmp_eq (tgt := 459) hx hb dL_law_251 (by decide) (fun _ => ?_) (fun z => absurd (rfl) z)
      exact next _ _ _ _ _ _ _ _ _ _ _ _ _ (hI) (hKs) hP0 hP1 hS
  | true =>
    obtain ⟨j, hj, e1⟩ := inr_of (by decide) hh
    by_cases hz : xs (i + 2) = 0
    · refine lv_aload_n hx hb dL_law_207 rfl (lv_at hl 1 rfl) ?_
      refine lv_aload_n hx hb dL_law_208 rfl (lv_at hl 0 rfl) ?_
      refine lv_iload_n hx hb dL_law_209 rfl (lv_at hl 3 rfl) ?_
      refine lv_iconst (v := nI 1) hx hb dL_law_210 (by decide +kernel) ?_
      refine ia_N hx hb dL_law_211 ?_
      refine sl_N hx hb hX hbl hS hL (by omega) dL_law_212 ?_
      refine rtq e1 ?_
      refine lv_aload_n hx hb dL_law_213 rfl (lv_at hl 0 rfl) ?_
      refine lv_iload_n hx hb dL_law_214 rfl (lv_at hl 3 rfl) ?_
      refine lv_iconst (v := nI 2) hx hb dL_law_215 (by decide +kernel) ?_
      refine ia_N hx hb dL_law_216 ?_
      refine sl_N hx hb hX hbl hS hL (by omega) dL_law_217 ?_
      refine lv_if_eq (tgt := 225) hx hb dL_law_218 (by decide) (fun _ => ?_) (fun z => absurd hz z)
      refine lv_iconst (v := nI 0) hx hb dL_law_225 (by decide +kernel) ?_
      refine wr_V (ci := 0) (q0 := 0) (rest := []) ⟨hx, hb, hml, hown, hta⟩ (mX0_withhold_off hS8 hj) gLX0_withhold hdX0_withhold ⟨Nat.le_of_ble_eq_true rfl, Nat.le_of_ble_eq_true rfl⟩ hK0 hP0 (va_D.same hD0 rfl) hS hA0 hP1 (w1_dis hd10) rfl rfl rfl rfl hl.1 rfl (Nat.le_of_ble_eq_true rfl) dL_law_226 ⟨Nat.le_of_ble_eq_true rfl, Nat.le_of_ble_eq_true rfl⟩ (fun r u H locs hq hP0 hP1 hS => ?_)
      have hrv : r = bI true := hq
      subst hrv
      have hP0 : va_P D vwCl (w0 h d P B K A (nd S (2 ^ j)) false be on wi) H := hP0
      refine lv_aload_n hx hb dL_law_229 rfl (lv_at hl 2 rfl) ?_
      refine lv_aload_n hx hb dL_law_230 rfl (lv_at hl 0 rfl) ?_
      refine lv_iload_n hx hb dL_law_231 rfl (lv_at hl 3 rfl) ?_
      refine lv_iconst (v := nI 1) hx hb dL_law_232 (by decide +kernel) ?_
      refine ia_N hx hb dL_law_233 ?_
      refine sl_N hx hb hX hbl hS hL (by omega) dL_law_234 ?_
      refine rtq e1 ?_
      refine lv_aload_n hx hb dL_law_235 rfl (lv_at hl 0 rfl) ?_
      refine lv_iload_n hx hb dL_law_236 rfl (lv_at hl 3 rfl) ?_
      refine lv_iconst (v := nI 2) hx hb dL_law_237 (by decide +kernel) ?_
      refine ia_N hx hb dL_law_238 ?_
      refine sl_N hx hb hX hbl hS hL (by omega) dL_law_239 ?_
      refine lv_if_eq (tgt := 247) hx hb dL_law_240 (by decide) (fun _ => ?_) (fun z => absurd hz z)
      refine lv_iconst (v := nI 0) hx hb dL_law_247 (by decide +kernel) ?_
      refine wr_V (ci := 1) (q0 := 0) (rest := [.int (bI true)]) ⟨hx, hb, hml, hown, hta⟩ (mX1_withhold_off hS8 hj) gLX1_withhold hdX1_withhold ⟨Nat.le_of_ble_eq_true rfl, Nat.le_of_ble_eq_true rfl⟩ hK1 hP1 (va_D.same hD1 rfl) hS hA1 hP0 (w0_dis hd01) rfl rfl rfl rfl hl.1 rfl (Nat.le_of_ble_eq_true rfl) dL_law_248 ⟨Nat.le_of_ble_eq_true rfl, Nat.le_of_ble_eq_true rfl⟩ (fun r u2 H locs hq hP1 hP0 hS => ?_)
      have hrv : r = bI true := hq
      subst hrv
      have hP1 : va_P D vwCl (w1 g d2 M K A (nd S (2 ^ j)) fi) H := hP1
      refine lv_icmp_eq (tgt := 459) hx hb dL_law_251 (by decide) (fun _ => ?_) (fun z => absurd (rfl) z)
      exact next _ _ _ _ _ _ _ _ _ _ _ _ _ (inv_S hI (nd_lt hS8)) (ks_no) hP0 hP1 hS
    · refine lv_aload_n hx hb dL_law_207 rfl (lv_at hl 1 rfl) ?_
      refine lv_aload_n hx hb dL_law_208 rfl (lv_at hl 0 rfl) ?_
      refine lv_iload_n hx hb dL_law_209 rfl (lv_at hl 3 rfl) ?_
      refine lv_iconst (v := nI 1) hx hb dL_law_210 (by decide +kernel) ?_
      refine ia_N hx hb dL_law_211 ?_
      refine sl_N hx hb hX hbl hS hL (by omega) dL_law_212 ?_
      refine rtq e1 ?_
      refine lv_aload_n hx hb dL_law_213 rfl (lv_at hl 0 rfl) ?_
      refine lv_iload_n hx hb dL_law_214 rfl (lv_at hl 3 rfl) ?_
      refine lv_iconst (v := nI 2) hx hb dL_law_215 (by decide +kernel) ?_
      refine ia_N hx hb dL_law_216 ?_
      refine sl_N hx hb hX hbl hS hL (by omega) dL_law_217 ?_
      refine lv_if_eq (tgt := 225) hx hb dL_law_218 (by decide) (fun z => absurd z hz) (fun _ => ?_)
      refine lv_iconst (v := nI 1) hx hb dL_law_221 (by decide +kernel) ?_
      refine lv_goto (tgt := 226) hx hb dL_law_222 (by decide) ?_
      refine wr_V (ci := 0) (q0 := 0) (rest := []) ⟨hx, hb, hml, hown, hta⟩ (mX0_withhold_on hS8 hj) gLX0_withhold hdX0_withhold ⟨Nat.le_of_ble_eq_true rfl, Nat.le_of_ble_eq_true rfl⟩ hK0 hP0 (va_D.same hD0 rfl) hS hA0 hP1 (w1_dis hd10) rfl rfl rfl rfl hl.1 rfl (Nat.le_of_ble_eq_true rfl) dL_law_226 ⟨Nat.le_of_ble_eq_true rfl, Nat.le_of_ble_eq_true rfl⟩ (fun r u H locs hq hP0 hP1 hS => ?_)
      have hrv : r = bI true := hq
      subst hrv
      have hP0 : va_P D vwCl (w0 h d P B K A (S ||| 2 ^ j) false be on wi) H := hP0
      refine lv_aload_n hx hb dL_law_229 rfl (lv_at hl 2 rfl) ?_
      refine lv_aload_n hx hb dL_law_230 rfl (lv_at hl 0 rfl) ?_
      refine lv_iload_n hx hb dL_law_231 rfl (lv_at hl 3 rfl) ?_
      refine lv_iconst (v := nI 1) hx hb dL_law_232 (by decide +kernel) ?_
      refine ia_N hx hb dL_law_233 ?_
      refine sl_N hx hb hX hbl hS hL (by omega) dL_law_234 ?_
      refine rtq e1 ?_
      refine lv_aload_n hx hb dL_law_235 rfl (lv_at hl 0 rfl) ?_
      refine lv_iload_n hx hb dL_law_236 rfl (lv_at hl 3 rfl) ?_
      refine lv_iconst (v := nI 2) hx hb dL_law_237 (by decide +kernel) ?_
      refine ia_N hx hb dL_law_238 ?_
      refine sl_N hx hb hX hbl hS hL (by omega) dL_law_239 ?_
      refine lv_if_eq (tgt := 247) hx hb dL_law_240 (by decide) (fun z => absurd z hz) (fun _ => ?_)
      refine lv_iconst (v := nI 1) hx hb dL_law_243 (by decide +kernel) ?_
      refine lv_goto (tgt := 248) hx hb dL_law_244 (by decide) ?_
      refine wr_V (ci := 1) (q0 := 0) (rest := [.int (bI true)]) ⟨hx, hb, hml, hown, hta⟩ (mX1_withhold_on hS8 hj) gLX1_withhold hdX1_withhold ⟨Nat.le_of_ble_eq_true rfl, Nat.le_of_ble_eq_true rfl⟩ hK1 hP1 (va_D.same hD1 rfl) hS hA1 hP0 (w0_dis hd01) rfl rfl rfl rfl hl.1 rfl (Nat.le_of_ble_eq_true rfl) dL_law_248 ⟨Nat.le_of_ble_eq_true rfl, Nat.le_of_ble_eq_true rfl⟩ (fun r u2 H locs hq hP1 hP0 hS => ?_)
      have hrv : r = bI true := hq
      subst hrv
      have hP1 : va_P D vwCl (w1 g d2 M K A (S ||| 2 ^ j) fi) H := hP1
      refine lv_icmp_eq (tgt := 459) hx hb dL_law_251 (by decide) (fun _ => ?_) (fun z => absurd (rfl) z)
      exact next _ _ _ _ _ _ _ _ _ _ _ _ _ (inv_S hI (or_lt256 hS8 (two_lt256 hj))) (ks_no) hP0 hP1 hS
end LCA
end
section
set_option maxRecDepth 100000
theorem nI_lt_of {X n : Nat} (hX : X < 2 ^ 32) (h : inr n (nI X) = true) (hn : n < 2 ^ 31 := by decide) : X < n := by
  obtain ⟨j, hj, e⟩ := inr_of hn h
  have h1 : (nI X).toBitVec.toNat = X := pk_tn hX
  have h2 : (nI j).toBitVec.toNat = j := pk_tn (by omega)
  rw [e, h2] at h1
  omega
theorem alo_no {P : Nat} {B K M : Nat → Nat} {S X : Nat} (hM : ∀ b, M b = if P.testBit b = true then B b else 0) (hX : X < 256) (hn : nd X P ≠ 0) : alo M K S X 8 = false := by
  cases h : alo M K S X 8 with
  | false => rfl
  | true =>
    rw [alo_iff] at h
    refine absurd (nd_0.mpr (fun i hi => ?_)) hn
    have h1 := (h i (bit_lt hX hi) hi).1.1
    rw [hM] at h1
    cases hp : P.testBit i with
    | true => rfl
    | false => rw [hp] at h1; simp at h1
section LCB
variable {p : Program} {l : Launch} {e : Env} {s : State} {m : MethodId} {below : List Frame} {meth : Method} {c : Code} {b L i : Nat} {xs : Nat → Int32} {D : va_G} {h g : Nat → Nat} {d d2 : Nat → ClassId} {P : Nat} {B K A : Nat → Nat} {S : Nat} {kn : Bool} {be on : Nat → Int32} {wi : Int32} {M : Nat → Nat} {fi : Nat → Int32} {H : Heap} {locs : List Loc} {ls : Array Slot}
set_option maxHeartbeats 1000000 in
set_option maxRecDepth 100000 in
/-- the law: bids -/
theorem law_bids (hL : L ≤ 256) (C0 : lw_At p s m meth c b L xs) (hC : LC s D h d g d2) (hi : i + 4 ≤ L) (hI : Inv P B K A S M) (hKs : KS P B K A S kn be on wi) (hP0 : va_P D vwCl (w0 h d P B K A S kn be on wi) H) (hP1 : va_P D vwCl (w1 g d2 M K A S fi) H) (hS : va_S (fun q : Nat => s.heap.size ≤ q) s.heap H locs) (hl : lv_has ls 4 [(0, .ref b), (1, .ref (h 0)), (2, .ref (g 0)), (3, .int (nI i))]) (next : LN p l e s m b below meth c D h d g d2 ls) : LW p l e s m b below meth c H locs 256 ls [] := by
  obtain ⟨hx, hb, hr, hml, hown, hts, hX, hbl, hlocks, hgv⟩ := C0
  have hta : ∀ w ∈ lw_all, w.before #[Value.ref b] s = true := fun w hw => hts w (lw_all_tbl hw)
  obtain ⟨hK0, hK1, hA0, hA1, hd10, hd01, hD0, hD1⟩ := hC
  obtain ⟨hP8, hB8, hK4, hA50, hS8, hM, hB1⟩ := id hI
  have hM8 := inv_M8 hI
  refine lv_aload_n hx hb dL_law_256 rfl (lv_at hl 1 rfl) ?_
  refine ro_V (ci := 0) (q0 := 0) (rest := []) ⟨hx, hb, hml, hown, hta⟩ (mX0_bids) gLX0_bids hdX0_bids ⟨Nat.le_of_ble_eq_true rfl, Nat.le_of_ble_eq_true rfl⟩ hK0 hP0 rfl rfl rfl rfl hl.1 rfl (Nat.le_of_ble_eq_true rfl) dL_law_257 ⟨Nat.le_of_ble_eq_true rfl, Nat.le_of_ble_eq_true rfl⟩ ?_
  refine lv_aload_n hx hb dL_law_260 rfl (lv_at hl 2 rfl) ?_
  refine ro_V (ci := 1) (q0 := 0) (rest := [.int (nI P)]) ⟨hx, hb, hml, hown, hta⟩ (mX1_bids hM8) gLX1_bids hdX1_bids ⟨Nat.le_of_ble_eq_true rfl, Nat.le_of_ble_eq_true rfl⟩ hK1 hP1 rfl rfl rfl rfl hl.1 rfl (Nat.le_of_ble_eq_true rfl) dL_law_261 ⟨Nat.le_of_ble_eq_true rfl, Nat.le_of_ble_eq_true rfl⟩ ?_
  refine lv_icmp_eq (tgt := 459) hx hb dL_law_264 (by decide) (fun _ => ?_) (fun z => absurd (by rw [bids_eq hM hB1 hP8]) z)
  exact next _ _ _ _ _ _ _ _ _ _ _ _ _ (hI) (hKs) hP0 hP1 hS
set_option maxHeartbeats 1000000 in
set_option maxRecDepth 100000 in
/-- the law: withheld -/
theorem law_withheld (hL : L ≤ 256) (C0 : lw_At p s m meth c b L xs) (hC : LC s D h d g d2) (hi : i + 4 ≤ L) (hI : Inv P B K A S M) (hKs : KS P B K A S kn be on wi) (hP0 : va_P D vwCl (w0 h d P B K A S kn be on wi) H) (hP1 : va_P D vwCl (w1 g d2 M K A S fi) H) (hS : va_S (fun q : Nat => s.heap.size ≤ q) s.heap H locs) (hl : lv_has ls 4 [(0, .ref b), (1, .ref (h 0)), (2, .ref (g 0)), (3, .int (nI i))]) (next : LN p l e s m b below meth c D h d g d2 ls) : LW p l e s m b below meth c H locs 269 ls [] := by
  obtain ⟨hx, hb, hr, hml, hown, hts, hX, hbl, hlocks, hgv⟩ := C0
  have hta : ∀ w ∈ lw_all, w.before #[Value.ref b] s = true := fun w hw => hts w (lw_all_tbl hw)
  obtain ⟨hK0, hK1, hA0, hA1, hd10, hd01, hD0, hD1⟩ := hC
  obtain ⟨hP8, hB8, hK4, hA50, hS8, hM, hB1⟩ := id hI
  have hM8 := inv_M8 hI
  refine lv_aload_n hx hb dL_law_269 rfl (lv_at hl 1 rfl) ?_
  refine ro_V (ci := 0) (q0 := 0) (rest := []) ⟨hx, hb, hml, hown, hta⟩ (mX0_withheld) gLX0_withheld hdX0_withheld ⟨Nat.le_of_ble_eq_true rfl, Nat.le_of_ble_eq_true rfl⟩ hK0 hP0 rfl rfl rfl rfl hl.1 rfl (Nat.le_of_ble_eq_true rfl) dL_law_270 ⟨Nat.le_of_ble_eq_true rfl, Nat.le_of_ble_eq_true rfl⟩ ?_
  refine lv_aload_n hx hb dL_law_273 rfl (lv_at hl 2 rfl) ?_
  refine ro_V (ci := 1) (q0 := 0) (rest := [.int (nI S)]) ⟨hx, hb, hml, hown, hta⟩ (mX1_withheld) gLX1_withheld hdX1_withheld ⟨Nat.le_of_ble_eq_true rfl, Nat.le_of_ble_eq_true rfl⟩ hK1 hP1 rfl rfl rfl rfl hl.1 rfl (Nat.le_of_ble_eq_true rfl) dL_law_274 ⟨Nat.le_of_ble_eq_true rfl, Nat.le_of_ble_eq_true rfl⟩ ?_
  refine lv_icmp_eq (tgt := 459) hx hb dL_law_277 (by decide) (fun _ => ?_) (fun z => absurd (rfl) z)
  exact next _ _ _ _ _ _ _ _ _ _ _ _ _ (hI) (hKs) hP0 hP1 hS
set_option maxHeartbeats 1000000 in
set_option maxRecDepth 100000 in
/-- the law: winners -/
theorem law_winners (hL : L ≤ 256) (C0 : lw_At p s m meth c b L xs) (hC : LC s D h d g d2) (hi : i + 4 ≤ L) (hI : Inv P B K A S M) (hKs : KS P B K A S kn be on wi) (hP0 : va_P D vwCl (w0 h d P B K A S kn be on wi) H) (hP1 : va_P D vwCl (w1 g d2 M K A S fi) H) (hS : va_S (fun q : Nat => s.heap.size ≤ q) s.heap H locs) (hl : lv_has ls 4 [(0, .ref b), (1, .ref (h 0)), (2, .ref (g 0)), (3, .int (nI i))]) (next : LN p l e s m b below meth c D h d g d2 ls) : LW p l e s m b below meth c H locs 282 ls [] := by
  obtain ⟨hx, hb, hr, hml, hown, hts, hX, hbl, hlocks, hgv⟩ := C0
  have hta : ∀ w ∈ lw_all, w.before #[Value.ref b] s = true := fun w hw => hts w (lw_all_tbl hw)
  obtain ⟨hK0, hK1, hA0, hA1, hd10, hd01, hD0, hD1⟩ := hC
  obtain ⟨hP8, hB8, hK4, hA50, hS8, hM, hB1⟩ := id hI
  have hM8 := inv_M8 hI
  have hwin := win_eq (A := A) (fi := fun X => alo M K S X 8) (fun _ _ => rfl) hM hB8 hB1 hK4
  refine lv_aload_n hx hb dL_law_282 rfl (lv_at hl 1 rfl) ?_
  refine wr_V (ci := 0) (q0 := 0) (rest := []) ⟨hx, hb, hml, hown, hta⟩ (mX0_winners hP8 hB8 hK4 hA50 hKs) gLX0_winners hdX0_winners ⟨Nat.le_of_ble_eq_true rfl, Nat.le_of_ble_eq_true rfl⟩ hK0 hP0 (va_D.same hD0 rfl) hS hA0 hP1 (w1_dis hd10) rfl rfl rfl rfl hl.1 rfl (Nat.le_of_ble_eq_true rfl) dL_law_283 ⟨Nat.le_of_ble_eq_true rfl, Nat.le_of_ble_eq_true rfl⟩ (fun r u H locs hq hP0 hP1 hS => ?_)
  obtain ⟨be2, on2⟩ := u
  obtain ⟨hrv, hT⟩ := hq
  have hT : Tab P B K A be2 on2 := hT
  subst hrv
  have hP0 : va_P D vwCl (w0 h d P B K A S true be2 on2 (nI (WN P B K A S))) H := hP0
  refine lv_aload_n hx hb dL_law_286 rfl (lv_at hl 2 rfl) ?_
  refine wr_V (ci := 1) (q0 := 0) (rest := [.int (nI (WN P B K A S))]) ⟨hx, hb, hml, hown, hta⟩ (mX1_winners hM8 hK4 hA50 hS8 hwin) gLX1_winners hdX1_winners ⟨Nat.le_of_ble_eq_true rfl, Nat.le_of_ble_eq_true rfl⟩ hK1 hP1 (va_D.same hD1 rfl) hS hA1 hP0 (w0_dis hd01) rfl rfl rfl rfl hl.1 rfl (Nat.le_of_ble_eq_true rfl) dL_law_287 ⟨Nat.le_of_ble_eq_true rfl, Nat.le_of_ble_eq_true rfl⟩ (fun r fi2 H locs hq hP1 hP0 hS => ?_)
  have hrv : r = nI (WN P B K A S) := hq
  subst hrv
  have hP1 : va_P D vwCl (w1 g d2 M K A S fi2) H := hP1
  refine lv_icmp_eq (tgt := 459) hx hb dL_law_290 (by decide) (fun _ => ?_) (fun z => absurd (rfl) z)
  exact next _ _ _ _ _ _ _ _ _ _ _ _ _ (hI) (fun _ => ⟨hT, rfl⟩) hP0 hP1 hS
set_option maxHeartbeats 1000000 in
set_option maxRecDepth 100000 in
/-- the law: revenue -/
theorem law_revenue (hL : L ≤ 256) (C0 : lw_At p s m meth c b L xs) (hC : LC s D h d g d2) (hi : i + 4 ≤ L) (hI : Inv P B K A S M) (hKs : KS P B K A S kn be on wi) (hP0 : va_P D vwCl (w0 h d P B K A S kn be on wi) H) (hP1 : va_P D vwCl (w1 g d2 M K A S fi) H) (hS : va_S (fun q : Nat => s.heap.size ≤ q) s.heap H locs) (hl : lv_has ls 4 [(0, .ref b), (1, .ref (h 0)), (2, .ref (g 0)), (3, .int (nI i))]) (next : LN p l e s m b below meth c D h d g d2 ls) : LW p l e s m b below meth c H locs 295 ls [] := by
  obtain ⟨hx, hb, hr, hml, hown, hts, hX, hbl, hlocks, hgv⟩ := C0
  have hta : ∀ w ∈ lw_all, w.before #[Value.ref b] s = true := fun w hw => hts w (lw_all_tbl hw)
  obtain ⟨hK0, hK1, hA0, hA1, hd10, hd01, hD0, hD1⟩ := hC
  obtain ⟨hP8, hB8, hK4, hA50, hS8, hM, hB1⟩ := id hI
  have hM8 := inv_M8 hI
  have hwin := win_eq (A := A) (fi := fun X => alo M K S X 8) (fun _ _ => rfl) hM hB8 hB1 hK4
  refine lv_aload_n hx hb dL_law_295 rfl (lv_at hl 1 rfl) ?_
  refine wr_V (ci := 0) (q0 := 0) (rest := []) ⟨hx, hb, hml, hown, hta⟩ (mX0_revenue hP8 hB8 hK4 hA50 hKs) gLX0_revenue hdX0_revenue ⟨Nat.le_of_ble_eq_true rfl, Nat.le_of_ble_eq_true rfl⟩ hK0 hP0 (va_D.same hD0 rfl) hS hA0 hP1 (w1_dis hd10) rfl rfl rfl rfl hl.1 rfl (Nat.le_of_ble_eq_true rfl) dL_law_296 ⟨Nat.le_of_ble_eq_true rfl, Nat.le_of_ble_eq_true rfl⟩ (fun r u H locs hq hP0 hP1 hS => ?_)
  obtain ⟨be2, on2⟩ := u
  obtain ⟨hrv, hT⟩ := hq
  have hT : Tab P B K A be2 on2 := hT
  subst hrv
  have hP0 : va_P D vwCl (w0 h d P B K A S true be2 on2 (nI (WN P B K A S))) H := hP0
  refine lv_aload_n hx hb dL_law_299 rfl (lv_at hl 2 rfl) ?_
  refine wr_V (ci := 1) (q0 := 0) (rest := [.int (nI (Fb P B K A 4 (off S) / 256))]) ⟨hx, hb, hml, hown, hta⟩ (mX1_revenue hM8 hK4 hA50 hS8 hwin) gLX1_revenue hdX1_revenue ⟨Nat.le_of_ble_eq_true rfl, Nat.le_of_ble_eq_true rfl⟩ hK1 hP1 (va_D.same hD1 rfl) hS hA1 hP0 (w0_dis hd01) rfl rfl rfl rfl hl.1 rfl (Nat.le_of_ble_eq_true rfl) dL_law_300 ⟨Nat.le_of_ble_eq_true rfl, Nat.le_of_ble_eq_true rfl⟩ (fun r fi2 H locs hq hP1 hP0 hS => ?_)
  have hrv : r = nI (sm A (WN P B K A S) 8) := hq
  subst hrv
  have hP1 : va_P D vwCl (w1 g d2 M K A S fi2) H := hP1
  refine lv_icmp_eq (tgt := 459) hx hb dL_law_303 (by decide) (fun _ => ?_) (fun z => absurd (by rw [rev_eq]) z)
  exact next _ _ _ _ _ _ _ _ _ _ _ _ _ (hI) (fun _ => ⟨hT, rfl⟩) hP0 hP1 hS
set_option maxHeartbeats 1000000 in
set_option maxRecDepth 100000 in
/-- the law: sold -/
theorem law_sold (hL : L ≤ 256) (C0 : lw_At p s m meth c b L xs) (hC : LC s D h d g d2) (hi : i + 4 ≤ L) (hI : Inv P B K A S M) (hKs : KS P B K A S kn be on wi) (hP0 : va_P D vwCl (w0 h d P B K A S kn be on wi) H) (hP1 : va_P D vwCl (w1 g d2 M K A S fi) H) (hS : va_S (fun q : Nat => s.heap.size ≤ q) s.heap H locs) (hl : lv_has ls 4 [(0, .ref b), (1, .ref (h 0)), (2, .ref (g 0)), (3, .int (nI i))]) (next : LN p l e s m b below meth c D h d g d2 ls) : LW p l e s m b below meth c H locs 308 ls [] := by
  obtain ⟨hx, hb, hr, hml, hown, hts, hX, hbl, hlocks, hgv⟩ := C0
  have hta : ∀ w ∈ lw_all, w.before #[Value.ref b] s = true := fun w hw => hts w (lw_all_tbl hw)
  obtain ⟨hK0, hK1, hA0, hA1, hd10, hd01, hD0, hD1⟩ := hC
  obtain ⟨hP8, hB8, hK4, hA50, hS8, hM, hB1⟩ := id hI
  have hM8 := inv_M8 hI
  have hwin := win_eq (A := A) (fi := fun X => alo M K S X 8) (fun _ _ => rfl) hM hB8 hB1 hK4
  refine lv_aload_n hx hb dL_law_308 rfl (lv_at hl 1 rfl) ?_
  refine wr_V (ci := 0) (q0 := 0) (rest := []) ⟨hx, hb, hml, hown, hta⟩ (mX0_sold hP8 hB8 hK4 hA50 hKs) gLX0_sold hdX0_sold ⟨Nat.le_of_ble_eq_true rfl, Nat.le_of_ble_eq_true rfl⟩ hK0 hP0 (va_D.same hD0 rfl) hS hA0 hP1 (w1_dis hd10) rfl rfl rfl rfl hl.1 rfl (Nat.le_of_ble_eq_true rfl) dL_law_309 ⟨Nat.le_of_ble_eq_true rfl, Nat.le_of_ble_eq_true rfl⟩ (fun r u H locs hq hP0 hP1 hS => ?_)
  obtain ⟨be2, on2⟩ := u
  obtain ⟨hrv, hT⟩ := hq
  have hT : Tab P B K A be2 on2 := hT
  subst hrv
  have hP0 : va_P D vwCl (w0 h d P B K A S true be2 on2 (nI (WN P B K A S))) H := hP0
  refine lv_aload_n hx hb dL_law_312 rfl (lv_at hl 2 rfl) ?_
  refine wr_V (ci := 1) (q0 := 0) (rest := [.int (nI (un B (WN P B K A S) 8))]) ⟨hx, hb, hml, hown, hta⟩ (mX1_sold hM8 hK4 hA50 hS8 hwin) gLX1_sold hdX1_sold ⟨Nat.le_of_ble_eq_true rfl, Nat.le_of_ble_eq_true rfl⟩ hK1 hP1 (va_D.same hD1 rfl) hS hA1 hP0 (w0_dis hd01) rfl rfl rfl rfl hl.1 rfl (Nat.le_of_ble_eq_true rfl) dL_law_313 ⟨Nat.le_of_ble_eq_true rfl, Nat.le_of_ble_eq_true rfl⟩ (fun r fi2 H locs hq hP1 hP0 hS => ?_)
  have hrv : r = nI (un M (WN P B K A S) 8) := hq
  subst hrv
  have hP1 : va_P D vwCl (w1 g d2 M K A S fi2) H := hP1
  refine lv_icmp_eq (tgt := 459) hx hb dL_law_316 (by decide) (fun _ => ?_) (fun z => absurd (by rw [sold_eq hM]) z)
  exact next _ _ _ _ _ _ _ _ _ _ _ _ _ (hI) (fun _ => ⟨hT, rfl⟩) hP0 hP1 hS
set_option maxHeartbeats 1000000 in
set_option maxRecDepth 100000 in
/-- the law: revenueWithout -/
theorem law_revenueWithout (hL : L ≤ 256) (C0 : lw_At p s m meth c b L xs) (hC : LC s D h d g d2) (hi : i + 4 ≤ L) (hI : Inv P B K A S M) (hKs : KS P B K A S kn be on wi) (hP0 : va_P D vwCl (w0 h d P B K A S kn be on wi) H) (hP1 : va_P D vwCl (w1 g d2 M K A S fi) H) (hS : va_S (fun q : Nat => s.heap.size ≤ q) s.heap H locs) (hl : lv_has ls 4 [(0, .ref b), (1, .ref (h 0)), (2, .ref (g 0)), (3, .int (nI i))]) (next : LN p l e s m b below meth c D h d g d2 ls) : LW p l e s m b below meth c H locs 321 ls [] := by
  obtain ⟨hx, hb, hr, hml, hown, hts, hX, hbl, hlocks, hgv⟩ := C0
  have hta : ∀ w ∈ lw_all, w.before #[Value.ref b] s = true := fun w hw => hts w (lw_all_tbl hw)
  obtain ⟨hK0, hK1, hA0, hA1, hd10, hd01, hD0, hD1⟩ := hC
  obtain ⟨hP8, hB8, hK4, hA50, hS8, hM, hB1⟩ := id hI
  have hM8 := inv_M8 hI
  cases hh : inr 4 (xs (i + 1)) with
  | false =>
    refine lv_aload_n hx hb dL_law_321 rfl (lv_at hl 1 rfl) ?_
    refine lv_aload_n hx hb dL_law_322 rfl (lv_at hl 0 rfl) ?_
    refine lv_iload_n hx hb dL_law_323 rfl (lv_at hl 3 rfl) ?_
    refine lv_iconst (v := nI 1) hx hb dL_law_324 (by decide +kernel) ?_
    refine ia_N hx hb dL_law_325 ?_
    refine sl_N hx hb hX hbl hS hL (by omega) dL_law_326 ?_
    refine ro_V (ci := 0) (q0 := 0) (rest := []) ⟨hx, hb, hml, hown, hta⟩ (mX0_revenueWithout_no hh) gLX0_revenueWithout hdX0_revenueWithout ⟨Nat.le_of_ble_eq_true rfl, Nat.le_of_ble_eq_true rfl⟩ hK0 hP0 rfl rfl rfl rfl hl.1 rfl (Nat.le_of_ble_eq_true rfl) dL_law_327 ⟨Nat.le_of_ble_eq_true rfl, Nat.le_of_ble_eq_true rfl⟩ ?_
    refine lv_aload_n hx hb dL_law_330 rfl (lv_at hl 2 rfl) ?_
    refine lv_aload_n hx hb dL_law_331 rfl (lv_at hl 0 rfl) ?_
    refine lv_iload_n hx hb dL_law_332 rfl (lv_at hl 3 rfl) ?_
    refine lv_iconst (v := nI 1) hx hb dL_law_333 (by decide +kernel) ?_
    refine ia_N hx hb dL_law_334 ?_
    refine sl_N hx hb hX hbl hS hL (by omega) dL_law_335 ?_
    refine ro_V (ci := 1) (q0 := 0) (rest := [.int (-1)]) ⟨hx, hb, hml, hown, hta⟩ (mX1_revenueWithout_no hh) gLX1_revenueWithout hdX1_revenueWithout ⟨Nat.le_of_ble_eq_true rfl, Nat.le_of_ble_eq_true rfl⟩ hK1 hP1 rfl rfl rfl rfl hl.1 rfl (Nat.le_of_ble_eq_true rfl) dL_law_336 ⟨Nat.le_of_ble_eq_true rfl, Nat.le_of_ble_eq_true rfl⟩ ?_
    refine lv_icmp_eq (tgt := 459) hx hb dL_law_339 (by decide) (fun _ => ?_) (fun z => absurd (rfl) z)
    exact next _ _ _ _ _ _ _ _ _ _ _ _ _ (hI) (hKs) hP0 hP1 hS
  | true =>
    obtain ⟨k, hk, e1⟩ := inr_of (by decide) hh
    obtain ⟨Z, hZ8, hbz, hsz⟩ := wo_eq (A := A) (fi := fun X => alo M K S X 8) (fun _ _ => rfl) hM hB8 hB1 hK4 hP8 hk
    refine lv_aload_n hx hb dL_law_321 rfl (lv_at hl 1 rfl) ?_
    refine lv_aload_n hx hb dL_law_322 rfl (lv_at hl 0 rfl) ?_
    refine lv_iload_n hx hb dL_law_323 rfl (lv_at hl 3 rfl) ?_
    refine lv_iconst (v := nI 1) hx hb dL_law_324 (by decide +kernel) ?_
    refine ia_N hx hb dL_law_325 ?_
    refine sl_N hx hb hX hbl hS hL (by omega) dL_law_326 ?_
    refine rtq e1 ?_
    refine wr_V (ci := 0) (q0 := 0) (rest := []) ⟨hx, hb, hml, hown, hta⟩ (mX0_revenueWithout hP8 hB8 hK4 hA50 hKs hk) gLX0_revenueWithout hdX0_revenueWithout ⟨Nat.le_of_ble_eq_true rfl, Nat.le_of_ble_eq_true rfl⟩ hK0 hP0 (va_D.same hD0 rfl) hS hA0 hP1 (w1_dis hd10) rfl rfl rfl rfl hl.1 rfl (Nat.le_of_ble_eq_true rfl) dL_law_327 ⟨Nat.le_of_ble_eq_true rfl, Nat.le_of_ble_eq_true rfl⟩ (fun r u H locs hq hP0 hP1 hS => ?_)
    obtain ⟨be2, on2⟩ := u
    obtain ⟨hrv, hT⟩ := hq
    have hT : Tab P B K A be2 on2 := hT
    subst hrv
    have hP0 : va_P D vwCl (w0 h d P B K A S true be2 on2 (nI (WN P B K A S))) H := hP0
    refine lv_aload_n hx hb dL_law_330 rfl (lv_at hl 2 rfl) ?_
    refine lv_aload_n hx hb dL_law_331 rfl (lv_at hl 0 rfl) ?_
    refine lv_iload_n hx hb dL_law_332 rfl (lv_at hl 3 rfl) ?_
    refine lv_iconst (v := nI 1) hx hb dL_law_333 (by decide +kernel) ?_
    refine ia_N hx hb dL_law_334 ?_
    refine sl_N hx hb hX hbl hS hL (by omega) dL_law_335 ?_
    refine rtq e1 ?_
    refine wr_V (ci := 1) (q0 := 0) (rest := [.int (nI (sw P B K A k (off S) 256 / 256))]) ⟨hx, hb, hml, hown, hta⟩ (mX1_revenueWithout hM8 hK4 hA50 hS8 hk hbz) gLX1_revenueWithout hdX1_revenueWithout ⟨Nat.le_of_ble_eq_true rfl, Nat.le_of_ble_eq_true rfl⟩ hK1 hP1 (va_D.same hD1 rfl) hS hA1 hP0 (w0_dis hd01) rfl rfl rfl rfl hl.1 rfl (Nat.le_of_ble_eq_true rfl) dL_law_336 ⟨Nat.le_of_ble_eq_true rfl, Nat.le_of_ble_eq_true rfl⟩ (fun r fi2 H locs hq hP1 hP0 hS => ?_)
    have hrv : r = nI (sm A Z 8) := hq
    subst hrv
    have hP1 : va_P D vwCl (w1 g d2 M K A S fi2) H := hP1
    refine lv_icmp_eq (tgt := 459) hx hb dL_law_339 (by decide) (fun _ => ?_) (fun z => absurd (by rw [hsz]) z)
    exact next _ _ _ _ _ _ _ _ _ _ _ _ _ (hI) (fun _ => ⟨hT, rfl⟩) hP0 hP1 hS
set_option maxHeartbeats 1000000 in
set_option maxRecDepth 100000 in
/-- the law: payment -/
theorem law_payment (hL : L ≤ 256) (C0 : lw_At p s m meth c b L xs) (hC : LC s D h d g d2) (hi : i + 4 ≤ L) (hI : Inv P B K A S M) (hKs : KS P B K A S kn be on wi) (hP0 : va_P D vwCl (w0 h d P B K A S kn be on wi) H) (hP1 : va_P D vwCl (w1 g d2 M K A S fi) H) (hS : va_S (fun q : Nat => s.heap.size ≤ q) s.heap H locs) (hl : lv_has ls 4 [(0, .ref b), (1, .ref (h 0)), (2, .ref (g 0)), (3, .int (nI i))]) (next : LN p l e s m b below meth c D h d g d2 ls) : LW p l e s m b below meth c H locs 344 ls [] := by
  obtain ⟨hx, hb, hr, hml, hown, hts, hX, hbl, hlocks, hgv⟩ := C0
  have hta : ∀ w ∈ lw_all, w.before #[Value.ref b] s = true := fun w hw => hts w (lw_all_tbl hw)
  obtain ⟨hK0, hK1, hA0, hA1, hd10, hd01, hD0, hD1⟩ := hC
  obtain ⟨hP8, hB8, hK4, hA50, hS8, hM, hB1⟩ := id hI
  have hM8 := inv_M8 hI
  cases hh : inr 4 (xs (i + 1)) with
  | false =>
    refine lv_aload_n hx hb dL_law_344 rfl (lv_at hl 1 rfl) ?_
    refine lv_aload_n hx hb dL_law_345 rfl (lv_at hl 0 rfl) ?_
    refine lv_iload_n hx hb dL_law_346 rfl (lv_at hl 3 rfl) ?_
    refine lv_iconst (v := nI 1) hx hb dL_law_347 (by decide +kernel) ?_
    refine ia_N hx hb dL_law_348 ?_
    refine sl_N hx hb hX hbl hS hL (by omega) dL_law_349 ?_
    refine ro_V (ci := 0) (q0 := 0) (rest := []) ⟨hx, hb, hml, hown, hta⟩ (mX0_payment_no hh) gLX0_payment hdX0_payment ⟨Nat.le_of_ble_eq_true rfl, Nat.le_of_ble_eq_true rfl⟩ hK0 hP0 rfl rfl rfl rfl hl.1 rfl (Nat.le_of_ble_eq_true rfl) dL_law_350 ⟨Nat.le_of_ble_eq_true rfl, Nat.le_of_ble_eq_true rfl⟩ ?_
    refine lv_aload_n hx hb dL_law_353 rfl (lv_at hl 2 rfl) ?_
    refine lv_aload_n hx hb dL_law_354 rfl (lv_at hl 0 rfl) ?_
    refine lv_iload_n hx hb dL_law_355 rfl (lv_at hl 3 rfl) ?_
    refine lv_iconst (v := nI 1) hx hb dL_law_356 (by decide +kernel) ?_
    refine ia_N hx hb dL_law_357 ?_
    refine sl_N hx hb hX hbl hS hL (by omega) dL_law_358 ?_
    refine ro_V (ci := 1) (q0 := 0) (rest := [.int (-1)]) ⟨hx, hb, hml, hown, hta⟩ (mX1_payment_no hh) gLX1_payment hdX1_payment ⟨Nat.le_of_ble_eq_true rfl, Nat.le_of_ble_eq_true rfl⟩ hK1 hP1 rfl rfl rfl rfl hl.1 rfl (Nat.le_of_ble_eq_true rfl) dL_law_359 ⟨Nat.le_of_ble_eq_true rfl, Nat.le_of_ble_eq_true rfl⟩ ?_
    refine lv_icmp_eq (tgt := 459) hx hb dL_law_362 (by decide) (fun _ => ?_) (fun z => absurd (rfl) z)
    exact next _ _ _ _ _ _ _ _ _ _ _ _ _ (hI) (hKs) hP0 hP1 hS
  | true =>
    obtain ⟨k, hk, e1⟩ := inr_of (by decide) hh
    have hwin := win_eq (A := A) (fi := fun X => alo M K S X 8) (fun _ _ => rfl) hM hB8 hB1 hK4
    obtain ⟨Z, hZ8, hbz, hsz⟩ := wo_eq (A := A) (fi := fun X => alo M K S X 8) (fun _ _ => rfl) hM hB8 hB1 hK4 hP8 hk
    cases hwk : wk P B K A S k with
    | none =>
      have hm := wk_none (A := A) (S := S) hM hB1 hP8 hwk
      refine lv_aload_n hx hb dL_law_344 rfl (lv_at hl 1 rfl) ?_
      refine lv_aload_n hx hb dL_law_345 rfl (lv_at hl 0 rfl) ?_
      refine lv_iload_n hx hb dL_law_346 rfl (lv_at hl 3 rfl) ?_
      refine lv_iconst (v := nI 1) hx hb dL_law_347 (by decide +kernel) ?_
      refine ia_N hx hb dL_law_348 ?_
      refine sl_N hx hb hX hbl hS hL (by omega) dL_law_349 ?_
      refine rtq e1 ?_
      refine wr_V (ci := 0) (q0 := 0) (rest := []) ⟨hx, hb, hml, hown, hta⟩ (mX0_payment hP8 hB8 hK4 hA50 hKs hk) gLX0_payment hdX0_payment ⟨Nat.le_of_ble_eq_true rfl, Nat.le_of_ble_eq_true rfl⟩ hK0 hP0 (va_D.same hD0 rfl) hS hA0 hP1 (w1_dis hd10) rfl rfl rfl rfl hl.1 rfl (Nat.le_of_ble_eq_true rfl) dL_law_350 ⟨Nat.le_of_ble_eq_true rfl, Nat.le_of_ble_eq_true rfl⟩ (fun r u H locs hq hP0 hP1 hS => ?_)
      obtain ⟨be2, on2⟩ := u
      obtain ⟨hrv, hT⟩ := hq
      have hT : Tab P B K A be2 on2 := hT
      subst hrv
      have hP0 : va_P D vwCl (w0 h d P B K A S true be2 on2 (nI (WN P B K A S))) H := hP0
      refine lv_aload_n hx hb dL_law_353 rfl (lv_at hl 2 rfl) ?_
      refine lv_aload_n hx hb dL_law_354 rfl (lv_at hl 0 rfl) ?_
      refine lv_iload_n hx hb dL_law_355 rfl (lv_at hl 3 rfl) ?_
      refine lv_iconst (v := nI 1) hx hb dL_law_356 (by decide +kernel) ?_
      refine ia_N hx hb dL_law_357 ?_
      refine sl_N hx hb hX hbl hS hL (by omega) dL_law_358 ?_
      refine rtq e1 ?_
      refine wr_V (ci := 1) (q0 := 0) (rest := [.int (pay P B K A S k)]) ⟨hx, hb, hml, hown, hta⟩ (mX1_payment_0 hM8 hK4 hA50 hS8 hwin hk hbz hm) gLX1_payment hdX1_payment ⟨Nat.le_of_ble_eq_true rfl, Nat.le_of_ble_eq_true rfl⟩ hK1 hP1 (va_D.same hD1 rfl) hS hA1 hP0 (w0_dis hd01) rfl rfl rfl rfl hl.1 rfl (Nat.le_of_ble_eq_true rfl) dL_law_359 ⟨Nat.le_of_ble_eq_true rfl, Nat.le_of_ble_eq_true rfl⟩ (fun r fi2 H locs hq hP1 hP0 hS => ?_)
      have hrv : r = nI 0 := hq
      subst hrv
      have hP1 : va_P D vwCl (w1 g d2 M K A S fi2) H := hP1
      refine lv_icmp_eq (tgt := 459) hx hb dL_law_362 (by decide) (fun _ => ?_) (fun z => absurd (by rw [pay, hwk]) z)
      exact next _ _ _ _ _ _ _ _ _ _ _ _ _ (hI) (fun _ => ⟨hT, rfl⟩) hP0 hP1 hS
    | some b0 =>
      obtain ⟨hm, hb0, -, -⟩ := wk_some (A := A) (S := S) hM hB1 hP8 hwk
      have hm2 : WN P B K A S &&& ofk M K k ≠ 0 := by rw [hm]; exact Nat.pos_iff_ne_zero.mp (Nat.two_pow_pos b0)
      refine lv_aload_n hx hb dL_law_344 rfl (lv_at hl 1 rfl) ?_
      refine lv_aload_n hx hb dL_law_345 rfl (lv_at hl 0 rfl) ?_
      refine lv_iload_n hx hb dL_law_346 rfl (lv_at hl 3 rfl) ?_
      refine lv_iconst (v := nI 1) hx hb dL_law_347 (by decide +kernel) ?_
      refine ia_N hx hb dL_law_348 ?_
      refine sl_N hx hb hX hbl hS hL (by omega) dL_law_349 ?_
      refine rtq e1 ?_
      refine wr_V (ci := 0) (q0 := 0) (rest := []) ⟨hx, hb, hml, hown, hta⟩ (mX0_payment hP8 hB8 hK4 hA50 hKs hk) gLX0_payment hdX0_payment ⟨Nat.le_of_ble_eq_true rfl, Nat.le_of_ble_eq_true rfl⟩ hK0 hP0 (va_D.same hD0 rfl) hS hA0 hP1 (w1_dis hd10) rfl rfl rfl rfl hl.1 rfl (Nat.le_of_ble_eq_true rfl) dL_law_350 ⟨Nat.le_of_ble_eq_true rfl, Nat.le_of_ble_eq_true rfl⟩ (fun r u H locs hq hP0 hP1 hS => ?_)
      obtain ⟨be2, on2⟩ := u
      obtain ⟨hrv, hT⟩ := hq
      have hT : Tab P B K A be2 on2 := hT
      subst hrv
      have hP0 : va_P D vwCl (w0 h d P B K A S true be2 on2 (nI (WN P B K A S))) H := hP0
      refine lv_aload_n hx hb dL_law_353 rfl (lv_at hl 2 rfl) ?_
      refine lv_aload_n hx hb dL_law_354 rfl (lv_at hl 0 rfl) ?_
      refine lv_iload_n hx hb dL_law_355 rfl (lv_at hl 3 rfl) ?_
      refine lv_iconst (v := nI 1) hx hb dL_law_356 (by decide +kernel) ?_
      refine ia_N hx hb dL_law_357 ?_
      refine sl_N hx hb hX hbl hS hL (by omega) dL_law_358 ?_
      refine rtq e1 ?_
      refine wr_V (ci := 1) (q0 := 0) (rest := [.int (pay P B K A S k)]) ⟨hx, hb, hml, hown, hta⟩ (mX1_payment_1 hM8 hK4 hA50 hS8 hwin hk hbz hm2) gLX1_payment hdX1_payment ⟨Nat.le_of_ble_eq_true rfl, Nat.le_of_ble_eq_true rfl⟩ hK1 hP1 (va_D.same hD1 rfl) hS hA1 hP0 (w0_dis hd01) rfl rfl rfl rfl hl.1 rfl (Nat.le_of_ble_eq_true rfl) dL_law_359 ⟨Nat.le_of_ble_eq_true rfl, Nat.le_of_ble_eq_true rfl⟩ (fun r fi2 H locs hq hP1 hP0 hS => ?_)
      have hrv : r = nI (sm A Z 8) - (nI (sm A (WN P B K A S) 8) - nI (sm A (WN P B K A S &&& ofk M K k) 8)) := hq
      subst hrv
      have hP1 : va_P D vwCl (w1 g d2 M K A S fi2) H := hP1
      refine lv_icmp_eq (tgt := 459) hx hb dL_law_362 (by decide) (fun _ => ?_) (fun z => absurd (by rw [pay, hwk, hm, hsz, rev_eq, sm_two, if_pos hb0]) z)
      exact next _ _ _ _ _ _ _ _ _ _ _ _ _ (hI) (fun _ => ⟨hT, rfl⟩) hP0 hP1 hS
set_option maxHeartbeats 1000000 in
set_option maxRecDepth 100000 in
/-- the law: threshold -/
theorem law_threshold (hL : L ≤ 256) (C0 : lw_At p s m meth c b L xs) (hC : LC s D h d g d2) (hi : i + 4 ≤ L) (hI : Inv P B K A S M) (hKs : KS P B K A S kn be on wi) (hP0 : va_P D vwCl (w0 h d P B K A S kn be on wi) H) (hP1 : va_P D vwCl (w1 g d2 M K A S fi) H) (hS : va_S (fun q : Nat => s.heap.size ≤ q) s.heap H locs) (hl : lv_has ls 4 [(0, .ref b), (1, .ref (h 0)), (2, .ref (g 0)), (3, .int (nI i))]) (next : LN p l e s m b below meth c D h d g d2 ls) : LW p l e s m b below meth c H locs 367 ls [] := by
  obtain ⟨hx, hb, hr, hml, hown, hts, hX, hbl, hlocks, hgv⟩ := C0
  have hta : ∀ w ∈ lw_all, w.before #[Value.ref b] s = true := fun w hw => hts w (lw_all_tbl hw)
  obtain ⟨hK0, hK1, hA0, hA1, hd10, hd01, hD0, hD1⟩ := hC
  obtain ⟨hP8, hB8, hK4, hA50, hS8, hM, hB1⟩ := id hI
  have hM8 := inv_M8 hI
  cases hh : hasb P (xs (i + 1)) with
  | false =>
    refine lv_aload_n hx hb dL_law_367 rfl (lv_at hl 1 rfl) ?_
    refine lv_aload_n hx hb dL_law_368 rfl (lv_at hl 0 rfl) ?_
    refine lv_iload_n hx hb dL_law_369 rfl (lv_at hl 3 rfl) ?_
    refine lv_iconst (v := nI 1) hx hb dL_law_370 (by decide +kernel) ?_
    refine ia_N hx hb dL_law_371 ?_
    refine sl_N hx hb hX hbl hS hL (by omega) dL_law_372 ?_
    refine ro_V (ci := 0) (q0 := 0) (rest := []) ⟨hx, hb, hml, hown, hta⟩ (mX0_threshold_no hP8 hh) gLX0_threshold hdX0_threshold ⟨Nat.le_of_ble_eq_true rfl, Nat.le_of_ble_eq_true rfl⟩ hK0 hP0 rfl rfl rfl rfl hl.1 rfl (Nat.le_of_ble_eq_true rfl) dL_law_373 ⟨Nat.le_of_ble_eq_true rfl, Nat.le_of_ble_eq_true rfl⟩ ?_
    refine lv_aload_n hx hb dL_law_376 rfl (lv_at hl 2 rfl) ?_
    refine lv_aload_n hx hb dL_law_377 rfl (lv_at hl 0 rfl) ?_
    refine lv_iload_n hx hb dL_law_378 rfl (lv_at hl 3 rfl) ?_
    refine lv_iconst (v := nI 1) hx hb dL_law_379 (by decide +kernel) ?_
    refine ia_N hx hb dL_law_380 ?_
    refine sl_N hx hb hX hbl hS hL (by omega) dL_law_381 ?_
    refine ro_V (ci := 1) (q0 := 0) (rest := [.int (-1)]) ⟨hx, hb, hml, hown, hta⟩ (mX1_threshold_no hM8 ((isb_eq hI _).trans hh)) gLX1_threshold hdX1_threshold ⟨Nat.le_of_ble_eq_true rfl, Nat.le_of_ble_eq_true rfl⟩ hK1 hP1 rfl rfl rfl rfl hl.1 rfl (Nat.le_of_ble_eq_true rfl) dL_law_382 ⟨Nat.le_of_ble_eq_true rfl, Nat.le_of_ble_eq_true rfl⟩ ?_
    refine lv_icmp_eq (tgt := 459) hx hb dL_law_385 (by decide) (fun _ => ?_) (fun z => absurd (rfl) z)
    exact next _ _ _ _ _ _ _ _ _ _ _ _ _ (hI) (hKs) hP0 hP1 hS
  | true =>
    obtain ⟨j, hj, e1, hj1⟩ := hasb_of hh
    have hj2 : 0 < M j := (M_pos hM hB1 j).mpr hj1
    by_cases hs : B j &&& S = 0
    · have hth : thr P B K A S j = nI (lm (hb_ A (fun X => alo M K S X 8) j) 50 51) := by
        rw [lm_ff, ff_cong (fun a => hb_eq (fi := fun X => alo M K S X 8) (fun _ _ => rfl) hM hB8 hB1 hK4 hj hj1 hs a), thr]
        generalize ff (fun w => decide (slk P B K A j (off S) 8 < w * 256 + 2 ^ (7 - j) + sw P B K A (K j) (nd (off S) (B j)) 256)) 50 1 = o
        cases o <;> rfl
      refine lv_aload_n hx hb dL_law_367 rfl (lv_at hl 1 rfl) ?_
      refine lv_aload_n hx hb dL_law_368 rfl (lv_at hl 0 rfl) ?_
      refine lv_iload_n hx hb dL_law_369 rfl (lv_at hl 3 rfl) ?_
      refine lv_iconst (v := nI 1) hx hb dL_law_370 (by decide +kernel) ?_
      refine ia_N hx hb dL_law_371 ?_
      refine sl_N hx hb hX hbl hS hL (by omega) dL_law_372 ?_
      refine rtq e1 ?_
      refine wr_V (ci := 0) (q0 := 0) (rest := []) ⟨hx, hb, hml, hown, hta⟩ (mX0_threshold hP8 hB8 hK4 hA50 hKs hj hj1 hs) gLX0_threshold hdX0_threshold ⟨Nat.le_of_ble_eq_true rfl, Nat.le_of_ble_eq_true rfl⟩ hK0 hP0 (va_D.same hD0 rfl) hS hA0 hP1 (w1_dis hd10) rfl rfl rfl rfl hl.1 rfl (Nat.le_of_ble_eq_true rfl) dL_law_373 ⟨Nat.le_of_ble_eq_true rfl, Nat.le_of_ble_eq_true rfl⟩ (fun r u H locs hq hP0 hP1 hS => ?_)
      obtain ⟨be2, on2⟩ := u
      obtain ⟨hrv, hT⟩ := hq
      have hT : Tab P B K A be2 on2 := hT
      subst hrv
      have hP0 : va_P D vwCl (w0 h d P B K A S true be2 on2 (nI (WN P B K A S))) H := hP0
      refine lv_aload_n hx hb dL_law_376 rfl (lv_at hl 2 rfl) ?_
      refine lv_aload_n hx hb dL_law_377 rfl (lv_at hl 0 rfl) ?_
      refine lv_iload_n hx hb dL_law_378 rfl (lv_at hl 3 rfl) ?_
      refine lv_iconst (v := nI 1) hx hb dL_law_379 (by decide +kernel) ?_
      refine ia_N hx hb dL_law_380 ?_
      refine sl_N hx hb hX hbl hS hL (by omega) dL_law_381 ?_
      refine rtq e1 ?_
      refine wr_V (ci := 1) (q0 := 0) (rest := [.int (thr P B K A S j)]) ⟨hx, hb, hml, hown, hta⟩ (mX1_threshold hM8 hK4 hA50 hS8 hj hj2) gLX1_threshold hdX1_threshold ⟨Nat.le_of_ble_eq_true rfl, Nat.le_of_ble_eq_true rfl⟩ hK1 hP1 (va_D.same hD1 rfl) hS hA1 hP0 (w0_dis hd01) rfl rfl rfl rfl hl.1 rfl (Nat.le_of_ble_eq_true rfl) dL_law_382 ⟨Nat.le_of_ble_eq_true rfl, Nat.le_of_ble_eq_true rfl⟩ (fun r fi2 H locs hq hP1 hP0 hS => ?_)
      have hrv : r = nI (lm (hb_ A (fun X => alo M K S X 8) j) 50 51) := hq
      subst hrv
      have hP1 : va_P D vwCl (w1 g d2 M K A S fi2) H := hP1
      refine lv_icmp_eq (tgt := 459) hx hb dL_law_385 (by decide) (fun _ => ?_) (fun z => absurd (hth) z)
      exact next _ _ _ _ _ _ _ _ _ _ _ _ _ (hI) (fun _ => ⟨hT, rfl⟩) hP0 hP1 hS
    · have hth : nI 51 = nI (lm (hb_ A (fun X => alo M K S X 8) j) 50 51) := by
        rw [lm_ff, ff_no (fun a => hb_no (fi := fun X => alo M K S X 8) (fun _ _ => rfl) hM hB8 hB1 hK4 hs a)]
      refine lv_aload_n hx hb dL_law_367 rfl (lv_at hl 1 rfl) ?_
      refine lv_aload_n hx hb dL_law_368 rfl (lv_at hl 0 rfl) ?_
      refine lv_iload_n hx hb dL_law_369 rfl (lv_at hl 3 rfl) ?_
      refine lv_iconst (v := nI 1) hx hb dL_law_370 (by decide +kernel) ?_
      refine ia_N hx hb dL_law_371 ?_
      refine sl_N hx hb hX hbl hS hL (by omega) dL_law_372 ?_
      refine rtq e1 ?_
      refine ro_V (ci := 0) (q0 := 0) (rest := []) ⟨hx, hb, hml, hown, hta⟩ (mX0_threshold_held hP8 hB8 hj hj1 hs) gLX0_threshold hdX0_threshold ⟨Nat.le_of_ble_eq_true rfl, Nat.le_of_ble_eq_true rfl⟩ hK0 hP0 rfl rfl rfl rfl hl.1 rfl (Nat.le_of_ble_eq_true rfl) dL_law_373 ⟨Nat.le_of_ble_eq_true rfl, Nat.le_of_ble_eq_true rfl⟩ ?_
      refine lv_aload_n hx hb dL_law_376 rfl (lv_at hl 2 rfl) ?_
      refine lv_aload_n hx hb dL_law_377 rfl (lv_at hl 0 rfl) ?_
      refine lv_iload_n hx hb dL_law_378 rfl (lv_at hl 3 rfl) ?_
      refine lv_iconst (v := nI 1) hx hb dL_law_379 (by decide +kernel) ?_
      refine ia_N hx hb dL_law_380 ?_
      refine sl_N hx hb hX hbl hS hL (by omega) dL_law_381 ?_
      refine rtq e1 ?_
      refine wr_V (ci := 1) (q0 := 0) (rest := [.int (nI 51)]) ⟨hx, hb, hml, hown, hta⟩ (mX1_threshold hM8 hK4 hA50 hS8 hj hj2) gLX1_threshold hdX1_threshold ⟨Nat.le_of_ble_eq_true rfl, Nat.le_of_ble_eq_true rfl⟩ hK1 hP1 (va_D.same hD1 rfl) hS hA1 hP0 (w0_dis hd01) rfl rfl rfl rfl hl.1 rfl (Nat.le_of_ble_eq_true rfl) dL_law_382 ⟨Nat.le_of_ble_eq_true rfl, Nat.le_of_ble_eq_true rfl⟩ (fun r fi2 H locs hq hP1 hP0 hS => ?_)
      have hrv : r = nI (lm (hb_ A (fun X => alo M K S X 8) j) 50 51) := hq
      subst hrv
      have hP1 : va_P D vwCl (w1 g d2 M K A S fi2) H := hP1
      refine lv_icmp_eq (tgt := 459) hx hb dL_law_385 (by decide) (fun _ => ?_) (fun z => absurd (hth) z)
      exact next _ _ _ _ _ _ _ _ _ _ _ _ _ (hI) (hKs) hP0 hP1 hS
set_option maxHeartbeats 1000000 in
set_option maxRecDepth 100000 in
/-- the law: revenueWith -/
theorem law_revenueWith (hL : L ≤ 256) (C0 : lw_At p s m meth c b L xs) (hC : LC s D h d g d2) (hi : i + 4 ≤ L) (hI : Inv P B K A S M) (hKs : KS P B K A S kn be on wi) (hP0 : va_P D vwCl (w0 h d P B K A S kn be on wi) H) (hP1 : va_P D vwCl (w1 g d2 M K A S fi) H) (hS : va_S (fun q : Nat => s.heap.size ≤ q) s.heap H locs) (hl : lv_has ls 4 [(0, .ref b), (1, .ref (h 0)), (2, .ref (g 0)), (3, .int (nI i))]) (next : LN p l e s m b below meth c D h d g d2 ls) : LW p l e s m b below meth c H locs 390 ls [] := by
  obtain ⟨hx, hb, hr, hml, hown, hts, hX, hbl, hlocks, hgv⟩ := C0
  have hta : ∀ w ∈ lw_all, w.before #[Value.ref b] s = true := fun w hw => hts w (lw_all_tbl hw)
  obtain ⟨hK0, hK1, hA0, hA1, hd10, hd01, hD0, hD1⟩ := hC
  obtain ⟨hP8, hB8, hK4, hA50, hS8, hM, hB1⟩ := id hI
  have hM8 := inv_M8 hI
  cases hh : hasb P (xs (i + 1)) with
  | false =>
    refine lv_aload_n hx hb dL_law_390 rfl (lv_at hl 1 rfl) ?_
    refine lv_aload_n hx hb dL_law_391 rfl (lv_at hl 0 rfl) ?_
    refine lv_iload_n hx hb dL_law_392 rfl (lv_at hl 3 rfl) ?_
    refine lv_iconst (v := nI 1) hx hb dL_law_393 (by decide +kernel) ?_
    refine ia_N hx hb dL_law_394 ?_
    refine sl_N hx hb hX hbl hS hL (by omega) dL_law_395 ?_
    refine ro_V (ci := 0) (q0 := 0) (rest := []) ⟨hx, hb, hml, hown, hta⟩ (mX0_revenueWith_no hP8 hh) gLX0_revenueWith hdX0_revenueWith ⟨Nat.le_of_ble_eq_true rfl, Nat.le_of_ble_eq_true rfl⟩ hK0 hP0 rfl rfl rfl rfl hl.1 rfl (Nat.le_of_ble_eq_true rfl) dL_law_396 ⟨Nat.le_of_ble_eq_true rfl, Nat.le_of_ble_eq_true rfl⟩ ?_
    refine lv_aload_n hx hb dL_law_399 rfl (lv_at hl 2 rfl) ?_
    refine lv_aload_n hx hb dL_law_400 rfl (lv_at hl 0 rfl) ?_
    refine lv_iload_n hx hb dL_law_401 rfl (lv_at hl 3 rfl) ?_
    refine lv_iconst (v := nI 1) hx hb dL_law_402 (by decide +kernel) ?_
    refine ia_N hx hb dL_law_403 ?_
    refine sl_N hx hb hX hbl hS hL (by omega) dL_law_404 ?_
    refine ro_V (ci := 1) (q0 := 0) (rest := [.int (-1)]) ⟨hx, hb, hml, hown, hta⟩ (mX1_revenueWith_no hM8 ((isb_eq hI _).trans hh)) gLX1_revenueWith hdX1_revenueWith ⟨Nat.le_of_ble_eq_true rfl, Nat.le_of_ble_eq_true rfl⟩ hK1 hP1 rfl rfl rfl rfl hl.1 rfl (Nat.le_of_ble_eq_true rfl) dL_law_405 ⟨Nat.le_of_ble_eq_true rfl, Nat.le_of_ble_eq_true rfl⟩ ?_
    refine lv_icmp_eq (tgt := 459) hx hb dL_law_408 (by decide) (fun _ => ?_) (fun z => absurd (rfl) z)
    exact next _ _ _ _ _ _ _ _ _ _ _ _ _ (hI) (hKs) hP0 hP1 hS
  | true =>
    obtain ⟨j, hj, e1, hj1⟩ := hasb_of hh
    have hj2 : 0 < M j := (M_pos hM hB1 j).mpr hj1
    by_cases hs : B j &&& S = 0
    · obtain ⟨Z, hZ8, hbz, hsz⟩ := rw_eq (A := A) (fi := fun X => alo M K S X 8) (fun _ _ => rfl) hM hB8 hB1 hK4 hj hj1 hs
      refine lv_aload_n hx hb dL_law_390 rfl (lv_at hl 1 rfl) ?_
      refine lv_aload_n hx hb dL_law_391 rfl (lv_at hl 0 rfl) ?_
      refine lv_iload_n hx hb dL_law_392 rfl (lv_at hl 3 rfl) ?_
      refine lv_iconst (v := nI 1) hx hb dL_law_393 (by decide +kernel) ?_
      refine ia_N hx hb dL_law_394 ?_
      refine sl_N hx hb hX hbl hS hL (by omega) dL_law_395 ?_
      refine rtq e1 ?_
      refine wr_V (ci := 0) (q0 := 0) (rest := []) ⟨hx, hb, hml, hown, hta⟩ (mX0_revenueWith hP8 hB8 hK4 hA50 hKs hj hj1 hs) gLX0_revenueWith hdX0_revenueWith ⟨Nat.le_of_ble_eq_true rfl, Nat.le_of_ble_eq_true rfl⟩ hK0 hP0 (va_D.same hD0 rfl) hS hA0 hP1 (w1_dis hd10) rfl rfl rfl rfl hl.1 rfl (Nat.le_of_ble_eq_true rfl) dL_law_396 ⟨Nat.le_of_ble_eq_true rfl, Nat.le_of_ble_eq_true rfl⟩ (fun r u H locs hq hP0 hP1 hS => ?_)
      obtain ⟨be2, on2⟩ := u
      obtain ⟨hrv, hT⟩ := hq
      have hT : Tab P B K A be2 on2 := hT
      subst hrv
      have hP0 : va_P D vwCl (w0 h d P B K A S true be2 on2 (nI (WN P B K A S))) H := hP0
      refine lv_aload_n hx hb dL_law_399 rfl (lv_at hl 2 rfl) ?_
      refine lv_aload_n hx hb dL_law_400 rfl (lv_at hl 0 rfl) ?_
      refine lv_iload_n hx hb dL_law_401 rfl (lv_at hl 3 rfl) ?_
      refine lv_iconst (v := nI 1) hx hb dL_law_402 (by decide +kernel) ?_
      refine ia_N hx hb dL_law_403 ?_
      refine sl_N hx hb hX hbl hS hL (by omega) dL_law_404 ?_
      refine rtq e1 ?_
      refine wr_V (ci := 1) (q0 := 0) (rest := [.int (nI (A j + sw P B K A (K j) (nd (off S) (B j)) 256 / 256))]) ⟨hx, hb, hml, hown, hta⟩ (mX1_revenueWith_some hM8 hK4 hA50 hS8 hj hj2 hbz) gLX1_revenueWith hdX1_revenueWith ⟨Nat.le_of_ble_eq_true rfl, Nat.le_of_ble_eq_true rfl⟩ hK1 hP1 (va_D.same hD1 rfl) hS hA1 hP0 (w0_dis hd01) rfl rfl rfl rfl hl.1 rfl (Nat.le_of_ble_eq_true rfl) dL_law_405 ⟨Nat.le_of_ble_eq_true rfl, Nat.le_of_ble_eq_true rfl⟩ (fun r fi2 H locs hq hP1 hP0 hS => ?_)
      have hrv : r = nI (sm A Z 8) := hq
      subst hrv
      have hP1 : va_P D vwCl (w1 g d2 M K A S fi2) H := hP1
      refine lv_icmp_eq (tgt := 459) hx hb dL_law_408 (by decide) (fun _ => ?_) (fun z => absurd (by rw [hsz]) z)
      exact next _ _ _ _ _ _ _ _ _ _ _ _ _ (hI) (fun _ => ⟨hT, rfl⟩) hP0 hP1 hS
    · have hbz := rw_none (A := A) (K := K) (fi := fun X => alo M K S X 8) (fun _ _ => rfl) hM hB8 hB1 hs
      refine lv_aload_n hx hb dL_law_390 rfl (lv_at hl 1 rfl) ?_
      refine lv_aload_n hx hb dL_law_391 rfl (lv_at hl 0 rfl) ?_
      refine lv_iload_n hx hb dL_law_392 rfl (lv_at hl 3 rfl) ?_
      refine lv_iconst (v := nI 1) hx hb dL_law_393 (by decide +kernel) ?_
      refine ia_N hx hb dL_law_394 ?_
      refine sl_N hx hb hX hbl hS hL (by omega) dL_law_395 ?_
      refine rtq e1 ?_
      refine ro_V (ci := 0) (q0 := 0) (rest := []) ⟨hx, hb, hml, hown, hta⟩ (mX0_revenueWith_held hP8 hB8 hj hj1 hs) gLX0_revenueWith hdX0_revenueWith ⟨Nat.le_of_ble_eq_true rfl, Nat.le_of_ble_eq_true rfl⟩ hK0 hP0 rfl rfl rfl rfl hl.1 rfl (Nat.le_of_ble_eq_true rfl) dL_law_396 ⟨Nat.le_of_ble_eq_true rfl, Nat.le_of_ble_eq_true rfl⟩ ?_
      refine lv_aload_n hx hb dL_law_399 rfl (lv_at hl 2 rfl) ?_
      refine lv_aload_n hx hb dL_law_400 rfl (lv_at hl 0 rfl) ?_
      refine lv_iload_n hx hb dL_law_401 rfl (lv_at hl 3 rfl) ?_
      refine lv_iconst (v := nI 1) hx hb dL_law_402 (by decide +kernel) ?_
      refine ia_N hx hb dL_law_403 ?_
      refine sl_N hx hb hX hbl hS hL (by omega) dL_law_404 ?_
      refine rtq e1 ?_
      refine wr_V (ci := 1) (q0 := 0) (rest := [.int (-1)]) ⟨hx, hb, hml, hown, hta⟩ (mX1_revenueWith_none hM8 hK4 hA50 hS8 hj hj2 hbz) gLX1_revenueWith hdX1_revenueWith ⟨Nat.le_of_ble_eq_true rfl, Nat.le_of_ble_eq_true rfl⟩ hK1 hP1 (va_D.same hD1 rfl) hS hA1 hP0 (w0_dis hd01) rfl rfl rfl rfl hl.1 rfl (Nat.le_of_ble_eq_true rfl) dL_law_405 ⟨Nat.le_of_ble_eq_true rfl, Nat.le_of_ble_eq_true rfl⟩ (fun r fi2 H locs hq hP1 hP0 hS => ?_)
      have hrv : r = -1 := hq
      subst hrv
      have hP1 : va_P D vwCl (w1 g d2 M K A S fi2) H := hP1
      refine lv_icmp_eq (tgt := 459) hx hb dL_law_408 (by decide) (fun _ => ?_) (fun z => absurd (rfl) z)
      exact next _ _ _ _ _ _ _ _ _ _ _ _ _ (hI) (hKs) hP0 hP1 hS
set_option maxHeartbeats 1000000 in
set_option maxRecDepth 100000 in
/-- the law: price -/
theorem law_price (hL : L ≤ 256) (C0 : lw_At p s m meth c b L xs) (hC : LC s D h d g d2) (hi : i + 4 ≤ L) (hI : Inv P B K A S M) (hKs : KS P B K A S kn be on wi) (hP0 : va_P D vwCl (w0 h d P B K A S kn be on wi) H) (hP1 : va_P D vwCl (w1 g d2 M K A S fi) H) (hS : va_S (fun q : Nat => s.heap.size ≤ q) s.heap H locs) (hl : lv_has ls 4 [(0, .ref b), (1, .ref (h 0)), (2, .ref (g 0)), (3, .int (nI i))]) (next : LN p l e s m b below meth c D h d g d2 ls) : LW p l e s m b below meth c H locs 413 ls [] := by
  obtain ⟨hx, hb, hr, hml, hown, hts, hX, hbl, hlocks, hgv⟩ := C0
  have hta : ∀ w ∈ lw_all, w.before #[Value.ref b] s = true := fun w hw => hts w (lw_all_tbl hw)
  obtain ⟨hK0, hK1, hA0, hA1, hd10, hd01, hD0, hD1⟩ := hC
  obtain ⟨hP8, hB8, hK4, hA50, hS8, hM, hB1⟩ := id hI
  have hM8 := inv_M8 hI
  cases hh : inr 8 (xs (i + 1)) with
  | false =>
    refine lv_aload_n hx hb dL_law_413 rfl (lv_at hl 1 rfl) ?_
    refine lv_aload_n hx hb dL_law_414 rfl (lv_at hl 0 rfl) ?_
    refine lv_iload_n hx hb dL_law_415 rfl (lv_at hl 3 rfl) ?_
    refine lv_iconst (v := nI 1) hx hb dL_law_416 (by decide +kernel) ?_
    refine ia_N hx hb dL_law_417 ?_
    refine sl_N hx hb hX hbl hS hL (by omega) dL_law_418 ?_
    refine ro_V (ci := 0) (q0 := 0) (rest := []) ⟨hx, hb, hml, hown, hta⟩ (mX0_price_no hh) gLX0_price hdX0_price ⟨Nat.le_of_ble_eq_true rfl, Nat.le_of_ble_eq_true rfl⟩ hK0 hP0 rfl rfl rfl rfl hl.1 rfl (Nat.le_of_ble_eq_true rfl) dL_law_419 ⟨Nat.le_of_ble_eq_true rfl, Nat.le_of_ble_eq_true rfl⟩ ?_
    refine lv_aload_n hx hb dL_law_422 rfl (lv_at hl 2 rfl) ?_
    refine lv_aload_n hx hb dL_law_423 rfl (lv_at hl 0 rfl) ?_
    refine lv_iload_n hx hb dL_law_424 rfl (lv_at hl 3 rfl) ?_
    refine lv_iconst (v := nI 1) hx hb dL_law_425 (by decide +kernel) ?_
    refine ia_N hx hb dL_law_426 ?_
    refine sl_N hx hb hX hbl hS hL (by omega) dL_law_427 ?_
    refine ro_V (ci := 1) (q0 := 0) (rest := [.int (-1)]) ⟨hx, hb, hml, hown, hta⟩ (mX1_price_no hh) gLX1_price hdX1_price ⟨Nat.le_of_ble_eq_true rfl, Nat.le_of_ble_eq_true rfl⟩ hK1 hP1 rfl rfl rfl rfl hl.1 rfl (Nat.le_of_ble_eq_true rfl) dL_law_428 ⟨Nat.le_of_ble_eq_true rfl, Nat.le_of_ble_eq_true rfl⟩ ?_
    refine lv_icmp_eq (tgt := 459) hx hb dL_law_431 (by decide) (fun _ => ?_) (fun z => absurd (rfl) z)
    exact next _ _ _ _ _ _ _ _ _ _ _ _ _ (hI) (hKs) hP0 hP1 hS
  | true =>
    obtain ⟨j, hj, e1⟩ := inr_of (by decide) hh
    have hwin := win_eq (A := A) (fi := fun X => alo M K S X 8) (fun _ _ => rfl) hM hB8 hB1 hK4
    have hwin2 := win_eq (A := A) (fi := fun X => alo M K (S ||| 2 ^ j) X 8) (fun _ _ => rfl) hM hB8 hB1 hK4
    refine lv_aload_n hx hb dL_law_413 rfl (lv_at hl 1 rfl) ?_
    refine lv_aload_n hx hb dL_law_414 rfl (lv_at hl 0 rfl) ?_
    refine lv_iload_n hx hb dL_law_415 rfl (lv_at hl 3 rfl) ?_
    refine lv_iconst (v := nI 1) hx hb dL_law_416 (by decide +kernel) ?_
    refine ia_N hx hb dL_law_417 ?_
    refine sl_N hx hb hX hbl hS hL (by omega) dL_law_418 ?_
    refine rtq e1 ?_
    refine wr_V (ci := 0) (q0 := 0) (rest := []) ⟨hx, hb, hml, hown, hta⟩ (mX0_price hP8 hB8 hK4 hA50 hKs hj) gLX0_price hdX0_price ⟨Nat.le_of_ble_eq_true rfl, Nat.le_of_ble_eq_true rfl⟩ hK0 hP0 (va_D.same hD0 rfl) hS hA0 hP1 (w1_dis hd10) rfl rfl rfl rfl hl.1 rfl (Nat.le_of_ble_eq_true rfl) dL_law_419 ⟨Nat.le_of_ble_eq_true rfl, Nat.le_of_ble_eq_true rfl⟩ (fun r u H locs hq hP0 hP1 hS => ?_)
    obtain ⟨be2, on2⟩ := u
    obtain ⟨hrv, hT⟩ := hq
    have hT : Tab P B K A be2 on2 := hT
    subst hrv
    have hP0 : va_P D vwCl (w0 h d P B K A S true be2 on2 (nI (WN P B K A S))) H := hP0
    refine lv_aload_n hx hb dL_law_422 rfl (lv_at hl 2 rfl) ?_
    refine lv_aload_n hx hb dL_law_423 rfl (lv_at hl 0 rfl) ?_
    refine lv_iload_n hx hb dL_law_424 rfl (lv_at hl 3 rfl) ?_
    refine lv_iconst (v := nI 1) hx hb dL_law_425 (by decide +kernel) ?_
    refine ia_N hx hb dL_law_426 ?_
    refine sl_N hx hb hX hbl hS hL (by omega) dL_law_427 ?_
    refine rtq e1 ?_
    refine wr_V (ci := 1) (q0 := 0) (rest := [.int (nI (Fb P B K A 4 (off S) / 256) - nI (Fb P B K A 4 (nd (off S) (2 ^ j)) / 256))]) ⟨hx, hb, hml, hown, hta⟩ (mX1_price hM8 hK4 hA50 hS8 hwin hwin2 hj) gLX1_price hdX1_price ⟨Nat.le_of_ble_eq_true rfl, Nat.le_of_ble_eq_true rfl⟩ hK1 hP1 (va_D.same hD1 rfl) hS hA1 hP0 (w0_dis hd01) rfl rfl rfl rfl hl.1 rfl (Nat.le_of_ble_eq_true rfl) dL_law_428 ⟨Nat.le_of_ble_eq_true rfl, Nat.le_of_ble_eq_true rfl⟩ (fun r fi2 H locs hq hP1 hP0 hS => ?_)
    have hrv : r = nI (sm A (WN P B K A S) 8) - nI (sm A (WN P B K A (S ||| 2 ^ j)) 8) := hq
    subst hrv
    have hP1 : va_P D vwCl (w1 g d2 M K A S fi2) H := hP1
    refine lv_icmp_eq (tgt := 459) hx hb dL_law_431 (by decide) (fun _ => ?_) (fun z => absurd (by rw [rev_eq, rev_eq, off_or]) z)
    exact next _ _ _ _ _ _ _ _ _ _ _ _ _ (hI) (fun _ => ⟨hT, rfl⟩) hP0 hP1 hS
set_option maxHeartbeats 1000000 in
set_option maxRecDepth 100000 in
/-- the law: allocation -/
theorem law_allocation (hL : L ≤ 256) (C0 : lw_At p s m meth c b L xs) (hC : LC s D h d g d2) (hi : i + 4 ≤ L) (hI : Inv P B K A S M) (hKs : KS P B K A S kn be on wi) (hP0 : va_P D vwCl (w0 h d P B K A S kn be on wi) H) (hP1 : va_P D vwCl (w1 g d2 M K A S fi) H) (hS : va_S (fun q : Nat => s.heap.size ≤ q) s.heap H locs) (hl : lv_has ls 4 [(0, .ref b), (1, .ref (h 0)), (2, .ref (g 0)), (3, .int (nI i))]) (next : LN p l e s m b below meth c D h d g d2 ls) : LW p l e s m b below meth c H locs 436 ls [] := by
  obtain ⟨hx, hb, hr, hml, hown, hts, hX, hbl, hlocks, hgv⟩ := C0
  have hta : ∀ w ∈ lw_all, w.before #[Value.ref b] s = true := fun w hw => hts w (lw_all_tbl hw)
  obtain ⟨hK0, hK1, hA0, hA1, hd10, hd01, hD0, hD1⟩ := hC
  obtain ⟨hP8, hB8, hK4, hA50, hS8, hM, hB1⟩ := id hI
  have hM8 := inv_M8 hI
  obtain ⟨X, hX32, e1⟩ := int_32 (xs (i + 1))
  by_cases hXP : nd X P = 0
  · have hX8 : X < 256 := Nat.lt_of_le_of_lt (nd_0_le hXP) hP8
    refine lv_aload_n hx hb dL_law_436 rfl (lv_at hl 1 rfl) ?_
    refine lv_aload_n hx hb dL_law_437 rfl (lv_at hl 0 rfl) ?_
    refine lv_iload_n hx hb dL_law_438 rfl (lv_at hl 3 rfl) ?_
    refine lv_iconst (v := nI 1) hx hb dL_law_439 (by decide +kernel) ?_
    refine ia_N hx hb dL_law_440 ?_
    refine sl_N hx hb hX hbl hS hL (by omega) dL_law_441 ?_
    refine rtq e1 ?_
    refine ro_V (ci := 0) (q0 := 0) (rest := []) ⟨hx, hb, hml, hown, hta⟩ (mX0_allocation hP8 hB8 hK4 hS8 hXP) gLX0_allocation hdX0_allocation ⟨Nat.le_of_ble_eq_true rfl, Nat.le_of_ble_eq_true rfl⟩ hK0 hP0 rfl rfl rfl rfl hl.1 rfl (Nat.le_of_ble_eq_true rfl) dL_law_442 ⟨Nat.le_of_ble_eq_true rfl, Nat.le_of_ble_eq_true rfl⟩ ?_
    refine lv_aload_n hx hb dL_law_445 rfl (lv_at hl 2 rfl) ?_
    refine lv_aload_n hx hb dL_law_446 rfl (lv_at hl 0 rfl) ?_
    refine lv_iload_n hx hb dL_law_447 rfl (lv_at hl 3 rfl) ?_
    refine lv_iconst (v := nI 1) hx hb dL_law_448 (by decide +kernel) ?_
    refine ia_N hx hb dL_law_449 ?_
    refine sl_N hx hb hX hbl hS hL (by omega) dL_law_450 ?_
    refine rtq e1 ?_
    refine ro_V (ci := 1) (q0 := 0) (rest := [.int (bI (alx B K S X 8))]) ⟨hx, hb, hml, hown, hta⟩ (mX1_allocation hM8 hK4 hS8 hX8) gLX1_allocation hdX1_allocation ⟨Nat.le_of_ble_eq_true rfl, Nat.le_of_ble_eq_true rfl⟩ hK1 hP1 rfl rfl rfl rfl hl.1 rfl (Nat.le_of_ble_eq_true rfl) dL_law_451 ⟨Nat.le_of_ble_eq_true rfl, Nat.le_of_ble_eq_true rfl⟩ ?_
    refine lv_icmp_eq (tgt := 459) hx hb dL_law_454 (by decide) (fun _ => ?_) (fun z => absurd (by rw [alloc_eq hM hB1 hXP]) z)
    exact next _ _ _ _ _ _ _ _ _ _ _ _ _ (hI) (hKs) hP0 hP1 hS
  · cases hh : inr 256 (nI X) with
    | false =>
      refine lv_aload_n hx hb dL_law_436 rfl (lv_at hl 1 rfl) ?_
      refine lv_aload_n hx hb dL_law_437 rfl (lv_at hl 0 rfl) ?_
      refine lv_iload_n hx hb dL_law_438 rfl (lv_at hl 3 rfl) ?_
      refine lv_iconst (v := nI 1) hx hb dL_law_439 (by decide +kernel) ?_
      refine ia_N hx hb dL_law_440 ?_
      refine sl_N hx hb hX hbl hS hL (by omega) dL_law_441 ?_
      refine rtq e1 ?_
      refine ro_V (ci := 0) (q0 := 0) (rest := []) ⟨hx, hb, hml, hown, hta⟩ (mX0_allocation_no hX32 hXP) gLX0_allocation hdX0_allocation ⟨Nat.le_of_ble_eq_true rfl, Nat.le_of_ble_eq_true rfl⟩ hK0 hP0 rfl rfl rfl rfl hl.1 rfl (Nat.le_of_ble_eq_true rfl) dL_law_442 ⟨Nat.le_of_ble_eq_true rfl, Nat.le_of_ble_eq_true rfl⟩ ?_
      refine lv_aload_n hx hb dL_law_445 rfl (lv_at hl 2 rfl) ?_
      refine lv_aload_n hx hb dL_law_446 rfl (lv_at hl 0 rfl) ?_
      refine lv_iload_n hx hb dL_law_447 rfl (lv_at hl 3 rfl) ?_
      refine lv_iconst (v := nI 1) hx hb dL_law_448 (by decide +kernel) ?_
      refine ia_N hx hb dL_law_449 ?_
      refine sl_N hx hb hX hbl hS hL (by omega) dL_law_450 ?_
      refine rtq e1 ?_
      refine ro_V (ci := 1) (q0 := 0) (rest := [.int (bI false)]) ⟨hx, hb, hml, hown, hta⟩ (mX1_allocation_no hh) gLX1_allocation hdX1_allocation ⟨Nat.le_of_ble_eq_true rfl, Nat.le_of_ble_eq_true rfl⟩ hK1 hP1 rfl rfl rfl rfl hl.1 rfl (Nat.le_of_ble_eq_true rfl) dL_law_451 ⟨Nat.le_of_ble_eq_true rfl, Nat.le_of_ble_eq_true rfl⟩ ?_
      refine lv_icmp_eq (tgt := 459) hx hb dL_law_454 (by decide) (fun _ => ?_) (fun z => absurd (rfl) z)
      exact next _ _ _ _ _ _ _ _ _ _ _ _ _ (hI) (hKs) hP0 hP1 hS
    | true =>
      have hX8 : X < 256 := nI_lt_of hX32 hh
      have hal := alo_no (K := K) (S := S) hM hX8 hXP
      refine lv_aload_n hx hb dL_law_436 rfl (lv_at hl 1 rfl) ?_
      refine lv_aload_n hx hb dL_law_437 rfl (lv_at hl 0 rfl) ?_
      refine lv_iload_n hx hb dL_law_438 rfl (lv_at hl 3 rfl) ?_
      refine lv_iconst (v := nI 1) hx hb dL_law_439 (by decide +kernel) ?_
      refine ia_N hx hb dL_law_440 ?_
      refine sl_N hx hb hX hbl hS hL (by omega) dL_law_441 ?_
      refine rtq e1 ?_
      refine ro_V (ci := 0) (q0 := 0) (rest := []) ⟨hx, hb, hml, hown, hta⟩ (mX0_allocation_no hX32 hXP) gLX0_allocation hdX0_allocation ⟨Nat.le_of_ble_eq_true rfl, Nat.le_of_ble_eq_true rfl⟩ hK0 hP0 rfl rfl rfl rfl hl.1 rfl (Nat.le_of_ble_eq_true rfl) dL_law_442 ⟨Nat.le_of_ble_eq_true rfl, Nat.le_of_ble_eq_true rfl⟩ ?_
      refine lv_aload_n hx hb dL_law_445 rfl (lv_at hl 2 rfl) ?_
      refine lv_aload_n hx hb dL_law_446 rfl (lv_at hl 0 rfl) ?_
      refine lv_iload_n hx hb dL_law_447 rfl (lv_at hl 3 rfl) ?_
      refine lv_iconst (v := nI 1) hx hb dL_law_448 (by decide +kernel) ?_
      refine ia_N hx hb dL_law_449 ?_
      refine sl_N hx hb hX hbl hS hL (by omega) dL_law_450 ?_
      refine rtq e1 ?_
      refine ro_V (ci := 1) (q0 := 0) (rest := [.int (bI false)]) ⟨hx, hb, hml, hown, hta⟩ (mX1_allocation hM8 hK4 hS8 hX8) gLX1_allocation hdX1_allocation ⟨Nat.le_of_ble_eq_true rfl, Nat.le_of_ble_eq_true rfl⟩ hK1 hP1 rfl rfl rfl rfl hl.1 rfl (Nat.le_of_ble_eq_true rfl) dL_law_451 ⟨Nat.le_of_ble_eq_true rfl, Nat.le_of_ble_eq_true rfl⟩ ?_
      refine lv_icmp_eq (tgt := 459) hx hb dL_law_454 (by decide) (fun _ => ?_) (fun z => absurd (by rw [hal]) z)
      exact next _ _ _ _ _ _ _ _ _ _ _ _ _ (hI) (hKs) hP0 hP1 hS
end LCB
end
section
set_option maxRecDepth 100000
section LLP
variable {p : Program} {l : Launch} {e : Env} {s : State} {m : MethodId} {below : List Frame} {meth : Method} {c : Code} {b L i : Nat} {xs : Nat → Int32} {D : va_G} {h g : Nat → Nat} {d d2 : Nat → ClassId} {P : Nat} {B K A : Nat → Nat} {S : Nat} {kn : Bool} {be on : Nat → Int32} {wi : Int32} {M : Nat → Nat} {fi : Nat → Int32} {H : Heap} {locs : List Loc} {ls : Array Slot}
set_option maxHeartbeats 1000000 in
set_option maxRecDepth 100000 in
/-- the law's loop: no four ints are left -/
theorem law_exit (hL : L ≤ 256) (C0 : lw_At p s m meth c b L xs) (hlt : L < i + 4) (hi : i ≤ 300) (hS : va_S (fun q : Nat => s.heap.size ≤ q) s.heap H locs) (hl : lv_has ls 4 [(0, .ref b), (1, .ref (h 0)), (2, .ref (g 0)), (3, .int (nI i))]) : LW p l e s m b below meth c H locs 18 ls [] := by
  obtain ⟨hx, hb, hr, hml, hown, hts, hX, hbl, hlocks, hgv⟩ := C0
  refine lv_iload_n hx hb dL_law_18 rfl (lv_at hl 3 rfl) ?_
  refine lv_aload_n hx hb dL_law_19 rfl (lv_at hl 0 rfl) ?_
  refine va_slen hx hb hX hbl (Nat.not_le.mpr hbl) hS dL_law_20 ?_
  refine rtq (y := nI L) rfl ?_
  refine lv_iconst (v := nI 4) hx hb dL_law_21 (by decide +kernel) ?_
  refine lv_isub hx hb dL_law_22 ?_
  refine lv_icmp_gt (tgt := 465) hx hb dL_law_23 (by decide) (fun _ => ?_) (fun z => absurd ((lw_cmp (by omega) (by omega)).mpr hlt) z)
  refine lv_iconst (v := 1) hx hb dL_law_465 (by decide +kernel) ?_
  refine va_forget (fun q hq => hS.2.2 q hq) ?_
  exact lw_ret hx hb hr hlocks dL_law_466
set_option maxHeartbeats 1000000 in
set_option maxRecDepth 100000 in
/-- .. four ints are left: one of the calls, then its end -/
theorem law_body (hL : L ≤ 256) (C0 : lw_At p s m meth c b L xs) (hC : LC s D h d g d2) (hge : i + 4 ≤ L) (hI : Inv P B K A S M) (hKs : KS P B K A S kn be on wi) (hP0 : va_P D vwCl (w0 h d P B K A S kn be on wi) H) (hP1 : va_P D vwCl (w1 g d2 M K A S fi) H) (hS : va_S (fun q : Nat => s.heap.size ≤ q) s.heap H locs) (hl : lv_has ls 4 [(0, .ref b), (1, .ref (h 0)), (2, .ref (g 0)), (3, .int (nI i))]) (next : LN p l e s m b below meth c D h d g d2 ls) : LW p l e s m b below meth c H locs 18 ls [] := by
  obtain ⟨hx, hb, hr, hml, hown, hts, hX, hbl, hlocks, hgv⟩ := id C0
  refine lv_iload_n hx hb dL_law_18 rfl (lv_at hl 3 rfl) ?_
  refine lv_aload_n hx hb dL_law_19 rfl (lv_at hl 0 rfl) ?_
  refine va_slen hx hb hX hbl (Nat.not_le.mpr hbl) hS dL_law_20 ?_
  refine rtq (y := nI L) rfl ?_
  refine lv_iconst (v := nI 4) hx hb dL_law_21 (by decide +kernel) ?_
  refine lv_isub hx hb dL_law_22 ?_
  refine lv_icmp_gt (tgt := 465) hx hb dL_law_23 (by decide) (fun z => absurd ((lw_cmp (by omega) (by omega)).mp z) (by omega)) (fun _ => ?_)
  refine lv_aload_n hx hb dL_law_26 rfl (lv_at hl 0 rfl) ?_
  refine lv_iload_n hx hb dL_law_27 rfl (lv_at hl 3 rfl) ?_
  refine sl_N hx hb hX hbl hS hL (by omega) dL_law_28 ?_
  refine lv_bipush (v := nI 15) hx hb dL_law_29 (by decide +kernel) ?_
  refine lv_iand hx hb dL_law_31 ?_
  obtain ⟨j, hj, ej⟩ := pk_andE (xs i) (m := nI 15) 4 (by decide +kernel)
  refine rtq ej ?_
  rcases (show j = 0 ∨ j = 1 ∨ j = 2 ∨ j = 3 ∨ j = 4 ∨ j = 5 ∨ j = 6 ∨ j = 7 ∨ j = 8 ∨ j = 9 ∨ j = 10 ∨ j = 11 ∨ j = 12 ∨ j = 13 ∨ j = 14 ∨ j = 15 by omega) with rfl | rfl | rfl | rfl | rfl | rfl | rfl | rfl | rfl | rfl | rfl | rfl | rfl | rfl | rfl | rfl
  · refine lv_tableIn (off := 76) (tgt := 108) hx hb dL_law_32 (by decide +kernel) (by decide +kernel) (by decide +kernel) (by decide) ?_
    exact law_bid hL C0 hC hge hI hKs hP0 hP1 hS hl next
  · refine lv_tableIn (off := 119) (tgt := 151) hx hb dL_law_32 (by decide +kernel) (by decide +kernel) (by decide +kernel) (by decide) ?_
    exact law_retract hL C0 hC hge hI hKs hP0 hP1 hS hl next
  · refine lv_tableIn (off := 142) (tgt := 174) hx hb dL_law_32 (by decide +kernel) (by decide +kernel) (by decide +kernel) (by decide) ?_
    exact law_raise hL C0 hC hge hI hKs hP0 hP1 hS hl next
  · refine lv_tableIn (off := 175) (tgt := 207) hx hb dL_law_32 (by decide +kernel) (by decide +kernel) (by decide +kernel) (by decide) ?_
    exact law_withhold hL C0 hC hge hI hKs hP0 hP1 hS hl next
  · refine lv_tableIn (off := 224) (tgt := 256) hx hb dL_law_32 (by decide +kernel) (by decide +kernel) (by decide +kernel) (by decide) ?_
    exact law_bids hL C0 hC hge hI hKs hP0 hP1 hS hl next
  · refine lv_tableIn (off := 237) (tgt := 269) hx hb dL_law_32 (by decide +kernel) (by decide +kernel) (by decide +kernel) (by decide) ?_
    exact law_withheld hL C0 hC hge hI hKs hP0 hP1 hS hl next
  · refine lv_tableIn (off := 250) (tgt := 282) hx hb dL_law_32 (by decide +kernel) (by decide +kernel) (by decide +kernel) (by decide) ?_
    exact law_winners hL C0 hC hge hI hKs hP0 hP1 hS hl next
  · refine lv_tableIn (off := 263) (tgt := 295) hx hb dL_law_32 (by decide +kernel) (by decide +kernel) (by decide +kernel) (by decide) ?_
    exact law_revenue hL C0 hC hge hI hKs hP0 hP1 hS hl next
  · refine lv_tableIn (off := 276) (tgt := 308) hx hb dL_law_32 (by decide +kernel) (by decide +kernel) (by decide +kernel) (by decide) ?_
    exact law_sold hL C0 hC hge hI hKs hP0 hP1 hS hl next
  · refine lv_tableIn (off := 289) (tgt := 321) hx hb dL_law_32 (by decide +kernel) (by decide +kernel) (by decide +kernel) (by decide) ?_
    exact law_revenueWithout hL C0 hC hge hI hKs hP0 hP1 hS hl next
  · refine lv_tableIn (off := 312) (tgt := 344) hx hb dL_law_32 (by decide +kernel) (by decide +kernel) (by decide +kernel) (by decide) ?_
    exact law_payment hL C0 hC hge hI hKs hP0 hP1 hS hl next
  · refine lv_tableIn (off := 335) (tgt := 367) hx hb dL_law_32 (by decide +kernel) (by decide +kernel) (by decide +kernel) (by decide) ?_
    exact law_threshold hL C0 hC hge hI hKs hP0 hP1 hS hl next
  · refine lv_tableIn (off := 358) (tgt := 390) hx hb dL_law_32 (by decide +kernel) (by decide +kernel) (by decide +kernel) (by decide) ?_
    exact law_revenueWith hL C0 hC hge hI hKs hP0 hP1 hS hl next
  · refine lv_tableIn (off := 381) (tgt := 413) hx hb dL_law_32 (by decide +kernel) (by decide +kernel) (by decide +kernel) (by decide) ?_
    exact law_price hL C0 hC hge hI hKs hP0 hP1 hS hl next
  · refine lv_tableIn (off := 404) (tgt := 436) hx hb dL_law_32 (by decide +kernel) (by decide +kernel) (by decide +kernel) (by decide) ?_
    exact law_allocation hL C0 hC hge hI hKs hP0 hP1 hS hl next
  · refine lv_tableOut (tgt := 459) hx hb dL_law_32 (Or.inr (by decide +kernel)) (by decide) ?_
    exact next _ _ _ _ _ _ _ _ _ _ _ _ _ hI hKs hP0 hP1 hS
set_option maxHeartbeats 1000000 in
set_option maxRecDepth 100000 in
/-- the law's loop at its head -/
theorem law_loop (hL : L ≤ 256) (C0 : lw_At p s m meth c b L xs) (hC : LC s D h d g d2) : ∀ (n i : Nat), i ≤ 300 → L < i + 4 * n + 4 → ∀ (P : Nat) (B K A : Nat → Nat) (S : Nat) (kn : Bool) (be on : Nat → Int32) (wi : Int32) (M : Nat → Nat) (fi : Nat → Int32) (H : Heap) (locs : List Loc) (ls : Array Slot), Inv P B K A S M → KS P B K A S kn be on wi → va_P D vwCl (w0 h d P B K A S kn be on wi) H → va_P D vwCl (w1 g d2 M K A S fi) H → va_S (fun q : Nat => s.heap.size ≤ q) s.heap H locs → lv_has ls 4 [(0, .ref b), (1, .ref (h 0)), (2, .ref (g 0)), (3, .int (nI i))] → LW p l e s m b below meth c H locs 18 ls [] := by
  intro n
  induction n with
  | zero =>
    intro i hi hlt P B K A S kn be on wi M fi H locs ls hI hKs hP0 hP1 hS hl
    exact law_exit hL C0 (by omega) hi hS hl
  | succ n ih =>
    intro i hi hlt P B K A S kn be on wi M fi H locs ls hI hKs hP0 hP1 hS hl
    rcases Nat.lt_or_ge L (i + 4) with hz | hge
    · exact law_exit hL C0 hz hi hS hl
    · refine law_body hL C0 hC hge hI hKs hP0 hP1 hS hl ?_
      intro P B K A S kn be on wi M fi H locs hI hKs hP0 hP1 hS
      obtain ⟨hx, hb, hr, hml, hown, hts, hX, hbl, hlocks, hgv⟩ := id C0
      refine lv_iinc (v := nI (i + 4)) (lv' := [(3, .int (nI (i + 4))), (0, .ref b), (1, .ref (h 0)), (2, .ref (g 0))]) hx hb dL_law_459 hl (k := 3) rfl (nI_add i 4) (by decide) rfl (fun ls hl => ?_)
      refine lv_goto (tgt := 18) hx hb dL_law_462 (by decide) ?_
      exact ih (i + 4) (by omega) (by omega) P B K A S kn be on wi M fi H locs ls hI hKs hP0 hP1 hS (lv_sub hl [1, 2, 3, 0] rfl)
end LLP
theorem va_D.all {A : Nat → Prop} {w : va_W} (hD : va_D A w) : ∀ a ∈ w.map Prod.fst, A a := by
  intro a ha
  obtain ⟨q, hq, rfl⟩ := List.mem_map.mp ha
  obtain ⟨k, hk⟩ := List.getElem?_of_mem hq
  exact hD.2 k q hk
theorem va_D.apart {A : Nat → Prop} {w1 w2 : va_W} (hD : va_D A (w1 ++ w2)) : ∀ a ∈ w2.map Prod.fst, a ∉ w1.map Prod.fst := by
  intro a ha2 ha1
  obtain ⟨q2, hq2, e2⟩ := List.mem_map.mp ha2
  obtain ⟨q1, hq1, e1⟩ := List.mem_map.mp ha1
  obtain ⟨k2, hk2⟩ := List.getElem?_of_mem hq2
  obtain ⟨k1, hk1⟩ := List.getElem?_of_mem hq1
  have l1 := (List.getElem?_eq_some_iff.mp hk1).1
  have h1 : (w1 ++ w2)[k1]? = some q1 := by rw [List.getElem?_append_left l1]; exact hk1
  have h2 : (w1 ++ w2)[w1.length + k2]? = some q2 := by
    rw [List.getElem?_append_right (Nat.le_add_right _ _), Nat.add_sub_cancel_left]
    exact hk2
  have := hD.1 k1 (w1.length + k2) q1 q2 h1 h2 (e1.trans e2.symm)
  omega
set_option maxHeartbeats 1000000 in
set_option maxRecDepth 100000 in
/-- THE LAW, from its entry -/
theorem whole_start {p : Program} {e : Env} {s : State} {m : MethodId} {below : List Frame} {meth : Method} {c : Code} (l : Launch) {b L : Nat} {xs : Nat → Int32} (hL : L ≤ 256) (C0 : lw_At p s m meth c b L xs) : W p l e room_1 s m #[Value.ref b] below meth c s.heap [] 0 0 (lw_Z below #[Value.ref b] s) (entryFrame m ([Value.ref b] : List Value).toArray 4) := by
  obtain ⟨hx, hb, hr, hml, hown, hts, hX, hbl, hlocks, hgv⟩ := id C0
  have hta : ∀ w ∈ lw_all, w.before #[Value.ref b] s = true := fun w hw => hts w (lw_all_tbl hw)
  have hA : ∀ q : Nat, s.heap.size ≤ q → (fun q : Nat => s.heap.size ≤ q) q := fun _ h => h
  obtain ⟨c0, iS0, hKn0⟩ := u_known (C := RX0) (T := TX0) (N := 9) (n := 9) hta in_X0 (hta _ q22)
  obtain ⟨c1, iS1, hKn1⟩ := u_known (C := RX1) (T := TX1) (N := 5) (n := 5) hta in_X1 (hta _ q169)
  obtain ⟨D, hKc⟩ : ∃ (D : va_G), ∀ (k : Nat) (q : vw_C), vwCl[k]? = some q → u_Kn s q.1 q.2.1 q.2.2 (D.1 k) (D.2 k) := by
    refine ⟨(fun k => if k = 0 then c0 else c1, fun k => if k = 0 then iS0 else iS1), ?_⟩
    intro k q hq
    match k, hq with
    | 0, hq => cases hq; exact hKn0
    | 1, hq => cases hq; exact hKn1
    | k + 2, hq => simp [vwCl] at hq
  have hS : va_S (fun q : Nat => s.heap.size ≤ q) s.heap s.heap [] := va_S.rf
  have hK : va_K D vwCl [] s := ⟨hKc, fun k q h => by simp at h⟩
  have hP : va_P D vwCl [] s.heap := fun k q h => by simp at h
  have hD : va_D (fun q : Nat => s.heap.size ≤ q) [] := ⟨fun i j p q h => by simp at h, fun k q h => by simp at h⟩
  have hl := lv_entry ([.ref b]) (n := 4) (Nat.le_of_ble_eq_true rfl)
  rw [lg_entry_eq]
  generalize (lg_sl ([.ref b]) ++ List.replicate (4 - (lg_sl ([.ref b])).length) Slot.unset).toArray = ls at hl ⊢
  have hl : lv_has ls 4 [(0, .ref b)] := hl
  refine va_new (ci := 0) (fs := i0) (C := RX0) (T := TX0) (N := 9) hx hb hta in_X0 tyX0 tyX0_ok hown (hta _ q21) (hta _ q22) (hta _ q19) hK hP hD hS hA rfl (fun j hj => by rcases (show j = 0 ∨ j = 1 ∨ j = 2 ∨ j = 3 ∨ j = 4 ∨ j = 5 ∨ j = 6 ∨ j = 7 ∨ j = 8 by omega) with rfl | rfl | rfl | rfl | rfl | rfl | rfl | rfl | rfl <;> rfl) (Nat.le_of_ble_eq_true rfl) (Nat.le_of_ble_eq_true rfl) dL_law_0 (fun q0 H hP hD hS => ?_)
  have hP : va_P D vwCl [(q0, .inr (0, i0))] H := hP
  have hD : va_D (fun q : Nat => s.heap.size ≤ q) [(q0, .inr (0, i0))] := hD
  refine W.widen (k := 1) (n := 9) (Nat.le_of_ble_eq_true rfl) (Nat.le_of_ble_eq_true rfl) ?_
  refine lv_dup hx hb dL_law_3 rfl ?_
  have hFc := va_free (wc := [(q0, .inr (0, i0))]) hD hS hA [0] rfl
  refine va_callv (va_runI (As := []) (rest := [.ref q0]) ⟨hx, hb, hml, hown, hta⟩ (mX0_init l D q0 H.size) (cwI 0 hta (lw_meth q25) rfl rfl rfl (hta _ q19) (hta _ q23) (hta _ q24) rfl (by decide +kernel) ⟨Nat.le_of_ble_eq_true rfl, Nat.le_of_ble_eq_true rfl⟩) ⟨fun a U g mk q => by obtain ⟨z0, z1, zP, zK, zD⟩ := q; exact ⟨z0, z1, zP, va_K.moved (u := U) (U := U.calling g mk a) (Vm.Alike.refl U.vm) zK, zD⟩, fun U hU hW => ⟨rfl, by rw [hU], by rw [hU]; exact hP, va_K.moved hW.alike hK, hD.weaken (fun _ _ _ _ => trivial)⟩⟩ rfl rfl hl.1 rfl (lv_room (Nat.le_of_ble_eq_true rfl)) dL_law_4 ⟨Nat.le_of_ble_eq_true rfl, Nat.le_of_ble_eq_true rfl⟩) hS (fun q _ h => hFc q h) hFc (fun u t H1 locs ht hvm hw hB hz1 hk1 hS => ?_)
  obtain ⟨h, d⟩ := u
  have hw : h 0 = q0 := hw
  obtain ⟨hP1, hK1, hD1⟩ : va_P D vwCl (w0z h d) t.heap ∧ va_K D vwCl (t0 d) t ∧ va_D (va_A [(q0, .inr (0, i0))] H.size) (w0z h d) := hB
  rw [ht] at hP1
  have hK1 := va_K.moved hvm.symm hK1
  obtain ⟨hP, hD⟩ := va_join (wr := []) (w1 := w0z h d) hP hD [0] [] rfl rfl (by decide) (by decide) hk1 hFc hP1 hD1
  have hK : va_K D vwCl (t0 d) s := hK1
  generalize H1 = H at hP hS ⊢
  have hP : va_P D vwCl (w0z h d) H := hP
  have hD : va_D (fun q : Nat => s.heap.size ≤ q) (w0z h d) := hD
  rw [← hw]
  refine W.widen (k := 6) (n := 2593) (Nat.le_of_ble_eq_true rfl) (Nat.le_of_ble_eq_true rfl) ?_
  refine lv_astore_n (lv' := [(1, .ref (h 0)), (0, .ref b)]) hx hb dL_law_7 rfl hl (by decide) rfl (fun ls hl => ?_)
  refine va_new (ci := 1) (fs := i1) (C := RX1) (T := TX1) (N := 5) hx hb hta in_X1 tyX1 tyX1_ok hown (hta _ q168) (hta _ q169) (hta _ q20) hK hP hD hS hA rfl (fun j hj => by rcases (show j = 0 ∨ j = 1 ∨ j = 2 ∨ j = 3 ∨ j = 4 by omega) with rfl | rfl | rfl | rfl | rfl <;> rfl) (Nat.le_of_ble_eq_true rfl) (Nat.le_of_ble_eq_true rfl) dL_law_8 (fun q1 H hP hD hS => ?_)
  have hP : va_P D vwCl (w0z h d ++ [(q1, .inr (1, i1))]) H := hP
  have hD : va_D (fun q : Nat => s.heap.size ≤ q) (w0z h d ++ [(q1, .inr (1, i1))]) := hD
  refine W.widen (k := 7) (n := 2598) (Nat.le_of_ble_eq_true rfl) (Nat.le_of_ble_eq_true rfl) ?_
  refine lv_dup hx hb dL_law_11 rfl ?_
  have hPc := hP.sub (ws' := [(q1, .inr (1, i1))]) [6] rfl
  have hDc := hD.sub (ws' := [(q1, .inr (1, i1))]) [6] (by decide) rfl
  have hKc := hK.sub (tys' := []) [] rfl
  have hFc := va_free (wc := [(q1, .inr (1, i1))]) hD hS hA [6] rfl
  refine va_callv (va_runI (As := []) (rest := [.ref q1]) ⟨hx, hb, hml, hown, hta⟩ (mX1_init l D q1 H.size) (cwI 0 hta (lw_meth q172) rfl rfl rfl (hta _ q20) (hta _ q170) (hta _ q171) rfl (by decide +kernel) ⟨Nat.le_of_ble_eq_true rfl, Nat.le_of_ble_eq_true rfl⟩) ⟨fun a U g mk q => by obtain ⟨z0, z1, zP, zK, zD⟩ := q; exact ⟨z0, z1, zP, va_K.moved (u := U) (U := U.calling g mk a) (Vm.Alike.refl U.vm) zK, zD⟩, fun U hU hW => ⟨rfl, by rw [hU], by rw [hU]; exact hPc, va_K.moved hW.alike hKc, hDc.weaken (fun _ _ _ _ => trivial)⟩⟩ rfl rfl hl.1 rfl (lv_room (Nat.le_of_ble_eq_true rfl)) dL_law_12 ⟨Nat.le_of_ble_eq_true rfl, Nat.le_of_ble_eq_true rfl⟩) hS (fun q _ h => hFc q h) hFc (fun u t H1 locs ht hvm hw hB hz1 hk1 hS => ?_)
  obtain ⟨g, d2⟩ := u
  have hw : g 0 = q1 := hw
  obtain ⟨hP1, hK1, hD1⟩ : va_P D vwCl (w1z g d2) t.heap ∧ va_K D vwCl (t1 d2) t ∧ va_D (va_A [(q1, .inr (1, i1))] H.size) (w1z g d2) := hB
  rw [ht] at hP1
  have hK1 := va_K.moved hvm.symm hK1
  obtain ⟨hP, hD⟩ := va_join (wr := w0z h d) (w1 := w1z g d2) hP hD [6] [0, 1, 2, 3, 4, 5] rfl rfl (by decide) (by decide) hk1 hFc hP1 hD1
  generalize H1 = H at hP hS ⊢
  rw [← hw]
  refine W.widen (k := 600000) (n := 7290000) (Nat.le_of_ble_eq_true rfl) (Nat.le_of_ble_eq_true rfl) ?_
  refine lv_astore_n (lv' := [(2, .ref (g 0)), (1, .ref (h 0)), (0, .ref b)]) hx hb dL_law_15 rfl hl (by decide) rfl (fun ls hl => ?_)
  refine lv_iconst (v := nI 0) hx hb dL_law_16 (by decide +kernel) ?_
  refine lv_istore_n (lv' := [(3, .int (nI 0)), (2, .ref (g 0)), (1, .ref (h 0)), (0, .ref b)]) hx hb dL_law_17 rfl hl (by decide) rfl (fun ls hl => ?_)
  have hP0 := hP.sub (ws' := w0z h d) [0, 1, 2, 3, 4, 5] rfl
  have hP1 := hP.sub (ws' := w1z g d2) [6, 7, 8, 9, 10] rfl
  have hD0 := hD.sub (ws' := w0z h d) [0, 1, 2, 3, 4, 5] (by decide) rfl
  have hD1 := hD.sub (ws' := w1z g d2) [6, 7, 8, 9, 10] (by decide) rfl
  have hap : ∀ a ∈ as1 g, a ∉ as0 h := hD.apart
  exact law_loop hL C0 ⟨hK, hK1, hD0.all, hD1.all, hap, fun a h0 h1 => hap a h1 h0, hD0.mem rfl, hD1.mem rfl⟩ 64 0 (by omega) (by omega) 0 zN zN zN 0 false (aN zN) (aN zN) (nI 0) zN (aN zN) H locs ls inv_0 ks_no hP0 hP1 hS (lv_sub hl [3, 2, 1, 0] rfl)
end
section
set_option maxHeartbeats 4000000 in
theorem lw_walk (l : Launch) (b : Addr) (xs : List Int32) : MetFree l x (headSpec (Jvm.Cond.code x code maxLocals ret :: tables_1) room_1) (lw_P b xs) (fun _ _ _ _ _ => True) lw_Q := by
  refine MetFree.of_bodyS (code := code) (maxLocals := maxLocals) (ret := ret) (by decide) ?_ ?_
  · intro args s m h hn
    obtain ⟨meth, c, h1, h2, h3, h4, h5, h6, -, -⟩ := Cond.code_spec hn (atoms_spec (ws := Jvm.Cond.code x code maxLocals ret :: tables_1) h _ List.mem_cons_self)
    exact ⟨meth, c, h1, h2, h3, h4, h5, h6⟩
  · intro p e s m args below meth c s₁ B hml0 hP _
    obtain ⟨rfl, hx, hbd, hgv⟩ := hP
    obtain ⟨scr, harrAt, hlist, hof, hsmall⟩ := hx
    obtain ⟨hcb, hkn, -, -⟩ := State.arrayAt?_spec harrAt
    have hown : s.vm.findClass R_law = some m.cls := findClass_of_methodNamed B.named
    have hts0 : ∀ c ∈ (Jvm.Cond.code x code maxLocals ret :: tables_1), c.before #[Value.ref b] s = true := atoms_spec (ws := Jvm.Cond.code x code maxLocals ret :: tables_1) B.pre
    have hts : ∀ w ∈ lw_tbl, w.before #[Value.ref b] s = true := k2_hts_sels lw_privs (fun w hw => hts0 w (List.mem_cons_of_mem _ hw)) lw_privs_ok
    have hml : c.maxLocals = 4 := B.maxLocals_eq (hts0 _ List.mem_cons_self)
    have X₀ : Stand p l e room_1 s m #[Value.ref b] below meth c s₁ [] 0 0 := Stand.of_body B
    have hh0 : s₁.heap = s.heap := by rw [B.state]; rfl
    have hsz : scr.slots.size = xs.length := by rw [← Array.length_toList, hlist, List.length_map]
    have hval : ∀ j : Nat, j < xs.length → scr.slots[j]? = some (.int (xs.getD j 0)) := fun j hj => by
      rw [← Array.getElem?_toList, hlist]
      simp [hj]
    have hbl : b < s.heap.size := (Array.getElem?_eq_some_iff.mp hcb).1
    have hX : va_X b xs.length (fun j => xs.getD j 0) s s.heap := ⟨scr, hcb, hof, hkn, hsz, hval⟩
    have K : W p l e room_1 s m #[Value.ref b] below meth c s₁.heap [] 0 0 (lw_Z below #[Value.ref b] s) (entryFrame m ([Value.ref b] : List Value).toArray 4) := by
      rw [hh0]
      exact whole_start l hbd ⟨B.exec, B.bytes, B.returns, hml, hown, hts, hX, hbl, B.notSynchronized, hgv⟩
    obtain ⟨t, a1, o, b1, b2, b3⟩ := K s₁ rfl X₀
    exact ⟨t, o, a1, b1, b2, b3⟩
theorem lw_pre_spec {args : Array Value} {s : State} (h : (Jvm.Cond.and given_1 narrow_1).before args s = true) (hr : rest_1_c.before args s = true) : ∃ (b : Addr) (xs : List Int32), lw_P b xs args s := by
  have hs := flat_of_before _ h
  have hq := flat_of_before _ hr
  have hc : (Cond.count 1).before args s = true := hs _ (by decide +kernel)
  have harr : (Cond.arrayOf (.arg 0) .int).before args s = true := hs _ (by decide +kernel)
  have hle : (Cond.le (.length (.arg 0)) (.int 256)).before args s = true := hs _ (by decide +kernel)
  have hlen : (Cond.isInt (.length (.arg 0))).before args s = true := hq _ (by decide +kernel)
  have hall : (Cond.all (.arg 0) (.isInt (.elem (.arg 0) (.index 0)))).before args s = true := hq _ (by decide +kernel)
  obtain ⟨b, xs, hb, hx⟩ := State.ints_of_pre rfl harr hlen hall
  have hsm : xs.length < 2 ^ 31 := hx.choose_spec.2.2.2
  have hev : (Term.length (.arg 0)).eval args s none [] s = some (.int xs.length.toInt32) := hx.length_eval hb
  have hv := Cond.le_ints hev (show (Term.int 256).eval args s none [] s = some (.int 256) from rfl)
  have hd : xs.length.toInt32 ≤ 256 := by
    simpa [Cond.before, Cond.holds, hv] using hle
  have hN : xs.length ≤ 256 := (Int32.ofNat_le_ofNat hsm (by decide)).mp (show Int32.ofNat xs.length ≤ Int32.ofNat 256 from hd)
  exact ⟨b, xs, Cond.one_arg hc (show args[0]? = some (.ref b) from hb), hx, hN, h⟩
theorem lw_comes (l : Launch) : Comes l x (Jvm.Cond.code x code maxLocals ret :: tables_1) room_1 (fun tb e args s => Calls_1 tb e args s ∧ rest_1 tb e args s ∧ Pre_1 tb e args s)
    (fun _ _ args s o t => lw_Q args s o t) := by
  intro p e ha hc hk s m args below hf hfit hheap happ hpre
  obtain ⟨b, xs, hP⟩ := lw_pre_spec hpre.2.2 hpre.2.1
  obtain ⟨k, o, h1, h2, h3, hQ⟩ := lw_walk l b xs p e ha hc hk s m args below hf ((Spec.applies_iff_loose hf).mp happ).1 hP trivial
  exact ⟨k, o, h1, h2, h3, hQ⟩
theorem lw_frame {s t : State} {o : Outcome} {args : Array Value} (h : Framed s o t [] 600000 7290000) :
    Framed s o t (fieldLocs frame_1_writes args s ++ arrayLocs frame_1_arrays args s ++ staticLocs frame_1_statics s) 600000 7290000 := h
theorem lw_limb (L : Cond) (hL : ∀ (args : Array Value) (s t : State), L.after args s (.returned (some (.int 1))) t = true) :
    ArmFor flags0 classFile x code maxLocals ret World_1 tables_1 room_1 Calls_1 rest_1 Pre_1
      (fun tb e a s o t => postC L tb e a s o t ∧ Framed s o t (fieldLocs frame_1_writes a s ++ arrayLocs frame_1_arrays a s ++ staticLocs frame_1_statics s) 600000 7290000) := by
  intro l _ _ _ p e ha hc hk s m args below hf hfit hheap happ hpre
  obtain ⟨k, o, h1, h2, h3, rfl, hF⟩ := lw_comes l p e ha hc hk s m args below hf hfit hheap happ hpre
  exact ⟨k, _, h1, h2, h3, hL args s _, lw_frame hF⟩
theorem i_vc : Claimed_1_1 ∧ Claimed_1_2 := ⟨lw_limb limb_1_1 (fun args s t => by simp [limb_1_1, Cond.after, Cond.holds, Cond.value]), lw_limb limb_1_2 (fun args s t => Cond.after_iff.mpr (by
  first | (rw [show limb_1_2 = Cond.eq .result (.int 1) from rfl, Cond.eq_ints (x := 1) (y := 1) rfl rfl]; simp; done) | (simp [limb_1_2, Cond.value, Term.eval]; done)))⟩
end
