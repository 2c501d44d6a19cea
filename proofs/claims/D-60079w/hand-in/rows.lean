section
-- ===== PART A: goes FIRST, ahead of the names: the tables' words, and 'selects' of the private methods out of them =====
/-- a private method of a class that the tables say can be made, by its rows of tables_1 -/
def lw_okq (q : MethodName × Nat) : Prop := (q.1.cls ≠ "java/lang/invoke/MethodHandle" ∧ q.1.cls ≠ "java/lang/invoke/VarHandle") ∧ Cond.instantiable q.1.cls q.2 ∈ tables_1 ∧ Cond.privateMethod q.1 ∈ tables_1 ∧ Cond.instanceMethod q.1 ∈ tables_1
set_option maxRecDepth 100000
theorem lw_t1 {w : Cond} (h : w ∈ tables_1_1) : w ∈ tables_1 := List.mem_append_left _ h
theorem lw_t2 {w : Cond} (h : w ∈ tables_1_2) : w ∈ tables_1 := List.mem_append_right _ h
theorem lw_p0 : lw_okq (⟨"BinDesk", "has", "(I)Z"⟩, 16) := ⟨⟨by decide +kernel, by decide +kernel⟩, lw_t1 (List.mem_of_getElem? (i := 4) rfl), lw_t1 (List.mem_of_getElem? (i := 67) rfl), lw_t1 (List.mem_of_getElem? (i := 68) rfl)⟩
theorem lw_p1 : lw_okq (⟨"BinDesk", "largest", "()I"⟩, 16) := ⟨⟨by decide +kernel, by decide +kernel⟩, lw_t1 (List.mem_of_getElem? (i := 4) rfl), lw_t1 (List.mem_of_getElem? (i := 83) rfl), lw_t1 (List.mem_of_getElem? (i := 84) rfl)⟩
theorem lw_p2 : lw_okq (⟨"BinDesk", "pack", "()V"⟩, 16) := ⟨⟨by decide +kernel, by decide +kernel⟩, lw_t1 (List.mem_of_getElem? (i := 4) rfl), lw_t1 (List.mem_of_getElem? (i := 103) rfl), lw_t1 (List.mem_of_getElem? (i := 104) rfl)⟩
theorem lw_p3 : lw_okq (⟨"BinDesk", "ask", "(I)V"⟩, 16) := ⟨⟨by decide +kernel, by decide +kernel⟩, lw_t1 (List.mem_of_getElem? (i := 4) rfl), lw_t1 (List.mem_of_getElem? (i := 107) rfl), lw_t1 (List.mem_of_getElem? (i := 108) rfl)⟩
theorem lw_p4 : lw_okq (⟨"BinDesk", "wantAll", "(I)V"⟩, 16) := ⟨⟨by decide +kernel, by decide +kernel⟩, lw_t1 (List.mem_of_getElem? (i := 4) rfl), lw_t1 (List.mem_of_getElem? (i := 111) rfl), lw_t1 (List.mem_of_getElem? (i := 112) rfl)⟩
theorem lw_p5 : lw_okq (⟨"BinDesk", "want", "(I)V"⟩, 16) := ⟨⟨by decide +kernel, by decide +kernel⟩, lw_t1 (List.mem_of_getElem? (i := 4) rfl), lw_t1 (List.mem_of_getElem? (i := 115) rfl), lw_t1 (List.mem_of_getElem? (i := 116) rfl)⟩
theorem lw_p6 : lw_okq (⟨"BinDesk", "solve", "()I"⟩, 16) := ⟨⟨by decide +kernel, by decide +kernel⟩, lw_t1 (List.mem_of_getElem? (i := 4) rfl), lw_t1 (List.mem_of_getElem? (i := 119) rfl), lw_t1 (List.mem_of_getElem? (i := 120) rfl)⟩
theorem lw_p7 : lw_okq (⟨"BinDesk", "byFallingSizes", "()I"⟩, 16) := ⟨⟨by decide +kernel, by decide +kernel⟩, lw_t1 (List.mem_of_getElem? (i := 4) rfl), lw_t1 (List.mem_of_getElem? (i := 123) rfl), lw_t1 (List.mem_of_getElem? (i := 124) rfl)⟩
theorem lw_p8 : lw_okq (⟨"BinDesk", "lowerBound", "()I"⟩, 16) := ⟨⟨by decide +kernel, by decide +kernel⟩, lw_t1 (List.mem_of_getElem? (i := 4) rfl), lw_t1 (List.mem_of_getElem? (i := 127) rfl), lw_t1 (List.mem_of_getElem? (i := 128) rfl)⟩
theorem lw_p9 : lw_okq (⟨"BinDesk", "boundWith", "(I)I"⟩, 16) := ⟨⟨by decide +kernel, by decide +kernel⟩, lw_t1 (List.mem_of_getElem? (i := 4) rfl), lw_t1 (List.mem_of_getElem? (i := 131) rfl), lw_t1 (List.mem_of_getElem? (i := 132) rfl)⟩
theorem lw_p10 : lw_okq (⟨"BinDesk", "search", "()V"⟩, 16) := ⟨⟨by decide +kernel, by decide +kernel⟩, lw_t1 (List.mem_of_getElem? (i := 4) rfl), lw_t1 (List.mem_of_getElem? (i := 138) rfl), lw_t1 (List.mem_of_getElem? (i := 139) rfl)⟩
theorem lw_p11 : lw_okq (⟨"BinDesk", "nextBin", "(III)I"⟩, 16) := ⟨⟨by decide +kernel, by decide +kernel⟩, lw_t1 (List.mem_of_getElem? (i := 4) rfl), lw_t1 (List.mem_of_getElem? (i := 143) rfl), lw_t1 (List.mem_of_getElem? (i := 144) rfl)⟩
theorem lw_p12 : lw_okq (⟨"BinDesk", "seen", "(I)Z"⟩, 16) := ⟨⟨by decide +kernel, by decide +kernel⟩, lw_t1 (List.mem_of_getElem? (i := 4) rfl), lw_t1 (List.mem_of_getElem? (i := 147) rfl), lw_t1 (List.mem_of_getElem? (i := 148) rfl)⟩
theorem lw_p13 : lw_okq (⟨"BinDesk", "hopeful", "(II)Z"⟩, 16) := ⟨⟨by decide +kernel, by decide +kernel⟩, lw_t1 (List.mem_of_getElem? (i := 4) rfl), lw_t1 (List.mem_of_getElem? (i := 151) rfl), lw_t1 (List.mem_of_getElem? (i := 152) rfl)⟩
theorem lw_p14 : lw_okq (⟨"BinDesk", "firstBin", "(III)I"⟩, 16) := ⟨⟨by decide +kernel, by decide +kernel⟩, lw_t1 (List.mem_of_getElem? (i := 4) rfl), lw_t1 (List.mem_of_getElem? (i := 155) rfl), lw_t1 (List.mem_of_getElem? (i := 156) rfl)⟩
theorem lw_p15 : lw_okq (⟨"BinDesk", "refill", "(II)V"⟩, 16) := ⟨⟨by decide +kernel, by decide +kernel⟩, lw_t1 (List.mem_of_getElem? (i := 4) rfl), lw_t1 (List.mem_of_getElem? (i := 159) rfl), lw_t1 (List.mem_of_getElem? (i := 160) rfl)⟩
def lw_privs_1 : List (MethodName × Nat) := [(⟨"BinDesk", "has", "(I)Z"⟩, 16), (⟨"BinDesk", "largest", "()I"⟩, 16), (⟨"BinDesk", "pack", "()V"⟩, 16), (⟨"BinDesk", "ask", "(I)V"⟩, 16), (⟨"BinDesk", "wantAll", "(I)V"⟩, 16), (⟨"BinDesk", "want", "(I)V"⟩, 16), (⟨"BinDesk", "solve", "()I"⟩, 16), (⟨"BinDesk", "byFallingSizes", "()I"⟩, 16), (⟨"BinDesk", "lowerBound", "()I"⟩, 16), (⟨"BinDesk", "boundWith", "(I)I"⟩, 16), (⟨"BinDesk", "search", "()V"⟩, 16), (⟨"BinDesk", "nextBin", "(III)I"⟩, 16), (⟨"BinDesk", "seen", "(I)Z"⟩, 16), (⟨"BinDesk", "hopeful", "(II)Z"⟩, 16), (⟨"BinDesk", "firstBin", "(III)I"⟩, 16), (⟨"BinDesk", "refill", "(II)V"⟩, 16)]
theorem lw_r1 : ∀ q ∈ lw_privs_1, lw_okq q := List.forall_mem_cons.mpr ⟨lw_p0, List.forall_mem_cons.mpr ⟨lw_p1, List.forall_mem_cons.mpr ⟨lw_p2, List.forall_mem_cons.mpr ⟨lw_p3, List.forall_mem_cons.mpr ⟨lw_p4, List.forall_mem_cons.mpr ⟨lw_p5, List.forall_mem_cons.mpr ⟨lw_p6, List.forall_mem_cons.mpr ⟨lw_p7, List.forall_mem_cons.mpr ⟨lw_p8, List.forall_mem_cons.mpr ⟨lw_p9, List.forall_mem_cons.mpr ⟨lw_p10, List.forall_mem_cons.mpr ⟨lw_p11, List.forall_mem_cons.mpr ⟨lw_p12, List.forall_mem_cons.mpr ⟨lw_p13, List.forall_mem_cons.mpr ⟨lw_p14, List.forall_mem_cons.mpr ⟨lw_p15, fun _ h => absurd h List.not_mem_nil⟩⟩⟩⟩⟩⟩⟩⟩⟩⟩⟩⟩⟩⟩⟩⟩
theorem lw_p16 : lw_okq (⟨"BinDeskModel", "is", "(I)Z"⟩, 5) := ⟨⟨by decide +kernel, by decide +kernel⟩, lw_t1 (List.mem_of_getElem? (i := 187) rfl), lw_t1 (List.mem_of_getElem? (i := 217) rfl), lw_t1 (List.mem_of_getElem? (i := 218) rfl)⟩
theorem lw_p17 : lw_okq (⟨"BinDeskModel", "first", "()V"⟩, 5) := ⟨⟨by decide +kernel, by decide +kernel⟩, lw_t1 (List.mem_of_getElem? (i := 187) rfl), lw_t2 (List.mem_of_getElem? (i := 5) rfl), lw_t2 (List.mem_of_getElem? (i := 6) rfl)⟩
theorem lw_p18 : lw_okq (⟨"BinDeskModel", "greatest", "(I)I"⟩, 5) := ⟨⟨by decide +kernel, by decide +kernel⟩, lw_t1 (List.mem_of_getElem? (i := 187) rfl), lw_t2 (List.mem_of_getElem? (i := 9) rfl), lw_t2 (List.mem_of_getElem? (i := 10) rfl)⟩
theorem lw_p19 : lw_okq (⟨"BinDeskModel", "extreme", "(Z)I"⟩, 5) := ⟨⟨by decide +kernel, by decide +kernel⟩, lw_t1 (List.mem_of_getElem? (i := 187) rfl), lw_t2 (List.mem_of_getElem? (i := 13) rfl), lw_t2 (List.mem_of_getElem? (i := 14) rfl)⟩
theorem lw_p20 : lw_okq (⟨"BinDeskModel", "load", "(I)I"⟩, 5) := ⟨⟨by decide +kernel, by decide +kernel⟩, lw_t1 (List.mem_of_getElem? (i := 187) rfl), lw_t2 (List.mem_of_getElem? (i := 17) rfl), lw_t2 (List.mem_of_getElem? (i := 18) rfl)⟩
theorem lw_p21 : lw_okq (⟨"BinDeskModel", "next", "()Z"⟩, 5) := ⟨⟨by decide +kernel, by decide +kernel⟩, lw_t1 (List.mem_of_getElem? (i := 187) rfl), lw_t2 (List.mem_of_getElem? (i := 21) rfl), lw_t2 (List.mem_of_getElem? (i := 22) rfl)⟩
theorem lw_p22 : lw_okq (⟨"BinDeskModel", "rank", "(I)I"⟩, 5) := ⟨⟨by decide +kernel, by decide +kernel⟩, lw_t1 (List.mem_of_getElem? (i := 187) rfl), lw_t2 (List.mem_of_getElem? (i := 30) rfl), lw_t2 (List.mem_of_getElem? (i := 31) rfl)⟩
def lw_privs_2 : List (MethodName × Nat) := [(⟨"BinDeskModel", "is", "(I)Z"⟩, 5), (⟨"BinDeskModel", "first", "()V"⟩, 5), (⟨"BinDeskModel", "greatest", "(I)I"⟩, 5), (⟨"BinDeskModel", "extreme", "(Z)I"⟩, 5), (⟨"BinDeskModel", "load", "(I)I"⟩, 5), (⟨"BinDeskModel", "next", "()Z"⟩, 5), (⟨"BinDeskModel", "rank", "(I)I"⟩, 5)]
theorem lw_r2 : ∀ q ∈ lw_privs_2, lw_okq q := List.forall_mem_cons.mpr ⟨lw_p16, List.forall_mem_cons.mpr ⟨lw_p17, List.forall_mem_cons.mpr ⟨lw_p18, List.forall_mem_cons.mpr ⟨lw_p19, List.forall_mem_cons.mpr ⟨lw_p20, List.forall_mem_cons.mpr ⟨lw_p21, List.forall_mem_cons.mpr ⟨lw_p22, fun _ h => absurd h List.not_mem_nil⟩⟩⟩⟩⟩⟩⟩
def lw_privs : List (MethodName × Nat) := lw_privs_1 ++ (lw_privs_2)
def lw_tbl : List Cond := k2_sels lw_privs ++ tables_1
theorem lw_privs_ok : ∀ q ∈ lw_privs, lw_okq q := by
  show ∀ q ∈ lw_privs_1 ++ (lw_privs_2), lw_okq q
  exact List.forall_mem_append.mpr ⟨lw_r1, lw_r2⟩
-- ===== ONE list of words for every method: the tables' words that hold all through a run =====
def lw_all : List Cond := lw_tbl.filter goodWord
/-- a word of the tables by its place: claim/WORDS.tsv -/
theorem lw_w {w : Cond} (i : Nat) (h : lw_tbl[i]? = some w) (g : goodWord w = true) : w ∈ lw_all := List.mem_filter.mpr ⟨List.mem_of_getElem? h, g⟩
theorem lw_all_tbl {w : Cond} (h : w ∈ lw_all) : w ∈ lw_tbl := (List.mem_filter.mp h).1
theorem lw_self : GoodIn lw_all lw_all := fun w h => ⟨h, good_of_word (List.mem_filter.mp h).2⟩
/-- a class's field words, by their places -/
theorem lw_in (ws : List Cond) (ps : List Nat) (hp : ws = ps.filterMap (fun i => lw_tbl[i]?)) (hg : ws.all goodWord = true) : ∀ w ∈ ws, w ∈ lw_all := by
  intro w h
  have h1 := List.all_eq_true.mp hg w h
  rw [hp] at h
  obtain ⟨i, -, hi⟩ := List.mem_filterMap.mp h
  exact lw_w i hi h1
/-- the words of a contract for the method y with code b, L locals, answer r -/
abbrev ws_ (y : MethodName) (b : ByteArray) (L : Nat) (r : Option FieldType) : List Cond := Cond.code y b L r :: lw_all
theorem lw_meth {y : MethodName} {b : ByteArray} {L : Nat} {r : Option FieldType} (h : Cond.code y b L r ∈ lw_all) : GoodIn lw_all (ws_ y b L r) := by
  intro w hw
  rcases List.mem_cons.mp hw with e | e
  · rw [e]
    exact lw_self _ h
  · exact lw_self _ e
theorem lw_app {a c : List Cond} (ha : ∀ w ∈ a, w ∈ lw_all) (hc : GoodIn lw_all c) : GoodIn lw_all (a ++ c) := by
  intro w hw
  rcases List.mem_append.mp hw with e | e
  · exact lw_self w (ha w e)
  · exact hc w e
/-- what a call through an object asks: cwV n hts (lw_V ..) -/
theorem lw_V {own : String} {idx : Nat} {C : String} {y : MethodName} {b : ByteArray} {L : Nat} {r : Option FieldType} (h1 : Cond.methodLink own idx y ∈ lw_all) (h2 : Cond.instanceMethod y ∈ lw_all) (h3 : Cond.selects C y y ∈ lw_all) (h4 : Cond.initialized C ∈ lw_all) (h5 : Cond.code y b L r ∈ lw_all) : GoodIn lw_all (wsV own idx C y (ws_ y b L r)) := by
  refine lw_app ?_ (lw_meth h5)
  intro w hw
  simp only [List.mem_cons, List.not_mem_nil, or_false] at hw
  rcases hw with e | e | e | e
  · rw [e]; exact h1
  · rw [e]; exact h2
  · rw [e]; exact h3
  · rw [e]; exact h4
/-- what a static call asks: va_cwS n hts (lw_S ..) -/
theorem lw_S {own : String} {idx : Nat} {y : MethodName} {b : ByteArray} {L : Nat} {r : Option FieldType} (h1 : Cond.methodLink own idx y ∈ lw_all) (h2 : Cond.static y ∈ lw_all) (h3 : Cond.initialized y.cls ∈ lw_all) (h4 : Cond.code y b L r ∈ lw_all) : GoodIn lw_all (va_wsS own idx y (ws_ y b L r)) := by
  refine lw_app ?_ (lw_meth h4)
  intro w hw
  simp only [List.mem_cons, List.not_mem_nil, or_false] at hw
  rcases hw with e | e | e
  · rw [e]; exact h1
  · rw [e]; exact h2
  · rw [e]; exact h3
/-- the words of a contract for a method WITH HANDLERS (hh: its table) -/
abbrev wsW_ (y : MethodName) (b : ByteArray) (L : Nat) (r : Option FieldType) (hh : List (Nat × Nat × Nat × Nat)) : List Cond := Cond.codeWith y b L r hh :: lw_all
theorem lw_methW {y : MethodName} {b : ByteArray} {L : Nat} {r : Option FieldType} {hh : List (Nat × Nat × Nat × Nat)} (h : Cond.codeWith y b L r hh ∈ lw_all) : GoodIn lw_all (wsW_ y b L r hh) := by
  intro w hw
  rcases List.mem_cons.mp hw with e | e
  · rw [e]
    exact lw_self _ h
  · exact lw_self _ e
/-- any list of words by their places (lw_in), good -/
theorem lw_good {ws : List Cond} (h : ∀ w ∈ ws, w ∈ lw_all) : GoodIn lw_all ws := fun w hw => lw_self w (h w hw)
/-- what a call of a method with handlers asks: vx_cwVW n hts (lw_VW ..), vx_cwSW n hts (lw_SW ..) -/
theorem lw_VW {own : String} {idx : Nat} {C : String} {y : MethodName} {b : ByteArray} {L : Nat} {r : Option FieldType} {hh : List (Nat × Nat × Nat × Nat)} (h1 : Cond.methodLink own idx y ∈ lw_all) (h2 : Cond.instanceMethod y ∈ lw_all) (h3 : Cond.selects C y y ∈ lw_all) (h4 : Cond.initialized C ∈ lw_all) (h5 : Cond.codeWith y b L r hh ∈ lw_all) : GoodIn lw_all (wsV own idx C y (wsW_ y b L r hh)) := by
  refine lw_app ?_ (lw_methW h5)
  intro w hw
  simp only [List.mem_cons, List.not_mem_nil, or_false] at hw
  rcases hw with e | e | e | e
  · rw [e]; exact h1
  · rw [e]; exact h2
  · rw [e]; exact h3
  · rw [e]; exact h4
theorem lw_SW {own : String} {idx : Nat} {y : MethodName} {b : ByteArray} {L : Nat} {r : Option FieldType} {hh : List (Nat × Nat × Nat × Nat)} (h1 : Cond.methodLink own idx y ∈ lw_all) (h2 : Cond.static y ∈ lw_all) (h3 : Cond.initialized y.cls ∈ lw_all) (h4 : Cond.codeWith y b L r hh ∈ lw_all) : GoodIn lw_all (va_wsS own idx y (wsW_ y b L r hh)) := by
  refine lw_app ?_ (lw_methW h4)
  intro w hw
  simp only [List.mem_cons, List.not_mem_nil, or_false] at hw
  rcases hw with e | e | e
  · rw [e]; exact h1
  · rw [e]; exact h2
  · rw [e]; exact h3
/-- a word by its place in its run of the tables -/
theorem lw_at {r : List Cond} (hr : ∀ w ∈ r, w ∈ lw_tbl) {w : Cond} (i : Nat) (h : r[i]? = some w) : w ∈ lw_tbl := hr w (List.mem_of_getElem? h)
theorem lw_g {w : Cond} (h : w ∈ lw_tbl) (g : goodWord w = true) : w ∈ lw_all := List.mem_filter.mpr ⟨h, g⟩
theorem lw_ms : ∀ w ∈ k2_sels lw_privs, w ∈ lw_tbl := fun w h => show w ∈ k2_sels lw_privs ++ tables_1 from List.mem_append_left _ h
theorem lw_m1 : ∀ w ∈ tables_1_1, w ∈ lw_tbl := fun w h => show w ∈ k2_sels lw_privs ++ tables_1 from List.mem_append_right (k2_sels lw_privs) (show w ∈ tables_1 from List.mem_append_left _ h)
theorem lw_m2 : ∀ w ∈ tables_1_2, w ∈ lw_tbl := fun w h => show w ∈ k2_sels lw_privs ++ tables_1 from List.mem_append_right (k2_sels lw_privs) (show w ∈ tables_1 from List.mem_append_right _ h)
theorem qs0 : (Cond.selects "BinDesk" ⟨"BinDesk", "has", "(I)Z"⟩ ⟨"BinDesk", "has", "(I)Z"⟩) ∈ lw_all := lw_g (lw_at lw_ms 0 rfl) rfl
theorem qs1 : (Cond.selects "BinDesk" ⟨"BinDesk", "largest", "()I"⟩ ⟨"BinDesk", "largest", "()I"⟩) ∈ lw_all := lw_g (lw_at lw_ms 1 rfl) rfl
theorem qs2 : (Cond.selects "BinDesk" ⟨"BinDesk", "pack", "()V"⟩ ⟨"BinDesk", "pack", "()V"⟩) ∈ lw_all := lw_g (lw_at lw_ms 2 rfl) rfl
theorem qs3 : (Cond.selects "BinDesk" ⟨"BinDesk", "ask", "(I)V"⟩ ⟨"BinDesk", "ask", "(I)V"⟩) ∈ lw_all := lw_g (lw_at lw_ms 3 rfl) rfl
theorem qs4 : (Cond.selects "BinDesk" ⟨"BinDesk", "wantAll", "(I)V"⟩ ⟨"BinDesk", "wantAll", "(I)V"⟩) ∈ lw_all := lw_g (lw_at lw_ms 4 rfl) rfl
theorem qs5 : (Cond.selects "BinDesk" ⟨"BinDesk", "want", "(I)V"⟩ ⟨"BinDesk", "want", "(I)V"⟩) ∈ lw_all := lw_g (lw_at lw_ms 5 rfl) rfl
theorem qs6 : (Cond.selects "BinDesk" ⟨"BinDesk", "solve", "()I"⟩ ⟨"BinDesk", "solve", "()I"⟩) ∈ lw_all := lw_g (lw_at lw_ms 6 rfl) rfl
theorem qs7 : (Cond.selects "BinDesk" ⟨"BinDesk", "byFallingSizes", "()I"⟩ ⟨"BinDesk", "byFallingSizes", "()I"⟩) ∈ lw_all := lw_g (lw_at lw_ms 7 rfl) rfl
theorem qs8 : (Cond.selects "BinDesk" ⟨"BinDesk", "lowerBound", "()I"⟩ ⟨"BinDesk", "lowerBound", "()I"⟩) ∈ lw_all := lw_g (lw_at lw_ms 8 rfl) rfl
theorem qs9 : (Cond.selects "BinDesk" ⟨"BinDesk", "boundWith", "(I)I"⟩ ⟨"BinDesk", "boundWith", "(I)I"⟩) ∈ lw_all := lw_g (lw_at lw_ms 9 rfl) rfl
theorem qs10 : (Cond.selects "BinDesk" ⟨"BinDesk", "search", "()V"⟩ ⟨"BinDesk", "search", "()V"⟩) ∈ lw_all := lw_g (lw_at lw_ms 10 rfl) rfl
theorem qs11 : (Cond.selects "BinDesk" ⟨"BinDesk", "nextBin", "(III)I"⟩ ⟨"BinDesk", "nextBin", "(III)I"⟩) ∈ lw_all := lw_g (lw_at lw_ms 11 rfl) rfl
theorem qs12 : (Cond.selects "BinDesk" ⟨"BinDesk", "seen", "(I)Z"⟩ ⟨"BinDesk", "seen", "(I)Z"⟩) ∈ lw_all := lw_g (lw_at lw_ms 12 rfl) rfl
theorem qs13 : (Cond.selects "BinDesk" ⟨"BinDesk", "hopeful", "(II)Z"⟩ ⟨"BinDesk", "hopeful", "(II)Z"⟩) ∈ lw_all := lw_g (lw_at lw_ms 13 rfl) rfl
theorem qs14 : (Cond.selects "BinDesk" ⟨"BinDesk", "firstBin", "(III)I"⟩ ⟨"BinDesk", "firstBin", "(III)I"⟩) ∈ lw_all := lw_g (lw_at lw_ms 14 rfl) rfl
theorem qs15 : (Cond.selects "BinDesk" ⟨"BinDesk", "refill", "(II)V"⟩ ⟨"BinDesk", "refill", "(II)V"⟩) ∈ lw_all := lw_g (lw_at lw_ms 15 rfl) rfl
theorem qs16 : (Cond.selects "BinDeskModel" ⟨"BinDeskModel", "is", "(I)Z"⟩ ⟨"BinDeskModel", "is", "(I)Z"⟩) ∈ lw_all := lw_g (lw_at lw_ms 16 rfl) rfl
theorem qs17 : (Cond.selects "BinDeskModel" ⟨"BinDeskModel", "first", "()V"⟩ ⟨"BinDeskModel", "first", "()V"⟩) ∈ lw_all := lw_g (lw_at lw_ms 17 rfl) rfl
theorem qs18 : (Cond.selects "BinDeskModel" ⟨"BinDeskModel", "greatest", "(I)I"⟩ ⟨"BinDeskModel", "greatest", "(I)I"⟩) ∈ lw_all := lw_g (lw_at lw_ms 18 rfl) rfl
theorem qs19 : (Cond.selects "BinDeskModel" ⟨"BinDeskModel", "extreme", "(Z)I"⟩ ⟨"BinDeskModel", "extreme", "(Z)I"⟩) ∈ lw_all := lw_g (lw_at lw_ms 19 rfl) rfl
theorem qs20 : (Cond.selects "BinDeskModel" ⟨"BinDeskModel", "load", "(I)I"⟩ ⟨"BinDeskModel", "load", "(I)I"⟩) ∈ lw_all := lw_g (lw_at lw_ms 20 rfl) rfl
theorem qs21 : (Cond.selects "BinDeskModel" ⟨"BinDeskModel", "next", "()Z"⟩ ⟨"BinDeskModel", "next", "()Z"⟩) ∈ lw_all := lw_g (lw_at lw_ms 21 rfl) rfl
theorem qs22 : (Cond.selects "BinDeskModel" ⟨"BinDeskModel", "rank", "(I)I"⟩ ⟨"BinDeskModel", "rank", "(I)I"⟩) ∈ lw_all := lw_g (lw_at lw_ms 22 rfl) rfl
end
section
/-! BinDesk -/
set_option maxRecDepth 100000
def RX1 : String := "BinDesk"
def TX1 : u_T := fun k => match k with
  | 0 => ("BinDesk", "binSize", "I", false)
  | 1 => ("BinDesk", "present", "I", false)
  | 2 => ("BinDesk", "sizes", "[B", true)
  | 3 => ("BinDesk", "room", "I", false)
  | 4 => ("BinDesk", "opened", "I", false)
  | 5 => ("BinDesk", "loads", "[I", true)
  | 6 => ("BinDesk", "restCount", "I", false)
  | 7 => ("BinDesk", "rest", "[I", true)
  | 8 => ("BinDesk", "best", "I", false)
  | 9 => ("BinDesk", "place", "[B", true)
  | 10 => ("BinDesk", "openAt", "[B", true)
  | 11 => ("BinDesk", "weightCount", "I", false)
  | 12 => ("BinDesk", "weights", "[I", true)
  | 13 => ("BinDesk", "packed", "Z", false)
  | 14 => ("BinDesk", "leastCount", "I", false)
  | _ => ("BinDesk", "bins", "[B", true)
def tyX1 : Nat → FieldType := fun k => match k with
  | 0 => .int
  | 1 => .int
  | 2 => .array .byte
  | 3 => .int
  | 4 => .int
  | 5 => .array .int
  | 6 => .int
  | 7 => .array .int
  | 8 => .int
  | 9 => .array .byte
  | 10 => .array .byte
  | 11 => .int
  | 12 => .array .int
  | 13 => .boolean
  | 14 => .int
  | _ => .array .byte
abbrev wsX10 : List Cond := u_ws RX1 TX1 16
set_option maxRecDepth 100000 in
theorem nmX1 : ∀ a, a < 16 → ∀ b, b < 16 → a ≠ b → (TX1 a).2.1 ≠ (TX1 b).2.1 := by decide +kernel
set_option maxRecDepth 100000 in
theorem tyX1_ok : ∀ k, k < 16 → parseFieldDescriptor (TX1 k).2.2.1 = some (tyX1 k) := by decide +kernel
abbrev cX1_init : ByteArray := prog_1_method_1_code
def yX1_init : MethodName := ⟨RX1, "<init>", "(I)V"⟩
theorem dX1_init_0 : decode cX1_init 0 = .ok (.aload_n 0, 1) := by decide +kernel
theorem dX1_init_1 : decode cX1_init 1 = .ok (.invokespecial 1, 3) := by decide +kernel
theorem dX1_init_4 : decode cX1_init 4 = .ok (.aload_n 0, 1) := by decide +kernel
theorem dX1_init_5 : decode cX1_init 5 = .ok (.bipush 8, 2) := by decide +kernel
theorem dX1_init_7 : decode cX1_init 7 = .ok (.newarray .byte, 2) := by decide +kernel
theorem dX1_init_9 : decode cX1_init 9 = .ok (.putfield 7, 3) := by decide +kernel
theorem dX1_init_12 : decode cX1_init 12 = .ok (.aload_n 0, 1) := by decide +kernel
theorem dX1_init_13 : decode cX1_init 13 = .ok (.bipush 16, 2) := by decide +kernel
theorem dX1_init_15 : decode cX1_init 15 = .ok (.newarray .int, 2) := by decide +kernel
theorem dX1_init_17 : decode cX1_init 17 = .ok (.putfield 13, 3) := by decide +kernel
theorem dX1_init_20 : decode cX1_init 20 = .ok (.aload_n 0, 1) := by decide +kernel
theorem dX1_init_21 : decode cX1_init 21 = .ok (.bipush 16, 2) := by decide +kernel
theorem dX1_init_23 : decode cX1_init 23 = .ok (.newarray .int, 2) := by decide +kernel
theorem dX1_init_25 : decode cX1_init 25 = .ok (.putfield 17, 3) := by decide +kernel
theorem dX1_init_28 : decode cX1_init 28 = .ok (.aload_n 0, 1) := by decide +kernel
theorem dX1_init_29 : decode cX1_init 29 = .ok (.bipush 16, 2) := by decide +kernel
theorem dX1_init_31 : decode cX1_init 31 = .ok (.newarray .byte, 2) := by decide +kernel
theorem dX1_init_33 : decode cX1_init 33 = .ok (.putfield 20, 3) := by decide +kernel
theorem dX1_init_36 : decode cX1_init 36 = .ok (.aload_n 0, 1) := by decide +kernel
theorem dX1_init_37 : decode cX1_init 37 = .ok (.bipush 16, 2) := by decide +kernel
theorem dX1_init_39 : decode cX1_init 39 = .ok (.newarray .byte, 2) := by decide +kernel
theorem dX1_init_41 : decode cX1_init 41 = .ok (.putfield 23, 3) := by decide +kernel
theorem dX1_init_44 : decode cX1_init 44 = .ok (.aload_n 0, 1) := by decide +kernel
theorem dX1_init_45 : decode cX1_init 45 = .ok (.bipush 32, 2) := by decide +kernel
theorem dX1_init_47 : decode cX1_init 47 = .ok (.newarray .int, 2) := by decide +kernel
theorem dX1_init_49 : decode cX1_init 49 = .ok (.putfield 26, 3) := by decide +kernel
theorem dX1_init_52 : decode cX1_init 52 = .ok (.aload_n 0, 1) := by decide +kernel
theorem dX1_init_53 : decode cX1_init 53 = .ok (.bipush 8, 2) := by decide +kernel
theorem dX1_init_55 : decode cX1_init 55 = .ok (.newarray .byte, 2) := by decide +kernel
theorem dX1_init_57 : decode cX1_init 57 = .ok (.putfield 29, 3) := by decide +kernel
theorem dX1_init_60 : decode cX1_init 60 = .ok (.aload_n 0, 1) := by decide +kernel
theorem dX1_init_61 : decode cX1_init 61 = .ok (.iload_n 1, 1) := by decide +kernel
theorem dX1_init_62 : decode cX1_init 62 = .ok (.iconst 1, 1) := by decide +kernel
theorem dX1_init_63 : decode cX1_init 63 = .ok (.if_icmp .ge 7, 3) := by decide +kernel
theorem dX1_init_66 : decode cX1_init 66 = .ok (.iconst 1, 1) := by decide +kernel
theorem dX1_init_67 : decode cX1_init 67 = .ok (.goto 15, 3) := by decide +kernel
theorem dX1_init_70 : decode cX1_init 70 = .ok (.iload_n 1, 1) := by decide +kernel
theorem dX1_init_71 : decode cX1_init 71 = .ok (.bipush 60, 2) := by decide +kernel
theorem dX1_init_73 : decode cX1_init 73 = .ok (.if_icmp .le 8, 3) := by decide +kernel
theorem dX1_init_76 : decode cX1_init 76 = .ok (.bipush 60, 2) := by decide +kernel
theorem dX1_init_78 : decode cX1_init 78 = .ok (.goto 4, 3) := by decide +kernel
theorem dX1_init_81 : decode cX1_init 81 = .ok (.iload_n 1, 1) := by decide +kernel
theorem dX1_init_82 : decode cX1_init 82 = .ok (.putfield 32, 3) := by decide +kernel
theorem dX1_init_85 : decode cX1_init 85 = .ok (.return_, 1) := by decide +kernel
abbrev cX1_add : ByteArray := prog_1_method_3_code
def yX1_add : MethodName := ⟨RX1, "add", "(I)I"⟩
theorem dX1_add_0 : decode cX1_add 0 = .ok (.iload_n 1, 1) := by decide +kernel
theorem dX1_add_1 : decode cX1_add 1 = .ok (.iconst 1, 1) := by decide +kernel
theorem dX1_add_2 : decode cX1_add 2 = .ok (.if_icmp .lt 11, 3) := by decide +kernel
theorem dX1_add_5 : decode cX1_add 5 = .ok (.iload_n 1, 1) := by decide +kernel
theorem dX1_add_6 : decode cX1_add 6 = .ok (.aload_n 0, 1) := by decide +kernel
theorem dX1_add_7 : decode cX1_add 7 = .ok (.getfield 32, 3) := by decide +kernel
theorem dX1_add_10 : decode cX1_add 10 = .ok (.if_icmp .le 5, 3) := by decide +kernel
theorem dX1_add_13 : decode cX1_add 13 = .ok (.iconst (-1), 1) := by decide +kernel
theorem dX1_add_14 : decode cX1_add 14 = .ok (.ireturn, 1) := by decide +kernel
theorem dX1_add_15 : decode cX1_add 15 = .ok (.iconst 0, 1) := by decide +kernel
theorem dX1_add_16 : decode cX1_add 16 = .ok (.istore_n 2, 1) := by decide +kernel
theorem dX1_add_17 : decode cX1_add 17 = .ok (.iload_n 2, 1) := by decide +kernel
theorem dX1_add_18 : decode cX1_add 18 = .ok (.bipush 8, 2) := by decide +kernel
theorem dX1_add_20 : decode cX1_add 20 = .ok (.if_icmp .ge 44, 3) := by decide +kernel
theorem dX1_add_23 : decode cX1_add 23 = .ok (.aload_n 0, 1) := by decide +kernel
theorem dX1_add_24 : decode cX1_add 24 = .ok (.iload_n 2, 1) := by decide +kernel
theorem dX1_add_25 : decode cX1_add 25 = .ok (.invokevirtual 39, 3) := by decide +kernel
theorem dX1_add_28 : decode cX1_add 28 = .ok (.ifCond .ne 30, 3) := by decide +kernel
theorem dX1_add_31 : decode cX1_add 31 = .ok (.aload_n 0, 1) := by decide +kernel
theorem dX1_add_32 : decode cX1_add 32 = .ok (.dup, 1) := by decide +kernel
theorem dX1_add_33 : decode cX1_add 33 = .ok (.getfield 36, 3) := by decide +kernel
theorem dX1_add_36 : decode cX1_add 36 = .ok (.iconst 1, 1) := by decide +kernel
theorem dX1_add_37 : decode cX1_add 37 = .ok (.iload_n 2, 1) := by decide +kernel
theorem dX1_add_38 : decode cX1_add 38 = .ok (.ishl, 1) := by decide +kernel
theorem dX1_add_39 : decode cX1_add 39 = .ok (.ior, 1) := by decide +kernel
theorem dX1_add_40 : decode cX1_add 40 = .ok (.putfield 36, 3) := by decide +kernel
theorem dX1_add_43 : decode cX1_add 43 = .ok (.aload_n 0, 1) := by decide +kernel
theorem dX1_add_44 : decode cX1_add 44 = .ok (.getfield 7, 3) := by decide +kernel
theorem dX1_add_47 : decode cX1_add 47 = .ok (.iload_n 2, 1) := by decide +kernel
theorem dX1_add_48 : decode cX1_add 48 = .ok (.iload_n 1, 1) := by decide +kernel
theorem dX1_add_49 : decode cX1_add 49 = .ok (.i2b, 1) := by decide +kernel
theorem dX1_add_50 : decode cX1_add 50 = .ok (.bastore, 1) := by decide +kernel
theorem dX1_add_51 : decode cX1_add 51 = .ok (.aload_n 0, 1) := by decide +kernel
theorem dX1_add_52 : decode cX1_add 52 = .ok (.iconst 0, 1) := by decide +kernel
theorem dX1_add_53 : decode cX1_add 53 = .ok (.putfield 43, 3) := by decide +kernel
theorem dX1_add_56 : decode cX1_add 56 = .ok (.iload_n 2, 1) := by decide +kernel
theorem dX1_add_57 : decode cX1_add 57 = .ok (.ireturn, 1) := by decide +kernel
theorem dX1_add_58 : decode cX1_add 58 = .ok (.iinc 2 1, 3) := by decide +kernel
theorem dX1_add_61 : decode cX1_add 61 = .ok (.goto (-44), 3) := by decide +kernel
theorem dX1_add_64 : decode cX1_add 64 = .ok (.bipush (-2), 2) := by decide +kernel
theorem dX1_add_66 : decode cX1_add 66 = .ok (.ireturn, 1) := by decide +kernel
abbrev cX1_has : ByteArray := prog_1_method_2_code
def yX1_has : MethodName := ⟨RX1, "has", "(I)Z"⟩
theorem dX1_has_0 : decode cX1_has 0 = .ok (.iload_n 1, 1) := by decide +kernel
theorem dX1_has_1 : decode cX1_has 1 = .ok (.ifCond .lt 24, 3) := by decide +kernel
theorem dX1_has_4 : decode cX1_has 4 = .ok (.iload_n 1, 1) := by decide +kernel
theorem dX1_has_5 : decode cX1_has 5 = .ok (.bipush 8, 2) := by decide +kernel
theorem dX1_has_7 : decode cX1_has 7 = .ok (.if_icmp .ge 18, 3) := by decide +kernel
theorem dX1_has_10 : decode cX1_has 10 = .ok (.aload_n 0, 1) := by decide +kernel
theorem dX1_has_11 : decode cX1_has 11 = .ok (.getfield 36, 3) := by decide +kernel
theorem dX1_has_14 : decode cX1_has 14 = .ok (.iload_n 1, 1) := by decide +kernel
theorem dX1_has_15 : decode cX1_has 15 = .ok (.ishr, 1) := by decide +kernel
theorem dX1_has_16 : decode cX1_has 16 = .ok (.iconst 1, 1) := by decide +kernel
theorem dX1_has_17 : decode cX1_has 17 = .ok (.iand, 1) := by decide +kernel
theorem dX1_has_18 : decode cX1_has 18 = .ok (.ifCond .eq 7, 3) := by decide +kernel
theorem dX1_has_21 : decode cX1_has 21 = .ok (.iconst 1, 1) := by decide +kernel
theorem dX1_has_22 : decode cX1_has 22 = .ok (.goto 4, 3) := by decide +kernel
theorem dX1_has_25 : decode cX1_has 25 = .ok (.iconst 0, 1) := by decide +kernel
theorem dX1_has_26 : decode cX1_has 26 = .ok (.ireturn, 1) := by decide +kernel
abbrev cX1_remove : ByteArray := prog_1_method_4_code
def yX1_remove : MethodName := ⟨RX1, "remove", "(I)Z"⟩
theorem dX1_remove_0 : decode cX1_remove 0 = .ok (.aload_n 0, 1) := by decide +kernel
theorem dX1_remove_1 : decode cX1_remove 1 = .ok (.iload_n 1, 1) := by decide +kernel
theorem dX1_remove_2 : decode cX1_remove 2 = .ok (.invokevirtual 39, 3) := by decide +kernel
theorem dX1_remove_5 : decode cX1_remove 5 = .ok (.ifCond .ne 5, 3) := by decide +kernel
theorem dX1_remove_8 : decode cX1_remove 8 = .ok (.iconst 0, 1) := by decide +kernel
theorem dX1_remove_9 : decode cX1_remove 9 = .ok (.ireturn, 1) := by decide +kernel
theorem dX1_remove_10 : decode cX1_remove 10 = .ok (.aload_n 0, 1) := by decide +kernel
theorem dX1_remove_11 : decode cX1_remove 11 = .ok (.dup, 1) := by decide +kernel
theorem dX1_remove_12 : decode cX1_remove 12 = .ok (.getfield 36, 3) := by decide +kernel
theorem dX1_remove_15 : decode cX1_remove 15 = .ok (.iconst 1, 1) := by decide +kernel
theorem dX1_remove_16 : decode cX1_remove 16 = .ok (.iload_n 1, 1) := by decide +kernel
theorem dX1_remove_17 : decode cX1_remove 17 = .ok (.ishl, 1) := by decide +kernel
theorem dX1_remove_18 : decode cX1_remove 18 = .ok (.iconst (-1), 1) := by decide +kernel
theorem dX1_remove_19 : decode cX1_remove 19 = .ok (.ixor, 1) := by decide +kernel
theorem dX1_remove_20 : decode cX1_remove 20 = .ok (.iand, 1) := by decide +kernel
theorem dX1_remove_21 : decode cX1_remove 21 = .ok (.putfield 36, 3) := by decide +kernel
theorem dX1_remove_24 : decode cX1_remove 24 = .ok (.aload_n 0, 1) := by decide +kernel
theorem dX1_remove_25 : decode cX1_remove 25 = .ok (.iconst 0, 1) := by decide +kernel
theorem dX1_remove_26 : decode cX1_remove 26 = .ok (.putfield 43, 3) := by decide +kernel
theorem dX1_remove_29 : decode cX1_remove 29 = .ok (.iconst 1, 1) := by decide +kernel
theorem dX1_remove_30 : decode cX1_remove 30 = .ok (.ireturn, 1) := by decide +kernel
abbrev cX1_resize : ByteArray := prog_1_method_5_code
def yX1_resize : MethodName := ⟨RX1, "resize", "(II)Z"⟩
theorem dX1_resize_0 : decode cX1_resize 0 = .ok (.aload_n 0, 1) := by decide +kernel
theorem dX1_resize_1 : decode cX1_resize 1 = .ok (.iload_n 1, 1) := by decide +kernel
theorem dX1_resize_2 : decode cX1_resize 2 = .ok (.invokevirtual 39, 3) := by decide +kernel
theorem dX1_resize_5 : decode cX1_resize 5 = .ok (.ifCond .eq 16, 3) := by decide +kernel
theorem dX1_resize_8 : decode cX1_resize 8 = .ok (.iload_n 2, 1) := by decide +kernel
theorem dX1_resize_9 : decode cX1_resize 9 = .ok (.iconst 1, 1) := by decide +kernel
theorem dX1_resize_10 : decode cX1_resize 10 = .ok (.if_icmp .lt 11, 3) := by decide +kernel
theorem dX1_resize_13 : decode cX1_resize 13 = .ok (.iload_n 2, 1) := by decide +kernel
theorem dX1_resize_14 : decode cX1_resize 14 = .ok (.aload_n 0, 1) := by decide +kernel
theorem dX1_resize_15 : decode cX1_resize 15 = .ok (.getfield 32, 3) := by decide +kernel
theorem dX1_resize_18 : decode cX1_resize 18 = .ok (.if_icmp .le 5, 3) := by decide +kernel
theorem dX1_resize_21 : decode cX1_resize 21 = .ok (.iconst 0, 1) := by decide +kernel
theorem dX1_resize_22 : decode cX1_resize 22 = .ok (.ireturn, 1) := by decide +kernel
theorem dX1_resize_23 : decode cX1_resize 23 = .ok (.aload_n 0, 1) := by decide +kernel
theorem dX1_resize_24 : decode cX1_resize 24 = .ok (.getfield 7, 3) := by decide +kernel
theorem dX1_resize_27 : decode cX1_resize 27 = .ok (.iload_n 1, 1) := by decide +kernel
theorem dX1_resize_28 : decode cX1_resize 28 = .ok (.iload_n 2, 1) := by decide +kernel
theorem dX1_resize_29 : decode cX1_resize 29 = .ok (.i2b, 1) := by decide +kernel
theorem dX1_resize_30 : decode cX1_resize 30 = .ok (.bastore, 1) := by decide +kernel
theorem dX1_resize_31 : decode cX1_resize 31 = .ok (.aload_n 0, 1) := by decide +kernel
theorem dX1_resize_32 : decode cX1_resize 32 = .ok (.iconst 0, 1) := by decide +kernel
theorem dX1_resize_33 : decode cX1_resize 33 = .ok (.putfield 43, 3) := by decide +kernel
theorem dX1_resize_36 : decode cX1_resize 36 = .ok (.iconst 1, 1) := by decide +kernel
theorem dX1_resize_37 : decode cX1_resize 37 = .ok (.ireturn, 1) := by decide +kernel
abbrev cX1_setSize : ByteArray := prog_1_method_6_code
def yX1_setSize : MethodName := ⟨RX1, "setSize", "(I)Z"⟩
theorem dX1_setSize_0 : decode cX1_setSize 0 = .ok (.iload_n 1, 1) := by decide +kernel
theorem dX1_setSize_1 : decode cX1_setSize 1 = .ok (.iconst 1, 1) := by decide +kernel
theorem dX1_setSize_2 : decode cX1_setSize 2 = .ok (.if_icmp .lt 17, 3) := by decide +kernel
theorem dX1_setSize_5 : decode cX1_setSize 5 = .ok (.iload_n 1, 1) := by decide +kernel
theorem dX1_setSize_6 : decode cX1_setSize 6 = .ok (.bipush 60, 2) := by decide +kernel
theorem dX1_setSize_8 : decode cX1_setSize 8 = .ok (.if_icmp .gt 11, 3) := by decide +kernel
theorem dX1_setSize_11 : decode cX1_setSize 11 = .ok (.iload_n 1, 1) := by decide +kernel
theorem dX1_setSize_12 : decode cX1_setSize 12 = .ok (.aload_n 0, 1) := by decide +kernel
theorem dX1_setSize_13 : decode cX1_setSize 13 = .ok (.invokevirtual 47, 3) := by decide +kernel
theorem dX1_setSize_16 : decode cX1_setSize 16 = .ok (.if_icmp .ge 5, 3) := by decide +kernel
theorem dX1_setSize_19 : decode cX1_setSize 19 = .ok (.iconst 0, 1) := by decide +kernel
theorem dX1_setSize_20 : decode cX1_setSize 20 = .ok (.ireturn, 1) := by decide +kernel
theorem dX1_setSize_21 : decode cX1_setSize 21 = .ok (.aload_n 0, 1) := by decide +kernel
theorem dX1_setSize_22 : decode cX1_setSize 22 = .ok (.iload_n 1, 1) := by decide +kernel
theorem dX1_setSize_23 : decode cX1_setSize 23 = .ok (.putfield 32, 3) := by decide +kernel
theorem dX1_setSize_26 : decode cX1_setSize 26 = .ok (.aload_n 0, 1) := by decide +kernel
theorem dX1_setSize_27 : decode cX1_setSize 27 = .ok (.iconst 0, 1) := by decide +kernel
theorem dX1_setSize_28 : decode cX1_setSize 28 = .ok (.putfield 43, 3) := by decide +kernel
theorem dX1_setSize_31 : decode cX1_setSize 31 = .ok (.iconst 1, 1) := by decide +kernel
theorem dX1_setSize_32 : decode cX1_setSize 32 = .ok (.ireturn, 1) := by decide +kernel
abbrev cX1_largest : ByteArray := prog_1_method_7_code
def yX1_largest : MethodName := ⟨RX1, "largest", "()I"⟩
theorem dX1_largest_0 : decode cX1_largest 0 = .ok (.iconst 0, 1) := by decide +kernel
theorem dX1_largest_1 : decode cX1_largest 1 = .ok (.istore_n 1, 1) := by decide +kernel
theorem dX1_largest_2 : decode cX1_largest 2 = .ok (.iconst 0, 1) := by decide +kernel
theorem dX1_largest_3 : decode cX1_largest 3 = .ok (.istore_n 2, 1) := by decide +kernel
theorem dX1_largest_4 : decode cX1_largest 4 = .ok (.iload_n 2, 1) := by decide +kernel
theorem dX1_largest_5 : decode cX1_largest 5 = .ok (.bipush 8, 2) := by decide +kernel
theorem dX1_largest_7 : decode cX1_largest 7 = .ok (.if_icmp .ge 34, 3) := by decide +kernel
theorem dX1_largest_10 : decode cX1_largest 10 = .ok (.aload_n 0, 1) := by decide +kernel
theorem dX1_largest_11 : decode cX1_largest 11 = .ok (.iload_n 2, 1) := by decide +kernel
theorem dX1_largest_12 : decode cX1_largest 12 = .ok (.invokevirtual 39, 3) := by decide +kernel
theorem dX1_largest_15 : decode cX1_largest 15 = .ok (.ifCond .eq 20, 3) := by decide +kernel
theorem dX1_largest_18 : decode cX1_largest 18 = .ok (.aload_n 0, 1) := by decide +kernel
theorem dX1_largest_19 : decode cX1_largest 19 = .ok (.getfield 7, 3) := by decide +kernel
theorem dX1_largest_22 : decode cX1_largest 22 = .ok (.iload_n 2, 1) := by decide +kernel
theorem dX1_largest_23 : decode cX1_largest 23 = .ok (.baload, 1) := by decide +kernel
theorem dX1_largest_24 : decode cX1_largest 24 = .ok (.iload_n 1, 1) := by decide +kernel
theorem dX1_largest_25 : decode cX1_largest 25 = .ok (.if_icmp .le 10, 3) := by decide +kernel
theorem dX1_largest_28 : decode cX1_largest 28 = .ok (.aload_n 0, 1) := by decide +kernel
theorem dX1_largest_29 : decode cX1_largest 29 = .ok (.getfield 7, 3) := by decide +kernel
theorem dX1_largest_32 : decode cX1_largest 32 = .ok (.iload_n 2, 1) := by decide +kernel
theorem dX1_largest_33 : decode cX1_largest 33 = .ok (.baload, 1) := by decide +kernel
theorem dX1_largest_34 : decode cX1_largest 34 = .ok (.istore_n 1, 1) := by decide +kernel
theorem dX1_largest_35 : decode cX1_largest 35 = .ok (.iinc 2 1, 3) := by decide +kernel
theorem dX1_largest_38 : decode cX1_largest 38 = .ok (.goto (-34), 3) := by decide +kernel
theorem dX1_largest_41 : decode cX1_largest 41 = .ok (.iload_n 1, 1) := by decide +kernel
theorem dX1_largest_42 : decode cX1_largest 42 = .ok (.ireturn, 1) := by decide +kernel
abbrev cX1_size : ByteArray := prog_1_method_8_code
def yX1_size : MethodName := ⟨RX1, "size", "()I"⟩
theorem dX1_size_0 : decode cX1_size 0 = .ok (.aload_n 0, 1) := by decide +kernel
theorem dX1_size_1 : decode cX1_size 1 = .ok (.getfield 32, 3) := by decide +kernel
theorem dX1_size_4 : decode cX1_size 4 = .ok (.ireturn, 1) := by decide +kernel
abbrev cX1_items : ByteArray := prog_1_method_9_code
def yX1_items : MethodName := ⟨RX1, "items", "()I"⟩
theorem dX1_items_0 : decode cX1_items 0 = .ok (.aload_n 0, 1) := by decide +kernel
theorem dX1_items_1 : decode cX1_items 1 = .ok (.getfield 36, 3) := by decide +kernel
theorem dX1_items_4 : decode cX1_items 4 = .ok (.ireturn, 1) := by decide +kernel
abbrev cX1_sizeOf : ByteArray := prog_1_method_10_code
def yX1_sizeOf : MethodName := ⟨RX1, "sizeOf", "(I)I"⟩
theorem dX1_sizeOf_0 : decode cX1_sizeOf 0 = .ok (.aload_n 0, 1) := by decide +kernel
theorem dX1_sizeOf_1 : decode cX1_sizeOf 1 = .ok (.iload_n 1, 1) := by decide +kernel
theorem dX1_sizeOf_2 : decode cX1_sizeOf 2 = .ok (.invokevirtual 39, 3) := by decide +kernel
theorem dX1_sizeOf_5 : decode cX1_sizeOf 5 = .ok (.ifCond .eq 12, 3) := by decide +kernel
theorem dX1_sizeOf_8 : decode cX1_sizeOf 8 = .ok (.aload_n 0, 1) := by decide +kernel
theorem dX1_sizeOf_9 : decode cX1_sizeOf 9 = .ok (.getfield 7, 3) := by decide +kernel
theorem dX1_sizeOf_12 : decode cX1_sizeOf 12 = .ok (.iload_n 1, 1) := by decide +kernel
theorem dX1_sizeOf_13 : decode cX1_sizeOf 13 = .ok (.baload, 1) := by decide +kernel
theorem dX1_sizeOf_14 : decode cX1_sizeOf 14 = .ok (.goto 4, 3) := by decide +kernel
theorem dX1_sizeOf_17 : decode cX1_sizeOf 17 = .ok (.iconst (-1), 1) := by decide +kernel
theorem dX1_sizeOf_18 : decode cX1_sizeOf 18 = .ok (.ireturn, 1) := by decide +kernel
abbrev cX1_least : ByteArray := prog_1_method_26_code
def yX1_least : MethodName := ⟨RX1, "least", "()I"⟩
theorem dX1_least_0 : decode cX1_least 0 = .ok (.aload_n 0, 1) := by decide +kernel
theorem dX1_least_1 : decode cX1_least 1 = .ok (.invokevirtual 118, 3) := by decide +kernel
theorem dX1_least_4 : decode cX1_least 4 = .ok (.aload_n 0, 1) := by decide +kernel
theorem dX1_least_5 : decode cX1_least 5 = .ok (.getfield 108, 3) := by decide +kernel
theorem dX1_least_8 : decode cX1_least 8 = .ok (.ireturn, 1) := by decide +kernel
abbrev cX1_pack : ByteArray := prog_1_method_23_code
def yX1_pack : MethodName := ⟨RX1, "pack", "()V"⟩
theorem dX1_pack_0 : decode cX1_pack 0 = .ok (.aload_n 0, 1) := by decide +kernel
theorem dX1_pack_1 : decode cX1_pack 1 = .ok (.getfield 43, 3) := by decide +kernel
theorem dX1_pack_4 : decode cX1_pack 4 = .ok (.ifCond .eq 4, 3) := by decide +kernel
theorem dX1_pack_7 : decode cX1_pack 7 = .ok (.return_, 1) := by decide +kernel
theorem dX1_pack_8 : decode cX1_pack 8 = .ok (.aload_n 0, 1) := by decide +kernel
theorem dX1_pack_9 : decode cX1_pack 9 = .ok (.iconst 1, 1) := by decide +kernel
theorem dX1_pack_10 : decode cX1_pack 10 = .ok (.putfield 43, 3) := by decide +kernel
theorem dX1_pack_13 : decode cX1_pack 13 = .ok (.aload_n 0, 1) := by decide +kernel
theorem dX1_pack_14 : decode cX1_pack 14 = .ok (.aload_n 0, 1) := by decide +kernel
theorem dX1_pack_15 : decode cX1_pack 15 = .ok (.getfield 32, 3) := by decide +kernel
theorem dX1_pack_18 : decode cX1_pack 18 = .ok (.invokevirtual 99, 3) := by decide +kernel
theorem dX1_pack_21 : decode cX1_pack 21 = .ok (.aload_n 0, 1) := by decide +kernel
theorem dX1_pack_22 : decode cX1_pack 22 = .ok (.aload_n 0, 1) := by decide +kernel
theorem dX1_pack_23 : decode cX1_pack 23 = .ok (.getfield 36, 3) := by decide +kernel
theorem dX1_pack_26 : decode cX1_pack 26 = .ok (.invokevirtual 102, 3) := by decide +kernel
theorem dX1_pack_29 : decode cX1_pack 29 = .ok (.aload_n 0, 1) := by decide +kernel
theorem dX1_pack_30 : decode cX1_pack 30 = .ok (.aload_n 0, 1) := by decide +kernel
theorem dX1_pack_31 : decode cX1_pack 31 = .ok (.invokevirtual 105, 3) := by decide +kernel
theorem dX1_pack_34 : decode cX1_pack 34 = .ok (.putfield 108, 3) := by decide +kernel
theorem dX1_pack_37 : decode cX1_pack 37 = .ok (.iconst 0, 1) := by decide +kernel
theorem dX1_pack_38 : decode cX1_pack 38 = .ok (.istore_n 1, 1) := by decide +kernel
theorem dX1_pack_39 : decode cX1_pack 39 = .ok (.iconst 0, 1) := by decide +kernel
theorem dX1_pack_40 : decode cX1_pack 40 = .ok (.istore_n 2, 1) := by decide +kernel
theorem dX1_pack_41 : decode cX1_pack 41 = .ok (.iconst 0, 1) := by decide +kernel
theorem dX1_pack_42 : decode cX1_pack 42 = .ok (.istore_n 3, 1) := by decide +kernel
theorem dX1_pack_43 : decode cX1_pack 43 = .ok (.iload_n 3, 1) := by decide +kernel
theorem dX1_pack_44 : decode cX1_pack 44 = .ok (.bipush 8, 2) := by decide +kernel
theorem dX1_pack_46 : decode cX1_pack 46 = .ok (.if_icmp .ge 50, 3) := by decide +kernel
theorem dX1_pack_49 : decode cX1_pack 49 = .ok (.aload_n 0, 1) := by decide +kernel
theorem dX1_pack_50 : decode cX1_pack 50 = .ok (.iload_n 3, 1) := by decide +kernel
theorem dX1_pack_51 : decode cX1_pack 51 = .ok (.invokevirtual 39, 3) := by decide +kernel
theorem dX1_pack_54 : decode cX1_pack 54 = .ok (.ifCond .eq 36, 3) := by decide +kernel
theorem dX1_pack_57 : decode cX1_pack 57 = .ok (.aload_n 0, 1) := by decide +kernel
theorem dX1_pack_58 : decode cX1_pack 58 = .ok (.iload_n 3, 1) := by decide +kernel
theorem dX1_pack_59 : decode cX1_pack 59 = .ok (.iload_n 1, 1) := by decide +kernel
theorem dX1_pack_60 : decode cX1_pack 60 = .ok (.iload_n 2, 1) := by decide +kernel
theorem dX1_pack_61 : decode cX1_pack 61 = .ok (.invokevirtual 111, 3) := by decide +kernel
theorem dX1_pack_64 : decode cX1_pack 64 = .ok (.istore 4, 2) := by decide +kernel
theorem dX1_pack_66 : decode cX1_pack 66 = .ok (.aload_n 0, 1) := by decide +kernel
theorem dX1_pack_67 : decode cX1_pack 67 = .ok (.getfield 29, 3) := by decide +kernel
theorem dX1_pack_70 : decode cX1_pack 70 = .ok (.iload_n 3, 1) := by decide +kernel
theorem dX1_pack_71 : decode cX1_pack 71 = .ok (.iload 4, 2) := by decide +kernel
theorem dX1_pack_73 : decode cX1_pack 73 = .ok (.i2b, 1) := by decide +kernel
theorem dX1_pack_74 : decode cX1_pack 74 = .ok (.bastore, 1) := by decide +kernel
theorem dX1_pack_75 : decode cX1_pack 75 = .ok (.iload_n 1, 1) := by decide +kernel
theorem dX1_pack_76 : decode cX1_pack 76 = .ok (.iconst 1, 1) := by decide +kernel
theorem dX1_pack_77 : decode cX1_pack 77 = .ok (.iload_n 3, 1) := by decide +kernel
theorem dX1_pack_78 : decode cX1_pack 78 = .ok (.ishl, 1) := by decide +kernel
theorem dX1_pack_79 : decode cX1_pack 79 = .ok (.ior, 1) := by decide +kernel
theorem dX1_pack_80 : decode cX1_pack 80 = .ok (.istore_n 1, 1) := by decide +kernel
theorem dX1_pack_81 : decode cX1_pack 81 = .ok (.iload 4, 2) := by decide +kernel
theorem dX1_pack_83 : decode cX1_pack 83 = .ok (.iload_n 2, 1) := by decide +kernel
theorem dX1_pack_84 : decode cX1_pack 84 = .ok (.if_icmp .ne 6, 3) := by decide +kernel
theorem dX1_pack_87 : decode cX1_pack 87 = .ok (.iinc 2 1, 3) := by decide +kernel
theorem dX1_pack_90 : decode cX1_pack 90 = .ok (.iinc 3 1, 3) := by decide +kernel
theorem dX1_pack_93 : decode cX1_pack 93 = .ok (.goto (-50), 3) := by decide +kernel
theorem dX1_pack_96 : decode cX1_pack 96 = .ok (.return_, 1) := by decide +kernel
abbrev cX1_ask : ByteArray := prog_1_method_11_code
def yX1_ask : MethodName := ⟨RX1, "ask", "(I)V"⟩
theorem dX1_ask_0 : decode cX1_ask 0 = .ok (.aload_n 0, 1) := by decide +kernel
theorem dX1_ask_1 : decode cX1_ask 1 = .ok (.iload_n 1, 1) := by decide +kernel
theorem dX1_ask_2 : decode cX1_ask 2 = .ok (.putfield 51, 3) := by decide +kernel
theorem dX1_ask_5 : decode cX1_ask 5 = .ok (.aload_n 0, 1) := by decide +kernel
theorem dX1_ask_6 : decode cX1_ask 6 = .ok (.iconst 0, 1) := by decide +kernel
theorem dX1_ask_7 : decode cX1_ask 7 = .ok (.putfield 54, 3) := by decide +kernel
theorem dX1_ask_10 : decode cX1_ask 10 = .ok (.aload_n 0, 1) := by decide +kernel
theorem dX1_ask_11 : decode cX1_ask 11 = .ok (.iconst 0, 1) := by decide +kernel
theorem dX1_ask_12 : decode cX1_ask 12 = .ok (.putfield 57, 3) := by decide +kernel
theorem dX1_ask_15 : decode cX1_ask 15 = .ok (.iconst 0, 1) := by decide +kernel
theorem dX1_ask_16 : decode cX1_ask 16 = .ok (.istore_n 2, 1) := by decide +kernel
theorem dX1_ask_17 : decode cX1_ask 17 = .ok (.iload_n 2, 1) := by decide +kernel
theorem dX1_ask_18 : decode cX1_ask 18 = .ok (.bipush 16, 2) := by decide +kernel
theorem dX1_ask_20 : decode cX1_ask 20 = .ok (.if_icmp .ge 16, 3) := by decide +kernel
theorem dX1_ask_23 : decode cX1_ask 23 = .ok (.aload_n 0, 1) := by decide +kernel
theorem dX1_ask_24 : decode cX1_ask 24 = .ok (.getfield 13, 3) := by decide +kernel
theorem dX1_ask_27 : decode cX1_ask 27 = .ok (.iload_n 2, 1) := by decide +kernel
theorem dX1_ask_28 : decode cX1_ask 28 = .ok (.iconst 0, 1) := by decide +kernel
theorem dX1_ask_29 : decode cX1_ask 29 = .ok (.iastore, 1) := by decide +kernel
theorem dX1_ask_30 : decode cX1_ask 30 = .ok (.iinc 2 1, 3) := by decide +kernel
theorem dX1_ask_33 : decode cX1_ask 33 = .ok (.goto (-16), 3) := by decide +kernel
theorem dX1_ask_36 : decode cX1_ask 36 = .ok (.return_, 1) := by decide +kernel
abbrev cX1_wantAll : ByteArray := prog_1_method_13_code
def yX1_wantAll : MethodName := ⟨RX1, "wantAll", "(I)V"⟩
theorem dX1_wantAll_0 : decode cX1_wantAll 0 = .ok (.iconst 0, 1) := by decide +kernel
theorem dX1_wantAll_1 : decode cX1_wantAll 1 = .ok (.istore_n 2, 1) := by decide +kernel
theorem dX1_wantAll_2 : decode cX1_wantAll 2 = .ok (.iload_n 2, 1) := by decide +kernel
theorem dX1_wantAll_3 : decode cX1_wantAll 3 = .ok (.bipush 8, 2) := by decide +kernel
theorem dX1_wantAll_5 : decode cX1_wantAll 5 = .ok (.if_icmp .ge 27, 3) := by decide +kernel
theorem dX1_wantAll_8 : decode cX1_wantAll 8 = .ok (.iload_n 1, 1) := by decide +kernel
theorem dX1_wantAll_9 : decode cX1_wantAll 9 = .ok (.iload_n 2, 1) := by decide +kernel
theorem dX1_wantAll_10 : decode cX1_wantAll 10 = .ok (.ishr, 1) := by decide +kernel
theorem dX1_wantAll_11 : decode cX1_wantAll 11 = .ok (.iconst 1, 1) := by decide +kernel
theorem dX1_wantAll_12 : decode cX1_wantAll 12 = .ok (.iand, 1) := by decide +kernel
theorem dX1_wantAll_13 : decode cX1_wantAll 13 = .ok (.ifCond .eq 13, 3) := by decide +kernel
theorem dX1_wantAll_16 : decode cX1_wantAll 16 = .ok (.aload_n 0, 1) := by decide +kernel
theorem dX1_wantAll_17 : decode cX1_wantAll 17 = .ok (.aload_n 0, 1) := by decide +kernel
theorem dX1_wantAll_18 : decode cX1_wantAll 18 = .ok (.getfield 7, 3) := by decide +kernel
theorem dX1_wantAll_21 : decode cX1_wantAll 21 = .ok (.iload_n 2, 1) := by decide +kernel
theorem dX1_wantAll_22 : decode cX1_wantAll 22 = .ok (.baload, 1) := by decide +kernel
theorem dX1_wantAll_23 : decode cX1_wantAll 23 = .ok (.invokevirtual 60, 3) := by decide +kernel
theorem dX1_wantAll_26 : decode cX1_wantAll 26 = .ok (.iinc 2 1, 3) := by decide +kernel
theorem dX1_wantAll_29 : decode cX1_wantAll 29 = .ok (.goto (-27), 3) := by decide +kernel
theorem dX1_wantAll_32 : decode cX1_wantAll 32 = .ok (.return_, 1) := by decide +kernel
abbrev cX1_want : ByteArray := prog_1_method_12_code
def yX1_want : MethodName := ⟨RX1, "want", "(I)V"⟩
theorem dX1_want_0 : decode cX1_want 0 = .ok (.aload_n 0, 1) := by decide +kernel
theorem dX1_want_1 : decode cX1_want 1 = .ok (.getfield 57, 3) := by decide +kernel
theorem dX1_want_4 : decode cX1_want 4 = .ok (.istore_n 2, 1) := by decide +kernel
theorem dX1_want_5 : decode cX1_want 5 = .ok (.iload_n 2, 1) := by decide +kernel
theorem dX1_want_6 : decode cX1_want 6 = .ok (.ifCond .le 35, 3) := by decide +kernel
theorem dX1_want_9 : decode cX1_want 9 = .ok (.aload_n 0, 1) := by decide +kernel
theorem dX1_want_10 : decode cX1_want 10 = .ok (.getfield 17, 3) := by decide +kernel
theorem dX1_want_13 : decode cX1_want 13 = .ok (.iload_n 2, 1) := by decide +kernel
theorem dX1_want_14 : decode cX1_want 14 = .ok (.iconst 1, 1) := by decide +kernel
theorem dX1_want_15 : decode cX1_want 15 = .ok (.isub, 1) := by decide +kernel
theorem dX1_want_16 : decode cX1_want 16 = .ok (.iaload, 1) := by decide +kernel
theorem dX1_want_17 : decode cX1_want 17 = .ok (.iload_n 1, 1) := by decide +kernel
theorem dX1_want_18 : decode cX1_want 18 = .ok (.if_icmp .ge 23, 3) := by decide +kernel
theorem dX1_want_21 : decode cX1_want 21 = .ok (.aload_n 0, 1) := by decide +kernel
theorem dX1_want_22 : decode cX1_want 22 = .ok (.getfield 17, 3) := by decide +kernel
theorem dX1_want_25 : decode cX1_want 25 = .ok (.iload_n 2, 1) := by decide +kernel
theorem dX1_want_26 : decode cX1_want 26 = .ok (.aload_n 0, 1) := by decide +kernel
theorem dX1_want_27 : decode cX1_want 27 = .ok (.getfield 17, 3) := by decide +kernel
theorem dX1_want_30 : decode cX1_want 30 = .ok (.iload_n 2, 1) := by decide +kernel
theorem dX1_want_31 : decode cX1_want 31 = .ok (.iconst 1, 1) := by decide +kernel
theorem dX1_want_32 : decode cX1_want 32 = .ok (.isub, 1) := by decide +kernel
theorem dX1_want_33 : decode cX1_want 33 = .ok (.iaload, 1) := by decide +kernel
theorem dX1_want_34 : decode cX1_want 34 = .ok (.iastore, 1) := by decide +kernel
theorem dX1_want_35 : decode cX1_want 35 = .ok (.iinc 2 (-1), 3) := by decide +kernel
theorem dX1_want_38 : decode cX1_want 38 = .ok (.goto (-33), 3) := by decide +kernel
theorem dX1_want_41 : decode cX1_want 41 = .ok (.aload_n 0, 1) := by decide +kernel
theorem dX1_want_42 : decode cX1_want 42 = .ok (.getfield 17, 3) := by decide +kernel
theorem dX1_want_45 : decode cX1_want 45 = .ok (.iload_n 2, 1) := by decide +kernel
theorem dX1_want_46 : decode cX1_want 46 = .ok (.iload_n 1, 1) := by decide +kernel
theorem dX1_want_47 : decode cX1_want 47 = .ok (.iastore, 1) := by decide +kernel
theorem dX1_want_48 : decode cX1_want 48 = .ok (.aload_n 0, 1) := by decide +kernel
theorem dX1_want_49 : decode cX1_want 49 = .ok (.dup, 1) := by decide +kernel
theorem dX1_want_50 : decode cX1_want 50 = .ok (.getfield 57, 3) := by decide +kernel
theorem dX1_want_53 : decode cX1_want 53 = .ok (.iconst 1, 1) := by decide +kernel
theorem dX1_want_54 : decode cX1_want 54 = .ok (.iadd, 1) := by decide +kernel
theorem dX1_want_55 : decode cX1_want 55 = .ok (.putfield 57, 3) := by decide +kernel
theorem dX1_want_58 : decode cX1_want 58 = .ok (.return_, 1) := by decide +kernel
abbrev cX1_solve : ByteArray := prog_1_method_17_code
def yX1_solve : MethodName := ⟨RX1, "solve", "()I"⟩
theorem dX1_solve_0 : decode cX1_solve 0 = .ok (.aload_n 0, 1) := by decide +kernel
theorem dX1_solve_1 : decode cX1_solve 1 = .ok (.getfield 57, 3) := by decide +kernel
theorem dX1_solve_4 : decode cX1_solve 4 = .ok (.ifCond .ne 8, 3) := by decide +kernel
theorem dX1_solve_7 : decode cX1_solve 7 = .ok (.aload_n 0, 1) := by decide +kernel
theorem dX1_solve_8 : decode cX1_solve 8 = .ok (.getfield 54, 3) := by decide +kernel
theorem dX1_solve_11 : decode cX1_solve 11 = .ok (.ireturn, 1) := by decide +kernel
theorem dX1_solve_12 : decode cX1_solve 12 = .ok (.aload_n 0, 1) := by decide +kernel
theorem dX1_solve_13 : decode cX1_solve 13 = .ok (.aload_n 0, 1) := by decide +kernel
theorem dX1_solve_14 : decode cX1_solve 14 = .ok (.invokevirtual 75, 3) := by decide +kernel
theorem dX1_solve_17 : decode cX1_solve 17 = .ok (.putfield 78, 3) := by decide +kernel
theorem dX1_solve_20 : decode cX1_solve 20 = .ok (.aload_n 0, 1) := by decide +kernel
theorem dX1_solve_21 : decode cX1_solve 21 = .ok (.invokevirtual 81, 3) := by decide +kernel
theorem dX1_solve_24 : decode cX1_solve 24 = .ok (.istore_n 1, 1) := by decide +kernel
theorem dX1_solve_25 : decode cX1_solve 25 = .ok (.aload_n 0, 1) := by decide +kernel
theorem dX1_solve_26 : decode cX1_solve 26 = .ok (.getfield 78, 3) := by decide +kernel
theorem dX1_solve_29 : decode cX1_solve 29 = .ok (.iload_n 1, 1) := by decide +kernel
theorem dX1_solve_30 : decode cX1_solve 30 = .ok (.if_icmp .le 7, 3) := by decide +kernel
theorem dX1_solve_33 : decode cX1_solve 33 = .ok (.aload_n 0, 1) := by decide +kernel
theorem dX1_solve_34 : decode cX1_solve 34 = .ok (.invokevirtual 84, 3) := by decide +kernel
theorem dX1_solve_37 : decode cX1_solve 37 = .ok (.aload_n 0, 1) := by decide +kernel
theorem dX1_solve_38 : decode cX1_solve 38 = .ok (.getfield 78, 3) := by decide +kernel
theorem dX1_solve_41 : decode cX1_solve 41 = .ok (.ireturn, 1) := by decide +kernel
abbrev cX1_byFallingSizes : ByteArray := prog_1_method_18_code
def yX1_byFallingSizes : MethodName := ⟨RX1, "byFallingSizes", "()I"⟩
theorem dX1_byFallingSizes_0 : decode cX1_byFallingSizes 0 = .ok (.aload_n 0, 1) := by decide +kernel
theorem dX1_byFallingSizes_1 : decode cX1_byFallingSizes 1 = .ok (.getfield 54, 3) := by decide +kernel
theorem dX1_byFallingSizes_4 : decode cX1_byFallingSizes 4 = .ok (.istore_n 1, 1) := by decide +kernel
theorem dX1_byFallingSizes_5 : decode cX1_byFallingSizes 5 = .ok (.iconst 0, 1) := by decide +kernel
theorem dX1_byFallingSizes_6 : decode cX1_byFallingSizes 6 = .ok (.istore_n 2, 1) := by decide +kernel
theorem dX1_byFallingSizes_7 : decode cX1_byFallingSizes 7 = .ok (.iload_n 2, 1) := by decide +kernel
theorem dX1_byFallingSizes_8 : decode cX1_byFallingSizes 8 = .ok (.aload_n 0, 1) := by decide +kernel
theorem dX1_byFallingSizes_9 : decode cX1_byFallingSizes 9 = .ok (.getfield 57, 3) := by decide +kernel
theorem dX1_byFallingSizes_12 : decode cX1_byFallingSizes 12 = .ok (.if_icmp .ge 73, 3) := by decide +kernel
theorem dX1_byFallingSizes_15 : decode cX1_byFallingSizes 15 = .ok (.iconst 0, 1) := by decide +kernel
theorem dX1_byFallingSizes_16 : decode cX1_byFallingSizes 16 = .ok (.istore_n 3, 1) := by decide +kernel
theorem dX1_byFallingSizes_17 : decode cX1_byFallingSizes 17 = .ok (.iload_n 3, 1) := by decide +kernel
theorem dX1_byFallingSizes_18 : decode cX1_byFallingSizes 18 = .ok (.iload_n 1, 1) := by decide +kernel
theorem dX1_byFallingSizes_19 : decode cX1_byFallingSizes 19 = .ok (.if_icmp .ge 29, 3) := by decide +kernel
theorem dX1_byFallingSizes_22 : decode cX1_byFallingSizes 22 = .ok (.aload_n 0, 1) := by decide +kernel
theorem dX1_byFallingSizes_23 : decode cX1_byFallingSizes 23 = .ok (.getfield 13, 3) := by decide +kernel
theorem dX1_byFallingSizes_26 : decode cX1_byFallingSizes 26 = .ok (.iload_n 3, 1) := by decide +kernel
theorem dX1_byFallingSizes_27 : decode cX1_byFallingSizes 27 = .ok (.iaload, 1) := by decide +kernel
theorem dX1_byFallingSizes_28 : decode cX1_byFallingSizes 28 = .ok (.aload_n 0, 1) := by decide +kernel
theorem dX1_byFallingSizes_29 : decode cX1_byFallingSizes 29 = .ok (.getfield 17, 3) := by decide +kernel
theorem dX1_byFallingSizes_32 : decode cX1_byFallingSizes 32 = .ok (.iload_n 2, 1) := by decide +kernel
theorem dX1_byFallingSizes_33 : decode cX1_byFallingSizes 33 = .ok (.iaload, 1) := by decide +kernel
theorem dX1_byFallingSizes_34 : decode cX1_byFallingSizes 34 = .ok (.iadd, 1) := by decide +kernel
theorem dX1_byFallingSizes_35 : decode cX1_byFallingSizes 35 = .ok (.aload_n 0, 1) := by decide +kernel
theorem dX1_byFallingSizes_36 : decode cX1_byFallingSizes 36 = .ok (.getfield 51, 3) := by decide +kernel
theorem dX1_byFallingSizes_39 : decode cX1_byFallingSizes 39 = .ok (.if_icmp .le 9, 3) := by decide +kernel
theorem dX1_byFallingSizes_42 : decode cX1_byFallingSizes 42 = .ok (.iinc 3 1, 3) := by decide +kernel
theorem dX1_byFallingSizes_45 : decode cX1_byFallingSizes 45 = .ok (.goto (-28), 3) := by decide +kernel
theorem dX1_byFallingSizes_48 : decode cX1_byFallingSizes 48 = .ok (.aload_n 0, 1) := by decide +kernel
theorem dX1_byFallingSizes_49 : decode cX1_byFallingSizes 49 = .ok (.getfield 13, 3) := by decide +kernel
theorem dX1_byFallingSizes_52 : decode cX1_byFallingSizes 52 = .ok (.iload_n 3, 1) := by decide +kernel
theorem dX1_byFallingSizes_53 : decode cX1_byFallingSizes 53 = .ok (.dup2, 1) := by decide +kernel
theorem dX1_byFallingSizes_54 : decode cX1_byFallingSizes 54 = .ok (.iaload, 1) := by decide +kernel
theorem dX1_byFallingSizes_55 : decode cX1_byFallingSizes 55 = .ok (.aload_n 0, 1) := by decide +kernel
theorem dX1_byFallingSizes_56 : decode cX1_byFallingSizes 56 = .ok (.getfield 17, 3) := by decide +kernel
theorem dX1_byFallingSizes_59 : decode cX1_byFallingSizes 59 = .ok (.iload_n 2, 1) := by decide +kernel
theorem dX1_byFallingSizes_60 : decode cX1_byFallingSizes 60 = .ok (.iaload, 1) := by decide +kernel
theorem dX1_byFallingSizes_61 : decode cX1_byFallingSizes 61 = .ok (.iadd, 1) := by decide +kernel
theorem dX1_byFallingSizes_62 : decode cX1_byFallingSizes 62 = .ok (.iastore, 1) := by decide +kernel
theorem dX1_byFallingSizes_63 : decode cX1_byFallingSizes 63 = .ok (.aload_n 0, 1) := by decide +kernel
theorem dX1_byFallingSizes_64 : decode cX1_byFallingSizes 64 = .ok (.getfield 20, 3) := by decide +kernel
theorem dX1_byFallingSizes_67 : decode cX1_byFallingSizes 67 = .ok (.iload_n 2, 1) := by decide +kernel
theorem dX1_byFallingSizes_68 : decode cX1_byFallingSizes 68 = .ok (.iload_n 3, 1) := by decide +kernel
theorem dX1_byFallingSizes_69 : decode cX1_byFallingSizes 69 = .ok (.i2b, 1) := by decide +kernel
theorem dX1_byFallingSizes_70 : decode cX1_byFallingSizes 70 = .ok (.bastore, 1) := by decide +kernel
theorem dX1_byFallingSizes_71 : decode cX1_byFallingSizes 71 = .ok (.iload_n 3, 1) := by decide +kernel
theorem dX1_byFallingSizes_72 : decode cX1_byFallingSizes 72 = .ok (.iload_n 1, 1) := by decide +kernel
theorem dX1_byFallingSizes_73 : decode cX1_byFallingSizes 73 = .ok (.if_icmp .ne 6, 3) := by decide +kernel
theorem dX1_byFallingSizes_76 : decode cX1_byFallingSizes 76 = .ok (.iinc 1 1, 3) := by decide +kernel
theorem dX1_byFallingSizes_79 : decode cX1_byFallingSizes 79 = .ok (.iinc 2 1, 3) := by decide +kernel
theorem dX1_byFallingSizes_82 : decode cX1_byFallingSizes 82 = .ok (.goto (-75), 3) := by decide +kernel
theorem dX1_byFallingSizes_85 : decode cX1_byFallingSizes 85 = .ok (.iconst 0, 1) := by decide +kernel
theorem dX1_byFallingSizes_86 : decode cX1_byFallingSizes 86 = .ok (.istore_n 2, 1) := by decide +kernel
theorem dX1_byFallingSizes_87 : decode cX1_byFallingSizes 87 = .ok (.iload_n 2, 1) := by decide +kernel
theorem dX1_byFallingSizes_88 : decode cX1_byFallingSizes 88 = .ok (.aload_n 0, 1) := by decide +kernel
theorem dX1_byFallingSizes_89 : decode cX1_byFallingSizes 89 = .ok (.getfield 57, 3) := by decide +kernel
theorem dX1_byFallingSizes_92 : decode cX1_byFallingSizes 92 = .ok (.if_icmp .ge 29, 3) := by decide +kernel
theorem dX1_byFallingSizes_95 : decode cX1_byFallingSizes 95 = .ok (.aload_n 0, 1) := by decide +kernel
theorem dX1_byFallingSizes_96 : decode cX1_byFallingSizes 96 = .ok (.getfield 13, 3) := by decide +kernel
theorem dX1_byFallingSizes_99 : decode cX1_byFallingSizes 99 = .ok (.aload_n 0, 1) := by decide +kernel
theorem dX1_byFallingSizes_100 : decode cX1_byFallingSizes 100 = .ok (.getfield 20, 3) := by decide +kernel
theorem dX1_byFallingSizes_103 : decode cX1_byFallingSizes 103 = .ok (.iload_n 2, 1) := by decide +kernel
theorem dX1_byFallingSizes_104 : decode cX1_byFallingSizes 104 = .ok (.baload, 1) := by decide +kernel
theorem dX1_byFallingSizes_105 : decode cX1_byFallingSizes 105 = .ok (.dup2, 1) := by decide +kernel
theorem dX1_byFallingSizes_106 : decode cX1_byFallingSizes 106 = .ok (.iaload, 1) := by decide +kernel
theorem dX1_byFallingSizes_107 : decode cX1_byFallingSizes 107 = .ok (.aload_n 0, 1) := by decide +kernel
theorem dX1_byFallingSizes_108 : decode cX1_byFallingSizes 108 = .ok (.getfield 17, 3) := by decide +kernel
theorem dX1_byFallingSizes_111 : decode cX1_byFallingSizes 111 = .ok (.iload_n 2, 1) := by decide +kernel
theorem dX1_byFallingSizes_112 : decode cX1_byFallingSizes 112 = .ok (.iaload, 1) := by decide +kernel
theorem dX1_byFallingSizes_113 : decode cX1_byFallingSizes 113 = .ok (.isub, 1) := by decide +kernel
theorem dX1_byFallingSizes_114 : decode cX1_byFallingSizes 114 = .ok (.iastore, 1) := by decide +kernel
theorem dX1_byFallingSizes_115 : decode cX1_byFallingSizes 115 = .ok (.iinc 2 1, 3) := by decide +kernel
theorem dX1_byFallingSizes_118 : decode cX1_byFallingSizes 118 = .ok (.goto (-31), 3) := by decide +kernel
theorem dX1_byFallingSizes_121 : decode cX1_byFallingSizes 121 = .ok (.iload_n 1, 1) := by decide +kernel
theorem dX1_byFallingSizes_122 : decode cX1_byFallingSizes 122 = .ok (.ireturn, 1) := by decide +kernel
abbrev cX1_lowerBound : ByteArray := prog_1_method_15_code
def yX1_lowerBound : MethodName := ⟨RX1, "lowerBound", "()I"⟩
theorem dX1_lowerBound_0 : decode cX1_lowerBound 0 = .ok (.aload_n 0, 1) := by decide +kernel
theorem dX1_lowerBound_1 : decode cX1_lowerBound 1 = .ok (.iconst 0, 1) := by decide +kernel
theorem dX1_lowerBound_2 : decode cX1_lowerBound 2 = .ok (.putfield 64, 3) := by decide +kernel
theorem dX1_lowerBound_5 : decode cX1_lowerBound 5 = .ok (.iconst 0, 1) := by decide +kernel
theorem dX1_lowerBound_6 : decode cX1_lowerBound 6 = .ok (.istore_n 1, 1) := by decide +kernel
theorem dX1_lowerBound_7 : decode cX1_lowerBound 7 = .ok (.iload_n 1, 1) := by decide +kernel
theorem dX1_lowerBound_8 : decode cX1_lowerBound 8 = .ok (.aload_n 0, 1) := by decide +kernel
theorem dX1_lowerBound_9 : decode cX1_lowerBound 9 = .ok (.getfield 54, 3) := by decide +kernel
theorem dX1_lowerBound_12 : decode cX1_lowerBound 12 = .ok (.if_icmp .ge 34, 3) := by decide +kernel
theorem dX1_lowerBound_15 : decode cX1_lowerBound 15 = .ok (.aload_n 0, 1) := by decide +kernel
theorem dX1_lowerBound_16 : decode cX1_lowerBound 16 = .ok (.getfield 26, 3) := by decide +kernel
theorem dX1_lowerBound_19 : decode cX1_lowerBound 19 = .ok (.aload_n 0, 1) := by decide +kernel
theorem dX1_lowerBound_20 : decode cX1_lowerBound 20 = .ok (.getfield 64, 3) := by decide +kernel
theorem dX1_lowerBound_23 : decode cX1_lowerBound 23 = .ok (.aload_n 0, 1) := by decide +kernel
theorem dX1_lowerBound_24 : decode cX1_lowerBound 24 = .ok (.getfield 13, 3) := by decide +kernel
theorem dX1_lowerBound_27 : decode cX1_lowerBound 27 = .ok (.iload_n 1, 1) := by decide +kernel
theorem dX1_lowerBound_28 : decode cX1_lowerBound 28 = .ok (.iaload, 1) := by decide +kernel
theorem dX1_lowerBound_29 : decode cX1_lowerBound 29 = .ok (.iastore, 1) := by decide +kernel
theorem dX1_lowerBound_30 : decode cX1_lowerBound 30 = .ok (.aload_n 0, 1) := by decide +kernel
theorem dX1_lowerBound_31 : decode cX1_lowerBound 31 = .ok (.dup, 1) := by decide +kernel
theorem dX1_lowerBound_32 : decode cX1_lowerBound 32 = .ok (.getfield 64, 3) := by decide +kernel
theorem dX1_lowerBound_35 : decode cX1_lowerBound 35 = .ok (.iconst 1, 1) := by decide +kernel
theorem dX1_lowerBound_36 : decode cX1_lowerBound 36 = .ok (.iadd, 1) := by decide +kernel
theorem dX1_lowerBound_37 : decode cX1_lowerBound 37 = .ok (.putfield 64, 3) := by decide +kernel
theorem dX1_lowerBound_40 : decode cX1_lowerBound 40 = .ok (.iinc 1 1, 3) := by decide +kernel
theorem dX1_lowerBound_43 : decode cX1_lowerBound 43 = .ok (.goto (-36), 3) := by decide +kernel
theorem dX1_lowerBound_46 : decode cX1_lowerBound 46 = .ok (.iconst 0, 1) := by decide +kernel
theorem dX1_lowerBound_47 : decode cX1_lowerBound 47 = .ok (.istore_n 1, 1) := by decide +kernel
theorem dX1_lowerBound_48 : decode cX1_lowerBound 48 = .ok (.iload_n 1, 1) := by decide +kernel
theorem dX1_lowerBound_49 : decode cX1_lowerBound 49 = .ok (.aload_n 0, 1) := by decide +kernel
theorem dX1_lowerBound_50 : decode cX1_lowerBound 50 = .ok (.getfield 57, 3) := by decide +kernel
theorem dX1_lowerBound_53 : decode cX1_lowerBound 53 = .ok (.if_icmp .ge 34, 3) := by decide +kernel
theorem dX1_lowerBound_56 : decode cX1_lowerBound 56 = .ok (.aload_n 0, 1) := by decide +kernel
theorem dX1_lowerBound_57 : decode cX1_lowerBound 57 = .ok (.getfield 26, 3) := by decide +kernel
theorem dX1_lowerBound_60 : decode cX1_lowerBound 60 = .ok (.aload_n 0, 1) := by decide +kernel
theorem dX1_lowerBound_61 : decode cX1_lowerBound 61 = .ok (.getfield 64, 3) := by decide +kernel
theorem dX1_lowerBound_64 : decode cX1_lowerBound 64 = .ok (.aload_n 0, 1) := by decide +kernel
theorem dX1_lowerBound_65 : decode cX1_lowerBound 65 = .ok (.getfield 17, 3) := by decide +kernel
theorem dX1_lowerBound_68 : decode cX1_lowerBound 68 = .ok (.iload_n 1, 1) := by decide +kernel
theorem dX1_lowerBound_69 : decode cX1_lowerBound 69 = .ok (.iaload, 1) := by decide +kernel
theorem dX1_lowerBound_70 : decode cX1_lowerBound 70 = .ok (.iastore, 1) := by decide +kernel
theorem dX1_lowerBound_71 : decode cX1_lowerBound 71 = .ok (.aload_n 0, 1) := by decide +kernel
theorem dX1_lowerBound_72 : decode cX1_lowerBound 72 = .ok (.dup, 1) := by decide +kernel
theorem dX1_lowerBound_73 : decode cX1_lowerBound 73 = .ok (.getfield 64, 3) := by decide +kernel
theorem dX1_lowerBound_76 : decode cX1_lowerBound 76 = .ok (.iconst 1, 1) := by decide +kernel
theorem dX1_lowerBound_77 : decode cX1_lowerBound 77 = .ok (.iadd, 1) := by decide +kernel
theorem dX1_lowerBound_78 : decode cX1_lowerBound 78 = .ok (.putfield 64, 3) := by decide +kernel
theorem dX1_lowerBound_81 : decode cX1_lowerBound 81 = .ok (.iinc 1 1, 3) := by decide +kernel
theorem dX1_lowerBound_84 : decode cX1_lowerBound 84 = .ok (.goto (-36), 3) := by decide +kernel
theorem dX1_lowerBound_87 : decode cX1_lowerBound 87 = .ok (.aload_n 0, 1) := by decide +kernel
theorem dX1_lowerBound_88 : decode cX1_lowerBound 88 = .ok (.getfield 54, 3) := by decide +kernel
theorem dX1_lowerBound_91 : decode cX1_lowerBound 91 = .ok (.istore_n 1, 1) := by decide +kernel
theorem dX1_lowerBound_92 : decode cX1_lowerBound 92 = .ok (.iconst 0, 1) := by decide +kernel
theorem dX1_lowerBound_93 : decode cX1_lowerBound 93 = .ok (.istore_n 2, 1) := by decide +kernel
theorem dX1_lowerBound_94 : decode cX1_lowerBound 94 = .ok (.iload_n 2, 1) := by decide +kernel
theorem dX1_lowerBound_95 : decode cX1_lowerBound 95 = .ok (.aload_n 0, 1) := by decide +kernel
theorem dX1_lowerBound_96 : decode cX1_lowerBound 96 = .ok (.getfield 64, 3) := by decide +kernel
theorem dX1_lowerBound_99 : decode cX1_lowerBound 99 = .ok (.if_icmp .ge 46, 3) := by decide +kernel
theorem dX1_lowerBound_102 : decode cX1_lowerBound 102 = .ok (.iconst 2, 1) := by decide +kernel
theorem dX1_lowerBound_103 : decode cX1_lowerBound 103 = .ok (.aload_n 0, 1) := by decide +kernel
theorem dX1_lowerBound_104 : decode cX1_lowerBound 104 = .ok (.getfield 26, 3) := by decide +kernel
theorem dX1_lowerBound_107 : decode cX1_lowerBound 107 = .ok (.iload_n 2, 1) := by decide +kernel
theorem dX1_lowerBound_108 : decode cX1_lowerBound 108 = .ok (.iaload, 1) := by decide +kernel
theorem dX1_lowerBound_109 : decode cX1_lowerBound 109 = .ok (.imul, 1) := by decide +kernel
theorem dX1_lowerBound_110 : decode cX1_lowerBound 110 = .ok (.aload_n 0, 1) := by decide +kernel
theorem dX1_lowerBound_111 : decode cX1_lowerBound 111 = .ok (.getfield 51, 3) := by decide +kernel
theorem dX1_lowerBound_114 : decode cX1_lowerBound 114 = .ok (.if_icmp .gt 25, 3) := by decide +kernel
theorem dX1_lowerBound_117 : decode cX1_lowerBound 117 = .ok (.aload_n 0, 1) := by decide +kernel
theorem dX1_lowerBound_118 : decode cX1_lowerBound 118 = .ok (.aload_n 0, 1) := by decide +kernel
theorem dX1_lowerBound_119 : decode cX1_lowerBound 119 = .ok (.getfield 26, 3) := by decide +kernel
theorem dX1_lowerBound_122 : decode cX1_lowerBound 122 = .ok (.iload_n 2, 1) := by decide +kernel
theorem dX1_lowerBound_123 : decode cX1_lowerBound 123 = .ok (.iaload, 1) := by decide +kernel
theorem dX1_lowerBound_124 : decode cX1_lowerBound 124 = .ok (.invokevirtual 67, 3) := by decide +kernel
theorem dX1_lowerBound_127 : decode cX1_lowerBound 127 = .ok (.istore_n 3, 1) := by decide +kernel
theorem dX1_lowerBound_128 : decode cX1_lowerBound 128 = .ok (.iload_n 3, 1) := by decide +kernel
theorem dX1_lowerBound_129 : decode cX1_lowerBound 129 = .ok (.iload_n 1, 1) := by decide +kernel
theorem dX1_lowerBound_130 : decode cX1_lowerBound 130 = .ok (.if_icmp .le 7, 3) := by decide +kernel
theorem dX1_lowerBound_133 : decode cX1_lowerBound 133 = .ok (.iload_n 3, 1) := by decide +kernel
theorem dX1_lowerBound_134 : decode cX1_lowerBound 134 = .ok (.goto 4, 3) := by decide +kernel
theorem dX1_lowerBound_137 : decode cX1_lowerBound 137 = .ok (.iload_n 1, 1) := by decide +kernel
theorem dX1_lowerBound_138 : decode cX1_lowerBound 138 = .ok (.istore_n 1, 1) := by decide +kernel
theorem dX1_lowerBound_139 : decode cX1_lowerBound 139 = .ok (.iinc 2 1, 3) := by decide +kernel
theorem dX1_lowerBound_142 : decode cX1_lowerBound 142 = .ok (.goto (-48), 3) := by decide +kernel
theorem dX1_lowerBound_145 : decode cX1_lowerBound 145 = .ok (.aload_n 0, 1) := by decide +kernel
theorem dX1_lowerBound_146 : decode cX1_lowerBound 146 = .ok (.iconst 0, 1) := by decide +kernel
theorem dX1_lowerBound_147 : decode cX1_lowerBound 147 = .ok (.invokevirtual 67, 3) := by decide +kernel
theorem dX1_lowerBound_150 : decode cX1_lowerBound 150 = .ok (.istore_n 2, 1) := by decide +kernel
theorem dX1_lowerBound_151 : decode cX1_lowerBound 151 = .ok (.iload_n 2, 1) := by decide +kernel
theorem dX1_lowerBound_152 : decode cX1_lowerBound 152 = .ok (.iload_n 1, 1) := by decide +kernel
theorem dX1_lowerBound_153 : decode cX1_lowerBound 153 = .ok (.if_icmp .le 7, 3) := by decide +kernel
theorem dX1_lowerBound_156 : decode cX1_lowerBound 156 = .ok (.iload_n 2, 1) := by decide +kernel
theorem dX1_lowerBound_157 : decode cX1_lowerBound 157 = .ok (.goto 4, 3) := by decide +kernel
theorem dX1_lowerBound_160 : decode cX1_lowerBound 160 = .ok (.iload_n 1, 1) := by decide +kernel
theorem dX1_lowerBound_161 : decode cX1_lowerBound 161 = .ok (.ireturn, 1) := by decide +kernel
end
section
set_option maxRecDepth 100000
abbrev cX1_boundWith : ByteArray := prog_1_method_16_code
def yX1_boundWith : MethodName := ⟨RX1, "boundWith", "(I)I"⟩
theorem dX1_boundWith_0 : decode cX1_boundWith 0 = .ok (.iconst 0, 1) := by decide +kernel
theorem dX1_boundWith_1 : decode cX1_boundWith 1 = .ok (.istore_n 2, 1) := by decide +kernel
theorem dX1_boundWith_2 : decode cX1_boundWith 2 = .ok (.iconst 0, 1) := by decide +kernel
theorem dX1_boundWith_3 : decode cX1_boundWith 3 = .ok (.istore_n 3, 1) := by decide +kernel
theorem dX1_boundWith_4 : decode cX1_boundWith 4 = .ok (.iconst 0, 1) := by decide +kernel
theorem dX1_boundWith_5 : decode cX1_boundWith 5 = .ok (.istore 4, 2) := by decide +kernel
theorem dX1_boundWith_7 : decode cX1_boundWith 7 = .ok (.iconst 0, 1) := by decide +kernel
theorem dX1_boundWith_8 : decode cX1_boundWith 8 = .ok (.istore 5, 2) := by decide +kernel
theorem dX1_boundWith_10 : decode cX1_boundWith 10 = .ok (.iconst 0, 1) := by decide +kernel
theorem dX1_boundWith_11 : decode cX1_boundWith 11 = .ok (.istore 6, 2) := by decide +kernel
theorem dX1_boundWith_13 : decode cX1_boundWith 13 = .ok (.iload 6, 2) := by decide +kernel
theorem dX1_boundWith_15 : decode cX1_boundWith 15 = .ok (.aload_n 0, 1) := by decide +kernel
theorem dX1_boundWith_16 : decode cX1_boundWith 16 = .ok (.getfield 64, 3) := by decide +kernel
theorem dX1_boundWith_19 : decode cX1_boundWith 19 = .ok (.if_icmp .ge 72, 3) := by decide +kernel
theorem dX1_boundWith_22 : decode cX1_boundWith 22 = .ok (.aload_n 0, 1) := by decide +kernel
theorem dX1_boundWith_23 : decode cX1_boundWith 23 = .ok (.getfield 26, 3) := by decide +kernel
theorem dX1_boundWith_26 : decode cX1_boundWith 26 = .ok (.iload 6, 2) := by decide +kernel
theorem dX1_boundWith_28 : decode cX1_boundWith 28 = .ok (.iaload, 1) := by decide +kernel
theorem dX1_boundWith_29 : decode cX1_boundWith 29 = .ok (.istore 7, 2) := by decide +kernel
theorem dX1_boundWith_31 : decode cX1_boundWith 31 = .ok (.iload 7, 2) := by decide +kernel
theorem dX1_boundWith_33 : decode cX1_boundWith 33 = .ok (.aload_n 0, 1) := by decide +kernel
theorem dX1_boundWith_34 : decode cX1_boundWith 34 = .ok (.getfield 51, 3) := by decide +kernel
theorem dX1_boundWith_37 : decode cX1_boundWith 37 = .ok (.iload_n 1, 1) := by decide +kernel
theorem dX1_boundWith_38 : decode cX1_boundWith 38 = .ok (.isub, 1) := by decide +kernel
theorem dX1_boundWith_39 : decode cX1_boundWith 39 = .ok (.if_icmp .le 9, 3) := by decide +kernel
theorem dX1_boundWith_42 : decode cX1_boundWith 42 = .ok (.iinc 2 1, 3) := by decide +kernel
theorem dX1_boundWith_45 : decode cX1_boundWith 45 = .ok (.goto 40, 3) := by decide +kernel
theorem dX1_boundWith_48 : decode cX1_boundWith 48 = .ok (.iconst 2, 1) := by decide +kernel
theorem dX1_boundWith_49 : decode cX1_boundWith 49 = .ok (.iload 7, 2) := by decide +kernel
theorem dX1_boundWith_51 : decode cX1_boundWith 51 = .ok (.imul, 1) := by decide +kernel
theorem dX1_boundWith_52 : decode cX1_boundWith 52 = .ok (.aload_n 0, 1) := by decide +kernel
theorem dX1_boundWith_53 : decode cX1_boundWith 53 = .ok (.getfield 51, 3) := by decide +kernel
theorem dX1_boundWith_56 : decode cX1_boundWith 56 = .ok (.if_icmp .le 16, 3) := by decide +kernel
theorem dX1_boundWith_59 : decode cX1_boundWith 59 = .ok (.iinc 3 1, 3) := by decide +kernel
theorem dX1_boundWith_62 : decode cX1_boundWith 62 = .ok (.iload 4, 2) := by decide +kernel
theorem dX1_boundWith_64 : decode cX1_boundWith 64 = .ok (.iload 7, 2) := by decide +kernel
theorem dX1_boundWith_66 : decode cX1_boundWith 66 = .ok (.iadd, 1) := by decide +kernel
theorem dX1_boundWith_67 : decode cX1_boundWith 67 = .ok (.istore 4, 2) := by decide +kernel
theorem dX1_boundWith_69 : decode cX1_boundWith 69 = .ok (.goto 16, 3) := by decide +kernel
theorem dX1_boundWith_72 : decode cX1_boundWith 72 = .ok (.iload 7, 2) := by decide +kernel
theorem dX1_boundWith_74 : decode cX1_boundWith 74 = .ok (.iload_n 1, 1) := by decide +kernel
theorem dX1_boundWith_75 : decode cX1_boundWith 75 = .ok (.if_icmp .lt 10, 3) := by decide +kernel
theorem dX1_boundWith_78 : decode cX1_boundWith 78 = .ok (.iload 5, 2) := by decide +kernel
theorem dX1_boundWith_80 : decode cX1_boundWith 80 = .ok (.iload 7, 2) := by decide +kernel
theorem dX1_boundWith_82 : decode cX1_boundWith 82 = .ok (.iadd, 1) := by decide +kernel
theorem dX1_boundWith_83 : decode cX1_boundWith 83 = .ok (.istore 5, 2) := by decide +kernel
theorem dX1_boundWith_85 : decode cX1_boundWith 85 = .ok (.iinc 6 1, 3) := by decide +kernel
theorem dX1_boundWith_88 : decode cX1_boundWith 88 = .ok (.goto (-75), 3) := by decide +kernel
theorem dX1_boundWith_91 : decode cX1_boundWith 91 = .ok (.iload 5, 2) := by decide +kernel
theorem dX1_boundWith_93 : decode cX1_boundWith 93 = .ok (.iload_n 3, 1) := by decide +kernel
theorem dX1_boundWith_94 : decode cX1_boundWith 94 = .ok (.aload_n 0, 1) := by decide +kernel
theorem dX1_boundWith_95 : decode cX1_boundWith 95 = .ok (.getfield 51, 3) := by decide +kernel
theorem dX1_boundWith_98 : decode cX1_boundWith 98 = .ok (.imul, 1) := by decide +kernel
theorem dX1_boundWith_99 : decode cX1_boundWith 99 = .ok (.iload 4, 2) := by decide +kernel
theorem dX1_boundWith_101 : decode cX1_boundWith 101 = .ok (.isub, 1) := by decide +kernel
theorem dX1_boundWith_102 : decode cX1_boundWith 102 = .ok (.isub, 1) := by decide +kernel
theorem dX1_boundWith_103 : decode cX1_boundWith 103 = .ok (.istore 6, 2) := by decide +kernel
theorem dX1_boundWith_105 : decode cX1_boundWith 105 = .ok (.iload_n 2, 1) := by decide +kernel
theorem dX1_boundWith_106 : decode cX1_boundWith 106 = .ok (.iload_n 3, 1) := by decide +kernel
theorem dX1_boundWith_107 : decode cX1_boundWith 107 = .ok (.iadd, 1) := by decide +kernel
theorem dX1_boundWith_108 : decode cX1_boundWith 108 = .ok (.iload 6, 2) := by decide +kernel
theorem dX1_boundWith_110 : decode cX1_boundWith 110 = .ok (.aload_n 0, 1) := by decide +kernel
theorem dX1_boundWith_111 : decode cX1_boundWith 111 = .ok (.getfield 51, 3) := by decide +kernel
theorem dX1_boundWith_114 : decode cX1_boundWith 114 = .ok (.invokestatic 71, 3) := by decide +kernel
theorem dX1_boundWith_117 : decode cX1_boundWith 117 = .ok (.iadd, 1) := by decide +kernel
theorem dX1_boundWith_118 : decode cX1_boundWith 118 = .ok (.ireturn, 1) := by decide +kernel
abbrev cX1_ceiling : ByteArray := prog_1_method_14_code
def yX1_ceiling : MethodName := ⟨RX1, "ceiling", "(II)I"⟩
theorem dX1_ceiling_0 : decode cX1_ceiling 0 = .ok (.iload_n 0, 1) := by decide +kernel
theorem dX1_ceiling_1 : decode cX1_ceiling 1 = .ok (.ifCond .gt 7, 3) := by decide +kernel
theorem dX1_ceiling_4 : decode cX1_ceiling 4 = .ok (.iconst 0, 1) := by decide +kernel
theorem dX1_ceiling_5 : decode cX1_ceiling 5 = .ok (.goto 18, 3) := by decide +kernel
theorem dX1_ceiling_8 : decode cX1_ceiling 8 = .ok (.iload_n 0, 1) := by decide +kernel
theorem dX1_ceiling_9 : decode cX1_ceiling 9 = .ok (.iload_n 1, 1) := by decide +kernel
theorem dX1_ceiling_10 : decode cX1_ceiling 10 = .ok (.iadd, 1) := by decide +kernel
theorem dX1_ceiling_11 : decode cX1_ceiling 11 = .ok (.iconst 1, 1) := by decide +kernel
theorem dX1_ceiling_12 : decode cX1_ceiling 12 = .ok (.isub, 1) := by decide +kernel
theorem dX1_ceiling_13 : decode cX1_ceiling 13 = .ok (.iload_n 1, 1) := by decide +kernel
theorem dX1_ceiling_14 : decode cX1_ceiling 14 = .ok (.ifCond .le 7, 3) := by decide +kernel
theorem dX1_ceiling_17 : decode cX1_ceiling 17 = .ok (.iload_n 1, 1) := by decide +kernel
theorem dX1_ceiling_18 : decode cX1_ceiling 18 = .ok (.goto 4, 3) := by decide +kernel
theorem dX1_ceiling_21 : decode cX1_ceiling 21 = .ok (.iconst 1, 1) := by decide +kernel
theorem dX1_ceiling_22 : decode cX1_ceiling 22 = .ok (.idiv, 1) := by decide +kernel
theorem dX1_ceiling_23 : decode cX1_ceiling 23 = .ok (.ireturn, 1) := by decide +kernel
abbrev cX1_search : ByteArray := prog_1_method_19_code
def yX1_search : MethodName := ⟨RX1, "search", "()V"⟩
theorem dX1_search_0 : decode cX1_search 0 = .ok (.iconst 0, 1) := by decide +kernel
theorem dX1_search_1 : decode cX1_search 1 = .ok (.istore_n 1, 1) := by decide +kernel
theorem dX1_search_2 : decode cX1_search 2 = .ok (.aload_n 0, 1) := by decide +kernel
theorem dX1_search_3 : decode cX1_search 3 = .ok (.getfield 20, 3) := by decide +kernel
theorem dX1_search_6 : decode cX1_search 6 = .ok (.iconst 0, 1) := by decide +kernel
theorem dX1_search_7 : decode cX1_search 7 = .ok (.iconst (-1), 1) := by decide +kernel
theorem dX1_search_8 : decode cX1_search 8 = .ok (.bastore, 1) := by decide +kernel
theorem dX1_search_9 : decode cX1_search 9 = .ok (.aload_n 0, 1) := by decide +kernel
theorem dX1_search_10 : decode cX1_search 10 = .ok (.getfield 23, 3) := by decide +kernel
theorem dX1_search_13 : decode cX1_search 13 = .ok (.iconst 0, 1) := by decide +kernel
theorem dX1_search_14 : decode cX1_search 14 = .ok (.aload_n 0, 1) := by decide +kernel
theorem dX1_search_15 : decode cX1_search 15 = .ok (.getfield 54, 3) := by decide +kernel
theorem dX1_search_18 : decode cX1_search 18 = .ok (.i2b, 1) := by decide +kernel
theorem dX1_search_19 : decode cX1_search 19 = .ok (.bastore, 1) := by decide +kernel
theorem dX1_search_20 : decode cX1_search 20 = .ok (.iconst 0, 1) := by decide +kernel
theorem dX1_search_21 : decode cX1_search 21 = .ok (.istore_n 2, 1) := by decide +kernel
theorem dX1_search_22 : decode cX1_search 22 = .ok (.iload_n 2, 1) := by decide +kernel
theorem dX1_search_23 : decode cX1_search 23 = .ok (.ldc 87, 2) := by decide +kernel
theorem dX1_search_25 : decode cX1_search 25 = .ok (.if_icmp .ge 166, 3) := by decide +kernel
theorem dX1_search_28 : decode cX1_search 28 = .ok (.iload_n 1, 1) := by decide +kernel
theorem dX1_search_29 : decode cX1_search 29 = .ok (.ifCond .lt 162, 3) := by decide +kernel
theorem dX1_search_32 : decode cX1_search 32 = .ok (.aload_n 0, 1) := by decide +kernel
theorem dX1_search_33 : decode cX1_search 33 = .ok (.getfield 20, 3) := by decide +kernel
theorem dX1_search_36 : decode cX1_search 36 = .ok (.iload_n 1, 1) := by decide +kernel
theorem dX1_search_37 : decode cX1_search 37 = .ok (.baload, 1) := by decide +kernel
theorem dX1_search_38 : decode cX1_search 38 = .ok (.ifCond .lt 23, 3) := by decide +kernel
theorem dX1_search_41 : decode cX1_search 41 = .ok (.aload_n 0, 1) := by decide +kernel
theorem dX1_search_42 : decode cX1_search 42 = .ok (.getfield 13, 3) := by decide +kernel
theorem dX1_search_45 : decode cX1_search 45 = .ok (.aload_n 0, 1) := by decide +kernel
theorem dX1_search_46 : decode cX1_search 46 = .ok (.getfield 20, 3) := by decide +kernel
theorem dX1_search_49 : decode cX1_search 49 = .ok (.iload_n 1, 1) := by decide +kernel
theorem dX1_search_50 : decode cX1_search 50 = .ok (.baload, 1) := by decide +kernel
theorem dX1_search_51 : decode cX1_search 51 = .ok (.dup2, 1) := by decide +kernel
theorem dX1_search_52 : decode cX1_search 52 = .ok (.iaload, 1) := by decide +kernel
theorem dX1_search_53 : decode cX1_search 53 = .ok (.aload_n 0, 1) := by decide +kernel
theorem dX1_search_54 : decode cX1_search 54 = .ok (.getfield 17, 3) := by decide +kernel
theorem dX1_search_57 : decode cX1_search 57 = .ok (.iload_n 1, 1) := by decide +kernel
theorem dX1_search_58 : decode cX1_search 58 = .ok (.iaload, 1) := by decide +kernel
theorem dX1_search_59 : decode cX1_search 59 = .ok (.isub, 1) := by decide +kernel
theorem dX1_search_60 : decode cX1_search 60 = .ok (.iastore, 1) := by decide +kernel
theorem dX1_search_61 : decode cX1_search 61 = .ok (.aload_n 0, 1) := by decide +kernel
theorem dX1_search_62 : decode cX1_search 62 = .ok (.getfield 23, 3) := by decide +kernel
theorem dX1_search_65 : decode cX1_search 65 = .ok (.iload_n 1, 1) := by decide +kernel
theorem dX1_search_66 : decode cX1_search 66 = .ok (.baload, 1) := by decide +kernel
theorem dX1_search_67 : decode cX1_search 67 = .ok (.istore_n 3, 1) := by decide +kernel
theorem dX1_search_68 : decode cX1_search 68 = .ok (.aload_n 0, 1) := by decide +kernel
theorem dX1_search_69 : decode cX1_search 69 = .ok (.iload_n 1, 1) := by decide +kernel
theorem dX1_search_70 : decode cX1_search 70 = .ok (.aload_n 0, 1) := by decide +kernel
theorem dX1_search_71 : decode cX1_search 71 = .ok (.getfield 20, 3) := by decide +kernel
theorem dX1_search_74 : decode cX1_search 74 = .ok (.iload_n 1, 1) := by decide +kernel
theorem dX1_search_75 : decode cX1_search 75 = .ok (.baload, 1) := by decide +kernel
theorem dX1_search_76 : decode cX1_search 76 = .ok (.iconst 1, 1) := by decide +kernel
theorem dX1_search_77 : decode cX1_search 77 = .ok (.iadd, 1) := by decide +kernel
theorem dX1_search_78 : decode cX1_search 78 = .ok (.iload_n 3, 1) := by decide +kernel
theorem dX1_search_79 : decode cX1_search 79 = .ok (.invokevirtual 88, 3) := by decide +kernel
theorem dX1_search_82 : decode cX1_search 82 = .ok (.istore 4, 2) := by decide +kernel
theorem dX1_search_84 : decode cX1_search 84 = .ok (.aload_n 0, 1) := by decide +kernel
theorem dX1_search_85 : decode cX1_search 85 = .ok (.getfield 20, 3) := by decide +kernel
theorem dX1_search_88 : decode cX1_search 88 = .ok (.iload_n 1, 1) := by decide +kernel
theorem dX1_search_89 : decode cX1_search 89 = .ok (.iload 4, 2) := by decide +kernel
theorem dX1_search_91 : decode cX1_search 91 = .ok (.i2b, 1) := by decide +kernel
theorem dX1_search_92 : decode cX1_search 92 = .ok (.bastore, 1) := by decide +kernel
theorem dX1_search_93 : decode cX1_search 93 = .ok (.iload 4, 2) := by decide +kernel
theorem dX1_search_95 : decode cX1_search 95 = .ok (.ifCond .ge 9, 3) := by decide +kernel
theorem dX1_search_98 : decode cX1_search 98 = .ok (.iinc 1 (-1), 3) := by decide +kernel
theorem dX1_search_101 : decode cX1_search 101 = .ok (.goto 84, 3) := by decide +kernel
theorem dX1_search_104 : decode cX1_search 104 = .ok (.aload_n 0, 1) := by decide +kernel
theorem dX1_search_105 : decode cX1_search 105 = .ok (.getfield 13, 3) := by decide +kernel
theorem dX1_search_108 : decode cX1_search 108 = .ok (.iload 4, 2) := by decide +kernel
theorem dX1_search_110 : decode cX1_search 110 = .ok (.dup2, 1) := by decide +kernel
theorem dX1_search_111 : decode cX1_search 111 = .ok (.iaload, 1) := by decide +kernel
theorem dX1_search_112 : decode cX1_search 112 = .ok (.aload_n 0, 1) := by decide +kernel
theorem dX1_search_113 : decode cX1_search 113 = .ok (.getfield 17, 3) := by decide +kernel
theorem dX1_search_116 : decode cX1_search 116 = .ok (.iload_n 1, 1) := by decide +kernel
theorem dX1_search_117 : decode cX1_search 117 = .ok (.iaload, 1) := by decide +kernel
theorem dX1_search_118 : decode cX1_search 118 = .ok (.iadd, 1) := by decide +kernel
theorem dX1_search_119 : decode cX1_search 119 = .ok (.iastore, 1) := by decide +kernel
theorem dX1_search_120 : decode cX1_search 120 = .ok (.iload 4, 2) := by decide +kernel
theorem dX1_search_122 : decode cX1_search 122 = .ok (.iload_n 3, 1) := by decide +kernel
theorem dX1_search_123 : decode cX1_search 123 = .ok (.if_icmp .ne 9, 3) := by decide +kernel
theorem dX1_search_126 : decode cX1_search 126 = .ok (.iload_n 3, 1) := by decide +kernel
theorem dX1_search_127 : decode cX1_search 127 = .ok (.iconst 1, 1) := by decide +kernel
theorem dX1_search_128 : decode cX1_search 128 = .ok (.iadd, 1) := by decide +kernel
theorem dX1_search_129 : decode cX1_search 129 = .ok (.goto 4, 3) := by decide +kernel
theorem dX1_search_132 : decode cX1_search 132 = .ok (.iload_n 3, 1) := by decide +kernel
theorem dX1_search_133 : decode cX1_search 133 = .ok (.istore 5, 2) := by decide +kernel
theorem dX1_search_135 : decode cX1_search 135 = .ok (.iload_n 1, 1) := by decide +kernel
theorem dX1_search_136 : decode cX1_search 136 = .ok (.aload_n 0, 1) := by decide +kernel
theorem dX1_search_137 : decode cX1_search 137 = .ok (.getfield 57, 3) := by decide +kernel
theorem dX1_search_140 : decode cX1_search 140 = .ok (.iconst 1, 1) := by decide +kernel
theorem dX1_search_141 : decode cX1_search 141 = .ok (.isub, 1) := by decide +kernel
theorem dX1_search_142 : decode cX1_search 142 = .ok (.if_icmp .ne 12, 3) := by decide +kernel
theorem dX1_search_145 : decode cX1_search 145 = .ok (.aload_n 0, 1) := by decide +kernel
theorem dX1_search_146 : decode cX1_search 146 = .ok (.iload 5, 2) := by decide +kernel
theorem dX1_search_148 : decode cX1_search 148 = .ok (.putfield 78, 3) := by decide +kernel
theorem dX1_search_151 : decode cX1_search 151 = .ok (.goto 34, 3) := by decide +kernel
theorem dX1_search_154 : decode cX1_search 154 = .ok (.aload_n 0, 1) := by decide +kernel
theorem dX1_search_155 : decode cX1_search 155 = .ok (.iload_n 1, 1) := by decide +kernel
theorem dX1_search_156 : decode cX1_search 156 = .ok (.iconst 1, 1) := by decide +kernel
theorem dX1_search_157 : decode cX1_search 157 = .ok (.iadd, 1) := by decide +kernel
theorem dX1_search_158 : decode cX1_search 158 = .ok (.iload 5, 2) := by decide +kernel
theorem dX1_search_160 : decode cX1_search 160 = .ok (.invokevirtual 92, 3) := by decide +kernel
theorem dX1_search_163 : decode cX1_search 163 = .ok (.ifCond .eq 22, 3) := by decide +kernel
theorem dX1_search_166 : decode cX1_search 166 = .ok (.iinc 1 1, 3) := by decide +kernel
theorem dX1_search_169 : decode cX1_search 169 = .ok (.aload_n 0, 1) := by decide +kernel
theorem dX1_search_170 : decode cX1_search 170 = .ok (.getfield 20, 3) := by decide +kernel
theorem dX1_search_173 : decode cX1_search 173 = .ok (.iload_n 1, 1) := by decide +kernel
theorem dX1_search_174 : decode cX1_search 174 = .ok (.iconst (-1), 1) := by decide +kernel
theorem dX1_search_175 : decode cX1_search 175 = .ok (.bastore, 1) := by decide +kernel
theorem dX1_search_176 : decode cX1_search 176 = .ok (.aload_n 0, 1) := by decide +kernel
theorem dX1_search_177 : decode cX1_search 177 = .ok (.getfield 23, 3) := by decide +kernel
theorem dX1_search_180 : decode cX1_search 180 = .ok (.iload_n 1, 1) := by decide +kernel
theorem dX1_search_181 : decode cX1_search 181 = .ok (.iload 5, 2) := by decide +kernel
theorem dX1_search_183 : decode cX1_search 183 = .ok (.i2b, 1) := by decide +kernel
theorem dX1_search_184 : decode cX1_search 184 = .ok (.bastore, 1) := by decide +kernel
theorem dX1_search_185 : decode cX1_search 185 = .ok (.iinc 2 1, 3) := by decide +kernel
theorem dX1_search_188 : decode cX1_search 188 = .ok (.goto (-166), 3) := by decide +kernel
theorem dX1_search_191 : decode cX1_search 191 = .ok (.return_, 1) := by decide +kernel
abbrev cX1_nextBin : ByteArray := prog_1_method_20_code
def yX1_nextBin : MethodName := ⟨RX1, "nextBin", "(III)I"⟩
theorem dX1_nextBin_0 : decode cX1_nextBin 0 = .ok (.iload_n 2, 1) := by decide +kernel
theorem dX1_nextBin_1 : decode cX1_nextBin 1 = .ok (.istore 4, 2) := by decide +kernel
theorem dX1_nextBin_3 : decode cX1_nextBin 3 = .ok (.iload 4, 2) := by decide +kernel
theorem dX1_nextBin_5 : decode cX1_nextBin 5 = .ok (.iload_n 3, 1) := by decide +kernel
theorem dX1_nextBin_6 : decode cX1_nextBin 6 = .ok (.if_icmp .ge 50, 3) := by decide +kernel
theorem dX1_nextBin_9 : decode cX1_nextBin 9 = .ok (.iload_n 3, 1) := by decide +kernel
theorem dX1_nextBin_10 : decode cX1_nextBin 10 = .ok (.aload_n 0, 1) := by decide +kernel
theorem dX1_nextBin_11 : decode cX1_nextBin 11 = .ok (.getfield 78, 3) := by decide +kernel
theorem dX1_nextBin_14 : decode cX1_nextBin 14 = .ok (.if_icmp .ge 36, 3) := by decide +kernel
theorem dX1_nextBin_17 : decode cX1_nextBin 17 = .ok (.aload_n 0, 1) := by decide +kernel
theorem dX1_nextBin_18 : decode cX1_nextBin 18 = .ok (.getfield 13, 3) := by decide +kernel
theorem dX1_nextBin_21 : decode cX1_nextBin 21 = .ok (.iload 4, 2) := by decide +kernel
theorem dX1_nextBin_23 : decode cX1_nextBin 23 = .ok (.iaload, 1) := by decide +kernel
theorem dX1_nextBin_24 : decode cX1_nextBin 24 = .ok (.aload_n 0, 1) := by decide +kernel
theorem dX1_nextBin_25 : decode cX1_nextBin 25 = .ok (.getfield 17, 3) := by decide +kernel
theorem dX1_nextBin_28 : decode cX1_nextBin 28 = .ok (.iload_n 1, 1) := by decide +kernel
theorem dX1_nextBin_29 : decode cX1_nextBin 29 = .ok (.iaload, 1) := by decide +kernel
theorem dX1_nextBin_30 : decode cX1_nextBin 30 = .ok (.iadd, 1) := by decide +kernel
theorem dX1_nextBin_31 : decode cX1_nextBin 31 = .ok (.aload_n 0, 1) := by decide +kernel
theorem dX1_nextBin_32 : decode cX1_nextBin 32 = .ok (.getfield 51, 3) := by decide +kernel
theorem dX1_nextBin_35 : decode cX1_nextBin 35 = .ok (.if_icmp .gt 15, 3) := by decide +kernel
theorem dX1_nextBin_38 : decode cX1_nextBin 38 = .ok (.aload_n 0, 1) := by decide +kernel
theorem dX1_nextBin_39 : decode cX1_nextBin 39 = .ok (.iload 4, 2) := by decide +kernel
theorem dX1_nextBin_41 : decode cX1_nextBin 41 = .ok (.invokevirtual 96, 3) := by decide +kernel
theorem dX1_nextBin_44 : decode cX1_nextBin 44 = .ok (.ifCond .ne 6, 3) := by decide +kernel
theorem dX1_nextBin_47 : decode cX1_nextBin 47 = .ok (.iload 4, 2) := by decide +kernel
theorem dX1_nextBin_49 : decode cX1_nextBin 49 = .ok (.ireturn, 1) := by decide +kernel
theorem dX1_nextBin_50 : decode cX1_nextBin 50 = .ok (.iinc 4 1, 3) := by decide +kernel
theorem dX1_nextBin_53 : decode cX1_nextBin 53 = .ok (.goto (-50), 3) := by decide +kernel
theorem dX1_nextBin_56 : decode cX1_nextBin 56 = .ok (.iload_n 2, 1) := by decide +kernel
theorem dX1_nextBin_57 : decode cX1_nextBin 57 = .ok (.iload_n 3, 1) := by decide +kernel
theorem dX1_nextBin_58 : decode cX1_nextBin 58 = .ok (.if_icmp .gt 17, 3) := by decide +kernel
theorem dX1_nextBin_61 : decode cX1_nextBin 61 = .ok (.iload_n 3, 1) := by decide +kernel
theorem dX1_nextBin_62 : decode cX1_nextBin 62 = .ok (.iconst 1, 1) := by decide +kernel
theorem dX1_nextBin_63 : decode cX1_nextBin 63 = .ok (.iadd, 1) := by decide +kernel
theorem dX1_nextBin_64 : decode cX1_nextBin 64 = .ok (.aload_n 0, 1) := by decide +kernel
theorem dX1_nextBin_65 : decode cX1_nextBin 65 = .ok (.getfield 78, 3) := by decide +kernel
theorem dX1_nextBin_68 : decode cX1_nextBin 68 = .ok (.if_icmp .ge 7, 3) := by decide +kernel
theorem dX1_nextBin_71 : decode cX1_nextBin 71 = .ok (.iload_n 3, 1) := by decide +kernel
theorem dX1_nextBin_72 : decode cX1_nextBin 72 = .ok (.goto 4, 3) := by decide +kernel
theorem dX1_nextBin_75 : decode cX1_nextBin 75 = .ok (.iconst (-1), 1) := by decide +kernel
theorem dX1_nextBin_76 : decode cX1_nextBin 76 = .ok (.ireturn, 1) := by decide +kernel
abbrev cX1_seen : ByteArray := prog_1_method_21_code
def yX1_seen : MethodName := ⟨RX1, "seen", "(I)Z"⟩
theorem dX1_seen_0 : decode cX1_seen 0 = .ok (.iconst 0, 1) := by decide +kernel
theorem dX1_seen_1 : decode cX1_seen 1 = .ok (.istore_n 2, 1) := by decide +kernel
theorem dX1_seen_2 : decode cX1_seen 2 = .ok (.iload_n 2, 1) := by decide +kernel
theorem dX1_seen_3 : decode cX1_seen 3 = .ok (.iload_n 1, 1) := by decide +kernel
theorem dX1_seen_4 : decode cX1_seen 4 = .ok (.if_icmp .ge 26, 3) := by decide +kernel
theorem dX1_seen_7 : decode cX1_seen 7 = .ok (.aload_n 0, 1) := by decide +kernel
theorem dX1_seen_8 : decode cX1_seen 8 = .ok (.getfield 13, 3) := by decide +kernel
theorem dX1_seen_11 : decode cX1_seen 11 = .ok (.iload_n 2, 1) := by decide +kernel
theorem dX1_seen_12 : decode cX1_seen 12 = .ok (.iaload, 1) := by decide +kernel
theorem dX1_seen_13 : decode cX1_seen 13 = .ok (.aload_n 0, 1) := by decide +kernel
theorem dX1_seen_14 : decode cX1_seen 14 = .ok (.getfield 13, 3) := by decide +kernel
theorem dX1_seen_17 : decode cX1_seen 17 = .ok (.iload_n 1, 1) := by decide +kernel
theorem dX1_seen_18 : decode cX1_seen 18 = .ok (.iaload, 1) := by decide +kernel
theorem dX1_seen_19 : decode cX1_seen 19 = .ok (.if_icmp .ne 5, 3) := by decide +kernel
theorem dX1_seen_22 : decode cX1_seen 22 = .ok (.iconst 1, 1) := by decide +kernel
theorem dX1_seen_23 : decode cX1_seen 23 = .ok (.ireturn, 1) := by decide +kernel
theorem dX1_seen_24 : decode cX1_seen 24 = .ok (.iinc 2 1, 3) := by decide +kernel
theorem dX1_seen_27 : decode cX1_seen 27 = .ok (.goto (-25), 3) := by decide +kernel
theorem dX1_seen_30 : decode cX1_seen 30 = .ok (.iconst 0, 1) := by decide +kernel
theorem dX1_seen_31 : decode cX1_seen 31 = .ok (.ireturn, 1) := by decide +kernel
abbrev cX1_hopeful : ByteArray := prog_1_method_22_code
def yX1_hopeful : MethodName := ⟨RX1, "hopeful", "(II)Z"⟩
theorem dX1_hopeful_0 : decode cX1_hopeful 0 = .ok (.iconst 0, 1) := by decide +kernel
theorem dX1_hopeful_1 : decode cX1_hopeful 1 = .ok (.istore_n 3, 1) := by decide +kernel
theorem dX1_hopeful_2 : decode cX1_hopeful 2 = .ok (.iconst 0, 1) := by decide +kernel
theorem dX1_hopeful_3 : decode cX1_hopeful 3 = .ok (.istore 4, 2) := by decide +kernel
theorem dX1_hopeful_5 : decode cX1_hopeful 5 = .ok (.iload 4, 2) := by decide +kernel
theorem dX1_hopeful_7 : decode cX1_hopeful 7 = .ok (.iload_n 2, 1) := by decide +kernel
theorem dX1_hopeful_8 : decode cX1_hopeful 8 = .ok (.if_icmp .ge 24, 3) := by decide +kernel
theorem dX1_hopeful_11 : decode cX1_hopeful 11 = .ok (.iload_n 3, 1) := by decide +kernel
theorem dX1_hopeful_12 : decode cX1_hopeful 12 = .ok (.aload_n 0, 1) := by decide +kernel
theorem dX1_hopeful_13 : decode cX1_hopeful 13 = .ok (.getfield 51, 3) := by decide +kernel
theorem dX1_hopeful_16 : decode cX1_hopeful 16 = .ok (.aload_n 0, 1) := by decide +kernel
theorem dX1_hopeful_17 : decode cX1_hopeful 17 = .ok (.getfield 13, 3) := by decide +kernel
theorem dX1_hopeful_20 : decode cX1_hopeful 20 = .ok (.iload 4, 2) := by decide +kernel
theorem dX1_hopeful_22 : decode cX1_hopeful 22 = .ok (.iaload, 1) := by decide +kernel
theorem dX1_hopeful_23 : decode cX1_hopeful 23 = .ok (.isub, 1) := by decide +kernel
theorem dX1_hopeful_24 : decode cX1_hopeful 24 = .ok (.iadd, 1) := by decide +kernel
theorem dX1_hopeful_25 : decode cX1_hopeful 25 = .ok (.istore_n 3, 1) := by decide +kernel
theorem dX1_hopeful_26 : decode cX1_hopeful 26 = .ok (.iinc 4 1, 3) := by decide +kernel
theorem dX1_hopeful_29 : decode cX1_hopeful 29 = .ok (.goto (-24), 3) := by decide +kernel
theorem dX1_hopeful_32 : decode cX1_hopeful 32 = .ok (.iconst 0, 1) := by decide +kernel
theorem dX1_hopeful_33 : decode cX1_hopeful 33 = .ok (.istore 4, 2) := by decide +kernel
theorem dX1_hopeful_35 : decode cX1_hopeful 35 = .ok (.iload_n 1, 1) := by decide +kernel
theorem dX1_hopeful_36 : decode cX1_hopeful 36 = .ok (.istore 5, 2) := by decide +kernel
theorem dX1_hopeful_38 : decode cX1_hopeful 38 = .ok (.iload 5, 2) := by decide +kernel
theorem dX1_hopeful_40 : decode cX1_hopeful 40 = .ok (.aload_n 0, 1) := by decide +kernel
theorem dX1_hopeful_41 : decode cX1_hopeful 41 = .ok (.getfield 57, 3) := by decide +kernel
theorem dX1_hopeful_44 : decode cX1_hopeful 44 = .ok (.if_icmp .ge 21, 3) := by decide +kernel
theorem dX1_hopeful_47 : decode cX1_hopeful 47 = .ok (.iload 4, 2) := by decide +kernel
theorem dX1_hopeful_49 : decode cX1_hopeful 49 = .ok (.aload_n 0, 1) := by decide +kernel
theorem dX1_hopeful_50 : decode cX1_hopeful 50 = .ok (.getfield 17, 3) := by decide +kernel
theorem dX1_hopeful_53 : decode cX1_hopeful 53 = .ok (.iload 5, 2) := by decide +kernel
theorem dX1_hopeful_55 : decode cX1_hopeful 55 = .ok (.iaload, 1) := by decide +kernel
theorem dX1_hopeful_56 : decode cX1_hopeful 56 = .ok (.iadd, 1) := by decide +kernel
theorem dX1_hopeful_57 : decode cX1_hopeful 57 = .ok (.istore 4, 2) := by decide +kernel
theorem dX1_hopeful_59 : decode cX1_hopeful 59 = .ok (.iinc 5 1, 3) := by decide +kernel
theorem dX1_hopeful_62 : decode cX1_hopeful 62 = .ok (.goto (-24), 3) := by decide +kernel
theorem dX1_hopeful_65 : decode cX1_hopeful 65 = .ok (.iload_n 2, 1) := by decide +kernel
theorem dX1_hopeful_66 : decode cX1_hopeful 66 = .ok (.iload 4, 2) := by decide +kernel
theorem dX1_hopeful_68 : decode cX1_hopeful 68 = .ok (.iload_n 3, 1) := by decide +kernel
theorem dX1_hopeful_69 : decode cX1_hopeful 69 = .ok (.isub, 1) := by decide +kernel
theorem dX1_hopeful_70 : decode cX1_hopeful 70 = .ok (.aload_n 0, 1) := by decide +kernel
theorem dX1_hopeful_71 : decode cX1_hopeful 71 = .ok (.getfield 51, 3) := by decide +kernel
theorem dX1_hopeful_74 : decode cX1_hopeful 74 = .ok (.invokestatic 71, 3) := by decide +kernel
theorem dX1_hopeful_77 : decode cX1_hopeful 77 = .ok (.iadd, 1) := by decide +kernel
theorem dX1_hopeful_78 : decode cX1_hopeful 78 = .ok (.aload_n 0, 1) := by decide +kernel
theorem dX1_hopeful_79 : decode cX1_hopeful 79 = .ok (.getfield 78, 3) := by decide +kernel
theorem dX1_hopeful_82 : decode cX1_hopeful 82 = .ok (.if_icmp .ge 7, 3) := by decide +kernel
theorem dX1_hopeful_85 : decode cX1_hopeful 85 = .ok (.iconst 1, 1) := by decide +kernel
theorem dX1_hopeful_86 : decode cX1_hopeful 86 = .ok (.goto 4, 3) := by decide +kernel
theorem dX1_hopeful_89 : decode cX1_hopeful 89 = .ok (.iconst 0, 1) := by decide +kernel
theorem dX1_hopeful_90 : decode cX1_hopeful 90 = .ok (.ireturn, 1) := by decide +kernel
abbrev cX1_firstBin : ByteArray := prog_1_method_24_code
def yX1_firstBin : MethodName := ⟨RX1, "firstBin", "(III)I"⟩
theorem dX1_firstBin_0 : decode cX1_firstBin 0 = .ok (.iconst 0, 1) := by decide +kernel
theorem dX1_firstBin_1 : decode cX1_firstBin 1 = .ok (.istore 4, 2) := by decide +kernel
theorem dX1_firstBin_3 : decode cX1_firstBin 3 = .ok (.iload 4, 2) := by decide +kernel
theorem dX1_firstBin_5 : decode cX1_firstBin 5 = .ok (.iload_n 3, 1) := by decide +kernel
theorem dX1_firstBin_6 : decode cX1_firstBin 6 = .ok (.if_icmp .ge 77, 3) := by decide +kernel
theorem dX1_firstBin_9 : decode cX1_firstBin 9 = .ok (.aload_n 0, 1) := by decide +kernel
theorem dX1_firstBin_10 : decode cX1_firstBin 10 = .ok (.iload_n 2, 1) := by decide +kernel
theorem dX1_firstBin_11 : decode cX1_firstBin 11 = .ok (.iload_n 3, 1) := by decide +kernel
theorem dX1_firstBin_12 : decode cX1_firstBin 12 = .ok (.invokevirtual 114, 3) := by decide +kernel
theorem dX1_firstBin_15 : decode cX1_firstBin 15 = .ok (.aload_n 0, 1) := by decide +kernel
theorem dX1_firstBin_16 : decode cX1_firstBin 16 = .ok (.getfield 13, 3) := by decide +kernel
theorem dX1_firstBin_19 : decode cX1_firstBin 19 = .ok (.iload 4, 2) := by decide +kernel
theorem dX1_firstBin_21 : decode cX1_firstBin 21 = .ok (.dup2, 1) := by decide +kernel
theorem dX1_firstBin_22 : decode cX1_firstBin 22 = .ok (.iaload, 1) := by decide +kernel
theorem dX1_firstBin_23 : decode cX1_firstBin 23 = .ok (.aload_n 0, 1) := by decide +kernel
theorem dX1_firstBin_24 : decode cX1_firstBin 24 = .ok (.getfield 7, 3) := by decide +kernel
theorem dX1_firstBin_27 : decode cX1_firstBin 27 = .ok (.iload_n 1, 1) := by decide +kernel
theorem dX1_firstBin_28 : decode cX1_firstBin 28 = .ok (.baload, 1) := by decide +kernel
theorem dX1_firstBin_29 : decode cX1_firstBin 29 = .ok (.iadd, 1) := by decide +kernel
theorem dX1_firstBin_30 : decode cX1_firstBin 30 = .ok (.iastore, 1) := by decide +kernel
theorem dX1_firstBin_31 : decode cX1_firstBin 31 = .ok (.aload_n 0, 1) := by decide +kernel
theorem dX1_firstBin_32 : decode cX1_firstBin 32 = .ok (.getfield 13, 3) := by decide +kernel
theorem dX1_firstBin_35 : decode cX1_firstBin 35 = .ok (.iload 4, 2) := by decide +kernel
theorem dX1_firstBin_37 : decode cX1_firstBin 37 = .ok (.iaload, 1) := by decide +kernel
theorem dX1_firstBin_38 : decode cX1_firstBin 38 = .ok (.aload_n 0, 1) := by decide +kernel
theorem dX1_firstBin_39 : decode cX1_firstBin 39 = .ok (.getfield 51, 3) := by decide +kernel
theorem dX1_firstBin_42 : decode cX1_firstBin 42 = .ok (.if_icmp .gt 35, 3) := by decide +kernel
theorem dX1_firstBin_45 : decode cX1_firstBin 45 = .ok (.aload_n 0, 1) := by decide +kernel
theorem dX1_firstBin_46 : decode cX1_firstBin 46 = .ok (.aload_n 0, 1) := by decide +kernel
theorem dX1_firstBin_47 : decode cX1_firstBin 47 = .ok (.getfield 36, 3) := by decide +kernel
theorem dX1_firstBin_50 : decode cX1_firstBin 50 = .ok (.iload_n 2, 1) := by decide +kernel
theorem dX1_firstBin_51 : decode cX1_firstBin 51 = .ok (.iconst (-1), 1) := by decide +kernel
theorem dX1_firstBin_52 : decode cX1_firstBin 52 = .ok (.ixor, 1) := by decide +kernel
theorem dX1_firstBin_53 : decode cX1_firstBin 53 = .ok (.iand, 1) := by decide +kernel
theorem dX1_firstBin_54 : decode cX1_firstBin 54 = .ok (.iconst 1, 1) := by decide +kernel
theorem dX1_firstBin_55 : decode cX1_firstBin 55 = .ok (.iload_n 1, 1) := by decide +kernel
theorem dX1_firstBin_56 : decode cX1_firstBin 56 = .ok (.ishl, 1) := by decide +kernel
theorem dX1_firstBin_57 : decode cX1_firstBin 57 = .ok (.iconst (-1), 1) := by decide +kernel
theorem dX1_firstBin_58 : decode cX1_firstBin 58 = .ok (.ixor, 1) := by decide +kernel
theorem dX1_firstBin_59 : decode cX1_firstBin 59 = .ok (.iand, 1) := by decide +kernel
theorem dX1_firstBin_60 : decode cX1_firstBin 60 = .ok (.invokevirtual 102, 3) := by decide +kernel
theorem dX1_firstBin_63 : decode cX1_firstBin 63 = .ok (.aload_n 0, 1) := by decide +kernel
theorem dX1_firstBin_64 : decode cX1_firstBin 64 = .ok (.invokevirtual 105, 3) := by decide +kernel
theorem dX1_firstBin_67 : decode cX1_firstBin 67 = .ok (.aload_n 0, 1) := by decide +kernel
theorem dX1_firstBin_68 : decode cX1_firstBin 68 = .ok (.getfield 108, 3) := by decide +kernel
theorem dX1_firstBin_71 : decode cX1_firstBin 71 = .ok (.if_icmp .ne 6, 3) := by decide +kernel
theorem dX1_firstBin_74 : decode cX1_firstBin 74 = .ok (.iload 4, 2) := by decide +kernel
theorem dX1_firstBin_76 : decode cX1_firstBin 76 = .ok (.ireturn, 1) := by decide +kernel
theorem dX1_firstBin_77 : decode cX1_firstBin 77 = .ok (.iinc 4 1, 3) := by decide +kernel
theorem dX1_firstBin_80 : decode cX1_firstBin 80 = .ok (.goto (-77), 3) := by decide +kernel
theorem dX1_firstBin_83 : decode cX1_firstBin 83 = .ok (.iload_n 3, 1) := by decide +kernel
theorem dX1_firstBin_84 : decode cX1_firstBin 84 = .ok (.ireturn, 1) := by decide +kernel
abbrev cX1_refill : ByteArray := prog_1_method_25_code
def yX1_refill : MethodName := ⟨RX1, "refill", "(II)V"⟩
theorem dX1_refill_0 : decode cX1_refill 0 = .ok (.aload_n 0, 1) := by decide +kernel
theorem dX1_refill_1 : decode cX1_refill 1 = .ok (.aload_n 0, 1) := by decide +kernel
theorem dX1_refill_2 : decode cX1_refill 2 = .ok (.getfield 32, 3) := by decide +kernel
theorem dX1_refill_5 : decode cX1_refill 5 = .ok (.invokevirtual 99, 3) := by decide +kernel
theorem dX1_refill_8 : decode cX1_refill 8 = .ok (.aload_n 0, 1) := by decide +kernel
theorem dX1_refill_9 : decode cX1_refill 9 = .ok (.iload_n 2, 1) := by decide +kernel
theorem dX1_refill_10 : decode cX1_refill 10 = .ok (.putfield 54, 3) := by decide +kernel
theorem dX1_refill_13 : decode cX1_refill 13 = .ok (.iconst 0, 1) := by decide +kernel
theorem dX1_refill_14 : decode cX1_refill 14 = .ok (.istore_n 3, 1) := by decide +kernel
theorem dX1_refill_15 : decode cX1_refill 15 = .ok (.iload_n 3, 1) := by decide +kernel
theorem dX1_refill_16 : decode cX1_refill 16 = .ok (.bipush 8, 2) := by decide +kernel
theorem dX1_refill_18 : decode cX1_refill 18 = .ok (.if_icmp .ge 37, 3) := by decide +kernel
theorem dX1_refill_21 : decode cX1_refill 21 = .ok (.iload_n 1, 1) := by decide +kernel
theorem dX1_refill_22 : decode cX1_refill 22 = .ok (.iload_n 3, 1) := by decide +kernel
theorem dX1_refill_23 : decode cX1_refill 23 = .ok (.ishr, 1) := by decide +kernel
theorem dX1_refill_24 : decode cX1_refill 24 = .ok (.iconst 1, 1) := by decide +kernel
theorem dX1_refill_25 : decode cX1_refill 25 = .ok (.iand, 1) := by decide +kernel
theorem dX1_refill_26 : decode cX1_refill 26 = .ok (.ifCond .eq 23, 3) := by decide +kernel
theorem dX1_refill_29 : decode cX1_refill 29 = .ok (.aload_n 0, 1) := by decide +kernel
theorem dX1_refill_30 : decode cX1_refill 30 = .ok (.getfield 13, 3) := by decide +kernel
theorem dX1_refill_33 : decode cX1_refill 33 = .ok (.aload_n 0, 1) := by decide +kernel
theorem dX1_refill_34 : decode cX1_refill 34 = .ok (.getfield 29, 3) := by decide +kernel
theorem dX1_refill_37 : decode cX1_refill 37 = .ok (.iload_n 3, 1) := by decide +kernel
theorem dX1_refill_38 : decode cX1_refill 38 = .ok (.baload, 1) := by decide +kernel
theorem dX1_refill_39 : decode cX1_refill 39 = .ok (.dup2, 1) := by decide +kernel
theorem dX1_refill_40 : decode cX1_refill 40 = .ok (.iaload, 1) := by decide +kernel
theorem dX1_refill_41 : decode cX1_refill 41 = .ok (.aload_n 0, 1) := by decide +kernel
theorem dX1_refill_42 : decode cX1_refill 42 = .ok (.getfield 7, 3) := by decide +kernel
theorem dX1_refill_45 : decode cX1_refill 45 = .ok (.iload_n 3, 1) := by decide +kernel
theorem dX1_refill_46 : decode cX1_refill 46 = .ok (.baload, 1) := by decide +kernel
theorem dX1_refill_47 : decode cX1_refill 47 = .ok (.iadd, 1) := by decide +kernel
theorem dX1_refill_48 : decode cX1_refill 48 = .ok (.iastore, 1) := by decide +kernel
theorem dX1_refill_49 : decode cX1_refill 49 = .ok (.iinc 3 1, 3) := by decide +kernel
theorem dX1_refill_52 : decode cX1_refill 52 = .ok (.goto (-37), 3) := by decide +kernel
theorem dX1_refill_55 : decode cX1_refill 55 = .ok (.return_, 1) := by decide +kernel
abbrev cX1_binOf : ByteArray := prog_1_method_27_code
def yX1_binOf : MethodName := ⟨RX1, "binOf", "(I)I"⟩
theorem dX1_binOf_0 : decode cX1_binOf 0 = .ok (.aload_n 0, 1) := by decide +kernel
theorem dX1_binOf_1 : decode cX1_binOf 1 = .ok (.iload_n 1, 1) := by decide +kernel
theorem dX1_binOf_2 : decode cX1_binOf 2 = .ok (.invokevirtual 39, 3) := by decide +kernel
theorem dX1_binOf_5 : decode cX1_binOf 5 = .ok (.ifCond .ne 5, 3) := by decide +kernel
theorem dX1_binOf_8 : decode cX1_binOf 8 = .ok (.iconst (-1), 1) := by decide +kernel
theorem dX1_binOf_9 : decode cX1_binOf 9 = .ok (.ireturn, 1) := by decide +kernel
theorem dX1_binOf_10 : decode cX1_binOf 10 = .ok (.aload_n 0, 1) := by decide +kernel
theorem dX1_binOf_11 : decode cX1_binOf 11 = .ok (.invokevirtual 118, 3) := by decide +kernel
theorem dX1_binOf_14 : decode cX1_binOf 14 = .ok (.aload_n 0, 1) := by decide +kernel
theorem dX1_binOf_15 : decode cX1_binOf 15 = .ok (.getfield 29, 3) := by decide +kernel
theorem dX1_binOf_18 : decode cX1_binOf 18 = .ok (.iload_n 1, 1) := by decide +kernel
theorem dX1_binOf_19 : decode cX1_binOf 19 = .ok (.baload, 1) := by decide +kernel
theorem dX1_binOf_20 : decode cX1_binOf 20 = .ok (.ireturn, 1) := by decide +kernel
abbrev cX1_leastWithout : ByteArray := prog_1_method_28_code
def yX1_leastWithout : MethodName := ⟨RX1, "leastWithout", "(I)I"⟩
theorem dX1_leastWithout_0 : decode cX1_leastWithout 0 = .ok (.aload_n 0, 1) := by decide +kernel
theorem dX1_leastWithout_1 : decode cX1_leastWithout 1 = .ok (.iload_n 1, 1) := by decide +kernel
theorem dX1_leastWithout_2 : decode cX1_leastWithout 2 = .ok (.invokevirtual 39, 3) := by decide +kernel
theorem dX1_leastWithout_5 : decode cX1_leastWithout 5 = .ok (.ifCond .ne 5, 3) := by decide +kernel
theorem dX1_leastWithout_8 : decode cX1_leastWithout 8 = .ok (.iconst (-1), 1) := by decide +kernel
theorem dX1_leastWithout_9 : decode cX1_leastWithout 9 = .ok (.ireturn, 1) := by decide +kernel
theorem dX1_leastWithout_10 : decode cX1_leastWithout 10 = .ok (.aload_n 0, 1) := by decide +kernel
theorem dX1_leastWithout_11 : decode cX1_leastWithout 11 = .ok (.aload_n 0, 1) := by decide +kernel
theorem dX1_leastWithout_12 : decode cX1_leastWithout 12 = .ok (.getfield 32, 3) := by decide +kernel
theorem dX1_leastWithout_15 : decode cX1_leastWithout 15 = .ok (.invokevirtual 99, 3) := by decide +kernel
theorem dX1_leastWithout_18 : decode cX1_leastWithout 18 = .ok (.aload_n 0, 1) := by decide +kernel
theorem dX1_leastWithout_19 : decode cX1_leastWithout 19 = .ok (.aload_n 0, 1) := by decide +kernel
theorem dX1_leastWithout_20 : decode cX1_leastWithout 20 = .ok (.getfield 36, 3) := by decide +kernel
theorem dX1_leastWithout_23 : decode cX1_leastWithout 23 = .ok (.iconst 1, 1) := by decide +kernel
theorem dX1_leastWithout_24 : decode cX1_leastWithout 24 = .ok (.iload_n 1, 1) := by decide +kernel
theorem dX1_leastWithout_25 : decode cX1_leastWithout 25 = .ok (.ishl, 1) := by decide +kernel
theorem dX1_leastWithout_26 : decode cX1_leastWithout 26 = .ok (.iconst (-1), 1) := by decide +kernel
theorem dX1_leastWithout_27 : decode cX1_leastWithout 27 = .ok (.ixor, 1) := by decide +kernel
theorem dX1_leastWithout_28 : decode cX1_leastWithout 28 = .ok (.iand, 1) := by decide +kernel
theorem dX1_leastWithout_29 : decode cX1_leastWithout 29 = .ok (.invokevirtual 102, 3) := by decide +kernel
theorem dX1_leastWithout_32 : decode cX1_leastWithout 32 = .ok (.aload_n 0, 1) := by decide +kernel
theorem dX1_leastWithout_33 : decode cX1_leastWithout 33 = .ok (.invokevirtual 105, 3) := by decide +kernel
theorem dX1_leastWithout_36 : decode cX1_leastWithout 36 = .ok (.ireturn, 1) := by decide +kernel
abbrev cX1_spare : ByteArray := prog_1_method_29_code
def yX1_spare : MethodName := ⟨RX1, "spare", "()I"⟩
theorem dX1_spare_0 : decode cX1_spare 0 = .ok (.aload_n 0, 1) := by decide +kernel
theorem dX1_spare_1 : decode cX1_spare 1 = .ok (.invokevirtual 121, 3) := by decide +kernel
theorem dX1_spare_4 : decode cX1_spare 4 = .ok (.istore_n 1, 1) := by decide +kernel
theorem dX1_spare_5 : decode cX1_spare 5 = .ok (.iconst 0, 1) := by decide +kernel
theorem dX1_spare_6 : decode cX1_spare 6 = .ok (.istore_n 2, 1) := by decide +kernel
theorem dX1_spare_7 : decode cX1_spare 7 = .ok (.aload_n 0, 1) := by decide +kernel
theorem dX1_spare_8 : decode cX1_spare 8 = .ok (.getfield 32, 3) := by decide +kernel
theorem dX1_spare_11 : decode cX1_spare 11 = .ok (.istore_n 3, 1) := by decide +kernel
theorem dX1_spare_12 : decode cX1_spare 12 = .ok (.iconst 0, 1) := by decide +kernel
theorem dX1_spare_13 : decode cX1_spare 13 = .ok (.istore 4, 2) := by decide +kernel
theorem dX1_spare_15 : decode cX1_spare 15 = .ok (.iload 4, 2) := by decide +kernel
theorem dX1_spare_17 : decode cX1_spare 17 = .ok (.bipush 7, 2) := by decide +kernel
theorem dX1_spare_19 : decode cX1_spare 19 = .ok (.if_icmp .ge 64, 3) := by decide +kernel
theorem dX1_spare_22 : decode cX1_spare 22 = .ok (.iload_n 2, 1) := by decide +kernel
theorem dX1_spare_23 : decode cX1_spare 23 = .ok (.iload_n 3, 1) := by decide +kernel
theorem dX1_spare_24 : decode cX1_spare 24 = .ok (.if_icmp .ge 59, 3) := by decide +kernel
theorem dX1_spare_27 : decode cX1_spare 27 = .ok (.iload_n 2, 1) := by decide +kernel
theorem dX1_spare_28 : decode cX1_spare 28 = .ok (.iload_n 3, 1) := by decide +kernel
theorem dX1_spare_29 : decode cX1_spare 29 = .ok (.iadd, 1) := by decide +kernel
theorem dX1_spare_30 : decode cX1_spare 30 = .ok (.iconst 1, 1) := by decide +kernel
theorem dX1_spare_31 : decode cX1_spare 31 = .ok (.iadd, 1) := by decide +kernel
theorem dX1_spare_32 : decode cX1_spare 32 = .ok (.iconst 1, 1) := by decide +kernel
theorem dX1_spare_33 : decode cX1_spare 33 = .ok (.ishr, 1) := by decide +kernel
theorem dX1_spare_34 : decode cX1_spare 34 = .ok (.istore 5, 2) := by decide +kernel
theorem dX1_spare_36 : decode cX1_spare 36 = .ok (.aload_n 0, 1) := by decide +kernel
theorem dX1_spare_37 : decode cX1_spare 37 = .ok (.aload_n 0, 1) := by decide +kernel
theorem dX1_spare_38 : decode cX1_spare 38 = .ok (.getfield 32, 3) := by decide +kernel
theorem dX1_spare_41 : decode cX1_spare 41 = .ok (.invokevirtual 99, 3) := by decide +kernel
theorem dX1_spare_44 : decode cX1_spare 44 = .ok (.aload_n 0, 1) := by decide +kernel
theorem dX1_spare_45 : decode cX1_spare 45 = .ok (.aload_n 0, 1) := by decide +kernel
theorem dX1_spare_46 : decode cX1_spare 46 = .ok (.getfield 36, 3) := by decide +kernel
theorem dX1_spare_49 : decode cX1_spare 49 = .ok (.invokevirtual 102, 3) := by decide +kernel
theorem dX1_spare_52 : decode cX1_spare 52 = .ok (.aload_n 0, 1) := by decide +kernel
theorem dX1_spare_53 : decode cX1_spare 53 = .ok (.iload 5, 2) := by decide +kernel
theorem dX1_spare_55 : decode cX1_spare 55 = .ok (.invokevirtual 60, 3) := by decide +kernel
theorem dX1_spare_58 : decode cX1_spare 58 = .ok (.aload_n 0, 1) := by decide +kernel
theorem dX1_spare_59 : decode cX1_spare 59 = .ok (.invokevirtual 105, 3) := by decide +kernel
theorem dX1_spare_62 : decode cX1_spare 62 = .ok (.iload_n 1, 1) := by decide +kernel
theorem dX1_spare_63 : decode cX1_spare 63 = .ok (.if_icmp .gt 9, 3) := by decide +kernel
theorem dX1_spare_66 : decode cX1_spare 66 = .ok (.iload 5, 2) := by decide +kernel
theorem dX1_spare_68 : decode cX1_spare 68 = .ok (.istore_n 2, 1) := by decide +kernel
theorem dX1_spare_69 : decode cX1_spare 69 = .ok (.goto 8, 3) := by decide +kernel
theorem dX1_spare_72 : decode cX1_spare 72 = .ok (.iload 5, 2) := by decide +kernel
theorem dX1_spare_74 : decode cX1_spare 74 = .ok (.iconst 1, 1) := by decide +kernel
theorem dX1_spare_75 : decode cX1_spare 75 = .ok (.isub, 1) := by decide +kernel
theorem dX1_spare_76 : decode cX1_spare 76 = .ok (.istore_n 3, 1) := by decide +kernel
theorem dX1_spare_77 : decode cX1_spare 77 = .ok (.iinc 4 1, 3) := by decide +kernel
theorem dX1_spare_80 : decode cX1_spare 80 = .ok (.goto (-65), 3) := by decide +kernel
theorem dX1_spare_83 : decode cX1_spare 83 = .ok (.iload_n 2, 1) := by decide +kernel
theorem dX1_spare_84 : decode cX1_spare 84 = .ok (.ireturn, 1) := by decide +kernel
abbrev cX1_sizeFor : ByteArray := prog_1_method_30_code
def yX1_sizeFor : MethodName := ⟨RX1, "sizeFor", "(I)I"⟩
theorem dX1_sizeFor_0 : decode cX1_sizeFor 0 = .ok (.iload_n 1, 1) := by decide +kernel
theorem dX1_sizeFor_1 : decode cX1_sizeFor 1 = .ok (.iconst 1, 1) := by decide +kernel
theorem dX1_sizeFor_2 : decode cX1_sizeFor 2 = .ok (.if_icmp .lt 16, 3) := by decide +kernel
theorem dX1_sizeFor_5 : decode cX1_sizeFor 5 = .ok (.iload_n 1, 1) := by decide +kernel
theorem dX1_sizeFor_6 : decode cX1_sizeFor 6 = .ok (.bipush 8, 2) := by decide +kernel
theorem dX1_sizeFor_8 : decode cX1_sizeFor 8 = .ok (.if_icmp .gt 10, 3) := by decide +kernel
theorem dX1_sizeFor_11 : decode cX1_sizeFor 11 = .ok (.aload_n 0, 1) := by decide +kernel
theorem dX1_sizeFor_12 : decode cX1_sizeFor 12 = .ok (.getfield 36, 3) := by decide +kernel
theorem dX1_sizeFor_15 : decode cX1_sizeFor 15 = .ok (.ifCond .ne 5, 3) := by decide +kernel
theorem dX1_sizeFor_18 : decode cX1_sizeFor 18 = .ok (.iconst (-1), 1) := by decide +kernel
theorem dX1_sizeFor_19 : decode cX1_sizeFor 19 = .ok (.ireturn, 1) := by decide +kernel
theorem dX1_sizeFor_20 : decode cX1_sizeFor 20 = .ok (.aload_n 0, 1) := by decide +kernel
theorem dX1_sizeFor_21 : decode cX1_sizeFor 21 = .ok (.invokevirtual 47, 3) := by decide +kernel
theorem dX1_sizeFor_24 : decode cX1_sizeFor 24 = .ok (.istore_n 2, 1) := by decide +kernel
theorem dX1_sizeFor_25 : decode cX1_sizeFor 25 = .ok (.sipush 480, 3) := by decide +kernel
theorem dX1_sizeFor_28 : decode cX1_sizeFor 28 = .ok (.istore_n 3, 1) := by decide +kernel
theorem dX1_sizeFor_29 : decode cX1_sizeFor 29 = .ok (.iconst 0, 1) := by decide +kernel
theorem dX1_sizeFor_30 : decode cX1_sizeFor 30 = .ok (.istore 4, 2) := by decide +kernel
theorem dX1_sizeFor_32 : decode cX1_sizeFor 32 = .ok (.iload 4, 2) := by decide +kernel
theorem dX1_sizeFor_34 : decode cX1_sizeFor 34 = .ok (.bipush 10, 2) := by decide +kernel
theorem dX1_sizeFor_36 : decode cX1_sizeFor 36 = .ok (.if_icmp .ge 54, 3) := by decide +kernel
theorem dX1_sizeFor_39 : decode cX1_sizeFor 39 = .ok (.iload_n 2, 1) := by decide +kernel
theorem dX1_sizeFor_40 : decode cX1_sizeFor 40 = .ok (.iload_n 3, 1) := by decide +kernel
theorem dX1_sizeFor_41 : decode cX1_sizeFor 41 = .ok (.if_icmp .ge 49, 3) := by decide +kernel
theorem dX1_sizeFor_44 : decode cX1_sizeFor 44 = .ok (.iload_n 2, 1) := by decide +kernel
theorem dX1_sizeFor_45 : decode cX1_sizeFor 45 = .ok (.iload_n 3, 1) := by decide +kernel
theorem dX1_sizeFor_46 : decode cX1_sizeFor 46 = .ok (.iadd, 1) := by decide +kernel
theorem dX1_sizeFor_47 : decode cX1_sizeFor 47 = .ok (.iconst 1, 1) := by decide +kernel
theorem dX1_sizeFor_48 : decode cX1_sizeFor 48 = .ok (.ishr, 1) := by decide +kernel
theorem dX1_sizeFor_49 : decode cX1_sizeFor 49 = .ok (.istore 5, 2) := by decide +kernel
theorem dX1_sizeFor_51 : decode cX1_sizeFor 51 = .ok (.aload_n 0, 1) := by decide +kernel
theorem dX1_sizeFor_52 : decode cX1_sizeFor 52 = .ok (.iload 5, 2) := by decide +kernel
theorem dX1_sizeFor_54 : decode cX1_sizeFor 54 = .ok (.invokevirtual 99, 3) := by decide +kernel
theorem dX1_sizeFor_57 : decode cX1_sizeFor 57 = .ok (.aload_n 0, 1) := by decide +kernel
theorem dX1_sizeFor_58 : decode cX1_sizeFor 58 = .ok (.aload_n 0, 1) := by decide +kernel
theorem dX1_sizeFor_59 : decode cX1_sizeFor 59 = .ok (.getfield 36, 3) := by decide +kernel
theorem dX1_sizeFor_62 : decode cX1_sizeFor 62 = .ok (.invokevirtual 102, 3) := by decide +kernel
theorem dX1_sizeFor_65 : decode cX1_sizeFor 65 = .ok (.aload_n 0, 1) := by decide +kernel
theorem dX1_sizeFor_66 : decode cX1_sizeFor 66 = .ok (.invokevirtual 105, 3) := by decide +kernel
theorem dX1_sizeFor_69 : decode cX1_sizeFor 69 = .ok (.iload_n 1, 1) := by decide +kernel
theorem dX1_sizeFor_70 : decode cX1_sizeFor 70 = .ok (.if_icmp .gt 9, 3) := by decide +kernel
theorem dX1_sizeFor_73 : decode cX1_sizeFor 73 = .ok (.iload 5, 2) := by decide +kernel
theorem dX1_sizeFor_75 : decode cX1_sizeFor 75 = .ok (.istore_n 3, 1) := by decide +kernel
theorem dX1_sizeFor_76 : decode cX1_sizeFor 76 = .ok (.goto 8, 3) := by decide +kernel
theorem dX1_sizeFor_79 : decode cX1_sizeFor 79 = .ok (.iload 5, 2) := by decide +kernel
theorem dX1_sizeFor_81 : decode cX1_sizeFor 81 = .ok (.iconst 1, 1) := by decide +kernel
theorem dX1_sizeFor_82 : decode cX1_sizeFor 82 = .ok (.iadd, 1) := by decide +kernel
theorem dX1_sizeFor_83 : decode cX1_sizeFor 83 = .ok (.istore_n 2, 1) := by decide +kernel
theorem dX1_sizeFor_84 : decode cX1_sizeFor 84 = .ok (.iinc 4 1, 3) := by decide +kernel
theorem dX1_sizeFor_87 : decode cX1_sizeFor 87 = .ok (.goto (-55), 3) := by decide +kernel
theorem dX1_sizeFor_90 : decode cX1_sizeFor 90 = .ok (.iload_n 2, 1) := by decide +kernel
theorem dX1_sizeFor_91 : decode cX1_sizeFor 91 = .ok (.ireturn, 1) := by decide +kernel
abbrev cX1_together : ByteArray := prog_1_method_31_code
def yX1_together : MethodName := ⟨RX1, "together", "(II)Z"⟩
theorem dX1_together_0 : decode cX1_together 0 = .ok (.aload_n 0, 1) := by decide +kernel
theorem dX1_together_1 : decode cX1_together 1 = .ok (.iload_n 1, 1) := by decide +kernel
theorem dX1_together_2 : decode cX1_together 2 = .ok (.invokevirtual 39, 3) := by decide +kernel
theorem dX1_together_5 : decode cX1_together 5 = .ok (.ifCond .eq 36, 3) := by decide +kernel
theorem dX1_together_8 : decode cX1_together 8 = .ok (.aload_n 0, 1) := by decide +kernel
theorem dX1_together_9 : decode cX1_together 9 = .ok (.iload_n 2, 1) := by decide +kernel
theorem dX1_together_10 : decode cX1_together 10 = .ok (.invokevirtual 39, 3) := by decide +kernel
theorem dX1_together_13 : decode cX1_together 13 = .ok (.ifCond .eq 28, 3) := by decide +kernel
theorem dX1_together_16 : decode cX1_together 16 = .ok (.iload_n 1, 1) := by decide +kernel
theorem dX1_together_17 : decode cX1_together 17 = .ok (.iload_n 2, 1) := by decide +kernel
theorem dX1_together_18 : decode cX1_together 18 = .ok (.if_icmp .eq 23, 3) := by decide +kernel
theorem dX1_together_21 : decode cX1_together 21 = .ok (.aload_n 0, 1) := by decide +kernel
theorem dX1_together_22 : decode cX1_together 22 = .ok (.getfield 7, 3) := by decide +kernel
theorem dX1_together_25 : decode cX1_together 25 = .ok (.iload_n 1, 1) := by decide +kernel
theorem dX1_together_26 : decode cX1_together 26 = .ok (.baload, 1) := by decide +kernel
theorem dX1_together_27 : decode cX1_together 27 = .ok (.aload_n 0, 1) := by decide +kernel
theorem dX1_together_28 : decode cX1_together 28 = .ok (.getfield 7, 3) := by decide +kernel
theorem dX1_together_31 : decode cX1_together 31 = .ok (.iload_n 2, 1) := by decide +kernel
theorem dX1_together_32 : decode cX1_together 32 = .ok (.baload, 1) := by decide +kernel
theorem dX1_together_33 : decode cX1_together 33 = .ok (.iadd, 1) := by decide +kernel
theorem dX1_together_34 : decode cX1_together 34 = .ok (.aload_n 0, 1) := by decide +kernel
theorem dX1_together_35 : decode cX1_together 35 = .ok (.getfield 32, 3) := by decide +kernel
theorem dX1_together_38 : decode cX1_together 38 = .ok (.if_icmp .le 5, 3) := by decide +kernel
theorem dX1_together_41 : decode cX1_together 41 = .ok (.iconst 0, 1) := by decide +kernel
theorem dX1_together_42 : decode cX1_together 42 = .ok (.ireturn, 1) := by decide +kernel
theorem dX1_together_43 : decode cX1_together 43 = .ok (.aload_n 0, 1) := by decide +kernel
theorem dX1_together_44 : decode cX1_together 44 = .ok (.invokevirtual 121, 3) := by decide +kernel
theorem dX1_together_47 : decode cX1_together 47 = .ok (.istore_n 3, 1) := by decide +kernel
theorem dX1_together_48 : decode cX1_together 48 = .ok (.aload_n 0, 1) := by decide +kernel
theorem dX1_together_49 : decode cX1_together 49 = .ok (.aload_n 0, 1) := by decide +kernel
theorem dX1_together_50 : decode cX1_together 50 = .ok (.getfield 32, 3) := by decide +kernel
theorem dX1_together_53 : decode cX1_together 53 = .ok (.invokevirtual 99, 3) := by decide +kernel
theorem dX1_together_56 : decode cX1_together 56 = .ok (.aload_n 0, 1) := by decide +kernel
theorem dX1_together_57 : decode cX1_together 57 = .ok (.aload_n 0, 1) := by decide +kernel
theorem dX1_together_58 : decode cX1_together 58 = .ok (.getfield 36, 3) := by decide +kernel
theorem dX1_together_61 : decode cX1_together 61 = .ok (.iconst 1, 1) := by decide +kernel
theorem dX1_together_62 : decode cX1_together 62 = .ok (.iload_n 1, 1) := by decide +kernel
theorem dX1_together_63 : decode cX1_together 63 = .ok (.ishl, 1) := by decide +kernel
theorem dX1_together_64 : decode cX1_together 64 = .ok (.iconst (-1), 1) := by decide +kernel
theorem dX1_together_65 : decode cX1_together 65 = .ok (.ixor, 1) := by decide +kernel
theorem dX1_together_66 : decode cX1_together 66 = .ok (.iand, 1) := by decide +kernel
theorem dX1_together_67 : decode cX1_together 67 = .ok (.iconst 1, 1) := by decide +kernel
theorem dX1_together_68 : decode cX1_together 68 = .ok (.iload_n 2, 1) := by decide +kernel
theorem dX1_together_69 : decode cX1_together 69 = .ok (.ishl, 1) := by decide +kernel
theorem dX1_together_70 : decode cX1_together 70 = .ok (.iconst (-1), 1) := by decide +kernel
theorem dX1_together_71 : decode cX1_together 71 = .ok (.ixor, 1) := by decide +kernel
theorem dX1_together_72 : decode cX1_together 72 = .ok (.iand, 1) := by decide +kernel
theorem dX1_together_73 : decode cX1_together 73 = .ok (.invokevirtual 102, 3) := by decide +kernel
theorem dX1_together_76 : decode cX1_together 76 = .ok (.aload_n 0, 1) := by decide +kernel
theorem dX1_together_77 : decode cX1_together 77 = .ok (.aload_n 0, 1) := by decide +kernel
theorem dX1_together_78 : decode cX1_together 78 = .ok (.getfield 7, 3) := by decide +kernel
theorem dX1_together_81 : decode cX1_together 81 = .ok (.iload_n 1, 1) := by decide +kernel
theorem dX1_together_82 : decode cX1_together 82 = .ok (.baload, 1) := by decide +kernel
theorem dX1_together_83 : decode cX1_together 83 = .ok (.aload_n 0, 1) := by decide +kernel
theorem dX1_together_84 : decode cX1_together 84 = .ok (.getfield 7, 3) := by decide +kernel
theorem dX1_together_87 : decode cX1_together 87 = .ok (.iload_n 2, 1) := by decide +kernel
theorem dX1_together_88 : decode cX1_together 88 = .ok (.baload, 1) := by decide +kernel
theorem dX1_together_89 : decode cX1_together 89 = .ok (.iadd, 1) := by decide +kernel
theorem dX1_together_90 : decode cX1_together 90 = .ok (.invokevirtual 60, 3) := by decide +kernel
theorem dX1_together_93 : decode cX1_together 93 = .ok (.aload_n 0, 1) := by decide +kernel
theorem dX1_together_94 : decode cX1_together 94 = .ok (.invokevirtual 105, 3) := by decide +kernel
theorem dX1_together_97 : decode cX1_together 97 = .ok (.iload_n 3, 1) := by decide +kernel
theorem dX1_together_98 : decode cX1_together 98 = .ok (.if_icmp .ne 7, 3) := by decide +kernel
theorem dX1_together_101 : decode cX1_together 101 = .ok (.iconst 1, 1) := by decide +kernel
theorem dX1_together_102 : decode cX1_together 102 = .ok (.goto 4, 3) := by decide +kernel
theorem dX1_together_105 : decode cX1_together 105 = .ok (.iconst 0, 1) := by decide +kernel
theorem dX1_together_106 : decode cX1_together 106 = .ok (.ireturn, 1) := by decide +kernel
theorem q24 : (Jvm.Cond.initialized "BinDesk") ∈ lw_all := lw_g (lw_at lw_m1 1 rfl) rfl
theorem q27 : (Jvm.Cond.instantiable "BinDesk" (16 : Nat)) ∈ lw_all := lw_g (lw_at lw_m1 4 rfl) rfl
theorem q29 : (Jvm.Cond.instanceMethod ({ cls := "BinDesk", name := "<init>", desc := "(I)V" } : Jvm.MethodName)) ∈ lw_all := lw_g (lw_at lw_m1 6 rfl) rfl
theorem q30 : (Jvm.Cond.code ({ cls := "BinDesk", name := "<init>", desc := "(I)V" } : Jvm.MethodName) prog_1_method_1_code (2 : Nat) (Option.none : Option Jvm.ClassFile.FieldType)) ∈ lw_all := lw_g (lw_at lw_m1 7 rfl) rfl
theorem q31 : (Jvm.Cond.methodLink "BinDesk" (1 : Nat) ({ cls := "java/lang/Object", name := "<init>", desc := "()V" } : Jvm.MethodName)) ∈ lw_all := lw_g (lw_at lw_m1 8 rfl) rfl
theorem q34 : (Jvm.Cond.fieldLink "BinDesk" (32 : Nat) "BinDesk" "binSize" "I") ∈ lw_all := lw_g (lw_at lw_m1 11 rfl) rfl
theorem q35 : (Jvm.Cond.fieldLink "BinDesk" (36 : Nat) "BinDesk" "present" "I") ∈ lw_all := lw_g (lw_at lw_m1 12 rfl) rfl
theorem q36 : (Jvm.Cond.fieldLink "BinDesk" (7 : Nat) "BinDesk" "sizes" "[B") ∈ lw_all := lw_g (lw_at lw_m1 13 rfl) rfl
theorem q37 : (Jvm.Cond.fieldLink "BinDesk" (51 : Nat) "BinDesk" "room" "I") ∈ lw_all := lw_g (lw_at lw_m1 14 rfl) rfl
theorem q38 : (Jvm.Cond.fieldLink "BinDesk" (54 : Nat) "BinDesk" "opened" "I") ∈ lw_all := lw_g (lw_at lw_m1 15 rfl) rfl
theorem q39 : (Jvm.Cond.fieldLink "BinDesk" (13 : Nat) "BinDesk" "loads" "[I") ∈ lw_all := lw_g (lw_at lw_m1 16 rfl) rfl
theorem q40 : (Jvm.Cond.fieldLink "BinDesk" (57 : Nat) "BinDesk" "restCount" "I") ∈ lw_all := lw_g (lw_at lw_m1 17 rfl) rfl
theorem q41 : (Jvm.Cond.fieldLink "BinDesk" (17 : Nat) "BinDesk" "rest" "[I") ∈ lw_all := lw_g (lw_at lw_m1 18 rfl) rfl
theorem q42 : (Jvm.Cond.fieldLink "BinDesk" (78 : Nat) "BinDesk" "best" "I") ∈ lw_all := lw_g (lw_at lw_m1 19 rfl) rfl
theorem q43 : (Jvm.Cond.fieldLink "BinDesk" (20 : Nat) "BinDesk" "place" "[B") ∈ lw_all := lw_g (lw_at lw_m1 20 rfl) rfl
theorem q44 : (Jvm.Cond.fieldLink "BinDesk" (23 : Nat) "BinDesk" "openAt" "[B") ∈ lw_all := lw_g (lw_at lw_m1 21 rfl) rfl
theorem q45 : (Jvm.Cond.fieldLink "BinDesk" (64 : Nat) "BinDesk" "weightCount" "I") ∈ lw_all := lw_g (lw_at lw_m1 22 rfl) rfl
theorem q46 : (Jvm.Cond.fieldLink "BinDesk" (26 : Nat) "BinDesk" "weights" "[I") ∈ lw_all := lw_g (lw_at lw_m1 23 rfl) rfl
theorem q47 : (Jvm.Cond.fieldLink "BinDesk" (43 : Nat) "BinDesk" "packed" "Z") ∈ lw_all := lw_g (lw_at lw_m1 24 rfl) rfl
theorem q48 : (Jvm.Cond.fieldLink "BinDesk" (108 : Nat) "BinDesk" "leastCount" "I") ∈ lw_all := lw_g (lw_at lw_m1 25 rfl) rfl
theorem q49 : (Jvm.Cond.fieldLink "BinDesk" (29 : Nat) "BinDesk" "bins" "[B") ∈ lw_all := lw_g (lw_at lw_m1 26 rfl) rfl
theorem q50 : (Jvm.Cond.lays "BinDesk" "BinDesk" "binSize" "I") ∈ lw_all := lw_g (lw_at lw_m1 27 rfl) rfl
theorem q51 : (Jvm.Cond.soleField "BinDesk" "binSize") ∈ lw_all := lw_g (lw_at lw_m1 28 rfl) rfl
theorem q52 : (Jvm.Cond.lays "BinDesk" "BinDesk" "present" "I") ∈ lw_all := lw_g (lw_at lw_m1 29 rfl) rfl
theorem q53 : (Jvm.Cond.soleField "BinDesk" "present") ∈ lw_all := lw_g (lw_at lw_m1 30 rfl) rfl
theorem q54 : (Jvm.Cond.laysFinal "BinDesk" "BinDesk" "sizes" "[B") ∈ lw_all := lw_g (lw_at lw_m1 31 rfl) rfl
theorem q55 : (Jvm.Cond.soleField "BinDesk" "sizes") ∈ lw_all := lw_g (lw_at lw_m1 32 rfl) rfl
theorem q56 : (Jvm.Cond.lays "BinDesk" "BinDesk" "room" "I") ∈ lw_all := lw_g (lw_at lw_m1 33 rfl) rfl
theorem q57 : (Jvm.Cond.soleField "BinDesk" "room") ∈ lw_all := lw_g (lw_at lw_m1 34 rfl) rfl
theorem q58 : (Jvm.Cond.lays "BinDesk" "BinDesk" "opened" "I") ∈ lw_all := lw_g (lw_at lw_m1 35 rfl) rfl
theorem q59 : (Jvm.Cond.soleField "BinDesk" "opened") ∈ lw_all := lw_g (lw_at lw_m1 36 rfl) rfl
theorem q60 : (Jvm.Cond.laysFinal "BinDesk" "BinDesk" "loads" "[I") ∈ lw_all := lw_g (lw_at lw_m1 37 rfl) rfl
theorem q61 : (Jvm.Cond.soleField "BinDesk" "loads") ∈ lw_all := lw_g (lw_at lw_m1 38 rfl) rfl
theorem q62 : (Jvm.Cond.lays "BinDesk" "BinDesk" "restCount" "I") ∈ lw_all := lw_g (lw_at lw_m1 39 rfl) rfl
theorem q63 : (Jvm.Cond.soleField "BinDesk" "restCount") ∈ lw_all := lw_g (lw_at lw_m1 40 rfl) rfl
theorem q64 : (Jvm.Cond.laysFinal "BinDesk" "BinDesk" "rest" "[I") ∈ lw_all := lw_g (lw_at lw_m1 41 rfl) rfl
theorem q65 : (Jvm.Cond.soleField "BinDesk" "rest") ∈ lw_all := lw_g (lw_at lw_m1 42 rfl) rfl
theorem q66 : (Jvm.Cond.lays "BinDesk" "BinDesk" "best" "I") ∈ lw_all := lw_g (lw_at lw_m1 43 rfl) rfl
theorem q67 : (Jvm.Cond.soleField "BinDesk" "best") ∈ lw_all := lw_g (lw_at lw_m1 44 rfl) rfl
theorem q68 : (Jvm.Cond.laysFinal "BinDesk" "BinDesk" "place" "[B") ∈ lw_all := lw_g (lw_at lw_m1 45 rfl) rfl
theorem q69 : (Jvm.Cond.soleField "BinDesk" "place") ∈ lw_all := lw_g (lw_at lw_m1 46 rfl) rfl
theorem q70 : (Jvm.Cond.laysFinal "BinDesk" "BinDesk" "openAt" "[B") ∈ lw_all := lw_g (lw_at lw_m1 47 rfl) rfl
theorem q71 : (Jvm.Cond.soleField "BinDesk" "openAt") ∈ lw_all := lw_g (lw_at lw_m1 48 rfl) rfl
theorem q72 : (Jvm.Cond.lays "BinDesk" "BinDesk" "weightCount" "I") ∈ lw_all := lw_g (lw_at lw_m1 49 rfl) rfl
theorem q73 : (Jvm.Cond.soleField "BinDesk" "weightCount") ∈ lw_all := lw_g (lw_at lw_m1 50 rfl) rfl
theorem q74 : (Jvm.Cond.laysFinal "BinDesk" "BinDesk" "weights" "[I") ∈ lw_all := lw_g (lw_at lw_m1 51 rfl) rfl
theorem q75 : (Jvm.Cond.soleField "BinDesk" "weights") ∈ lw_all := lw_g (lw_at lw_m1 52 rfl) rfl
theorem q76 : (Jvm.Cond.lays "BinDesk" "BinDesk" "packed" "Z") ∈ lw_all := lw_g (lw_at lw_m1 53 rfl) rfl
theorem q77 : (Jvm.Cond.soleField "BinDesk" "packed") ∈ lw_all := lw_g (lw_at lw_m1 54 rfl) rfl
theorem q78 : (Jvm.Cond.lays "BinDesk" "BinDesk" "leastCount" "I") ∈ lw_all := lw_g (lw_at lw_m1 55 rfl) rfl
theorem q79 : (Jvm.Cond.soleField "BinDesk" "leastCount") ∈ lw_all := lw_g (lw_at lw_m1 56 rfl) rfl
theorem q80 : (Jvm.Cond.laysFinal "BinDesk" "BinDesk" "bins" "[B") ∈ lw_all := lw_g (lw_at lw_m1 57 rfl) rfl
theorem q81 : (Jvm.Cond.soleField "BinDesk" "bins") ∈ lw_all := lw_g (lw_at lw_m1 58 rfl) rfl
theorem q82 : (Jvm.Cond.superclass "BinDesk" "java/lang/Object") ∈ lw_all := lw_g (lw_at lw_m1 59 rfl) rfl
theorem q86 : (Jvm.Cond.instanceMethod ({ cls := "BinDesk", name := "add", desc := "(I)I" } : Jvm.MethodName)) ∈ lw_all := lw_g (lw_at lw_m1 63 rfl) rfl
theorem q87 : (Jvm.Cond.selects "BinDesk" ({ cls := "BinDesk", name := "add", desc := "(I)I" } : Jvm.MethodName) ({ cls := "BinDesk", name := "add", desc := "(I)I" } : Jvm.MethodName)) ∈ lw_all := lw_g (lw_at lw_m1 64 rfl) rfl
theorem q88 : (Jvm.Cond.code ({ cls := "BinDesk", name := "add", desc := "(I)I" } : Jvm.MethodName) prog_1_method_3_code (3 : Nat) (Option.some Jvm.ClassFile.FieldType.int)) ∈ lw_all := lw_g (lw_at lw_m1 65 rfl) rfl
theorem q89 : (Jvm.Cond.methodLink "BinDesk" (39 : Nat) ({ cls := "BinDesk", name := "has", desc := "(I)Z" } : Jvm.MethodName)) ∈ lw_all := lw_g (lw_at lw_m1 66 rfl) rfl
theorem q90 : (Jvm.Cond.privateMethod ({ cls := "BinDesk", name := "has", desc := "(I)Z" } : Jvm.MethodName)) ∈ lw_tbl := lw_at lw_m1 67 rfl
theorem q91 : (Jvm.Cond.instanceMethod ({ cls := "BinDesk", name := "has", desc := "(I)Z" } : Jvm.MethodName)) ∈ lw_all := lw_g (lw_at lw_m1 68 rfl) rfl
theorem q92 : (Jvm.Cond.code ({ cls := "BinDesk", name := "has", desc := "(I)Z" } : Jvm.MethodName) prog_1_method_2_code (2 : Nat) (Option.some Jvm.ClassFile.FieldType.boolean)) ∈ lw_all := lw_g (lw_at lw_m1 69 rfl) rfl
theorem q94 : (Jvm.Cond.instanceMethod ({ cls := "BinDesk", name := "remove", desc := "(I)Z" } : Jvm.MethodName)) ∈ lw_all := lw_g (lw_at lw_m1 71 rfl) rfl
theorem q95 : (Jvm.Cond.selects "BinDesk" ({ cls := "BinDesk", name := "remove", desc := "(I)Z" } : Jvm.MethodName) ({ cls := "BinDesk", name := "remove", desc := "(I)Z" } : Jvm.MethodName)) ∈ lw_all := lw_g (lw_at lw_m1 72 rfl) rfl
theorem q96 : (Jvm.Cond.code ({ cls := "BinDesk", name := "remove", desc := "(I)Z" } : Jvm.MethodName) prog_1_method_4_code (2 : Nat) (Option.some Jvm.ClassFile.FieldType.boolean)) ∈ lw_all := lw_g (lw_at lw_m1 73 rfl) rfl
theorem q98 : (Jvm.Cond.instanceMethod ({ cls := "BinDesk", name := "resize", desc := "(II)Z" } : Jvm.MethodName)) ∈ lw_all := lw_g (lw_at lw_m1 75 rfl) rfl
theorem q99 : (Jvm.Cond.selects "BinDesk" ({ cls := "BinDesk", name := "resize", desc := "(II)Z" } : Jvm.MethodName) ({ cls := "BinDesk", name := "resize", desc := "(II)Z" } : Jvm.MethodName)) ∈ lw_all := lw_g (lw_at lw_m1 76 rfl) rfl
theorem q100 : (Jvm.Cond.code ({ cls := "BinDesk", name := "resize", desc := "(II)Z" } : Jvm.MethodName) prog_1_method_5_code (3 : Nat) (Option.some Jvm.ClassFile.FieldType.boolean)) ∈ lw_all := lw_g (lw_at lw_m1 77 rfl) rfl
theorem q102 : (Jvm.Cond.instanceMethod ({ cls := "BinDesk", name := "setSize", desc := "(I)Z" } : Jvm.MethodName)) ∈ lw_all := lw_g (lw_at lw_m1 79 rfl) rfl
theorem q103 : (Jvm.Cond.selects "BinDesk" ({ cls := "BinDesk", name := "setSize", desc := "(I)Z" } : Jvm.MethodName) ({ cls := "BinDesk", name := "setSize", desc := "(I)Z" } : Jvm.MethodName)) ∈ lw_all := lw_g (lw_at lw_m1 80 rfl) rfl
theorem q104 : (Jvm.Cond.code ({ cls := "BinDesk", name := "setSize", desc := "(I)Z" } : Jvm.MethodName) prog_1_method_6_code (2 : Nat) (Option.some Jvm.ClassFile.FieldType.boolean)) ∈ lw_all := lw_g (lw_at lw_m1 81 rfl) rfl
theorem q105 : (Jvm.Cond.methodLink "BinDesk" (47 : Nat) ({ cls := "BinDesk", name := "largest", desc := "()I" } : Jvm.MethodName)) ∈ lw_all := lw_g (lw_at lw_m1 82 rfl) rfl
theorem q106 : (Jvm.Cond.privateMethod ({ cls := "BinDesk", name := "largest", desc := "()I" } : Jvm.MethodName)) ∈ lw_tbl := lw_at lw_m1 83 rfl
theorem q107 : (Jvm.Cond.instanceMethod ({ cls := "BinDesk", name := "largest", desc := "()I" } : Jvm.MethodName)) ∈ lw_all := lw_g (lw_at lw_m1 84 rfl) rfl
theorem q108 : (Jvm.Cond.code ({ cls := "BinDesk", name := "largest", desc := "()I" } : Jvm.MethodName) prog_1_method_7_code (3 : Nat) (Option.some Jvm.ClassFile.FieldType.int)) ∈ lw_all := lw_g (lw_at lw_m1 85 rfl) rfl
theorem q110 : (Jvm.Cond.instanceMethod ({ cls := "BinDesk", name := "size", desc := "()I" } : Jvm.MethodName)) ∈ lw_all := lw_g (lw_at lw_m1 87 rfl) rfl
theorem q111 : (Jvm.Cond.selects "BinDesk" ({ cls := "BinDesk", name := "size", desc := "()I" } : Jvm.MethodName) ({ cls := "BinDesk", name := "size", desc := "()I" } : Jvm.MethodName)) ∈ lw_all := lw_g (lw_at lw_m1 88 rfl) rfl
theorem q112 : (Jvm.Cond.code ({ cls := "BinDesk", name := "size", desc := "()I" } : Jvm.MethodName) prog_1_method_8_code (1 : Nat) (Option.some Jvm.ClassFile.FieldType.int)) ∈ lw_all := lw_g (lw_at lw_m1 89 rfl) rfl
theorem q114 : (Jvm.Cond.instanceMethod ({ cls := "BinDesk", name := "items", desc := "()I" } : Jvm.MethodName)) ∈ lw_all := lw_g (lw_at lw_m1 91 rfl) rfl
theorem q115 : (Jvm.Cond.selects "BinDesk" ({ cls := "BinDesk", name := "items", desc := "()I" } : Jvm.MethodName) ({ cls := "BinDesk", name := "items", desc := "()I" } : Jvm.MethodName)) ∈ lw_all := lw_g (lw_at lw_m1 92 rfl) rfl
theorem q116 : (Jvm.Cond.code ({ cls := "BinDesk", name := "items", desc := "()I" } : Jvm.MethodName) prog_1_method_9_code (1 : Nat) (Option.some Jvm.ClassFile.FieldType.int)) ∈ lw_all := lw_g (lw_at lw_m1 93 rfl) rfl
theorem q118 : (Jvm.Cond.instanceMethod ({ cls := "BinDesk", name := "sizeOf", desc := "(I)I" } : Jvm.MethodName)) ∈ lw_all := lw_g (lw_at lw_m1 95 rfl) rfl
theorem q119 : (Jvm.Cond.selects "BinDesk" ({ cls := "BinDesk", name := "sizeOf", desc := "(I)I" } : Jvm.MethodName) ({ cls := "BinDesk", name := "sizeOf", desc := "(I)I" } : Jvm.MethodName)) ∈ lw_all := lw_g (lw_at lw_m1 96 rfl) rfl
theorem q120 : (Jvm.Cond.code ({ cls := "BinDesk", name := "sizeOf", desc := "(I)I" } : Jvm.MethodName) prog_1_method_10_code (2 : Nat) (Option.some Jvm.ClassFile.FieldType.int)) ∈ lw_all := lw_g (lw_at lw_m1 97 rfl) rfl
theorem q122 : (Jvm.Cond.instanceMethod ({ cls := "BinDesk", name := "least", desc := "()I" } : Jvm.MethodName)) ∈ lw_all := lw_g (lw_at lw_m1 99 rfl) rfl
theorem q123 : (Jvm.Cond.selects "BinDesk" ({ cls := "BinDesk", name := "least", desc := "()I" } : Jvm.MethodName) ({ cls := "BinDesk", name := "least", desc := "()I" } : Jvm.MethodName)) ∈ lw_all := lw_g (lw_at lw_m1 100 rfl) rfl
theorem q124 : (Jvm.Cond.code ({ cls := "BinDesk", name := "least", desc := "()I" } : Jvm.MethodName) prog_1_method_26_code (1 : Nat) (Option.some Jvm.ClassFile.FieldType.int)) ∈ lw_all := lw_g (lw_at lw_m1 101 rfl) rfl
theorem q125 : (Jvm.Cond.methodLink "BinDesk" (118 : Nat) ({ cls := "BinDesk", name := "pack", desc := "()V" } : Jvm.MethodName)) ∈ lw_all := lw_g (lw_at lw_m1 102 rfl) rfl
theorem q126 : (Jvm.Cond.privateMethod ({ cls := "BinDesk", name := "pack", desc := "()V" } : Jvm.MethodName)) ∈ lw_tbl := lw_at lw_m1 103 rfl
theorem q127 : (Jvm.Cond.instanceMethod ({ cls := "BinDesk", name := "pack", desc := "()V" } : Jvm.MethodName)) ∈ lw_all := lw_g (lw_at lw_m1 104 rfl) rfl
theorem q128 : (Jvm.Cond.code ({ cls := "BinDesk", name := "pack", desc := "()V" } : Jvm.MethodName) prog_1_method_23_code (5 : Nat) (Option.none : Option Jvm.ClassFile.FieldType)) ∈ lw_all := lw_g (lw_at lw_m1 105 rfl) rfl
theorem q129 : (Jvm.Cond.methodLink "BinDesk" (99 : Nat) ({ cls := "BinDesk", name := "ask", desc := "(I)V" } : Jvm.MethodName)) ∈ lw_all := lw_g (lw_at lw_m1 106 rfl) rfl
theorem q130 : (Jvm.Cond.privateMethod ({ cls := "BinDesk", name := "ask", desc := "(I)V" } : Jvm.MethodName)) ∈ lw_tbl := lw_at lw_m1 107 rfl
theorem q131 : (Jvm.Cond.instanceMethod ({ cls := "BinDesk", name := "ask", desc := "(I)V" } : Jvm.MethodName)) ∈ lw_all := lw_g (lw_at lw_m1 108 rfl) rfl
theorem q132 : (Jvm.Cond.code ({ cls := "BinDesk", name := "ask", desc := "(I)V" } : Jvm.MethodName) prog_1_method_11_code (3 : Nat) (Option.none : Option Jvm.ClassFile.FieldType)) ∈ lw_all := lw_g (lw_at lw_m1 109 rfl) rfl
theorem q133 : (Jvm.Cond.methodLink "BinDesk" (102 : Nat) ({ cls := "BinDesk", name := "wantAll", desc := "(I)V" } : Jvm.MethodName)) ∈ lw_all := lw_g (lw_at lw_m1 110 rfl) rfl
theorem q134 : (Jvm.Cond.privateMethod ({ cls := "BinDesk", name := "wantAll", desc := "(I)V" } : Jvm.MethodName)) ∈ lw_tbl := lw_at lw_m1 111 rfl
theorem q135 : (Jvm.Cond.instanceMethod ({ cls := "BinDesk", name := "wantAll", desc := "(I)V" } : Jvm.MethodName)) ∈ lw_all := lw_g (lw_at lw_m1 112 rfl) rfl
theorem q136 : (Jvm.Cond.code ({ cls := "BinDesk", name := "wantAll", desc := "(I)V" } : Jvm.MethodName) prog_1_method_13_code (3 : Nat) (Option.none : Option Jvm.ClassFile.FieldType)) ∈ lw_all := lw_g (lw_at lw_m1 113 rfl) rfl
theorem q137 : (Jvm.Cond.methodLink "BinDesk" (60 : Nat) ({ cls := "BinDesk", name := "want", desc := "(I)V" } : Jvm.MethodName)) ∈ lw_all := lw_g (lw_at lw_m1 114 rfl) rfl
theorem q138 : (Jvm.Cond.privateMethod ({ cls := "BinDesk", name := "want", desc := "(I)V" } : Jvm.MethodName)) ∈ lw_tbl := lw_at lw_m1 115 rfl
theorem q139 : (Jvm.Cond.instanceMethod ({ cls := "BinDesk", name := "want", desc := "(I)V" } : Jvm.MethodName)) ∈ lw_all := lw_g (lw_at lw_m1 116 rfl) rfl
theorem q140 : (Jvm.Cond.code ({ cls := "BinDesk", name := "want", desc := "(I)V" } : Jvm.MethodName) prog_1_method_12_code (3 : Nat) (Option.none : Option Jvm.ClassFile.FieldType)) ∈ lw_all := lw_g (lw_at lw_m1 117 rfl) rfl
theorem q141 : (Jvm.Cond.methodLink "BinDesk" (105 : Nat) ({ cls := "BinDesk", name := "solve", desc := "()I" } : Jvm.MethodName)) ∈ lw_all := lw_g (lw_at lw_m1 118 rfl) rfl
theorem q142 : (Jvm.Cond.privateMethod ({ cls := "BinDesk", name := "solve", desc := "()I" } : Jvm.MethodName)) ∈ lw_tbl := lw_at lw_m1 119 rfl
theorem q143 : (Jvm.Cond.instanceMethod ({ cls := "BinDesk", name := "solve", desc := "()I" } : Jvm.MethodName)) ∈ lw_all := lw_g (lw_at lw_m1 120 rfl) rfl
theorem q144 : (Jvm.Cond.code ({ cls := "BinDesk", name := "solve", desc := "()I" } : Jvm.MethodName) prog_1_method_17_code (2 : Nat) (Option.some Jvm.ClassFile.FieldType.int)) ∈ lw_all := lw_g (lw_at lw_m1 121 rfl) rfl
theorem q145 : (Jvm.Cond.methodLink "BinDesk" (75 : Nat) ({ cls := "BinDesk", name := "byFallingSizes", desc := "()I" } : Jvm.MethodName)) ∈ lw_all := lw_g (lw_at lw_m1 122 rfl) rfl
theorem q146 : (Jvm.Cond.privateMethod ({ cls := "BinDesk", name := "byFallingSizes", desc := "()I" } : Jvm.MethodName)) ∈ lw_tbl := lw_at lw_m1 123 rfl
theorem q147 : (Jvm.Cond.instanceMethod ({ cls := "BinDesk", name := "byFallingSizes", desc := "()I" } : Jvm.MethodName)) ∈ lw_all := lw_g (lw_at lw_m1 124 rfl) rfl
theorem q148 : (Jvm.Cond.code ({ cls := "BinDesk", name := "byFallingSizes", desc := "()I" } : Jvm.MethodName) prog_1_method_18_code (4 : Nat) (Option.some Jvm.ClassFile.FieldType.int)) ∈ lw_all := lw_g (lw_at lw_m1 125 rfl) rfl
theorem q149 : (Jvm.Cond.methodLink "BinDesk" (81 : Nat) ({ cls := "BinDesk", name := "lowerBound", desc := "()I" } : Jvm.MethodName)) ∈ lw_all := lw_g (lw_at lw_m1 126 rfl) rfl
theorem q150 : (Jvm.Cond.privateMethod ({ cls := "BinDesk", name := "lowerBound", desc := "()I" } : Jvm.MethodName)) ∈ lw_tbl := lw_at lw_m1 127 rfl
theorem q151 : (Jvm.Cond.instanceMethod ({ cls := "BinDesk", name := "lowerBound", desc := "()I" } : Jvm.MethodName)) ∈ lw_all := lw_g (lw_at lw_m1 128 rfl) rfl
theorem q152 : (Jvm.Cond.code ({ cls := "BinDesk", name := "lowerBound", desc := "()I" } : Jvm.MethodName) prog_1_method_15_code (4 : Nat) (Option.some Jvm.ClassFile.FieldType.int)) ∈ lw_all := lw_g (lw_at lw_m1 129 rfl) rfl
theorem q153 : (Jvm.Cond.methodLink "BinDesk" (67 : Nat) ({ cls := "BinDesk", name := "boundWith", desc := "(I)I" } : Jvm.MethodName)) ∈ lw_all := lw_g (lw_at lw_m1 130 rfl) rfl
theorem q154 : (Jvm.Cond.privateMethod ({ cls := "BinDesk", name := "boundWith", desc := "(I)I" } : Jvm.MethodName)) ∈ lw_tbl := lw_at lw_m1 131 rfl
theorem q155 : (Jvm.Cond.instanceMethod ({ cls := "BinDesk", name := "boundWith", desc := "(I)I" } : Jvm.MethodName)) ∈ lw_all := lw_g (lw_at lw_m1 132 rfl) rfl
theorem q156 : (Jvm.Cond.code ({ cls := "BinDesk", name := "boundWith", desc := "(I)I" } : Jvm.MethodName) prog_1_method_16_code (8 : Nat) (Option.some Jvm.ClassFile.FieldType.int)) ∈ lw_all := lw_g (lw_at lw_m1 133 rfl) rfl
theorem q157 : (Jvm.Cond.methodLink "BinDesk" (71 : Nat) ({ cls := "BinDesk", name := "ceiling", desc := "(II)I" } : Jvm.MethodName)) ∈ lw_all := lw_g (lw_at lw_m1 134 rfl) rfl
theorem q158 : (Jvm.Cond.static ({ cls := "BinDesk", name := "ceiling", desc := "(II)I" } : Jvm.MethodName)) ∈ lw_all := lw_g (lw_at lw_m1 135 rfl) rfl
theorem q159 : (Jvm.Cond.code ({ cls := "BinDesk", name := "ceiling", desc := "(II)I" } : Jvm.MethodName) prog_1_method_14_code (2 : Nat) (Option.some Jvm.ClassFile.FieldType.int)) ∈ lw_all := lw_g (lw_at lw_m1 136 rfl) rfl
theorem q160 : (Jvm.Cond.methodLink "BinDesk" (84 : Nat) ({ cls := "BinDesk", name := "search", desc := "()V" } : Jvm.MethodName)) ∈ lw_all := lw_g (lw_at lw_m1 137 rfl) rfl
theorem q161 : (Jvm.Cond.privateMethod ({ cls := "BinDesk", name := "search", desc := "()V" } : Jvm.MethodName)) ∈ lw_tbl := lw_at lw_m1 138 rfl
theorem q162 : (Jvm.Cond.instanceMethod ({ cls := "BinDesk", name := "search", desc := "()V" } : Jvm.MethodName)) ∈ lw_all := lw_g (lw_at lw_m1 139 rfl) rfl
theorem q163 : (Jvm.Cond.code ({ cls := "BinDesk", name := "search", desc := "()V" } : Jvm.MethodName) prog_1_method_19_code (6 : Nat) (Option.none : Option Jvm.ClassFile.FieldType)) ∈ lw_all := lw_g (lw_at lw_m1 140 rfl) rfl
theorem q164 : (Jvm.Cond.constant "BinDesk" (87 : Nat) (65536 : Int32)) ∈ lw_all := lw_g (lw_at lw_m1 141 rfl) rfl
theorem q165 : (Jvm.Cond.methodLink "BinDesk" (88 : Nat) ({ cls := "BinDesk", name := "nextBin", desc := "(III)I" } : Jvm.MethodName)) ∈ lw_all := lw_g (lw_at lw_m1 142 rfl) rfl
theorem q166 : (Jvm.Cond.privateMethod ({ cls := "BinDesk", name := "nextBin", desc := "(III)I" } : Jvm.MethodName)) ∈ lw_tbl := lw_at lw_m1 143 rfl
theorem q167 : (Jvm.Cond.instanceMethod ({ cls := "BinDesk", name := "nextBin", desc := "(III)I" } : Jvm.MethodName)) ∈ lw_all := lw_g (lw_at lw_m1 144 rfl) rfl
theorem q168 : (Jvm.Cond.code ({ cls := "BinDesk", name := "nextBin", desc := "(III)I" } : Jvm.MethodName) prog_1_method_20_code (5 : Nat) (Option.some Jvm.ClassFile.FieldType.int)) ∈ lw_all := lw_g (lw_at lw_m1 145 rfl) rfl
theorem q169 : (Jvm.Cond.methodLink "BinDesk" (96 : Nat) ({ cls := "BinDesk", name := "seen", desc := "(I)Z" } : Jvm.MethodName)) ∈ lw_all := lw_g (lw_at lw_m1 146 rfl) rfl
theorem q170 : (Jvm.Cond.privateMethod ({ cls := "BinDesk", name := "seen", desc := "(I)Z" } : Jvm.MethodName)) ∈ lw_tbl := lw_at lw_m1 147 rfl
theorem q171 : (Jvm.Cond.instanceMethod ({ cls := "BinDesk", name := "seen", desc := "(I)Z" } : Jvm.MethodName)) ∈ lw_all := lw_g (lw_at lw_m1 148 rfl) rfl
theorem q172 : (Jvm.Cond.code ({ cls := "BinDesk", name := "seen", desc := "(I)Z" } : Jvm.MethodName) prog_1_method_21_code (3 : Nat) (Option.some Jvm.ClassFile.FieldType.boolean)) ∈ lw_all := lw_g (lw_at lw_m1 149 rfl) rfl
theorem q173 : (Jvm.Cond.methodLink "BinDesk" (92 : Nat) ({ cls := "BinDesk", name := "hopeful", desc := "(II)Z" } : Jvm.MethodName)) ∈ lw_all := lw_g (lw_at lw_m1 150 rfl) rfl
theorem q174 : (Jvm.Cond.privateMethod ({ cls := "BinDesk", name := "hopeful", desc := "(II)Z" } : Jvm.MethodName)) ∈ lw_tbl := lw_at lw_m1 151 rfl
theorem q175 : (Jvm.Cond.instanceMethod ({ cls := "BinDesk", name := "hopeful", desc := "(II)Z" } : Jvm.MethodName)) ∈ lw_all := lw_g (lw_at lw_m1 152 rfl) rfl
theorem q176 : (Jvm.Cond.code ({ cls := "BinDesk", name := "hopeful", desc := "(II)Z" } : Jvm.MethodName) prog_1_method_22_code (6 : Nat) (Option.some Jvm.ClassFile.FieldType.boolean)) ∈ lw_all := lw_g (lw_at lw_m1 153 rfl) rfl
theorem q177 : (Jvm.Cond.methodLink "BinDesk" (111 : Nat) ({ cls := "BinDesk", name := "firstBin", desc := "(III)I" } : Jvm.MethodName)) ∈ lw_all := lw_g (lw_at lw_m1 154 rfl) rfl
theorem q178 : (Jvm.Cond.privateMethod ({ cls := "BinDesk", name := "firstBin", desc := "(III)I" } : Jvm.MethodName)) ∈ lw_tbl := lw_at lw_m1 155 rfl
theorem q179 : (Jvm.Cond.instanceMethod ({ cls := "BinDesk", name := "firstBin", desc := "(III)I" } : Jvm.MethodName)) ∈ lw_all := lw_g (lw_at lw_m1 156 rfl) rfl
theorem q180 : (Jvm.Cond.code ({ cls := "BinDesk", name := "firstBin", desc := "(III)I" } : Jvm.MethodName) prog_1_method_24_code (5 : Nat) (Option.some Jvm.ClassFile.FieldType.int)) ∈ lw_all := lw_g (lw_at lw_m1 157 rfl) rfl
theorem q181 : (Jvm.Cond.methodLink "BinDesk" (114 : Nat) ({ cls := "BinDesk", name := "refill", desc := "(II)V" } : Jvm.MethodName)) ∈ lw_all := lw_g (lw_at lw_m1 158 rfl) rfl
theorem q182 : (Jvm.Cond.privateMethod ({ cls := "BinDesk", name := "refill", desc := "(II)V" } : Jvm.MethodName)) ∈ lw_tbl := lw_at lw_m1 159 rfl
theorem q183 : (Jvm.Cond.instanceMethod ({ cls := "BinDesk", name := "refill", desc := "(II)V" } : Jvm.MethodName)) ∈ lw_all := lw_g (lw_at lw_m1 160 rfl) rfl
theorem q184 : (Jvm.Cond.code ({ cls := "BinDesk", name := "refill", desc := "(II)V" } : Jvm.MethodName) prog_1_method_25_code (4 : Nat) (Option.none : Option Jvm.ClassFile.FieldType)) ∈ lw_all := lw_g (lw_at lw_m1 161 rfl) rfl
theorem q186 : (Jvm.Cond.instanceMethod ({ cls := "BinDesk", name := "binOf", desc := "(I)I" } : Jvm.MethodName)) ∈ lw_all := lw_g (lw_at lw_m1 163 rfl) rfl
theorem q187 : (Jvm.Cond.selects "BinDesk" ({ cls := "BinDesk", name := "binOf", desc := "(I)I" } : Jvm.MethodName) ({ cls := "BinDesk", name := "binOf", desc := "(I)I" } : Jvm.MethodName)) ∈ lw_all := lw_g (lw_at lw_m1 164 rfl) rfl
theorem q188 : (Jvm.Cond.code ({ cls := "BinDesk", name := "binOf", desc := "(I)I" } : Jvm.MethodName) prog_1_method_27_code (2 : Nat) (Option.some Jvm.ClassFile.FieldType.int)) ∈ lw_all := lw_g (lw_at lw_m1 165 rfl) rfl
theorem q190 : (Jvm.Cond.instanceMethod ({ cls := "BinDesk", name := "leastWithout", desc := "(I)I" } : Jvm.MethodName)) ∈ lw_all := lw_g (lw_at lw_m1 167 rfl) rfl
theorem q191 : (Jvm.Cond.selects "BinDesk" ({ cls := "BinDesk", name := "leastWithout", desc := "(I)I" } : Jvm.MethodName) ({ cls := "BinDesk", name := "leastWithout", desc := "(I)I" } : Jvm.MethodName)) ∈ lw_all := lw_g (lw_at lw_m1 168 rfl) rfl
theorem q192 : (Jvm.Cond.code ({ cls := "BinDesk", name := "leastWithout", desc := "(I)I" } : Jvm.MethodName) prog_1_method_28_code (2 : Nat) (Option.some Jvm.ClassFile.FieldType.int)) ∈ lw_all := lw_g (lw_at lw_m1 169 rfl) rfl
theorem q194 : (Jvm.Cond.instanceMethod ({ cls := "BinDesk", name := "spare", desc := "()I" } : Jvm.MethodName)) ∈ lw_all := lw_g (lw_at lw_m1 171 rfl) rfl
theorem q195 : (Jvm.Cond.selects "BinDesk" ({ cls := "BinDesk", name := "spare", desc := "()I" } : Jvm.MethodName) ({ cls := "BinDesk", name := "spare", desc := "()I" } : Jvm.MethodName)) ∈ lw_all := lw_g (lw_at lw_m1 172 rfl) rfl
theorem q196 : (Jvm.Cond.code ({ cls := "BinDesk", name := "spare", desc := "()I" } : Jvm.MethodName) prog_1_method_29_code (6 : Nat) (Option.some Jvm.ClassFile.FieldType.int)) ∈ lw_all := lw_g (lw_at lw_m1 173 rfl) rfl
theorem q197 : (Jvm.Cond.methodLink "BinDesk" (121 : Nat) ({ cls := "BinDesk", name := "least", desc := "()I" } : Jvm.MethodName)) ∈ lw_all := lw_g (lw_at lw_m1 174 rfl) rfl
theorem q199 : (Jvm.Cond.instanceMethod ({ cls := "BinDesk", name := "sizeFor", desc := "(I)I" } : Jvm.MethodName)) ∈ lw_all := lw_g (lw_at lw_m1 176 rfl) rfl
theorem q200 : (Jvm.Cond.selects "BinDesk" ({ cls := "BinDesk", name := "sizeFor", desc := "(I)I" } : Jvm.MethodName) ({ cls := "BinDesk", name := "sizeFor", desc := "(I)I" } : Jvm.MethodName)) ∈ lw_all := lw_g (lw_at lw_m1 177 rfl) rfl
theorem q201 : (Jvm.Cond.code ({ cls := "BinDesk", name := "sizeFor", desc := "(I)I" } : Jvm.MethodName) prog_1_method_30_code (6 : Nat) (Option.some Jvm.ClassFile.FieldType.int)) ∈ lw_all := lw_g (lw_at lw_m1 178 rfl) rfl
theorem q203 : (Jvm.Cond.instanceMethod ({ cls := "BinDesk", name := "together", desc := "(II)Z" } : Jvm.MethodName)) ∈ lw_all := lw_g (lw_at lw_m1 180 rfl) rfl
theorem q204 : (Jvm.Cond.selects "BinDesk" ({ cls := "BinDesk", name := "together", desc := "(II)Z" } : Jvm.MethodName) ({ cls := "BinDesk", name := "together", desc := "(II)Z" } : Jvm.MethodName)) ∈ lw_all := lw_g (lw_at lw_m1 181 rfl) rfl
theorem q205 : (Jvm.Cond.code ({ cls := "BinDesk", name := "together", desc := "(II)Z" } : Jvm.MethodName) prog_1_method_31_code (4 : Nat) (Option.some Jvm.ClassFile.FieldType.boolean)) ∈ lw_all := lw_g (lw_at lw_m1 182 rfl) rfl
theorem in_X1 : ∀ w ∈ wsX10, w ∈ lw_all := lw_in wsX10 [50, 52, 54, 56, 58, 60, 62, 64, 66, 68, 70, 72, 74, 76, 78, 80] (by decide +kernel) (by decide +kernel)
end
section
/-! BinDeskModel -/
set_option maxRecDepth 100000
def RX2 : String := "BinDeskModel"
def TX2 : u_T := fun k => match k with
  | 0 => ("BinDeskModel", "room", "I", false)
  | 1 => ("BinDeskModel", "sizes", "[I", false)
  | 2 => ("BinDeskModel", "n", "I", false)
  | 3 => ("BinDeskModel", "item", "[I", false)
  | _ => ("BinDeskModel", "bin", "[I", false)
def tyX2 : Nat → FieldType := fun k => match k with
  | 0 => .int
  | 1 => .array .int
  | 2 => .int
  | 3 => .array .int
  | _ => .array .int
abbrev wsX20 : List Cond := u_ws RX2 TX2 5
theorem nmX2 : ∀ a, a < 5 → ∀ b, b < 5 → a ≠ b → (TX2 a).2.1 ≠ (TX2 b).2.1 := by decide +kernel
theorem tyX2_ok : ∀ k, k < 5 → parseFieldDescriptor (TX2 k).2.2.1 = some (tyX2 k) := by decide +kernel
abbrev cX2_init : ByteArray := prog_3_method_1_code
def yX2_init : MethodName := ⟨RX2, "<init>", "(I)V"⟩
theorem dX2_init_0 : decode cX2_init 0 = .ok (.aload_n 0, 1) := by decide +kernel
theorem dX2_init_1 : decode cX2_init 1 = .ok (.invokespecial 1, 3) := by decide +kernel
theorem dX2_init_4 : decode cX2_init 4 = .ok (.aload_n 0, 1) := by decide +kernel
theorem dX2_init_5 : decode cX2_init 5 = .ok (.bipush 8, 2) := by decide +kernel
theorem dX2_init_7 : decode cX2_init 7 = .ok (.newarray .int, 2) := by decide +kernel
theorem dX2_init_9 : decode cX2_init 9 = .ok (.putfield 7, 3) := by decide +kernel
theorem dX2_init_12 : decode cX2_init 12 = .ok (.aload_n 0, 1) := by decide +kernel
theorem dX2_init_13 : decode cX2_init 13 = .ok (.bipush 8, 2) := by decide +kernel
theorem dX2_init_15 : decode cX2_init 15 = .ok (.newarray .int, 2) := by decide +kernel
theorem dX2_init_17 : decode cX2_init 17 = .ok (.putfield 13, 3) := by decide +kernel
theorem dX2_init_20 : decode cX2_init 20 = .ok (.aload_n 0, 1) := by decide +kernel
theorem dX2_init_21 : decode cX2_init 21 = .ok (.bipush 8, 2) := by decide +kernel
theorem dX2_init_23 : decode cX2_init 23 = .ok (.newarray .int, 2) := by decide +kernel
theorem dX2_init_25 : decode cX2_init 25 = .ok (.putfield 16, 3) := by decide +kernel
theorem dX2_init_28 : decode cX2_init 28 = .ok (.aload_n 0, 1) := by decide +kernel
theorem dX2_init_29 : decode cX2_init 29 = .ok (.iload_n 1, 1) := by decide +kernel
theorem dX2_init_30 : decode cX2_init 30 = .ok (.iconst 1, 1) := by decide +kernel
theorem dX2_init_31 : decode cX2_init 31 = .ok (.if_icmp .ge 7, 3) := by decide +kernel
theorem dX2_init_34 : decode cX2_init 34 = .ok (.iconst 1, 1) := by decide +kernel
theorem dX2_init_35 : decode cX2_init 35 = .ok (.goto 15, 3) := by decide +kernel
theorem dX2_init_38 : decode cX2_init 38 = .ok (.iload_n 1, 1) := by decide +kernel
theorem dX2_init_39 : decode cX2_init 39 = .ok (.bipush 60, 2) := by decide +kernel
theorem dX2_init_41 : decode cX2_init 41 = .ok (.if_icmp .le 8, 3) := by decide +kernel
theorem dX2_init_44 : decode cX2_init 44 = .ok (.bipush 60, 2) := by decide +kernel
theorem dX2_init_46 : decode cX2_init 46 = .ok (.goto 4, 3) := by decide +kernel
theorem dX2_init_49 : decode cX2_init 49 = .ok (.iload_n 1, 1) := by decide +kernel
theorem dX2_init_50 : decode cX2_init 50 = .ok (.putfield 19, 3) := by decide +kernel
theorem dX2_init_53 : decode cX2_init 53 = .ok (.return_, 1) := by decide +kernel
abbrev cX2_add : ByteArray := prog_3_method_3_code
def yX2_add : MethodName := ⟨RX2, "add", "(I)I"⟩
theorem dX2_add_0 : decode cX2_add 0 = .ok (.iload_n 1, 1) := by decide +kernel
theorem dX2_add_1 : decode cX2_add 1 = .ok (.iconst 1, 1) := by decide +kernel
theorem dX2_add_2 : decode cX2_add 2 = .ok (.if_icmp .lt 11, 3) := by decide +kernel
theorem dX2_add_5 : decode cX2_add 5 = .ok (.iload_n 1, 1) := by decide +kernel
theorem dX2_add_6 : decode cX2_add 6 = .ok (.aload_n 0, 1) := by decide +kernel
theorem dX2_add_7 : decode cX2_add 7 = .ok (.getfield 19, 3) := by decide +kernel
theorem dX2_add_10 : decode cX2_add 10 = .ok (.if_icmp .le 5, 3) := by decide +kernel
theorem dX2_add_13 : decode cX2_add 13 = .ok (.iconst (-1), 1) := by decide +kernel
theorem dX2_add_14 : decode cX2_add 14 = .ok (.ireturn, 1) := by decide +kernel
theorem dX2_add_15 : decode cX2_add 15 = .ok (.iconst 0, 1) := by decide +kernel
theorem dX2_add_16 : decode cX2_add 16 = .ok (.istore_n 2, 1) := by decide +kernel
theorem dX2_add_17 : decode cX2_add 17 = .ok (.iload_n 2, 1) := by decide +kernel
theorem dX2_add_18 : decode cX2_add 18 = .ok (.bipush 8, 2) := by decide +kernel
theorem dX2_add_20 : decode cX2_add 20 = .ok (.if_icmp .ge 27, 3) := by decide +kernel
theorem dX2_add_23 : decode cX2_add 23 = .ok (.aload_n 0, 1) := by decide +kernel
theorem dX2_add_24 : decode cX2_add 24 = .ok (.getfield 7, 3) := by decide +kernel
theorem dX2_add_27 : decode cX2_add 27 = .ok (.iload_n 2, 1) := by decide +kernel
theorem dX2_add_28 : decode cX2_add 28 = .ok (.iaload, 1) := by decide +kernel
theorem dX2_add_29 : decode cX2_add 29 = .ok (.ifCond .ne 12, 3) := by decide +kernel
theorem dX2_add_32 : decode cX2_add 32 = .ok (.aload_n 0, 1) := by decide +kernel
theorem dX2_add_33 : decode cX2_add 33 = .ok (.getfield 7, 3) := by decide +kernel
theorem dX2_add_36 : decode cX2_add 36 = .ok (.iload_n 2, 1) := by decide +kernel
theorem dX2_add_37 : decode cX2_add 37 = .ok (.iload_n 1, 1) := by decide +kernel
theorem dX2_add_38 : decode cX2_add 38 = .ok (.iastore, 1) := by decide +kernel
theorem dX2_add_39 : decode cX2_add 39 = .ok (.iload_n 2, 1) := by decide +kernel
theorem dX2_add_40 : decode cX2_add 40 = .ok (.ireturn, 1) := by decide +kernel
theorem dX2_add_41 : decode cX2_add 41 = .ok (.iinc 2 1, 3) := by decide +kernel
theorem dX2_add_44 : decode cX2_add 44 = .ok (.goto (-27), 3) := by decide +kernel
theorem dX2_add_47 : decode cX2_add 47 = .ok (.bipush (-2), 2) := by decide +kernel
theorem dX2_add_49 : decode cX2_add 49 = .ok (.ireturn, 1) := by decide +kernel
abbrev cX2_remove : ByteArray := prog_3_method_4_code
def yX2_remove : MethodName := ⟨RX2, "remove", "(I)Z"⟩
theorem dX2_remove_0 : decode cX2_remove 0 = .ok (.aload_n 0, 1) := by decide +kernel
theorem dX2_remove_1 : decode cX2_remove 1 = .ok (.iload_n 1, 1) := by decide +kernel
theorem dX2_remove_2 : decode cX2_remove 2 = .ok (.invokevirtual 23, 3) := by decide +kernel
theorem dX2_remove_5 : decode cX2_remove 5 = .ok (.ifCond .ne 5, 3) := by decide +kernel
theorem dX2_remove_8 : decode cX2_remove 8 = .ok (.iconst 0, 1) := by decide +kernel
theorem dX2_remove_9 : decode cX2_remove 9 = .ok (.ireturn, 1) := by decide +kernel
theorem dX2_remove_10 : decode cX2_remove 10 = .ok (.aload_n 0, 1) := by decide +kernel
theorem dX2_remove_11 : decode cX2_remove 11 = .ok (.getfield 7, 3) := by decide +kernel
theorem dX2_remove_14 : decode cX2_remove 14 = .ok (.iload_n 1, 1) := by decide +kernel
theorem dX2_remove_15 : decode cX2_remove 15 = .ok (.iconst 0, 1) := by decide +kernel
theorem dX2_remove_16 : decode cX2_remove 16 = .ok (.iastore, 1) := by decide +kernel
theorem dX2_remove_17 : decode cX2_remove 17 = .ok (.iconst 1, 1) := by decide +kernel
theorem dX2_remove_18 : decode cX2_remove 18 = .ok (.ireturn, 1) := by decide +kernel
abbrev cX2_is : ByteArray := prog_3_method_2_code
def yX2_is : MethodName := ⟨RX2, "is", "(I)Z"⟩
theorem dX2_is_0 : decode cX2_is 0 = .ok (.iload_n 1, 1) := by decide +kernel
theorem dX2_is_1 : decode cX2_is 1 = .ok (.ifCond .lt 22, 3) := by decide +kernel
theorem dX2_is_4 : decode cX2_is 4 = .ok (.iload_n 1, 1) := by decide +kernel
theorem dX2_is_5 : decode cX2_is 5 = .ok (.bipush 8, 2) := by decide +kernel
theorem dX2_is_7 : decode cX2_is 7 = .ok (.if_icmp .ge 16, 3) := by decide +kernel
theorem dX2_is_10 : decode cX2_is 10 = .ok (.aload_n 0, 1) := by decide +kernel
theorem dX2_is_11 : decode cX2_is 11 = .ok (.getfield 7, 3) := by decide +kernel
theorem dX2_is_14 : decode cX2_is 14 = .ok (.iload_n 1, 1) := by decide +kernel
theorem dX2_is_15 : decode cX2_is 15 = .ok (.iaload, 1) := by decide +kernel
theorem dX2_is_16 : decode cX2_is 16 = .ok (.ifCond .le 7, 3) := by decide +kernel
theorem dX2_is_19 : decode cX2_is 19 = .ok (.iconst 1, 1) := by decide +kernel
theorem dX2_is_20 : decode cX2_is 20 = .ok (.goto 4, 3) := by decide +kernel
theorem dX2_is_23 : decode cX2_is 23 = .ok (.iconst 0, 1) := by decide +kernel
theorem dX2_is_24 : decode cX2_is 24 = .ok (.ireturn, 1) := by decide +kernel
abbrev cX2_resize : ByteArray := prog_3_method_5_code
def yX2_resize : MethodName := ⟨RX2, "resize", "(II)Z"⟩
theorem dX2_resize_0 : decode cX2_resize 0 = .ok (.aload_n 0, 1) := by decide +kernel
theorem dX2_resize_1 : decode cX2_resize 1 = .ok (.iload_n 1, 1) := by decide +kernel
theorem dX2_resize_2 : decode cX2_resize 2 = .ok (.invokevirtual 23, 3) := by decide +kernel
theorem dX2_resize_5 : decode cX2_resize 5 = .ok (.ifCond .eq 16, 3) := by decide +kernel
theorem dX2_resize_8 : decode cX2_resize 8 = .ok (.iload_n 2, 1) := by decide +kernel
theorem dX2_resize_9 : decode cX2_resize 9 = .ok (.iconst 1, 1) := by decide +kernel
theorem dX2_resize_10 : decode cX2_resize 10 = .ok (.if_icmp .lt 11, 3) := by decide +kernel
theorem dX2_resize_13 : decode cX2_resize 13 = .ok (.iload_n 2, 1) := by decide +kernel
theorem dX2_resize_14 : decode cX2_resize 14 = .ok (.aload_n 0, 1) := by decide +kernel
theorem dX2_resize_15 : decode cX2_resize 15 = .ok (.getfield 19, 3) := by decide +kernel
theorem dX2_resize_18 : decode cX2_resize 18 = .ok (.if_icmp .le 5, 3) := by decide +kernel
theorem dX2_resize_21 : decode cX2_resize 21 = .ok (.iconst 0, 1) := by decide +kernel
theorem dX2_resize_22 : decode cX2_resize 22 = .ok (.ireturn, 1) := by decide +kernel
theorem dX2_resize_23 : decode cX2_resize 23 = .ok (.aload_n 0, 1) := by decide +kernel
theorem dX2_resize_24 : decode cX2_resize 24 = .ok (.getfield 7, 3) := by decide +kernel
theorem dX2_resize_27 : decode cX2_resize 27 = .ok (.iload_n 1, 1) := by decide +kernel
theorem dX2_resize_28 : decode cX2_resize 28 = .ok (.iload_n 2, 1) := by decide +kernel
theorem dX2_resize_29 : decode cX2_resize 29 = .ok (.iastore, 1) := by decide +kernel
theorem dX2_resize_30 : decode cX2_resize 30 = .ok (.iconst 1, 1) := by decide +kernel
theorem dX2_resize_31 : decode cX2_resize 31 = .ok (.ireturn, 1) := by decide +kernel
abbrev cX2_setSize : ByteArray := prog_3_method_6_code
def yX2_setSize : MethodName := ⟨RX2, "setSize", "(I)Z"⟩
theorem dX2_setSize_0 : decode cX2_setSize 0 = .ok (.iload_n 1, 1) := by decide +kernel
theorem dX2_setSize_1 : decode cX2_setSize 1 = .ok (.iconst 1, 1) := by decide +kernel
theorem dX2_setSize_2 : decode cX2_setSize 2 = .ok (.if_icmp .lt 9, 3) := by decide +kernel
theorem dX2_setSize_5 : decode cX2_setSize 5 = .ok (.iload_n 1, 1) := by decide +kernel
theorem dX2_setSize_6 : decode cX2_setSize 6 = .ok (.bipush 60, 2) := by decide +kernel
theorem dX2_setSize_8 : decode cX2_setSize 8 = .ok (.if_icmp .le 5, 3) := by decide +kernel
theorem dX2_setSize_11 : decode cX2_setSize 11 = .ok (.iconst 0, 1) := by decide +kernel
theorem dX2_setSize_12 : decode cX2_setSize 12 = .ok (.ireturn, 1) := by decide +kernel
theorem dX2_setSize_13 : decode cX2_setSize 13 = .ok (.iconst 0, 1) := by decide +kernel
theorem dX2_setSize_14 : decode cX2_setSize 14 = .ok (.istore_n 2, 1) := by decide +kernel
theorem dX2_setSize_15 : decode cX2_setSize 15 = .ok (.iload_n 2, 1) := by decide +kernel
theorem dX2_setSize_16 : decode cX2_setSize 16 = .ok (.bipush 8, 2) := by decide +kernel
theorem dX2_setSize_18 : decode cX2_setSize 18 = .ok (.if_icmp .ge 21, 3) := by decide +kernel
theorem dX2_setSize_21 : decode cX2_setSize 21 = .ok (.aload_n 0, 1) := by decide +kernel
theorem dX2_setSize_22 : decode cX2_setSize 22 = .ok (.getfield 7, 3) := by decide +kernel
theorem dX2_setSize_25 : decode cX2_setSize 25 = .ok (.iload_n 2, 1) := by decide +kernel
theorem dX2_setSize_26 : decode cX2_setSize 26 = .ok (.iaload, 1) := by decide +kernel
theorem dX2_setSize_27 : decode cX2_setSize 27 = .ok (.iload_n 1, 1) := by decide +kernel
theorem dX2_setSize_28 : decode cX2_setSize 28 = .ok (.if_icmp .le 5, 3) := by decide +kernel
theorem dX2_setSize_31 : decode cX2_setSize 31 = .ok (.iconst 0, 1) := by decide +kernel
theorem dX2_setSize_32 : decode cX2_setSize 32 = .ok (.ireturn, 1) := by decide +kernel
theorem dX2_setSize_33 : decode cX2_setSize 33 = .ok (.iinc 2 1, 3) := by decide +kernel
theorem dX2_setSize_36 : decode cX2_setSize 36 = .ok (.goto (-21), 3) := by decide +kernel
theorem dX2_setSize_39 : decode cX2_setSize 39 = .ok (.aload_n 0, 1) := by decide +kernel
theorem dX2_setSize_40 : decode cX2_setSize 40 = .ok (.iload_n 1, 1) := by decide +kernel
theorem dX2_setSize_41 : decode cX2_setSize 41 = .ok (.putfield 19, 3) := by decide +kernel
theorem dX2_setSize_44 : decode cX2_setSize 44 = .ok (.iconst 1, 1) := by decide +kernel
theorem dX2_setSize_45 : decode cX2_setSize 45 = .ok (.ireturn, 1) := by decide +kernel
abbrev cX2_size : ByteArray := prog_3_method_7_code
def yX2_size : MethodName := ⟨RX2, "size", "()I"⟩
theorem dX2_size_0 : decode cX2_size 0 = .ok (.aload_n 0, 1) := by decide +kernel
theorem dX2_size_1 : decode cX2_size 1 = .ok (.getfield 19, 3) := by decide +kernel
theorem dX2_size_4 : decode cX2_size 4 = .ok (.ireturn, 1) := by decide +kernel
abbrev cX2_items : ByteArray := prog_3_method_8_code
def yX2_items : MethodName := ⟨RX2, "items", "()I"⟩
theorem dX2_items_0 : decode cX2_items 0 = .ok (.iconst 0, 1) := by decide +kernel
theorem dX2_items_1 : decode cX2_items 1 = .ok (.istore_n 1, 1) := by decide +kernel
theorem dX2_items_2 : decode cX2_items 2 = .ok (.iconst 0, 1) := by decide +kernel
theorem dX2_items_3 : decode cX2_items 3 = .ok (.istore_n 2, 1) := by decide +kernel
theorem dX2_items_4 : decode cX2_items 4 = .ok (.iload_n 2, 1) := by decide +kernel
theorem dX2_items_5 : decode cX2_items 5 = .ok (.bipush 8, 2) := by decide +kernel
theorem dX2_items_7 : decode cX2_items 7 = .ok (.if_icmp .ge 27, 3) := by decide +kernel
theorem dX2_items_10 : decode cX2_items 10 = .ok (.iload_n 1, 1) := by decide +kernel
theorem dX2_items_11 : decode cX2_items 11 = .ok (.aload_n 0, 1) := by decide +kernel
theorem dX2_items_12 : decode cX2_items 12 = .ok (.iload_n 2, 1) := by decide +kernel
theorem dX2_items_13 : decode cX2_items 13 = .ok (.invokevirtual 23, 3) := by decide +kernel
theorem dX2_items_16 : decode cX2_items 16 = .ok (.ifCond .eq 9, 3) := by decide +kernel
theorem dX2_items_19 : decode cX2_items 19 = .ok (.iconst 1, 1) := by decide +kernel
theorem dX2_items_20 : decode cX2_items 20 = .ok (.iload_n 2, 1) := by decide +kernel
theorem dX2_items_21 : decode cX2_items 21 = .ok (.ishl, 1) := by decide +kernel
theorem dX2_items_22 : decode cX2_items 22 = .ok (.goto 4, 3) := by decide +kernel
theorem dX2_items_25 : decode cX2_items 25 = .ok (.iconst 0, 1) := by decide +kernel
theorem dX2_items_26 : decode cX2_items 26 = .ok (.ior, 1) := by decide +kernel
theorem dX2_items_27 : decode cX2_items 27 = .ok (.istore_n 1, 1) := by decide +kernel
theorem dX2_items_28 : decode cX2_items 28 = .ok (.iinc 2 1, 3) := by decide +kernel
theorem dX2_items_31 : decode cX2_items 31 = .ok (.goto (-27), 3) := by decide +kernel
theorem dX2_items_34 : decode cX2_items 34 = .ok (.iload_n 1, 1) := by decide +kernel
theorem dX2_items_35 : decode cX2_items 35 = .ok (.ireturn, 1) := by decide +kernel
abbrev cX2_sizeOf : ByteArray := prog_3_method_9_code
def yX2_sizeOf : MethodName := ⟨RX2, "sizeOf", "(I)I"⟩
theorem dX2_sizeOf_0 : decode cX2_sizeOf 0 = .ok (.aload_n 0, 1) := by decide +kernel
theorem dX2_sizeOf_1 : decode cX2_sizeOf 1 = .ok (.iload_n 1, 1) := by decide +kernel
theorem dX2_sizeOf_2 : decode cX2_sizeOf 2 = .ok (.invokevirtual 23, 3) := by decide +kernel
theorem dX2_sizeOf_5 : decode cX2_sizeOf 5 = .ok (.ifCond .eq 12, 3) := by decide +kernel
theorem dX2_sizeOf_8 : decode cX2_sizeOf 8 = .ok (.aload_n 0, 1) := by decide +kernel
theorem dX2_sizeOf_9 : decode cX2_sizeOf 9 = .ok (.getfield 7, 3) := by decide +kernel
theorem dX2_sizeOf_12 : decode cX2_sizeOf 12 = .ok (.iload_n 1, 1) := by decide +kernel
theorem dX2_sizeOf_13 : decode cX2_sizeOf 13 = .ok (.iaload, 1) := by decide +kernel
theorem dX2_sizeOf_14 : decode cX2_sizeOf 14 = .ok (.goto 4, 3) := by decide +kernel
theorem dX2_sizeOf_17 : decode cX2_sizeOf 17 = .ok (.iconst (-1), 1) := by decide +kernel
theorem dX2_sizeOf_18 : decode cX2_sizeOf 18 = .ok (.ireturn, 1) := by decide +kernel
abbrev cX2_least : ByteArray := prog_3_method_15_code
def yX2_least : MethodName := ⟨RX2, "least", "()I"⟩
theorem dX2_least_0 : decode cX2_least 0 = .ok (.aload_n 0, 1) := by decide +kernel
theorem dX2_least_1 : decode cX2_least 1 = .ok (.invokevirtual 37, 3) := by decide +kernel
theorem dX2_least_4 : decode cX2_least 4 = .ok (.aload_n 0, 1) := by decide +kernel
theorem dX2_least_5 : decode cX2_least 5 = .ok (.getfield 27, 3) := by decide +kernel
theorem dX2_least_8 : decode cX2_least 8 = .ok (.ifCond .ne 7, 3) := by decide +kernel
theorem dX2_least_11 : decode cX2_least 11 = .ok (.iconst 0, 1) := by decide +kernel
theorem dX2_least_12 : decode cX2_least 12 = .ok (.goto 5, 3) := by decide +kernel
theorem dX2_least_15 : decode cX2_least 15 = .ok (.bipush 9, 2) := by decide +kernel
theorem dX2_least_17 : decode cX2_least 17 = .ok (.istore_n 1, 1) := by decide +kernel
theorem dX2_least_18 : decode cX2_least 18 = .ok (.aload_n 0, 1) := by decide +kernel
theorem dX2_least_19 : decode cX2_least 19 = .ok (.getfield 27, 3) := by decide +kernel
theorem dX2_least_22 : decode cX2_least 22 = .ok (.ifCond .le 7, 3) := by decide +kernel
theorem dX2_least_25 : decode cX2_least 25 = .ok (.iconst 1, 1) := by decide +kernel
theorem dX2_least_26 : decode cX2_least 26 = .ok (.goto 4, 3) := by decide +kernel
theorem dX2_least_29 : decode cX2_least 29 = .ok (.iconst 0, 1) := by decide +kernel
theorem dX2_least_30 : decode cX2_least 30 = .ok (.istore_n 2, 1) := by decide +kernel
theorem dX2_least_31 : decode cX2_least 31 = .ok (.iconst 0, 1) := by decide +kernel
theorem dX2_least_32 : decode cX2_least 32 = .ok (.istore_n 3, 1) := by decide +kernel
theorem dX2_least_33 : decode cX2_least 33 = .ok (.iload_n 3, 1) := by decide +kernel
theorem dX2_least_34 : decode cX2_least 34 = .ok (.sipush 4140, 3) := by decide +kernel
theorem dX2_least_37 : decode cX2_least 37 = .ok (.if_icmp .ge 51, 3) := by decide +kernel
theorem dX2_least_40 : decode cX2_least 40 = .ok (.iload_n 2, 1) := by decide +kernel
theorem dX2_least_41 : decode cX2_least 41 = .ok (.ifCond .eq 47, 3) := by decide +kernel
theorem dX2_least_44 : decode cX2_least 44 = .ok (.aload_n 0, 1) := by decide +kernel
theorem dX2_least_45 : decode cX2_least 45 = .ok (.aload_n 0, 1) := by decide +kernel
theorem dX2_least_46 : decode cX2_least 46 = .ok (.getfield 27, 3) := by decide +kernel
theorem dX2_least_49 : decode cX2_least 49 = .ok (.invokevirtual 30, 3) := by decide +kernel
theorem dX2_least_52 : decode cX2_least 52 = .ok (.iconst 1, 1) := by decide +kernel
theorem dX2_least_53 : decode cX2_least 53 = .ok (.iadd, 1) := by decide +kernel
theorem dX2_least_54 : decode cX2_least 54 = .ok (.istore 4, 2) := by decide +kernel
theorem dX2_least_56 : decode cX2_least 56 = .ok (.iload 4, 2) := by decide +kernel
theorem dX2_least_58 : decode cX2_least 58 = .ok (.iload_n 1, 1) := by decide +kernel
theorem dX2_least_59 : decode cX2_least 59 = .ok (.if_icmp .ge 18, 3) := by decide +kernel
theorem dX2_least_62 : decode cX2_least 62 = .ok (.aload_n 0, 1) := by decide +kernel
theorem dX2_least_63 : decode cX2_least 63 = .ok (.iconst 1, 1) := by decide +kernel
theorem dX2_least_64 : decode cX2_least 64 = .ok (.invokevirtual 40, 3) := by decide +kernel
theorem dX2_least_67 : decode cX2_least 67 = .ok (.aload_n 0, 1) := by decide +kernel
theorem dX2_least_68 : decode cX2_least 68 = .ok (.getfield 19, 3) := by decide +kernel
theorem dX2_least_71 : decode cX2_least 71 = .ok (.if_icmp .gt 6, 3) := by decide +kernel
theorem dX2_least_74 : decode cX2_least 74 = .ok (.iload 4, 2) := by decide +kernel
theorem dX2_least_76 : decode cX2_least 76 = .ok (.istore_n 1, 1) := by decide +kernel
theorem dX2_least_77 : decode cX2_least 77 = .ok (.aload_n 0, 1) := by decide +kernel
theorem dX2_least_78 : decode cX2_least 78 = .ok (.invokevirtual 44, 3) := by decide +kernel
theorem dX2_least_81 : decode cX2_least 81 = .ok (.istore_n 2, 1) := by decide +kernel
theorem dX2_least_82 : decode cX2_least 82 = .ok (.iinc 3 1, 3) := by decide +kernel
theorem dX2_least_85 : decode cX2_least 85 = .ok (.goto (-52), 3) := by decide +kernel
theorem dX2_least_88 : decode cX2_least 88 = .ok (.iload_n 1, 1) := by decide +kernel
theorem dX2_least_89 : decode cX2_least 89 = .ok (.ireturn, 1) := by decide +kernel
abbrev cX2_first : ByteArray := prog_3_method_10_code
def yX2_first : MethodName := ⟨RX2, "first", "()V"⟩
theorem dX2_first_0 : decode cX2_first 0 = .ok (.aload_n 0, 1) := by decide +kernel
theorem dX2_first_1 : decode cX2_first 1 = .ok (.iconst 0, 1) := by decide +kernel
theorem dX2_first_2 : decode cX2_first 2 = .ok (.putfield 27, 3) := by decide +kernel
theorem dX2_first_5 : decode cX2_first 5 = .ok (.iconst 0, 1) := by decide +kernel
theorem dX2_first_6 : decode cX2_first 6 = .ok (.istore_n 1, 1) := by decide +kernel
theorem dX2_first_7 : decode cX2_first 7 = .ok (.iload_n 1, 1) := by decide +kernel
theorem dX2_first_8 : decode cX2_first 8 = .ok (.bipush 8, 2) := by decide +kernel
theorem dX2_first_10 : decode cX2_first 10 = .ok (.if_icmp .ge 44, 3) := by decide +kernel
theorem dX2_first_13 : decode cX2_first 13 = .ok (.aload_n 0, 1) := by decide +kernel
theorem dX2_first_14 : decode cX2_first 14 = .ok (.getfield 16, 3) := by decide +kernel
theorem dX2_first_17 : decode cX2_first 17 = .ok (.iload_n 1, 1) := by decide +kernel
theorem dX2_first_18 : decode cX2_first 18 = .ok (.iconst 0, 1) := by decide +kernel
theorem dX2_first_19 : decode cX2_first 19 = .ok (.iastore, 1) := by decide +kernel
theorem dX2_first_20 : decode cX2_first 20 = .ok (.aload_n 0, 1) := by decide +kernel
theorem dX2_first_21 : decode cX2_first 21 = .ok (.iload_n 1, 1) := by decide +kernel
theorem dX2_first_22 : decode cX2_first 22 = .ok (.invokevirtual 23, 3) := by decide +kernel
theorem dX2_first_25 : decode cX2_first 25 = .ok (.ifCond .eq 23, 3) := by decide +kernel
theorem dX2_first_28 : decode cX2_first 28 = .ok (.aload_n 0, 1) := by decide +kernel
theorem dX2_first_29 : decode cX2_first 29 = .ok (.getfield 13, 3) := by decide +kernel
theorem dX2_first_32 : decode cX2_first 32 = .ok (.aload_n 0, 1) := by decide +kernel
theorem dX2_first_33 : decode cX2_first 33 = .ok (.getfield 27, 3) := by decide +kernel
theorem dX2_first_36 : decode cX2_first 36 = .ok (.iload_n 1, 1) := by decide +kernel
theorem dX2_first_37 : decode cX2_first 37 = .ok (.iastore, 1) := by decide +kernel
theorem dX2_first_38 : decode cX2_first 38 = .ok (.aload_n 0, 1) := by decide +kernel
theorem dX2_first_39 : decode cX2_first 39 = .ok (.dup, 1) := by decide +kernel
theorem dX2_first_40 : decode cX2_first 40 = .ok (.getfield 27, 3) := by decide +kernel
theorem dX2_first_43 : decode cX2_first 43 = .ok (.iconst 1, 1) := by decide +kernel
theorem dX2_first_44 : decode cX2_first 44 = .ok (.iadd, 1) := by decide +kernel
theorem dX2_first_45 : decode cX2_first 45 = .ok (.putfield 27, 3) := by decide +kernel
theorem dX2_first_48 : decode cX2_first 48 = .ok (.iinc 1 1, 3) := by decide +kernel
theorem dX2_first_51 : decode cX2_first 51 = .ok (.goto (-44), 3) := by decide +kernel
theorem dX2_first_54 : decode cX2_first 54 = .ok (.return_, 1) := by decide +kernel
abbrev cX2_greatest : ByteArray := prog_3_method_11_code
def yX2_greatest : MethodName := ⟨RX2, "greatest", "(I)I"⟩
theorem dX2_greatest_0 : decode cX2_greatest 0 = .ok (.iconst (-1), 1) := by decide +kernel
theorem dX2_greatest_1 : decode cX2_greatest 1 = .ok (.istore_n 2, 1) := by decide +kernel
theorem dX2_greatest_2 : decode cX2_greatest 2 = .ok (.iconst 0, 1) := by decide +kernel
theorem dX2_greatest_3 : decode cX2_greatest 3 = .ok (.istore_n 3, 1) := by decide +kernel
theorem dX2_greatest_4 : decode cX2_greatest 4 = .ok (.iload_n 3, 1) := by decide +kernel
theorem dX2_greatest_5 : decode cX2_greatest 5 = .ok (.iload_n 1, 1) := by decide +kernel
theorem dX2_greatest_6 : decode cX2_greatest 6 = .ok (.if_icmp .ge 30, 3) := by decide +kernel
theorem dX2_greatest_9 : decode cX2_greatest 9 = .ok (.aload_n 0, 1) := by decide +kernel
theorem dX2_greatest_10 : decode cX2_greatest 10 = .ok (.getfield 16, 3) := by decide +kernel
theorem dX2_greatest_13 : decode cX2_greatest 13 = .ok (.iload_n 3, 1) := by decide +kernel
theorem dX2_greatest_14 : decode cX2_greatest 14 = .ok (.iaload, 1) := by decide +kernel
theorem dX2_greatest_15 : decode cX2_greatest 15 = .ok (.iload_n 2, 1) := by decide +kernel
theorem dX2_greatest_16 : decode cX2_greatest 16 = .ok (.if_icmp .le 12, 3) := by decide +kernel
theorem dX2_greatest_19 : decode cX2_greatest 19 = .ok (.aload_n 0, 1) := by decide +kernel
theorem dX2_greatest_20 : decode cX2_greatest 20 = .ok (.getfield 16, 3) := by decide +kernel
theorem dX2_greatest_23 : decode cX2_greatest 23 = .ok (.iload_n 3, 1) := by decide +kernel
theorem dX2_greatest_24 : decode cX2_greatest 24 = .ok (.iaload, 1) := by decide +kernel
theorem dX2_greatest_25 : decode cX2_greatest 25 = .ok (.goto 4, 3) := by decide +kernel
theorem dX2_greatest_28 : decode cX2_greatest 28 = .ok (.iload_n 2, 1) := by decide +kernel
theorem dX2_greatest_29 : decode cX2_greatest 29 = .ok (.istore_n 2, 1) := by decide +kernel
theorem dX2_greatest_30 : decode cX2_greatest 30 = .ok (.iinc 3 1, 3) := by decide +kernel
theorem dX2_greatest_33 : decode cX2_greatest 33 = .ok (.goto (-29), 3) := by decide +kernel
theorem dX2_greatest_36 : decode cX2_greatest 36 = .ok (.iload_n 2, 1) := by decide +kernel
theorem dX2_greatest_37 : decode cX2_greatest 37 = .ok (.ireturn, 1) := by decide +kernel
abbrev cX2_extreme : ByteArray := prog_3_method_14_code
def yX2_extreme : MethodName := ⟨RX2, "extreme", "(Z)I"⟩
theorem dX2_extreme_0 : decode cX2_extreme 0 = .ok (.aload_n 0, 1) := by decide +kernel
theorem dX2_extreme_1 : decode cX2_extreme 1 = .ok (.iconst 0, 1) := by decide +kernel
theorem dX2_extreme_2 : decode cX2_extreme 2 = .ok (.invokevirtual 34, 3) := by decide +kernel
theorem dX2_extreme_5 : decode cX2_extreme 5 = .ok (.istore_n 2, 1) := by decide +kernel
theorem dX2_extreme_6 : decode cX2_extreme 6 = .ok (.aload_n 0, 1) := by decide +kernel
theorem dX2_extreme_7 : decode cX2_extreme 7 = .ok (.aload_n 0, 1) := by decide +kernel
theorem dX2_extreme_8 : decode cX2_extreme 8 = .ok (.getfield 27, 3) := by decide +kernel
theorem dX2_extreme_11 : decode cX2_extreme 11 = .ok (.invokevirtual 30, 3) := by decide +kernel
theorem dX2_extreme_14 : decode cX2_extreme 14 = .ok (.istore_n 3, 1) := by decide +kernel
theorem dX2_extreme_15 : decode cX2_extreme 15 = .ok (.iconst 1, 1) := by decide +kernel
theorem dX2_extreme_16 : decode cX2_extreme 16 = .ok (.istore 4, 2) := by decide +kernel
theorem dX2_extreme_18 : decode cX2_extreme 18 = .ok (.iload 4, 2) := by decide +kernel
theorem dX2_extreme_20 : decode cX2_extreme 20 = .ok (.iload_n 3, 1) := by decide +kernel
theorem dX2_extreme_21 : decode cX2_extreme 21 = .ok (.if_icmp .gt 49, 3) := by decide +kernel
theorem dX2_extreme_24 : decode cX2_extreme 24 = .ok (.aload_n 0, 1) := by decide +kernel
theorem dX2_extreme_25 : decode cX2_extreme 25 = .ok (.iload 4, 2) := by decide +kernel
theorem dX2_extreme_27 : decode cX2_extreme 27 = .ok (.invokevirtual 34, 3) := by decide +kernel
theorem dX2_extreme_30 : decode cX2_extreme 30 = .ok (.istore 5, 2) := by decide +kernel
theorem dX2_extreme_32 : decode cX2_extreme 32 = .ok (.iload_n 1, 1) := by decide +kernel
theorem dX2_extreme_33 : decode cX2_extreme 33 = .ok (.ifCond .eq 18, 3) := by decide +kernel
theorem dX2_extreme_36 : decode cX2_extreme 36 = .ok (.iload 5, 2) := by decide +kernel
theorem dX2_extreme_38 : decode cX2_extreme 38 = .ok (.iload_n 2, 1) := by decide +kernel
theorem dX2_extreme_39 : decode cX2_extreme 39 = .ok (.if_icmp .le 8, 3) := by decide +kernel
theorem dX2_extreme_42 : decode cX2_extreme 42 = .ok (.iload 5, 2) := by decide +kernel
theorem dX2_extreme_44 : decode cX2_extreme 44 = .ok (.goto 19, 3) := by decide +kernel
theorem dX2_extreme_47 : decode cX2_extreme 47 = .ok (.iload_n 2, 1) := by decide +kernel
theorem dX2_extreme_48 : decode cX2_extreme 48 = .ok (.goto 15, 3) := by decide +kernel
theorem dX2_extreme_51 : decode cX2_extreme 51 = .ok (.iload 5, 2) := by decide +kernel
theorem dX2_extreme_53 : decode cX2_extreme 53 = .ok (.iload_n 2, 1) := by decide +kernel
theorem dX2_extreme_54 : decode cX2_extreme 54 = .ok (.if_icmp .ge 8, 3) := by decide +kernel
theorem dX2_extreme_57 : decode cX2_extreme 57 = .ok (.iload 5, 2) := by decide +kernel
theorem dX2_extreme_59 : decode cX2_extreme 59 = .ok (.goto 4, 3) := by decide +kernel
theorem dX2_extreme_62 : decode cX2_extreme 62 = .ok (.iload_n 2, 1) := by decide +kernel
theorem dX2_extreme_63 : decode cX2_extreme 63 = .ok (.istore_n 2, 1) := by decide +kernel
theorem dX2_extreme_64 : decode cX2_extreme 64 = .ok (.iinc 4 1, 3) := by decide +kernel
theorem dX2_extreme_67 : decode cX2_extreme 67 = .ok (.goto (-49), 3) := by decide +kernel
theorem dX2_extreme_70 : decode cX2_extreme 70 = .ok (.iload_n 2, 1) := by decide +kernel
theorem dX2_extreme_71 : decode cX2_extreme 71 = .ok (.ireturn, 1) := by decide +kernel
abbrev cX2_load : ByteArray := prog_3_method_13_code
def yX2_load : MethodName := ⟨RX2, "load", "(I)I"⟩
theorem dX2_load_0 : decode cX2_load 0 = .ok (.iconst 0, 1) := by decide +kernel
theorem dX2_load_1 : decode cX2_load 1 = .ok (.istore_n 2, 1) := by decide +kernel
theorem dX2_load_2 : decode cX2_load 2 = .ok (.iconst 0, 1) := by decide +kernel
theorem dX2_load_3 : decode cX2_load 3 = .ok (.istore_n 3, 1) := by decide +kernel
theorem dX2_load_4 : decode cX2_load 4 = .ok (.iload_n 3, 1) := by decide +kernel
theorem dX2_load_5 : decode cX2_load 5 = .ok (.aload_n 0, 1) := by decide +kernel
theorem dX2_load_6 : decode cX2_load 6 = .ok (.getfield 27, 3) := by decide +kernel
theorem dX2_load_9 : decode cX2_load 9 = .ok (.if_icmp .ge 37, 3) := by decide +kernel
theorem dX2_load_12 : decode cX2_load 12 = .ok (.aload_n 0, 1) := by decide +kernel
theorem dX2_load_13 : decode cX2_load 13 = .ok (.getfield 16, 3) := by decide +kernel
theorem dX2_load_16 : decode cX2_load 16 = .ok (.iload_n 3, 1) := by decide +kernel
theorem dX2_load_17 : decode cX2_load 17 = .ok (.iaload, 1) := by decide +kernel
theorem dX2_load_18 : decode cX2_load 18 = .ok (.iload_n 1, 1) := by decide +kernel
theorem dX2_load_19 : decode cX2_load 19 = .ok (.if_icmp .ne 19, 3) := by decide +kernel
theorem dX2_load_22 : decode cX2_load 22 = .ok (.iload_n 2, 1) := by decide +kernel
theorem dX2_load_23 : decode cX2_load 23 = .ok (.aload_n 0, 1) := by decide +kernel
theorem dX2_load_24 : decode cX2_load 24 = .ok (.getfield 7, 3) := by decide +kernel
theorem dX2_load_27 : decode cX2_load 27 = .ok (.aload_n 0, 1) := by decide +kernel
theorem dX2_load_28 : decode cX2_load 28 = .ok (.getfield 13, 3) := by decide +kernel
theorem dX2_load_31 : decode cX2_load 31 = .ok (.iload_n 3, 1) := by decide +kernel
theorem dX2_load_32 : decode cX2_load 32 = .ok (.iaload, 1) := by decide +kernel
theorem dX2_load_33 : decode cX2_load 33 = .ok (.iaload, 1) := by decide +kernel
theorem dX2_load_34 : decode cX2_load 34 = .ok (.iadd, 1) := by decide +kernel
theorem dX2_load_35 : decode cX2_load 35 = .ok (.goto 4, 3) := by decide +kernel
theorem dX2_load_38 : decode cX2_load 38 = .ok (.iload_n 2, 1) := by decide +kernel
theorem dX2_load_39 : decode cX2_load 39 = .ok (.istore_n 2, 1) := by decide +kernel
theorem dX2_load_40 : decode cX2_load 40 = .ok (.iinc 3 1, 3) := by decide +kernel
theorem dX2_load_43 : decode cX2_load 43 = .ok (.goto (-39), 3) := by decide +kernel
theorem dX2_load_46 : decode cX2_load 46 = .ok (.iload_n 2, 1) := by decide +kernel
theorem dX2_load_47 : decode cX2_load 47 = .ok (.ireturn, 1) := by decide +kernel
abbrev cX2_next : ByteArray := prog_3_method_12_code
def yX2_next : MethodName := ⟨RX2, "next", "()Z"⟩
theorem dX2_next_0 : decode cX2_next 0 = .ok (.aload_n 0, 1) := by decide +kernel
theorem dX2_next_1 : decode cX2_next 1 = .ok (.getfield 27, 3) := by decide +kernel
theorem dX2_next_4 : decode cX2_next 4 = .ok (.iconst 1, 1) := by decide +kernel
theorem dX2_next_5 : decode cX2_next 5 = .ok (.isub, 1) := by decide +kernel
theorem dX2_next_6 : decode cX2_next 6 = .ok (.istore_n 1, 1) := by decide +kernel
theorem dX2_next_7 : decode cX2_next 7 = .ok (.iload_n 1, 1) := by decide +kernel
theorem dX2_next_8 : decode cX2_next 8 = .ok (.ifCond .le 60, 3) := by decide +kernel
theorem dX2_next_11 : decode cX2_next 11 = .ok (.aload_n 0, 1) := by decide +kernel
theorem dX2_next_12 : decode cX2_next 12 = .ok (.getfield 16, 3) := by decide +kernel
theorem dX2_next_15 : decode cX2_next 15 = .ok (.iload_n 1, 1) := by decide +kernel
theorem dX2_next_16 : decode cX2_next 16 = .ok (.iaload, 1) := by decide +kernel
theorem dX2_next_17 : decode cX2_next 17 = .ok (.aload_n 0, 1) := by decide +kernel
theorem dX2_next_18 : decode cX2_next 18 = .ok (.iload_n 1, 1) := by decide +kernel
theorem dX2_next_19 : decode cX2_next 19 = .ok (.invokevirtual 30, 3) := by decide +kernel
theorem dX2_next_22 : decode cX2_next 22 = .ok (.if_icmp .gt 40, 3) := by decide +kernel
theorem dX2_next_25 : decode cX2_next 25 = .ok (.aload_n 0, 1) := by decide +kernel
theorem dX2_next_26 : decode cX2_next 26 = .ok (.getfield 16, 3) := by decide +kernel
theorem dX2_next_29 : decode cX2_next 29 = .ok (.iload_n 1, 1) := by decide +kernel
theorem dX2_next_30 : decode cX2_next 30 = .ok (.dup2, 1) := by decide +kernel
theorem dX2_next_31 : decode cX2_next 31 = .ok (.iaload, 1) := by decide +kernel
theorem dX2_next_32 : decode cX2_next 32 = .ok (.iconst 1, 1) := by decide +kernel
theorem dX2_next_33 : decode cX2_next 33 = .ok (.iadd, 1) := by decide +kernel
theorem dX2_next_34 : decode cX2_next 34 = .ok (.iastore, 1) := by decide +kernel
theorem dX2_next_35 : decode cX2_next 35 = .ok (.iload_n 1, 1) := by decide +kernel
theorem dX2_next_36 : decode cX2_next 36 = .ok (.iconst 1, 1) := by decide +kernel
theorem dX2_next_37 : decode cX2_next 37 = .ok (.iadd, 1) := by decide +kernel
theorem dX2_next_38 : decode cX2_next 38 = .ok (.istore_n 2, 1) := by decide +kernel
theorem dX2_next_39 : decode cX2_next 39 = .ok (.iload_n 2, 1) := by decide +kernel
theorem dX2_next_40 : decode cX2_next 40 = .ok (.aload_n 0, 1) := by decide +kernel
theorem dX2_next_41 : decode cX2_next 41 = .ok (.getfield 27, 3) := by decide +kernel
theorem dX2_next_44 : decode cX2_next 44 = .ok (.if_icmp .ge 16, 3) := by decide +kernel
theorem dX2_next_47 : decode cX2_next 47 = .ok (.aload_n 0, 1) := by decide +kernel
theorem dX2_next_48 : decode cX2_next 48 = .ok (.getfield 16, 3) := by decide +kernel
theorem dX2_next_51 : decode cX2_next 51 = .ok (.iload_n 2, 1) := by decide +kernel
theorem dX2_next_52 : decode cX2_next 52 = .ok (.iconst 0, 1) := by decide +kernel
theorem dX2_next_53 : decode cX2_next 53 = .ok (.iastore, 1) := by decide +kernel
theorem dX2_next_54 : decode cX2_next 54 = .ok (.iinc 2 1, 3) := by decide +kernel
theorem dX2_next_57 : decode cX2_next 57 = .ok (.goto (-18), 3) := by decide +kernel
theorem dX2_next_60 : decode cX2_next 60 = .ok (.iconst 1, 1) := by decide +kernel
theorem dX2_next_61 : decode cX2_next 61 = .ok (.ireturn, 1) := by decide +kernel
theorem dX2_next_62 : decode cX2_next 62 = .ok (.iinc 1 (-1), 3) := by decide +kernel
theorem dX2_next_65 : decode cX2_next 65 = .ok (.goto (-58), 3) := by decide +kernel
theorem dX2_next_68 : decode cX2_next 68 = .ok (.iconst 0, 1) := by decide +kernel
theorem dX2_next_69 : decode cX2_next 69 = .ok (.ireturn, 1) := by decide +kernel
abbrev cX2_binOf : ByteArray := prog_3_method_16_code
def yX2_binOf : MethodName := ⟨RX2, "binOf", "(I)I"⟩
theorem dX2_binOf_0 : decode cX2_binOf 0 = .ok (.aload_n 0, 1) := by decide +kernel
theorem dX2_binOf_1 : decode cX2_binOf 1 = .ok (.invokevirtual 48, 3) := by decide +kernel
theorem dX2_binOf_4 : decode cX2_binOf 4 = .ok (.istore_n 2, 1) := by decide +kernel
theorem dX2_binOf_5 : decode cX2_binOf 5 = .ok (.aload_n 0, 1) := by decide +kernel
theorem dX2_binOf_6 : decode cX2_binOf 6 = .ok (.invokevirtual 37, 3) := by decide +kernel
theorem dX2_binOf_9 : decode cX2_binOf 9 = .ok (.aload_n 0, 1) := by decide +kernel
theorem dX2_binOf_10 : decode cX2_binOf 10 = .ok (.iload_n 1, 1) := by decide +kernel
theorem dX2_binOf_11 : decode cX2_binOf 11 = .ok (.invokevirtual 23, 3) := by decide +kernel
theorem dX2_binOf_14 : decode cX2_binOf 14 = .ok (.istore_n 3, 1) := by decide +kernel
theorem dX2_binOf_15 : decode cX2_binOf 15 = .ok (.iconst 0, 1) := by decide +kernel
theorem dX2_binOf_16 : decode cX2_binOf 16 = .ok (.istore 4, 2) := by decide +kernel
theorem dX2_binOf_18 : decode cX2_binOf 18 = .ok (.iload 4, 2) := by decide +kernel
theorem dX2_binOf_20 : decode cX2_binOf 20 = .ok (.sipush 4140, 3) := by decide +kernel
theorem dX2_binOf_23 : decode cX2_binOf 23 = .ok (.if_icmp .ge 55, 3) := by decide +kernel
theorem dX2_binOf_26 : decode cX2_binOf 26 = .ok (.iload_n 3, 1) := by decide +kernel
theorem dX2_binOf_27 : decode cX2_binOf 27 = .ok (.ifCond .eq 51, 3) := by decide +kernel
theorem dX2_binOf_30 : decode cX2_binOf 30 = .ok (.aload_n 0, 1) := by decide +kernel
theorem dX2_binOf_31 : decode cX2_binOf 31 = .ok (.aload_n 0, 1) := by decide +kernel
theorem dX2_binOf_32 : decode cX2_binOf 32 = .ok (.getfield 27, 3) := by decide +kernel
theorem dX2_binOf_35 : decode cX2_binOf 35 = .ok (.invokevirtual 30, 3) := by decide +kernel
theorem dX2_binOf_38 : decode cX2_binOf 38 = .ok (.iconst 1, 1) := by decide +kernel
theorem dX2_binOf_39 : decode cX2_binOf 39 = .ok (.iadd, 1) := by decide +kernel
theorem dX2_binOf_40 : decode cX2_binOf 40 = .ok (.iload_n 2, 1) := by decide +kernel
theorem dX2_binOf_41 : decode cX2_binOf 41 = .ok (.if_icmp .ne 26, 3) := by decide +kernel
theorem dX2_binOf_44 : decode cX2_binOf 44 = .ok (.aload_n 0, 1) := by decide +kernel
theorem dX2_binOf_45 : decode cX2_binOf 45 = .ok (.iconst 1, 1) := by decide +kernel
theorem dX2_binOf_46 : decode cX2_binOf 46 = .ok (.invokevirtual 40, 3) := by decide +kernel
theorem dX2_binOf_49 : decode cX2_binOf 49 = .ok (.aload_n 0, 1) := by decide +kernel
theorem dX2_binOf_50 : decode cX2_binOf 50 = .ok (.getfield 19, 3) := by decide +kernel
theorem dX2_binOf_53 : decode cX2_binOf 53 = .ok (.if_icmp .gt 14, 3) := by decide +kernel
theorem dX2_binOf_56 : decode cX2_binOf 56 = .ok (.aload_n 0, 1) := by decide +kernel
theorem dX2_binOf_57 : decode cX2_binOf 57 = .ok (.getfield 16, 3) := by decide +kernel
theorem dX2_binOf_60 : decode cX2_binOf 60 = .ok (.aload_n 0, 1) := by decide +kernel
theorem dX2_binOf_61 : decode cX2_binOf 61 = .ok (.iload_n 1, 1) := by decide +kernel
theorem dX2_binOf_62 : decode cX2_binOf 62 = .ok (.invokevirtual 52, 3) := by decide +kernel
theorem dX2_binOf_65 : decode cX2_binOf 65 = .ok (.iaload, 1) := by decide +kernel
theorem dX2_binOf_66 : decode cX2_binOf 66 = .ok (.ireturn, 1) := by decide +kernel
theorem dX2_binOf_67 : decode cX2_binOf 67 = .ok (.aload_n 0, 1) := by decide +kernel
theorem dX2_binOf_68 : decode cX2_binOf 68 = .ok (.invokevirtual 44, 3) := by decide +kernel
theorem dX2_binOf_71 : decode cX2_binOf 71 = .ok (.istore_n 3, 1) := by decide +kernel
theorem dX2_binOf_72 : decode cX2_binOf 72 = .ok (.iinc 4 1, 3) := by decide +kernel
theorem dX2_binOf_75 : decode cX2_binOf 75 = .ok (.goto (-57), 3) := by decide +kernel
theorem dX2_binOf_78 : decode cX2_binOf 78 = .ok (.iconst (-1), 1) := by decide +kernel
theorem dX2_binOf_79 : decode cX2_binOf 79 = .ok (.ireturn, 1) := by decide +kernel
abbrev cX2_rank : ByteArray := prog_3_method_17_code
def yX2_rank : MethodName := ⟨RX2, "rank", "(I)I"⟩
theorem dX2_rank_0 : decode cX2_rank 0 = .ok (.iconst 0, 1) := by decide +kernel
theorem dX2_rank_1 : decode cX2_rank 1 = .ok (.istore_n 2, 1) := by decide +kernel
theorem dX2_rank_2 : decode cX2_rank 2 = .ok (.iconst 0, 1) := by decide +kernel
theorem dX2_rank_3 : decode cX2_rank 3 = .ok (.istore_n 3, 1) := by decide +kernel
theorem dX2_rank_4 : decode cX2_rank 4 = .ok (.iload_n 3, 1) := by decide +kernel
theorem dX2_rank_5 : decode cX2_rank 5 = .ok (.iload_n 1, 1) := by decide +kernel
theorem dX2_rank_6 : decode cX2_rank 6 = .ok (.if_icmp .ge 31, 3) := by decide +kernel
theorem dX2_rank_9 : decode cX2_rank 9 = .ok (.iload_n 3, 1) := by decide +kernel
theorem dX2_rank_10 : decode cX2_rank 10 = .ok (.bipush 8, 2) := by decide +kernel
theorem dX2_rank_12 : decode cX2_rank 12 = .ok (.if_icmp .ge 25, 3) := by decide +kernel
theorem dX2_rank_15 : decode cX2_rank 15 = .ok (.iload_n 2, 1) := by decide +kernel
theorem dX2_rank_16 : decode cX2_rank 16 = .ok (.aload_n 0, 1) := by decide +kernel
theorem dX2_rank_17 : decode cX2_rank 17 = .ok (.iload_n 3, 1) := by decide +kernel
theorem dX2_rank_18 : decode cX2_rank 18 = .ok (.invokevirtual 23, 3) := by decide +kernel
theorem dX2_rank_21 : decode cX2_rank 21 = .ok (.ifCond .eq 7, 3) := by decide +kernel
theorem dX2_rank_24 : decode cX2_rank 24 = .ok (.iconst 1, 1) := by decide +kernel
theorem dX2_rank_25 : decode cX2_rank 25 = .ok (.goto 4, 3) := by decide +kernel
theorem dX2_rank_28 : decode cX2_rank 28 = .ok (.iconst 0, 1) := by decide +kernel
theorem dX2_rank_29 : decode cX2_rank 29 = .ok (.iadd, 1) := by decide +kernel
theorem dX2_rank_30 : decode cX2_rank 30 = .ok (.istore_n 2, 1) := by decide +kernel
theorem dX2_rank_31 : decode cX2_rank 31 = .ok (.iinc 3 1, 3) := by decide +kernel
theorem dX2_rank_34 : decode cX2_rank 34 = .ok (.goto (-30), 3) := by decide +kernel
theorem dX2_rank_37 : decode cX2_rank 37 = .ok (.iload_n 2, 1) := by decide +kernel
theorem dX2_rank_38 : decode cX2_rank 38 = .ok (.bipush 7, 2) := by decide +kernel
theorem dX2_rank_40 : decode cX2_rank 40 = .ok (.iand, 1) := by decide +kernel
theorem dX2_rank_41 : decode cX2_rank 41 = .ok (.ireturn, 1) := by decide +kernel
abbrev cX2_leastWithout : ByteArray := prog_3_method_18_code
def yX2_leastWithout : MethodName := ⟨RX2, "leastWithout", "(I)I"⟩
theorem dX2_leastWithout_0 : decode cX2_leastWithout 0 = .ok (.aload_n 0, 1) := by decide +kernel
theorem dX2_leastWithout_1 : decode cX2_leastWithout 1 = .ok (.iload_n 1, 1) := by decide +kernel
theorem dX2_leastWithout_2 : decode cX2_leastWithout 2 = .ok (.invokevirtual 23, 3) := by decide +kernel
theorem dX2_leastWithout_5 : decode cX2_leastWithout 5 = .ok (.ifCond .ne 5, 3) := by decide +kernel
theorem dX2_leastWithout_8 : decode cX2_leastWithout 8 = .ok (.iconst (-1), 1) := by decide +kernel
theorem dX2_leastWithout_9 : decode cX2_leastWithout 9 = .ok (.ireturn, 1) := by decide +kernel
theorem dX2_leastWithout_10 : decode cX2_leastWithout 10 = .ok (.aload_n 0, 1) := by decide +kernel
theorem dX2_leastWithout_11 : decode cX2_leastWithout 11 = .ok (.getfield 7, 3) := by decide +kernel
theorem dX2_leastWithout_14 : decode cX2_leastWithout 14 = .ok (.iload_n 1, 1) := by decide +kernel
theorem dX2_leastWithout_15 : decode cX2_leastWithout 15 = .ok (.iaload, 1) := by decide +kernel
theorem dX2_leastWithout_16 : decode cX2_leastWithout 16 = .ok (.istore_n 2, 1) := by decide +kernel
theorem dX2_leastWithout_17 : decode cX2_leastWithout 17 = .ok (.aload_n 0, 1) := by decide +kernel
theorem dX2_leastWithout_18 : decode cX2_leastWithout 18 = .ok (.getfield 7, 3) := by decide +kernel
theorem dX2_leastWithout_21 : decode cX2_leastWithout 21 = .ok (.iload_n 1, 1) := by decide +kernel
theorem dX2_leastWithout_22 : decode cX2_leastWithout 22 = .ok (.iconst 0, 1) := by decide +kernel
theorem dX2_leastWithout_23 : decode cX2_leastWithout 23 = .ok (.iastore, 1) := by decide +kernel
theorem dX2_leastWithout_24 : decode cX2_leastWithout 24 = .ok (.aload_n 0, 1) := by decide +kernel
theorem dX2_leastWithout_25 : decode cX2_leastWithout 25 = .ok (.invokevirtual 48, 3) := by decide +kernel
theorem dX2_leastWithout_28 : decode cX2_leastWithout 28 = .ok (.istore_n 3, 1) := by decide +kernel
theorem dX2_leastWithout_29 : decode cX2_leastWithout 29 = .ok (.aload_n 0, 1) := by decide +kernel
theorem dX2_leastWithout_30 : decode cX2_leastWithout 30 = .ok (.getfield 7, 3) := by decide +kernel
theorem dX2_leastWithout_33 : decode cX2_leastWithout 33 = .ok (.iload_n 1, 1) := by decide +kernel
theorem dX2_leastWithout_34 : decode cX2_leastWithout 34 = .ok (.iload_n 2, 1) := by decide +kernel
theorem dX2_leastWithout_35 : decode cX2_leastWithout 35 = .ok (.iastore, 1) := by decide +kernel
theorem dX2_leastWithout_36 : decode cX2_leastWithout 36 = .ok (.iload_n 3, 1) := by decide +kernel
theorem dX2_leastWithout_37 : decode cX2_leastWithout 37 = .ok (.ireturn, 1) := by decide +kernel
abbrev cX2_spare : ByteArray := prog_3_method_19_code
def yX2_spare : MethodName := ⟨RX2, "spare", "()I"⟩
theorem dX2_spare_0 : decode cX2_spare 0 = .ok (.aload_n 0, 1) := by decide +kernel
theorem dX2_spare_1 : decode cX2_spare 1 = .ok (.invokevirtual 48, 3) := by decide +kernel
theorem dX2_spare_4 : decode cX2_spare 4 = .ok (.istore_n 1, 1) := by decide +kernel
theorem dX2_spare_5 : decode cX2_spare 5 = .ok (.aload_n 0, 1) := by decide +kernel
theorem dX2_spare_6 : decode cX2_spare 6 = .ok (.invokevirtual 37, 3) := by decide +kernel
theorem dX2_spare_9 : decode cX2_spare 9 = .ok (.iconst 0, 1) := by decide +kernel
theorem dX2_spare_10 : decode cX2_spare 10 = .ok (.istore_n 2, 1) := by decide +kernel
theorem dX2_spare_11 : decode cX2_spare 11 = .ok (.aload_n 0, 1) := by decide +kernel
theorem dX2_spare_12 : decode cX2_spare 12 = .ok (.getfield 27, 3) := by decide +kernel
theorem dX2_spare_15 : decode cX2_spare 15 = .ok (.ifCond .le 7, 3) := by decide +kernel
theorem dX2_spare_18 : decode cX2_spare 18 = .ok (.iconst 1, 1) := by decide +kernel
theorem dX2_spare_19 : decode cX2_spare 19 = .ok (.goto 4, 3) := by decide +kernel
theorem dX2_spare_22 : decode cX2_spare 22 = .ok (.iconst 0, 1) := by decide +kernel
theorem dX2_spare_23 : decode cX2_spare 23 = .ok (.istore_n 3, 1) := by decide +kernel
theorem dX2_spare_24 : decode cX2_spare 24 = .ok (.iconst 0, 1) := by decide +kernel
theorem dX2_spare_25 : decode cX2_spare 25 = .ok (.istore 4, 2) := by decide +kernel
theorem dX2_spare_27 : decode cX2_spare 27 = .ok (.iload 4, 2) := by decide +kernel
theorem dX2_spare_29 : decode cX2_spare 29 = .ok (.sipush 4140, 3) := by decide +kernel
theorem dX2_spare_32 : decode cX2_spare 32 = .ok (.if_icmp .ge 69, 3) := by decide +kernel
theorem dX2_spare_35 : decode cX2_spare 35 = .ok (.iload_n 3, 1) := by decide +kernel
theorem dX2_spare_36 : decode cX2_spare 36 = .ok (.ifCond .eq 65, 3) := by decide +kernel
theorem dX2_spare_39 : decode cX2_spare 39 = .ok (.aload_n 0, 1) := by decide +kernel
theorem dX2_spare_40 : decode cX2_spare 40 = .ok (.aload_n 0, 1) := by decide +kernel
theorem dX2_spare_41 : decode cX2_spare 41 = .ok (.getfield 27, 3) := by decide +kernel
theorem dX2_spare_44 : decode cX2_spare 44 = .ok (.invokevirtual 30, 3) := by decide +kernel
theorem dX2_spare_47 : decode cX2_spare 47 = .ok (.iconst 1, 1) := by decide +kernel
theorem dX2_spare_48 : decode cX2_spare 48 = .ok (.iadd, 1) := by decide +kernel
theorem dX2_spare_49 : decode cX2_spare 49 = .ok (.iload_n 1, 1) := by decide +kernel
theorem dX2_spare_50 : decode cX2_spare 50 = .ok (.if_icmp .ne 40, 3) := by decide +kernel
theorem dX2_spare_53 : decode cX2_spare 53 = .ok (.aload_n 0, 1) := by decide +kernel
theorem dX2_spare_54 : decode cX2_spare 54 = .ok (.iconst 1, 1) := by decide +kernel
theorem dX2_spare_55 : decode cX2_spare 55 = .ok (.invokevirtual 40, 3) := by decide +kernel
theorem dX2_spare_58 : decode cX2_spare 58 = .ok (.aload_n 0, 1) := by decide +kernel
theorem dX2_spare_59 : decode cX2_spare 59 = .ok (.getfield 19, 3) := by decide +kernel
theorem dX2_spare_62 : decode cX2_spare 62 = .ok (.if_icmp .gt 28, 3) := by decide +kernel
theorem dX2_spare_65 : decode cX2_spare 65 = .ok (.aload_n 0, 1) := by decide +kernel
theorem dX2_spare_66 : decode cX2_spare 66 = .ok (.getfield 19, 3) := by decide +kernel
theorem dX2_spare_69 : decode cX2_spare 69 = .ok (.aload_n 0, 1) := by decide +kernel
theorem dX2_spare_70 : decode cX2_spare 70 = .ok (.iconst 0, 1) := by decide +kernel
theorem dX2_spare_71 : decode cX2_spare 71 = .ok (.invokevirtual 40, 3) := by decide +kernel
theorem dX2_spare_74 : decode cX2_spare 74 = .ok (.isub, 1) := by decide +kernel
theorem dX2_spare_75 : decode cX2_spare 75 = .ok (.istore 5, 2) := by decide +kernel
theorem dX2_spare_77 : decode cX2_spare 77 = .ok (.iload 5, 2) := by decide +kernel
theorem dX2_spare_79 : decode cX2_spare 79 = .ok (.iload_n 2, 1) := by decide +kernel
theorem dX2_spare_80 : decode cX2_spare 80 = .ok (.if_icmp .le 8, 3) := by decide +kernel
theorem dX2_spare_83 : decode cX2_spare 83 = .ok (.iload 5, 2) := by decide +kernel
theorem dX2_spare_85 : decode cX2_spare 85 = .ok (.goto 4, 3) := by decide +kernel
theorem dX2_spare_88 : decode cX2_spare 88 = .ok (.iload_n 2, 1) := by decide +kernel
theorem dX2_spare_89 : decode cX2_spare 89 = .ok (.istore_n 2, 1) := by decide +kernel
theorem dX2_spare_90 : decode cX2_spare 90 = .ok (.aload_n 0, 1) := by decide +kernel
theorem dX2_spare_91 : decode cX2_spare 91 = .ok (.invokevirtual 44, 3) := by decide +kernel
theorem dX2_spare_94 : decode cX2_spare 94 = .ok (.istore_n 3, 1) := by decide +kernel
theorem dX2_spare_95 : decode cX2_spare 95 = .ok (.iinc 4 1, 3) := by decide +kernel
theorem dX2_spare_98 : decode cX2_spare 98 = .ok (.goto (-71), 3) := by decide +kernel
theorem dX2_spare_101 : decode cX2_spare 101 = .ok (.iload_n 2, 1) := by decide +kernel
theorem dX2_spare_102 : decode cX2_spare 102 = .ok (.ireturn, 1) := by decide +kernel
abbrev cX2_sizeFor : ByteArray := prog_3_method_20_code
def yX2_sizeFor : MethodName := ⟨RX2, "sizeFor", "(I)I"⟩
theorem dX2_sizeFor_0 : decode cX2_sizeFor 0 = .ok (.aload_n 0, 1) := by decide +kernel
theorem dX2_sizeFor_1 : decode cX2_sizeFor 1 = .ok (.invokevirtual 37, 3) := by decide +kernel
theorem dX2_sizeFor_4 : decode cX2_sizeFor 4 = .ok (.iconst (-1), 1) := by decide +kernel
theorem dX2_sizeFor_5 : decode cX2_sizeFor 5 = .ok (.istore_n 2, 1) := by decide +kernel
theorem dX2_sizeFor_6 : decode cX2_sizeFor 6 = .ok (.aload_n 0, 1) := by decide +kernel
theorem dX2_sizeFor_7 : decode cX2_sizeFor 7 = .ok (.getfield 27, 3) := by decide +kernel
theorem dX2_sizeFor_10 : decode cX2_sizeFor 10 = .ok (.ifCond .le 18, 3) := by decide +kernel
theorem dX2_sizeFor_13 : decode cX2_sizeFor 13 = .ok (.iload_n 1, 1) := by decide +kernel
theorem dX2_sizeFor_14 : decode cX2_sizeFor 14 = .ok (.iconst 1, 1) := by decide +kernel
theorem dX2_sizeFor_15 : decode cX2_sizeFor 15 = .ok (.if_icmp .lt 13, 3) := by decide +kernel
theorem dX2_sizeFor_18 : decode cX2_sizeFor 18 = .ok (.iload_n 1, 1) := by decide +kernel
theorem dX2_sizeFor_19 : decode cX2_sizeFor 19 = .ok (.bipush 8, 2) := by decide +kernel
theorem dX2_sizeFor_21 : decode cX2_sizeFor 21 = .ok (.if_icmp .gt 7, 3) := by decide +kernel
theorem dX2_sizeFor_24 : decode cX2_sizeFor 24 = .ok (.iconst 1, 1) := by decide +kernel
theorem dX2_sizeFor_25 : decode cX2_sizeFor 25 = .ok (.goto 4, 3) := by decide +kernel
theorem dX2_sizeFor_28 : decode cX2_sizeFor 28 = .ok (.iconst 0, 1) := by decide +kernel
theorem dX2_sizeFor_29 : decode cX2_sizeFor 29 = .ok (.istore_n 3, 1) := by decide +kernel
theorem dX2_sizeFor_30 : decode cX2_sizeFor 30 = .ok (.iconst 0, 1) := by decide +kernel
theorem dX2_sizeFor_31 : decode cX2_sizeFor 31 = .ok (.istore 4, 2) := by decide +kernel
theorem dX2_sizeFor_33 : decode cX2_sizeFor 33 = .ok (.iload 4, 2) := by decide +kernel
theorem dX2_sizeFor_35 : decode cX2_sizeFor 35 = .ok (.sipush 4140, 3) := by decide +kernel
theorem dX2_sizeFor_38 : decode cX2_sizeFor 38 = .ok (.if_icmp .ge 56, 3) := by decide +kernel
theorem dX2_sizeFor_41 : decode cX2_sizeFor 41 = .ok (.iload_n 3, 1) := by decide +kernel
theorem dX2_sizeFor_42 : decode cX2_sizeFor 42 = .ok (.ifCond .eq 52, 3) := by decide +kernel
theorem dX2_sizeFor_45 : decode cX2_sizeFor 45 = .ok (.aload_n 0, 1) := by decide +kernel
theorem dX2_sizeFor_46 : decode cX2_sizeFor 46 = .ok (.aload_n 0, 1) := by decide +kernel
theorem dX2_sizeFor_47 : decode cX2_sizeFor 47 = .ok (.getfield 27, 3) := by decide +kernel
theorem dX2_sizeFor_50 : decode cX2_sizeFor 50 = .ok (.invokevirtual 30, 3) := by decide +kernel
theorem dX2_sizeFor_53 : decode cX2_sizeFor 53 = .ok (.iconst 1, 1) := by decide +kernel
theorem dX2_sizeFor_54 : decode cX2_sizeFor 54 = .ok (.iadd, 1) := by decide +kernel
theorem dX2_sizeFor_55 : decode cX2_sizeFor 55 = .ok (.iload_n 1, 1) := by decide +kernel
theorem dX2_sizeFor_56 : decode cX2_sizeFor 56 = .ok (.if_icmp .gt 27, 3) := by decide +kernel
theorem dX2_sizeFor_59 : decode cX2_sizeFor 59 = .ok (.aload_n 0, 1) := by decide +kernel
theorem dX2_sizeFor_60 : decode cX2_sizeFor 60 = .ok (.iconst 1, 1) := by decide +kernel
theorem dX2_sizeFor_61 : decode cX2_sizeFor 61 = .ok (.invokevirtual 40, 3) := by decide +kernel
theorem dX2_sizeFor_64 : decode cX2_sizeFor 64 = .ok (.istore 5, 2) := by decide +kernel
theorem dX2_sizeFor_66 : decode cX2_sizeFor 66 = .ok (.iload_n 2, 1) := by decide +kernel
theorem dX2_sizeFor_67 : decode cX2_sizeFor 67 = .ok (.ifCond .lt 9, 3) := by decide +kernel
theorem dX2_sizeFor_70 : decode cX2_sizeFor 70 = .ok (.iload 5, 2) := by decide +kernel
theorem dX2_sizeFor_72 : decode cX2_sizeFor 72 = .ok (.iload_n 2, 1) := by decide +kernel
theorem dX2_sizeFor_73 : decode cX2_sizeFor 73 = .ok (.if_icmp .ge 8, 3) := by decide +kernel
theorem dX2_sizeFor_76 : decode cX2_sizeFor 76 = .ok (.iload 5, 2) := by decide +kernel
theorem dX2_sizeFor_78 : decode cX2_sizeFor 78 = .ok (.goto 4, 3) := by decide +kernel
theorem dX2_sizeFor_81 : decode cX2_sizeFor 81 = .ok (.iload_n 2, 1) := by decide +kernel
theorem dX2_sizeFor_82 : decode cX2_sizeFor 82 = .ok (.istore_n 2, 1) := by decide +kernel
theorem dX2_sizeFor_83 : decode cX2_sizeFor 83 = .ok (.aload_n 0, 1) := by decide +kernel
theorem dX2_sizeFor_84 : decode cX2_sizeFor 84 = .ok (.invokevirtual 44, 3) := by decide +kernel
theorem dX2_sizeFor_87 : decode cX2_sizeFor 87 = .ok (.istore_n 3, 1) := by decide +kernel
theorem dX2_sizeFor_88 : decode cX2_sizeFor 88 = .ok (.iinc 4 1, 3) := by decide +kernel
theorem dX2_sizeFor_91 : decode cX2_sizeFor 91 = .ok (.goto (-58), 3) := by decide +kernel
theorem dX2_sizeFor_94 : decode cX2_sizeFor 94 = .ok (.iload_n 2, 1) := by decide +kernel
theorem dX2_sizeFor_95 : decode cX2_sizeFor 95 = .ok (.ireturn, 1) := by decide +kernel
abbrev cX2_together : ByteArray := prog_3_method_21_code
def yX2_together : MethodName := ⟨RX2, "together", "(II)Z"⟩
theorem dX2_together_0 : decode cX2_together 0 = .ok (.aload_n 0, 1) := by decide +kernel
theorem dX2_together_1 : decode cX2_together 1 = .ok (.invokevirtual 48, 3) := by decide +kernel
theorem dX2_together_4 : decode cX2_together 4 = .ok (.istore_n 3, 1) := by decide +kernel
theorem dX2_together_5 : decode cX2_together 5 = .ok (.aload_n 0, 1) := by decide +kernel
theorem dX2_together_6 : decode cX2_together 6 = .ok (.invokevirtual 37, 3) := by decide +kernel
theorem dX2_together_9 : decode cX2_together 9 = .ok (.iconst 0, 1) := by decide +kernel
theorem dX2_together_10 : decode cX2_together 10 = .ok (.istore 4, 2) := by decide +kernel
theorem dX2_together_12 : decode cX2_together 12 = .ok (.aload_n 0, 1) := by decide +kernel
theorem dX2_together_13 : decode cX2_together 13 = .ok (.iload_n 1, 1) := by decide +kernel
theorem dX2_together_14 : decode cX2_together 14 = .ok (.invokevirtual 23, 3) := by decide +kernel
theorem dX2_together_17 : decode cX2_together 17 = .ok (.ifCond .eq 20, 3) := by decide +kernel
theorem dX2_together_20 : decode cX2_together 20 = .ok (.aload_n 0, 1) := by decide +kernel
theorem dX2_together_21 : decode cX2_together 21 = .ok (.iload_n 2, 1) := by decide +kernel
theorem dX2_together_22 : decode cX2_together 22 = .ok (.invokevirtual 23, 3) := by decide +kernel
theorem dX2_together_25 : decode cX2_together 25 = .ok (.ifCond .eq 12, 3) := by decide +kernel
theorem dX2_together_28 : decode cX2_together 28 = .ok (.iload_n 1, 1) := by decide +kernel
theorem dX2_together_29 : decode cX2_together 29 = .ok (.iload_n 2, 1) := by decide +kernel
theorem dX2_together_30 : decode cX2_together 30 = .ok (.if_icmp .eq 7, 3) := by decide +kernel
theorem dX2_together_33 : decode cX2_together 33 = .ok (.iconst 1, 1) := by decide +kernel
theorem dX2_together_34 : decode cX2_together 34 = .ok (.goto 4, 3) := by decide +kernel
theorem dX2_together_37 : decode cX2_together 37 = .ok (.iconst 0, 1) := by decide +kernel
theorem dX2_together_38 : decode cX2_together 38 = .ok (.istore 5, 2) := by decide +kernel
theorem dX2_together_40 : decode cX2_together 40 = .ok (.iconst 0, 1) := by decide +kernel
theorem dX2_together_41 : decode cX2_together 41 = .ok (.istore 6, 2) := by decide +kernel
theorem dX2_together_43 : decode cX2_together 43 = .ok (.iload 6, 2) := by decide +kernel
theorem dX2_together_45 : decode cX2_together 45 = .ok (.sipush 4140, 3) := by decide +kernel
theorem dX2_together_48 : decode cX2_together 48 = .ok (.if_icmp .ge 81, 3) := by decide +kernel
theorem dX2_together_51 : decode cX2_together 51 = .ok (.iload 5, 2) := by decide +kernel
theorem dX2_together_53 : decode cX2_together 53 = .ok (.ifCond .eq 76, 3) := by decide +kernel
theorem dX2_together_56 : decode cX2_together 56 = .ok (.aload_n 0, 1) := by decide +kernel
theorem dX2_together_57 : decode cX2_together 57 = .ok (.aload_n 0, 1) := by decide +kernel
theorem dX2_together_58 : decode cX2_together 58 = .ok (.getfield 27, 3) := by decide +kernel
theorem dX2_together_61 : decode cX2_together 61 = .ok (.invokevirtual 30, 3) := by decide +kernel
theorem dX2_together_64 : decode cX2_together 64 = .ok (.iconst 1, 1) := by decide +kernel
theorem dX2_together_65 : decode cX2_together 65 = .ok (.iadd, 1) := by decide +kernel
theorem dX2_together_66 : decode cX2_together 66 = .ok (.iload_n 3, 1) := by decide +kernel
theorem dX2_together_67 : decode cX2_together 67 = .ok (.if_icmp .ne 50, 3) := by decide +kernel
theorem dX2_together_70 : decode cX2_together 70 = .ok (.aload_n 0, 1) := by decide +kernel
theorem dX2_together_71 : decode cX2_together 71 = .ok (.getfield 16, 3) := by decide +kernel
theorem dX2_together_74 : decode cX2_together 74 = .ok (.aload_n 0, 1) := by decide +kernel
theorem dX2_together_75 : decode cX2_together 75 = .ok (.iload_n 1, 1) := by decide +kernel
theorem dX2_together_76 : decode cX2_together 76 = .ok (.invokevirtual 52, 3) := by decide +kernel
theorem dX2_together_79 : decode cX2_together 79 = .ok (.iaload, 1) := by decide +kernel
theorem dX2_together_80 : decode cX2_together 80 = .ok (.aload_n 0, 1) := by decide +kernel
theorem dX2_together_81 : decode cX2_together 81 = .ok (.getfield 16, 3) := by decide +kernel
theorem dX2_together_84 : decode cX2_together 84 = .ok (.aload_n 0, 1) := by decide +kernel
theorem dX2_together_85 : decode cX2_together 85 = .ok (.iload_n 2, 1) := by decide +kernel
theorem dX2_together_86 : decode cX2_together 86 = .ok (.invokevirtual 52, 3) := by decide +kernel
theorem dX2_together_89 : decode cX2_together 89 = .ok (.iaload, 1) := by decide +kernel
theorem dX2_together_90 : decode cX2_together 90 = .ok (.if_icmp .ne 27, 3) := by decide +kernel
theorem dX2_together_93 : decode cX2_together 93 = .ok (.iload 4, 2) := by decide +kernel
theorem dX2_together_95 : decode cX2_together 95 = .ok (.ifCond .ne 15, 3) := by decide +kernel
theorem dX2_together_98 : decode cX2_together 98 = .ok (.aload_n 0, 1) := by decide +kernel
theorem dX2_together_99 : decode cX2_together 99 = .ok (.iconst 1, 1) := by decide +kernel
theorem dX2_together_100 : decode cX2_together 100 = .ok (.invokevirtual 40, 3) := by decide +kernel
theorem dX2_together_103 : decode cX2_together 103 = .ok (.aload_n 0, 1) := by decide +kernel
theorem dX2_together_104 : decode cX2_together 104 = .ok (.getfield 19, 3) := by decide +kernel
theorem dX2_together_107 : decode cX2_together 107 = .ok (.if_icmp .gt 7, 3) := by decide +kernel
theorem dX2_together_110 : decode cX2_together 110 = .ok (.iconst 1, 1) := by decide +kernel
theorem dX2_together_111 : decode cX2_together 111 = .ok (.goto 4, 3) := by decide +kernel
theorem dX2_together_114 : decode cX2_together 114 = .ok (.iconst 0, 1) := by decide +kernel
theorem dX2_together_115 : decode cX2_together 115 = .ok (.istore 4, 2) := by decide +kernel
theorem dX2_together_117 : decode cX2_together 117 = .ok (.aload_n 0, 1) := by decide +kernel
theorem dX2_together_118 : decode cX2_together 118 = .ok (.invokevirtual 44, 3) := by decide +kernel
theorem dX2_together_121 : decode cX2_together 121 = .ok (.istore 5, 2) := by decide +kernel
theorem dX2_together_123 : decode cX2_together 123 = .ok (.iinc 6 1, 3) := by decide +kernel
theorem dX2_together_126 : decode cX2_together 126 = .ok (.goto (-83), 3) := by decide +kernel
theorem dX2_together_129 : decode cX2_together 129 = .ok (.iload 4, 2) := by decide +kernel
theorem dX2_together_131 : decode cX2_together 131 = .ok (.ireturn, 1) := by decide +kernel
theorem q25 : (Jvm.Cond.initialized "BinDeskModel") ∈ lw_all := lw_g (lw_at lw_m1 2 rfl) rfl
theorem q210 : (Jvm.Cond.instantiable "BinDeskModel" (5 : Nat)) ∈ lw_all := lw_g (lw_at lw_m1 187 rfl) rfl
theorem q212 : (Jvm.Cond.instanceMethod ({ cls := "BinDeskModel", name := "<init>", desc := "(I)V" } : Jvm.MethodName)) ∈ lw_all := lw_g (lw_at lw_m1 189 rfl) rfl
theorem q213 : (Jvm.Cond.code ({ cls := "BinDeskModel", name := "<init>", desc := "(I)V" } : Jvm.MethodName) prog_3_method_1_code (2 : Nat) (Option.none : Option Jvm.ClassFile.FieldType)) ∈ lw_all := lw_g (lw_at lw_m1 190 rfl) rfl
theorem q214 : (Jvm.Cond.methodLink "BinDeskModel" (1 : Nat) ({ cls := "java/lang/Object", name := "<init>", desc := "()V" } : Jvm.MethodName)) ∈ lw_all := lw_g (lw_at lw_m1 191 rfl) rfl
theorem q215 : (Jvm.Cond.fieldLink "BinDeskModel" (19 : Nat) "BinDeskModel" "room" "I") ∈ lw_all := lw_g (lw_at lw_m1 192 rfl) rfl
theorem q216 : (Jvm.Cond.fieldLink "BinDeskModel" (7 : Nat) "BinDeskModel" "sizes" "[I") ∈ lw_all := lw_g (lw_at lw_m1 193 rfl) rfl
theorem q217 : (Jvm.Cond.fieldLink "BinDeskModel" (27 : Nat) "BinDeskModel" "n" "I") ∈ lw_all := lw_g (lw_at lw_m1 194 rfl) rfl
theorem q218 : (Jvm.Cond.fieldLink "BinDeskModel" (13 : Nat) "BinDeskModel" "item" "[I") ∈ lw_all := lw_g (lw_at lw_m1 195 rfl) rfl
theorem q219 : (Jvm.Cond.fieldLink "BinDeskModel" (16 : Nat) "BinDeskModel" "bin" "[I") ∈ lw_all := lw_g (lw_at lw_m1 196 rfl) rfl
theorem q220 : (Jvm.Cond.lays "BinDeskModel" "BinDeskModel" "room" "I") ∈ lw_all := lw_g (lw_at lw_m1 197 rfl) rfl
theorem q221 : (Jvm.Cond.soleField "BinDeskModel" "room") ∈ lw_all := lw_g (lw_at lw_m1 198 rfl) rfl
theorem q222 : (Jvm.Cond.lays "BinDeskModel" "BinDeskModel" "sizes" "[I") ∈ lw_all := lw_g (lw_at lw_m1 199 rfl) rfl
theorem q223 : (Jvm.Cond.soleField "BinDeskModel" "sizes") ∈ lw_all := lw_g (lw_at lw_m1 200 rfl) rfl
theorem q224 : (Jvm.Cond.lays "BinDeskModel" "BinDeskModel" "n" "I") ∈ lw_all := lw_g (lw_at lw_m1 201 rfl) rfl
theorem q225 : (Jvm.Cond.soleField "BinDeskModel" "n") ∈ lw_all := lw_g (lw_at lw_m1 202 rfl) rfl
theorem q226 : (Jvm.Cond.lays "BinDeskModel" "BinDeskModel" "item" "[I") ∈ lw_all := lw_g (lw_at lw_m1 203 rfl) rfl
theorem q227 : (Jvm.Cond.soleField "BinDeskModel" "item") ∈ lw_all := lw_g (lw_at lw_m1 204 rfl) rfl
theorem q228 : (Jvm.Cond.lays "BinDeskModel" "BinDeskModel" "bin" "[I") ∈ lw_all := lw_g (lw_at lw_m1 205 rfl) rfl
theorem q229 : (Jvm.Cond.soleField "BinDeskModel" "bin") ∈ lw_all := lw_g (lw_at lw_m1 206 rfl) rfl
theorem q230 : (Jvm.Cond.superclass "BinDeskModel" "java/lang/Object") ∈ lw_all := lw_g (lw_at lw_m1 207 rfl) rfl
theorem q232 : (Jvm.Cond.instanceMethod ({ cls := "BinDeskModel", name := "add", desc := "(I)I" } : Jvm.MethodName)) ∈ lw_all := lw_g (lw_at lw_m1 209 rfl) rfl
theorem q233 : (Jvm.Cond.selects "BinDeskModel" ({ cls := "BinDeskModel", name := "add", desc := "(I)I" } : Jvm.MethodName) ({ cls := "BinDeskModel", name := "add", desc := "(I)I" } : Jvm.MethodName)) ∈ lw_all := lw_g (lw_at lw_m1 210 rfl) rfl
theorem q234 : (Jvm.Cond.code ({ cls := "BinDeskModel", name := "add", desc := "(I)I" } : Jvm.MethodName) prog_3_method_3_code (3 : Nat) (Option.some Jvm.ClassFile.FieldType.int)) ∈ lw_all := lw_g (lw_at lw_m1 211 rfl) rfl
theorem q236 : (Jvm.Cond.instanceMethod ({ cls := "BinDeskModel", name := "remove", desc := "(I)Z" } : Jvm.MethodName)) ∈ lw_all := lw_g (lw_at lw_m1 213 rfl) rfl
theorem q237 : (Jvm.Cond.selects "BinDeskModel" ({ cls := "BinDeskModel", name := "remove", desc := "(I)Z" } : Jvm.MethodName) ({ cls := "BinDeskModel", name := "remove", desc := "(I)Z" } : Jvm.MethodName)) ∈ lw_all := lw_g (lw_at lw_m1 214 rfl) rfl
theorem q238 : (Jvm.Cond.code ({ cls := "BinDeskModel", name := "remove", desc := "(I)Z" } : Jvm.MethodName) prog_3_method_4_code (2 : Nat) (Option.some Jvm.ClassFile.FieldType.boolean)) ∈ lw_all := lw_g (lw_at lw_m1 215 rfl) rfl
theorem q239 : (Jvm.Cond.methodLink "BinDeskModel" (23 : Nat) ({ cls := "BinDeskModel", name := "is", desc := "(I)Z" } : Jvm.MethodName)) ∈ lw_all := lw_g (lw_at lw_m1 216 rfl) rfl
theorem q240 : (Jvm.Cond.privateMethod ({ cls := "BinDeskModel", name := "is", desc := "(I)Z" } : Jvm.MethodName)) ∈ lw_tbl := lw_at lw_m1 217 rfl
theorem q241 : (Jvm.Cond.instanceMethod ({ cls := "BinDeskModel", name := "is", desc := "(I)Z" } : Jvm.MethodName)) ∈ lw_all := lw_g (lw_at lw_m1 218 rfl) rfl
theorem q242 : (Jvm.Cond.code ({ cls := "BinDeskModel", name := "is", desc := "(I)Z" } : Jvm.MethodName) prog_3_method_2_code (2 : Nat) (Option.some Jvm.ClassFile.FieldType.boolean)) ∈ lw_all := lw_g (lw_at lw_m1 219 rfl) rfl
theorem q244 : (Jvm.Cond.instanceMethod ({ cls := "BinDeskModel", name := "resize", desc := "(II)Z" } : Jvm.MethodName)) ∈ lw_all := lw_g (lw_at lw_m1 221 rfl) rfl
theorem q245 : (Jvm.Cond.selects "BinDeskModel" ({ cls := "BinDeskModel", name := "resize", desc := "(II)Z" } : Jvm.MethodName) ({ cls := "BinDeskModel", name := "resize", desc := "(II)Z" } : Jvm.MethodName)) ∈ lw_all := lw_g (lw_at lw_m1 222 rfl) rfl
theorem q246 : (Jvm.Cond.code ({ cls := "BinDeskModel", name := "resize", desc := "(II)Z" } : Jvm.MethodName) prog_3_method_5_code (3 : Nat) (Option.some Jvm.ClassFile.FieldType.boolean)) ∈ lw_all := lw_g (lw_at lw_m1 223 rfl) rfl
theorem q248 : (Jvm.Cond.instanceMethod ({ cls := "BinDeskModel", name := "setSize", desc := "(I)Z" } : Jvm.MethodName)) ∈ lw_all := lw_g (lw_at lw_m1 225 rfl) rfl
theorem q249 : (Jvm.Cond.selects "BinDeskModel" ({ cls := "BinDeskModel", name := "setSize", desc := "(I)Z" } : Jvm.MethodName) ({ cls := "BinDeskModel", name := "setSize", desc := "(I)Z" } : Jvm.MethodName)) ∈ lw_all := lw_g (lw_at lw_m1 226 rfl) rfl
theorem q250 : (Jvm.Cond.code ({ cls := "BinDeskModel", name := "setSize", desc := "(I)Z" } : Jvm.MethodName) prog_3_method_6_code (3 : Nat) (Option.some Jvm.ClassFile.FieldType.boolean)) ∈ lw_all := lw_g (lw_at lw_m1 227 rfl) rfl
theorem q252 : (Jvm.Cond.instanceMethod ({ cls := "BinDeskModel", name := "size", desc := "()I" } : Jvm.MethodName)) ∈ lw_all := lw_g (lw_at lw_m1 229 rfl) rfl
theorem q253 : (Jvm.Cond.selects "BinDeskModel" ({ cls := "BinDeskModel", name := "size", desc := "()I" } : Jvm.MethodName) ({ cls := "BinDeskModel", name := "size", desc := "()I" } : Jvm.MethodName)) ∈ lw_all := lw_g (lw_at lw_m1 230 rfl) rfl
theorem q254 : (Jvm.Cond.code ({ cls := "BinDeskModel", name := "size", desc := "()I" } : Jvm.MethodName) prog_3_method_7_code (1 : Nat) (Option.some Jvm.ClassFile.FieldType.int)) ∈ lw_all := lw_g (lw_at lw_m1 231 rfl) rfl
theorem q256 : (Jvm.Cond.instanceMethod ({ cls := "BinDeskModel", name := "items", desc := "()I" } : Jvm.MethodName)) ∈ lw_all := lw_g (lw_at lw_m1 233 rfl) rfl
theorem q257 : (Jvm.Cond.selects "BinDeskModel" ({ cls := "BinDeskModel", name := "items", desc := "()I" } : Jvm.MethodName) ({ cls := "BinDeskModel", name := "items", desc := "()I" } : Jvm.MethodName)) ∈ lw_all := lw_g (lw_at lw_m1 234 rfl) rfl
theorem q258 : (Jvm.Cond.code ({ cls := "BinDeskModel", name := "items", desc := "()I" } : Jvm.MethodName) prog_3_method_8_code (3 : Nat) (Option.some Jvm.ClassFile.FieldType.int)) ∈ lw_all := lw_g (lw_at lw_m1 235 rfl) rfl
theorem q260 : (Jvm.Cond.instanceMethod ({ cls := "BinDeskModel", name := "sizeOf", desc := "(I)I" } : Jvm.MethodName)) ∈ lw_all := lw_g (lw_at lw_m1 237 rfl) rfl
theorem q261 : (Jvm.Cond.selects "BinDeskModel" ({ cls := "BinDeskModel", name := "sizeOf", desc := "(I)I" } : Jvm.MethodName) ({ cls := "BinDeskModel", name := "sizeOf", desc := "(I)I" } : Jvm.MethodName)) ∈ lw_all := lw_g (lw_at lw_m1 238 rfl) rfl
theorem q262 : (Jvm.Cond.code ({ cls := "BinDeskModel", name := "sizeOf", desc := "(I)I" } : Jvm.MethodName) prog_3_method_9_code (2 : Nat) (Option.some Jvm.ClassFile.FieldType.int)) ∈ lw_all := lw_g (lw_at lw_m1 239 rfl) rfl
theorem q264 : (Jvm.Cond.instanceMethod ({ cls := "BinDeskModel", name := "least", desc := "()I" } : Jvm.MethodName)) ∈ lw_all := lw_g (lw_at lw_m2 1 rfl) rfl
theorem q265 : (Jvm.Cond.selects "BinDeskModel" ({ cls := "BinDeskModel", name := "least", desc := "()I" } : Jvm.MethodName) ({ cls := "BinDeskModel", name := "least", desc := "()I" } : Jvm.MethodName)) ∈ lw_all := lw_g (lw_at lw_m2 2 rfl) rfl
theorem q266 : (Jvm.Cond.code ({ cls := "BinDeskModel", name := "least", desc := "()I" } : Jvm.MethodName) prog_3_method_15_code (5 : Nat) (Option.some Jvm.ClassFile.FieldType.int)) ∈ lw_all := lw_g (lw_at lw_m2 3 rfl) rfl
theorem q267 : (Jvm.Cond.methodLink "BinDeskModel" (37 : Nat) ({ cls := "BinDeskModel", name := "first", desc := "()V" } : Jvm.MethodName)) ∈ lw_all := lw_g (lw_at lw_m2 4 rfl) rfl
theorem q268 : (Jvm.Cond.privateMethod ({ cls := "BinDeskModel", name := "first", desc := "()V" } : Jvm.MethodName)) ∈ lw_tbl := lw_at lw_m2 5 rfl
theorem q269 : (Jvm.Cond.instanceMethod ({ cls := "BinDeskModel", name := "first", desc := "()V" } : Jvm.MethodName)) ∈ lw_all := lw_g (lw_at lw_m2 6 rfl) rfl
theorem q270 : (Jvm.Cond.code ({ cls := "BinDeskModel", name := "first", desc := "()V" } : Jvm.MethodName) prog_3_method_10_code (2 : Nat) (Option.none : Option Jvm.ClassFile.FieldType)) ∈ lw_all := lw_g (lw_at lw_m2 7 rfl) rfl
theorem q271 : (Jvm.Cond.methodLink "BinDeskModel" (30 : Nat) ({ cls := "BinDeskModel", name := "greatest", desc := "(I)I" } : Jvm.MethodName)) ∈ lw_all := lw_g (lw_at lw_m2 8 rfl) rfl
theorem q272 : (Jvm.Cond.privateMethod ({ cls := "BinDeskModel", name := "greatest", desc := "(I)I" } : Jvm.MethodName)) ∈ lw_tbl := lw_at lw_m2 9 rfl
theorem q273 : (Jvm.Cond.instanceMethod ({ cls := "BinDeskModel", name := "greatest", desc := "(I)I" } : Jvm.MethodName)) ∈ lw_all := lw_g (lw_at lw_m2 10 rfl) rfl
theorem q274 : (Jvm.Cond.code ({ cls := "BinDeskModel", name := "greatest", desc := "(I)I" } : Jvm.MethodName) prog_3_method_11_code (4 : Nat) (Option.some Jvm.ClassFile.FieldType.int)) ∈ lw_all := lw_g (lw_at lw_m2 11 rfl) rfl
theorem q275 : (Jvm.Cond.methodLink "BinDeskModel" (40 : Nat) ({ cls := "BinDeskModel", name := "extreme", desc := "(Z)I" } : Jvm.MethodName)) ∈ lw_all := lw_g (lw_at lw_m2 12 rfl) rfl
theorem q276 : (Jvm.Cond.privateMethod ({ cls := "BinDeskModel", name := "extreme", desc := "(Z)I" } : Jvm.MethodName)) ∈ lw_tbl := lw_at lw_m2 13 rfl
theorem q277 : (Jvm.Cond.instanceMethod ({ cls := "BinDeskModel", name := "extreme", desc := "(Z)I" } : Jvm.MethodName)) ∈ lw_all := lw_g (lw_at lw_m2 14 rfl) rfl
theorem q278 : (Jvm.Cond.code ({ cls := "BinDeskModel", name := "extreme", desc := "(Z)I" } : Jvm.MethodName) prog_3_method_14_code (6 : Nat) (Option.some Jvm.ClassFile.FieldType.int)) ∈ lw_all := lw_g (lw_at lw_m2 15 rfl) rfl
theorem q279 : (Jvm.Cond.methodLink "BinDeskModel" (34 : Nat) ({ cls := "BinDeskModel", name := "load", desc := "(I)I" } : Jvm.MethodName)) ∈ lw_all := lw_g (lw_at lw_m2 16 rfl) rfl
theorem q280 : (Jvm.Cond.privateMethod ({ cls := "BinDeskModel", name := "load", desc := "(I)I" } : Jvm.MethodName)) ∈ lw_tbl := lw_at lw_m2 17 rfl
theorem q281 : (Jvm.Cond.instanceMethod ({ cls := "BinDeskModel", name := "load", desc := "(I)I" } : Jvm.MethodName)) ∈ lw_all := lw_g (lw_at lw_m2 18 rfl) rfl
theorem q282 : (Jvm.Cond.code ({ cls := "BinDeskModel", name := "load", desc := "(I)I" } : Jvm.MethodName) prog_3_method_13_code (4 : Nat) (Option.some Jvm.ClassFile.FieldType.int)) ∈ lw_all := lw_g (lw_at lw_m2 19 rfl) rfl
theorem q283 : (Jvm.Cond.methodLink "BinDeskModel" (44 : Nat) ({ cls := "BinDeskModel", name := "next", desc := "()Z" } : Jvm.MethodName)) ∈ lw_all := lw_g (lw_at lw_m2 20 rfl) rfl
theorem q284 : (Jvm.Cond.privateMethod ({ cls := "BinDeskModel", name := "next", desc := "()Z" } : Jvm.MethodName)) ∈ lw_tbl := lw_at lw_m2 21 rfl
theorem q285 : (Jvm.Cond.instanceMethod ({ cls := "BinDeskModel", name := "next", desc := "()Z" } : Jvm.MethodName)) ∈ lw_all := lw_g (lw_at lw_m2 22 rfl) rfl
theorem q286 : (Jvm.Cond.code ({ cls := "BinDeskModel", name := "next", desc := "()Z" } : Jvm.MethodName) prog_3_method_12_code (3 : Nat) (Option.some Jvm.ClassFile.FieldType.boolean)) ∈ lw_all := lw_g (lw_at lw_m2 23 rfl) rfl
theorem q288 : (Jvm.Cond.instanceMethod ({ cls := "BinDeskModel", name := "binOf", desc := "(I)I" } : Jvm.MethodName)) ∈ lw_all := lw_g (lw_at lw_m2 25 rfl) rfl
theorem q289 : (Jvm.Cond.selects "BinDeskModel" ({ cls := "BinDeskModel", name := "binOf", desc := "(I)I" } : Jvm.MethodName) ({ cls := "BinDeskModel", name := "binOf", desc := "(I)I" } : Jvm.MethodName)) ∈ lw_all := lw_g (lw_at lw_m2 26 rfl) rfl
theorem q290 : (Jvm.Cond.code ({ cls := "BinDeskModel", name := "binOf", desc := "(I)I" } : Jvm.MethodName) prog_3_method_16_code (5 : Nat) (Option.some Jvm.ClassFile.FieldType.int)) ∈ lw_all := lw_g (lw_at lw_m2 27 rfl) rfl
theorem q291 : (Jvm.Cond.methodLink "BinDeskModel" (48 : Nat) ({ cls := "BinDeskModel", name := "least", desc := "()I" } : Jvm.MethodName)) ∈ lw_all := lw_g (lw_at lw_m2 28 rfl) rfl
theorem q292 : (Jvm.Cond.methodLink "BinDeskModel" (52 : Nat) ({ cls := "BinDeskModel", name := "rank", desc := "(I)I" } : Jvm.MethodName)) ∈ lw_all := lw_g (lw_at lw_m2 29 rfl) rfl
theorem q293 : (Jvm.Cond.privateMethod ({ cls := "BinDeskModel", name := "rank", desc := "(I)I" } : Jvm.MethodName)) ∈ lw_tbl := lw_at lw_m2 30 rfl
theorem q294 : (Jvm.Cond.instanceMethod ({ cls := "BinDeskModel", name := "rank", desc := "(I)I" } : Jvm.MethodName)) ∈ lw_all := lw_g (lw_at lw_m2 31 rfl) rfl
theorem q295 : (Jvm.Cond.code ({ cls := "BinDeskModel", name := "rank", desc := "(I)I" } : Jvm.MethodName) prog_3_method_17_code (4 : Nat) (Option.some Jvm.ClassFile.FieldType.int)) ∈ lw_all := lw_g (lw_at lw_m2 32 rfl) rfl
theorem q297 : (Jvm.Cond.instanceMethod ({ cls := "BinDeskModel", name := "leastWithout", desc := "(I)I" } : Jvm.MethodName)) ∈ lw_all := lw_g (lw_at lw_m2 34 rfl) rfl
theorem q298 : (Jvm.Cond.selects "BinDeskModel" ({ cls := "BinDeskModel", name := "leastWithout", desc := "(I)I" } : Jvm.MethodName) ({ cls := "BinDeskModel", name := "leastWithout", desc := "(I)I" } : Jvm.MethodName)) ∈ lw_all := lw_g (lw_at lw_m2 35 rfl) rfl
theorem q299 : (Jvm.Cond.code ({ cls := "BinDeskModel", name := "leastWithout", desc := "(I)I" } : Jvm.MethodName) prog_3_method_18_code (4 : Nat) (Option.some Jvm.ClassFile.FieldType.int)) ∈ lw_all := lw_g (lw_at lw_m2 36 rfl) rfl
theorem q301 : (Jvm.Cond.instanceMethod ({ cls := "BinDeskModel", name := "spare", desc := "()I" } : Jvm.MethodName)) ∈ lw_all := lw_g (lw_at lw_m2 38 rfl) rfl
theorem q302 : (Jvm.Cond.selects "BinDeskModel" ({ cls := "BinDeskModel", name := "spare", desc := "()I" } : Jvm.MethodName) ({ cls := "BinDeskModel", name := "spare", desc := "()I" } : Jvm.MethodName)) ∈ lw_all := lw_g (lw_at lw_m2 39 rfl) rfl
theorem q303 : (Jvm.Cond.code ({ cls := "BinDeskModel", name := "spare", desc := "()I" } : Jvm.MethodName) prog_3_method_19_code (6 : Nat) (Option.some Jvm.ClassFile.FieldType.int)) ∈ lw_all := lw_g (lw_at lw_m2 40 rfl) rfl
theorem q305 : (Jvm.Cond.instanceMethod ({ cls := "BinDeskModel", name := "sizeFor", desc := "(I)I" } : Jvm.MethodName)) ∈ lw_all := lw_g (lw_at lw_m2 42 rfl) rfl
theorem q306 : (Jvm.Cond.selects "BinDeskModel" ({ cls := "BinDeskModel", name := "sizeFor", desc := "(I)I" } : Jvm.MethodName) ({ cls := "BinDeskModel", name := "sizeFor", desc := "(I)I" } : Jvm.MethodName)) ∈ lw_all := lw_g (lw_at lw_m2 43 rfl) rfl
theorem q307 : (Jvm.Cond.code ({ cls := "BinDeskModel", name := "sizeFor", desc := "(I)I" } : Jvm.MethodName) prog_3_method_20_code (6 : Nat) (Option.some Jvm.ClassFile.FieldType.int)) ∈ lw_all := lw_g (lw_at lw_m2 44 rfl) rfl
theorem q309 : (Jvm.Cond.instanceMethod ({ cls := "BinDeskModel", name := "together", desc := "(II)Z" } : Jvm.MethodName)) ∈ lw_all := lw_g (lw_at lw_m2 46 rfl) rfl
theorem q310 : (Jvm.Cond.selects "BinDeskModel" ({ cls := "BinDeskModel", name := "together", desc := "(II)Z" } : Jvm.MethodName) ({ cls := "BinDeskModel", name := "together", desc := "(II)Z" } : Jvm.MethodName)) ∈ lw_all := lw_g (lw_at lw_m2 47 rfl) rfl
theorem q311 : (Jvm.Cond.code ({ cls := "BinDeskModel", name := "together", desc := "(II)Z" } : Jvm.MethodName) prog_3_method_21_code (7 : Nat) (Option.some Jvm.ClassFile.FieldType.boolean)) ∈ lw_all := lw_g (lw_at lw_m2 48 rfl) rfl
theorem in_X2 : ∀ w ∈ wsX20, w ∈ lw_all := lw_in wsX20 [220, 222, 224, 226, 228] (by decide +kernel) (by decide +kernel)
end
section
/-! BinDeskLaw -/
set_option maxRecDepth 100000
def RX0 : String := "BinDeskLaw"
abbrev cX0_cell : ByteArray := method_2_code
def yX0_cell : MethodName := ⟨RX0, "cell", "([II)I"⟩
theorem dX0_cell_0 : decode cX0_cell 0 = .ok (.iload_n 1, 1) := by decide +kernel
theorem dX0_cell_1 : decode cX0_cell 1 = .ok (.aload_n 0, 1) := by decide +kernel
theorem dX0_cell_2 : decode cX0_cell 2 = .ok (.arraylength, 1) := by decide +kernel
theorem dX0_cell_3 : decode cX0_cell 3 = .ok (.if_icmp .ge 9, 3) := by decide +kernel
theorem dX0_cell_6 : decode cX0_cell 6 = .ok (.aload_n 0, 1) := by decide +kernel
theorem dX0_cell_7 : decode cX0_cell 7 = .ok (.iload_n 1, 1) := by decide +kernel
theorem dX0_cell_8 : decode cX0_cell 8 = .ok (.iaload, 1) := by decide +kernel
theorem dX0_cell_9 : decode cX0_cell 9 = .ok (.goto 4, 3) := by decide +kernel
theorem dX0_cell_12 : decode cX0_cell 12 = .ok (.iconst 0, 1) := by decide +kernel
theorem dX0_cell_13 : decode cX0_cell 13 = .ok (.ireturn, 1) := by decide +kernel
theorem q23 : (Jvm.Cond.initialized "BinDeskLaw") ∈ lw_all := lw_g (lw_at lw_m1 0 rfl) rfl
theorem q26 : (Jvm.Cond.classLink "BinDeskLaw" (7 : Nat) "BinDesk") ∈ lw_all := lw_g (lw_at lw_m1 3 rfl) rfl
theorem q28 : (Jvm.Cond.methodLink "BinDeskLaw" (15 : Nat) ({ cls := "BinDesk", name := "<init>", desc := "(I)V" } : Jvm.MethodName)) ∈ lw_all := lw_g (lw_at lw_m1 5 rfl) rfl
theorem q85 : (Jvm.Cond.methodLink "BinDeskLaw" (21 : Nat) ({ cls := "BinDesk", name := "add", desc := "(I)I" } : Jvm.MethodName)) ∈ lw_all := lw_g (lw_at lw_m1 62 rfl) rfl
theorem q93 : (Jvm.Cond.methodLink "BinDeskLaw" (26 : Nat) ({ cls := "BinDesk", name := "remove", desc := "(I)Z" } : Jvm.MethodName)) ∈ lw_all := lw_g (lw_at lw_m1 70 rfl) rfl
theorem q97 : (Jvm.Cond.methodLink "BinDeskLaw" (31 : Nat) ({ cls := "BinDesk", name := "resize", desc := "(II)Z" } : Jvm.MethodName)) ∈ lw_all := lw_g (lw_at lw_m1 74 rfl) rfl
theorem q101 : (Jvm.Cond.methodLink "BinDeskLaw" (36 : Nat) ({ cls := "BinDesk", name := "setSize", desc := "(I)Z" } : Jvm.MethodName)) ∈ lw_all := lw_g (lw_at lw_m1 78 rfl) rfl
theorem q109 : (Jvm.Cond.methodLink "BinDeskLaw" (40 : Nat) ({ cls := "BinDesk", name := "size", desc := "()I" } : Jvm.MethodName)) ∈ lw_all := lw_g (lw_at lw_m1 86 rfl) rfl
theorem q113 : (Jvm.Cond.methodLink "BinDeskLaw" (45 : Nat) ({ cls := "BinDesk", name := "items", desc := "()I" } : Jvm.MethodName)) ∈ lw_all := lw_g (lw_at lw_m1 90 rfl) rfl
theorem q117 : (Jvm.Cond.methodLink "BinDeskLaw" (49 : Nat) ({ cls := "BinDesk", name := "sizeOf", desc := "(I)I" } : Jvm.MethodName)) ∈ lw_all := lw_g (lw_at lw_m1 94 rfl) rfl
theorem q121 : (Jvm.Cond.methodLink "BinDeskLaw" (53 : Nat) ({ cls := "BinDesk", name := "least", desc := "()I" } : Jvm.MethodName)) ∈ lw_all := lw_g (lw_at lw_m1 98 rfl) rfl
theorem q185 : (Jvm.Cond.methodLink "BinDeskLaw" (57 : Nat) ({ cls := "BinDesk", name := "binOf", desc := "(I)I" } : Jvm.MethodName)) ∈ lw_all := lw_g (lw_at lw_m1 162 rfl) rfl
theorem q189 : (Jvm.Cond.methodLink "BinDeskLaw" (61 : Nat) ({ cls := "BinDesk", name := "leastWithout", desc := "(I)I" } : Jvm.MethodName)) ∈ lw_all := lw_g (lw_at lw_m1 166 rfl) rfl
theorem q193 : (Jvm.Cond.methodLink "BinDeskLaw" (65 : Nat) ({ cls := "BinDesk", name := "spare", desc := "()I" } : Jvm.MethodName)) ∈ lw_all := lw_g (lw_at lw_m1 170 rfl) rfl
theorem q198 : (Jvm.Cond.methodLink "BinDeskLaw" (69 : Nat) ({ cls := "BinDesk", name := "sizeFor", desc := "(I)I" } : Jvm.MethodName)) ∈ lw_all := lw_g (lw_at lw_m1 175 rfl) rfl
theorem q202 : (Jvm.Cond.methodLink "BinDeskLaw" (73 : Nat) ({ cls := "BinDesk", name := "together", desc := "(II)Z" } : Jvm.MethodName)) ∈ lw_all := lw_g (lw_at lw_m1 179 rfl) rfl
theorem q206 : (Jvm.Cond.methodLink "BinDeskLaw" (9 : Nat) ({ cls := "BinDeskLaw", name := "cell", desc := "([II)I" } : Jvm.MethodName)) ∈ lw_all := lw_g (lw_at lw_m1 183 rfl) rfl
theorem q207 : (Jvm.Cond.static ({ cls := "BinDeskLaw", name := "cell", desc := "([II)I" } : Jvm.MethodName)) ∈ lw_all := lw_g (lw_at lw_m1 184 rfl) rfl
theorem q208 : (Jvm.Cond.code ({ cls := "BinDeskLaw", name := "cell", desc := "([II)I" } : Jvm.MethodName) method_2_code (2 : Nat) (Option.some Jvm.ClassFile.FieldType.int)) ∈ lw_all := lw_g (lw_at lw_m1 185 rfl) rfl
theorem q209 : (Jvm.Cond.classLink "BinDeskLaw" (18 : Nat) "BinDeskModel") ∈ lw_all := lw_g (lw_at lw_m1 186 rfl) rfl
theorem q211 : (Jvm.Cond.methodLink "BinDeskLaw" (20 : Nat) ({ cls := "BinDeskModel", name := "<init>", desc := "(I)V" } : Jvm.MethodName)) ∈ lw_all := lw_g (lw_at lw_m1 188 rfl) rfl
theorem q231 : (Jvm.Cond.methodLink "BinDeskLaw" (25 : Nat) ({ cls := "BinDeskModel", name := "add", desc := "(I)I" } : Jvm.MethodName)) ∈ lw_all := lw_g (lw_at lw_m1 208 rfl) rfl
theorem q235 : (Jvm.Cond.methodLink "BinDeskLaw" (30 : Nat) ({ cls := "BinDeskModel", name := "remove", desc := "(I)Z" } : Jvm.MethodName)) ∈ lw_all := lw_g (lw_at lw_m1 212 rfl) rfl
theorem q243 : (Jvm.Cond.methodLink "BinDeskLaw" (35 : Nat) ({ cls := "BinDeskModel", name := "resize", desc := "(II)Z" } : Jvm.MethodName)) ∈ lw_all := lw_g (lw_at lw_m1 220 rfl) rfl
theorem q247 : (Jvm.Cond.methodLink "BinDeskLaw" (39 : Nat) ({ cls := "BinDeskModel", name := "setSize", desc := "(I)Z" } : Jvm.MethodName)) ∈ lw_all := lw_g (lw_at lw_m1 224 rfl) rfl
theorem q251 : (Jvm.Cond.methodLink "BinDeskLaw" (44 : Nat) ({ cls := "BinDeskModel", name := "size", desc := "()I" } : Jvm.MethodName)) ∈ lw_all := lw_g (lw_at lw_m1 228 rfl) rfl
theorem q255 : (Jvm.Cond.methodLink "BinDeskLaw" (48 : Nat) ({ cls := "BinDeskModel", name := "items", desc := "()I" } : Jvm.MethodName)) ∈ lw_all := lw_g (lw_at lw_m1 232 rfl) rfl
theorem q259 : (Jvm.Cond.methodLink "BinDeskLaw" (52 : Nat) ({ cls := "BinDeskModel", name := "sizeOf", desc := "(I)I" } : Jvm.MethodName)) ∈ lw_all := lw_g (lw_at lw_m1 236 rfl) rfl
theorem q263 : (Jvm.Cond.methodLink "BinDeskLaw" (56 : Nat) ({ cls := "BinDeskModel", name := "least", desc := "()I" } : Jvm.MethodName)) ∈ lw_all := lw_g (lw_at lw_m2 0 rfl) rfl
theorem q287 : (Jvm.Cond.methodLink "BinDeskLaw" (60 : Nat) ({ cls := "BinDeskModel", name := "binOf", desc := "(I)I" } : Jvm.MethodName)) ∈ lw_all := lw_g (lw_at lw_m2 24 rfl) rfl
theorem q296 : (Jvm.Cond.methodLink "BinDeskLaw" (64 : Nat) ({ cls := "BinDeskModel", name := "leastWithout", desc := "(I)I" } : Jvm.MethodName)) ∈ lw_all := lw_g (lw_at lw_m2 33 rfl) rfl
theorem q300 : (Jvm.Cond.methodLink "BinDeskLaw" (68 : Nat) ({ cls := "BinDeskModel", name := "spare", desc := "()I" } : Jvm.MethodName)) ∈ lw_all := lw_g (lw_at lw_m2 37 rfl) rfl
theorem q304 : (Jvm.Cond.methodLink "BinDeskLaw" (72 : Nat) ({ cls := "BinDeskModel", name := "sizeFor", desc := "(I)I" } : Jvm.MethodName)) ∈ lw_all := lw_g (lw_at lw_m2 41 rfl) rfl
theorem q308 : (Jvm.Cond.methodLink "BinDeskLaw" (76 : Nat) ({ cls := "BinDeskModel", name := "together", desc := "(II)Z" } : Jvm.MethodName)) ∈ lw_all := lw_g (lw_at lw_m2 45 rfl) rfl
/-! java/lang/Object -/
set_option maxRecDepth 100000
def RJ0 : String := "java/lang/Object"
abbrev cJ0_init : ByteArray := object_method_1_code
def yJ0_init : MethodName := ⟨RJ0, "<init>", "()V"⟩
theorem dJ0_init_0 : decode cJ0_init 0 = .ok (.return_, 1) := by decide +kernel
theorem q32 : (Jvm.Cond.instanceMethod ({ cls := "java/lang/Object", name := "<init>", desc := "()V" } : Jvm.MethodName)) ∈ lw_all := lw_g (lw_at lw_m1 9 rfl) rfl
theorem q33 : (Jvm.Cond.code ({ cls := "java/lang/Object", name := "<init>", desc := "()V" } : Jvm.MethodName) object_method_1_code (1 : Nat) (Option.none : Option Jvm.ClassFile.FieldType)) ∈ lw_all := lw_g (lw_at lw_m1 10 rfl) rfl
theorem q83 : (Jvm.Cond.arrayClass Jvm.ClassFile.FieldType.byte) ∈ lw_all := lw_g (lw_at lw_m1 60 rfl) rfl
set_option maxRecDepth 100000
theorem q84 : (Jvm.Cond.arrayClass Jvm.ClassFile.FieldType.int) ∈ lw_all := lw_g (lw_at lw_m1 61 rfl) rfl
/-! the law's own entry -/
set_option maxRecDepth 100000
abbrev cL_law : ByteArray := code
theorem dL_law_0 : decode cL_law 0 = .ok (.new 7, 3) := by decide +kernel
theorem dL_law_3 : decode cL_law 3 = .ok (.dup, 1) := by decide +kernel
theorem dL_law_4 : decode cL_law 4 = .ok (.aload_n 0, 1) := by decide +kernel
theorem dL_law_5 : decode cL_law 5 = .ok (.iconst 0, 1) := by decide +kernel
theorem dL_law_6 : decode cL_law 6 = .ok (.invokestatic 9, 3) := by decide +kernel
theorem dL_law_9 : decode cL_law 9 = .ok (.invokespecial 15, 3) := by decide +kernel
theorem dL_law_12 : decode cL_law 12 = .ok (.astore_n 1, 1) := by decide +kernel
theorem dL_law_13 : decode cL_law 13 = .ok (.new 18, 3) := by decide +kernel
theorem dL_law_16 : decode cL_law 16 = .ok (.dup, 1) := by decide +kernel
theorem dL_law_17 : decode cL_law 17 = .ok (.aload_n 0, 1) := by decide +kernel
theorem dL_law_18 : decode cL_law 18 = .ok (.iconst 0, 1) := by decide +kernel
theorem dL_law_19 : decode cL_law 19 = .ok (.invokestatic 9, 3) := by decide +kernel
theorem dL_law_22 : decode cL_law 22 = .ok (.invokespecial 20, 3) := by decide +kernel
theorem dL_law_25 : decode cL_law 25 = .ok (.astore_n 2, 1) := by decide +kernel
theorem dL_law_26 : decode cL_law 26 = .ok (.iconst 1, 1) := by decide +kernel
theorem dL_law_27 : decode cL_law 27 = .ok (.istore_n 3, 1) := by decide +kernel
theorem dL_law_28 : decode cL_law 28 = .ok (.iload_n 3, 1) := by decide +kernel
theorem dL_law_29 : decode cL_law 29 = .ok (.aload_n 0, 1) := by decide +kernel
theorem dL_law_30 : decode cL_law 30 = .ok (.arraylength, 1) := by decide +kernel
theorem dL_law_31 : decode cL_law 31 = .ok (.iconst 3, 1) := by decide +kernel
theorem dL_law_32 : decode cL_law 32 = .ok (.isub, 1) := by decide +kernel
theorem dL_law_33 : decode cL_law 33 = .ok (.if_icmp .gt 360, 3) := by decide +kernel
theorem dL_law_36 : decode cL_law 36 = .ok (.aload_n 0, 1) := by decide +kernel
theorem dL_law_37 : decode cL_law 37 = .ok (.iload_n 3, 1) := by decide +kernel
theorem dL_law_38 : decode cL_law 38 = .ok (.iaload, 1) := by decide +kernel
theorem dL_law_39 : decode cL_law 39 = .ok (.bipush 15, 2) := by decide +kernel
theorem dL_law_41 : decode cL_law 41 = .ok (.iand, 1) := by decide +kernel
theorem dL_law_42 : decode cL_law 42 = .ok (.tableswitch 345 0 12 #[66, 89, 112, 145, 168, 181, 194, 217, 230, 253, 276, 289, 312], 66) := by decide +kernel
theorem dL_law_108 : decode cL_law 108 = .ok (.aload_n 1, 1) := by decide +kernel
theorem dL_law_109 : decode cL_law 109 = .ok (.aload_n 0, 1) := by decide +kernel
theorem dL_law_110 : decode cL_law 110 = .ok (.iload_n 3, 1) := by decide +kernel
theorem dL_law_111 : decode cL_law 111 = .ok (.iconst 1, 1) := by decide +kernel
theorem dL_law_112 : decode cL_law 112 = .ok (.iadd, 1) := by decide +kernel
theorem dL_law_113 : decode cL_law 113 = .ok (.iaload, 1) := by decide +kernel
theorem dL_law_114 : decode cL_law 114 = .ok (.invokevirtual 21, 3) := by decide +kernel
theorem dL_law_117 : decode cL_law 117 = .ok (.aload_n 2, 1) := by decide +kernel
theorem dL_law_118 : decode cL_law 118 = .ok (.aload_n 0, 1) := by decide +kernel
theorem dL_law_119 : decode cL_law 119 = .ok (.iload_n 3, 1) := by decide +kernel
theorem dL_law_120 : decode cL_law 120 = .ok (.iconst 1, 1) := by decide +kernel
theorem dL_law_121 : decode cL_law 121 = .ok (.iadd, 1) := by decide +kernel
theorem dL_law_122 : decode cL_law 122 = .ok (.iaload, 1) := by decide +kernel
theorem dL_law_123 : decode cL_law 123 = .ok (.invokevirtual 25, 3) := by decide +kernel
theorem dL_law_126 : decode cL_law 126 = .ok (.if_icmp .eq 261, 3) := by decide +kernel
theorem dL_law_129 : decode cL_law 129 = .ok (.iconst 0, 1) := by decide +kernel
theorem dL_law_130 : decode cL_law 130 = .ok (.ireturn, 1) := by decide +kernel
theorem dL_law_131 : decode cL_law 131 = .ok (.aload_n 1, 1) := by decide +kernel
theorem dL_law_132 : decode cL_law 132 = .ok (.aload_n 0, 1) := by decide +kernel
theorem dL_law_133 : decode cL_law 133 = .ok (.iload_n 3, 1) := by decide +kernel
theorem dL_law_134 : decode cL_law 134 = .ok (.iconst 1, 1) := by decide +kernel
theorem dL_law_135 : decode cL_law 135 = .ok (.iadd, 1) := by decide +kernel
theorem dL_law_136 : decode cL_law 136 = .ok (.iaload, 1) := by decide +kernel
theorem dL_law_137 : decode cL_law 137 = .ok (.invokevirtual 26, 3) := by decide +kernel
theorem dL_law_140 : decode cL_law 140 = .ok (.aload_n 2, 1) := by decide +kernel
theorem dL_law_141 : decode cL_law 141 = .ok (.aload_n 0, 1) := by decide +kernel
theorem dL_law_142 : decode cL_law 142 = .ok (.iload_n 3, 1) := by decide +kernel
theorem dL_law_143 : decode cL_law 143 = .ok (.iconst 1, 1) := by decide +kernel
theorem dL_law_144 : decode cL_law 144 = .ok (.iadd, 1) := by decide +kernel
theorem dL_law_145 : decode cL_law 145 = .ok (.iaload, 1) := by decide +kernel
theorem dL_law_146 : decode cL_law 146 = .ok (.invokevirtual 30, 3) := by decide +kernel
theorem dL_law_149 : decode cL_law 149 = .ok (.if_icmp .eq 238, 3) := by decide +kernel
theorem dL_law_152 : decode cL_law 152 = .ok (.iconst 0, 1) := by decide +kernel
theorem dL_law_153 : decode cL_law 153 = .ok (.ireturn, 1) := by decide +kernel
theorem dL_law_154 : decode cL_law 154 = .ok (.aload_n 1, 1) := by decide +kernel
theorem dL_law_155 : decode cL_law 155 = .ok (.aload_n 0, 1) := by decide +kernel
theorem dL_law_156 : decode cL_law 156 = .ok (.iload_n 3, 1) := by decide +kernel
theorem dL_law_157 : decode cL_law 157 = .ok (.iconst 1, 1) := by decide +kernel
theorem dL_law_158 : decode cL_law 158 = .ok (.iadd, 1) := by decide +kernel
theorem dL_law_159 : decode cL_law 159 = .ok (.iaload, 1) := by decide +kernel
theorem dL_law_160 : decode cL_law 160 = .ok (.aload_n 0, 1) := by decide +kernel
theorem dL_law_161 : decode cL_law 161 = .ok (.iload_n 3, 1) := by decide +kernel
theorem dL_law_162 : decode cL_law 162 = .ok (.iconst 2, 1) := by decide +kernel
theorem dL_law_163 : decode cL_law 163 = .ok (.iadd, 1) := by decide +kernel
theorem dL_law_164 : decode cL_law 164 = .ok (.iaload, 1) := by decide +kernel
theorem dL_law_165 : decode cL_law 165 = .ok (.invokevirtual 31, 3) := by decide +kernel
theorem dL_law_168 : decode cL_law 168 = .ok (.aload_n 2, 1) := by decide +kernel
theorem dL_law_169 : decode cL_law 169 = .ok (.aload_n 0, 1) := by decide +kernel
theorem dL_law_170 : decode cL_law 170 = .ok (.iload_n 3, 1) := by decide +kernel
theorem dL_law_171 : decode cL_law 171 = .ok (.iconst 1, 1) := by decide +kernel
theorem dL_law_172 : decode cL_law 172 = .ok (.iadd, 1) := by decide +kernel
theorem dL_law_173 : decode cL_law 173 = .ok (.iaload, 1) := by decide +kernel
theorem dL_law_174 : decode cL_law 174 = .ok (.aload_n 0, 1) := by decide +kernel
theorem dL_law_175 : decode cL_law 175 = .ok (.iload_n 3, 1) := by decide +kernel
theorem dL_law_176 : decode cL_law 176 = .ok (.iconst 2, 1) := by decide +kernel
theorem dL_law_177 : decode cL_law 177 = .ok (.iadd, 1) := by decide +kernel
theorem dL_law_178 : decode cL_law 178 = .ok (.iaload, 1) := by decide +kernel
theorem dL_law_179 : decode cL_law 179 = .ok (.invokevirtual 35, 3) := by decide +kernel
theorem dL_law_182 : decode cL_law 182 = .ok (.if_icmp .eq 205, 3) := by decide +kernel
theorem dL_law_185 : decode cL_law 185 = .ok (.iconst 0, 1) := by decide +kernel
theorem dL_law_186 : decode cL_law 186 = .ok (.ireturn, 1) := by decide +kernel
theorem dL_law_187 : decode cL_law 187 = .ok (.aload_n 1, 1) := by decide +kernel
theorem dL_law_188 : decode cL_law 188 = .ok (.aload_n 0, 1) := by decide +kernel
theorem dL_law_189 : decode cL_law 189 = .ok (.iload_n 3, 1) := by decide +kernel
theorem dL_law_190 : decode cL_law 190 = .ok (.iconst 1, 1) := by decide +kernel
theorem dL_law_191 : decode cL_law 191 = .ok (.iadd, 1) := by decide +kernel
theorem dL_law_192 : decode cL_law 192 = .ok (.iaload, 1) := by decide +kernel
theorem dL_law_193 : decode cL_law 193 = .ok (.invokevirtual 36, 3) := by decide +kernel
theorem dL_law_196 : decode cL_law 196 = .ok (.aload_n 2, 1) := by decide +kernel
theorem dL_law_197 : decode cL_law 197 = .ok (.aload_n 0, 1) := by decide +kernel
theorem dL_law_198 : decode cL_law 198 = .ok (.iload_n 3, 1) := by decide +kernel
theorem dL_law_199 : decode cL_law 199 = .ok (.iconst 1, 1) := by decide +kernel
theorem dL_law_200 : decode cL_law 200 = .ok (.iadd, 1) := by decide +kernel
theorem dL_law_201 : decode cL_law 201 = .ok (.iaload, 1) := by decide +kernel
theorem dL_law_202 : decode cL_law 202 = .ok (.invokevirtual 39, 3) := by decide +kernel
theorem dL_law_205 : decode cL_law 205 = .ok (.if_icmp .eq 182, 3) := by decide +kernel
theorem dL_law_208 : decode cL_law 208 = .ok (.iconst 0, 1) := by decide +kernel
theorem dL_law_209 : decode cL_law 209 = .ok (.ireturn, 1) := by decide +kernel
theorem dL_law_210 : decode cL_law 210 = .ok (.aload_n 1, 1) := by decide +kernel
theorem dL_law_211 : decode cL_law 211 = .ok (.invokevirtual 40, 3) := by decide +kernel
theorem dL_law_214 : decode cL_law 214 = .ok (.aload_n 2, 1) := by decide +kernel
theorem dL_law_215 : decode cL_law 215 = .ok (.invokevirtual 44, 3) := by decide +kernel
theorem dL_law_218 : decode cL_law 218 = .ok (.if_icmp .eq 169, 3) := by decide +kernel
theorem dL_law_221 : decode cL_law 221 = .ok (.iconst 0, 1) := by decide +kernel
theorem dL_law_222 : decode cL_law 222 = .ok (.ireturn, 1) := by decide +kernel
theorem dL_law_223 : decode cL_law 223 = .ok (.aload_n 1, 1) := by decide +kernel
theorem dL_law_224 : decode cL_law 224 = .ok (.invokevirtual 45, 3) := by decide +kernel
theorem dL_law_227 : decode cL_law 227 = .ok (.aload_n 2, 1) := by decide +kernel
theorem dL_law_228 : decode cL_law 228 = .ok (.invokevirtual 48, 3) := by decide +kernel
theorem dL_law_231 : decode cL_law 231 = .ok (.if_icmp .eq 156, 3) := by decide +kernel
theorem dL_law_234 : decode cL_law 234 = .ok (.iconst 0, 1) := by decide +kernel
theorem dL_law_235 : decode cL_law 235 = .ok (.ireturn, 1) := by decide +kernel
theorem dL_law_236 : decode cL_law 236 = .ok (.aload_n 1, 1) := by decide +kernel
theorem dL_law_237 : decode cL_law 237 = .ok (.aload_n 0, 1) := by decide +kernel
theorem dL_law_238 : decode cL_law 238 = .ok (.iload_n 3, 1) := by decide +kernel
theorem dL_law_239 : decode cL_law 239 = .ok (.iconst 1, 1) := by decide +kernel
theorem dL_law_240 : decode cL_law 240 = .ok (.iadd, 1) := by decide +kernel
theorem dL_law_241 : decode cL_law 241 = .ok (.iaload, 1) := by decide +kernel
theorem dL_law_242 : decode cL_law 242 = .ok (.invokevirtual 49, 3) := by decide +kernel
theorem dL_law_245 : decode cL_law 245 = .ok (.aload_n 2, 1) := by decide +kernel
theorem dL_law_246 : decode cL_law 246 = .ok (.aload_n 0, 1) := by decide +kernel
theorem dL_law_247 : decode cL_law 247 = .ok (.iload_n 3, 1) := by decide +kernel
theorem dL_law_248 : decode cL_law 248 = .ok (.iconst 1, 1) := by decide +kernel
theorem dL_law_249 : decode cL_law 249 = .ok (.iadd, 1) := by decide +kernel
theorem dL_law_250 : decode cL_law 250 = .ok (.iaload, 1) := by decide +kernel
theorem dL_law_251 : decode cL_law 251 = .ok (.invokevirtual 52, 3) := by decide +kernel
theorem dL_law_254 : decode cL_law 254 = .ok (.if_icmp .eq 133, 3) := by decide +kernel
theorem dL_law_257 : decode cL_law 257 = .ok (.iconst 0, 1) := by decide +kernel
theorem dL_law_258 : decode cL_law 258 = .ok (.ireturn, 1) := by decide +kernel
theorem dL_law_259 : decode cL_law 259 = .ok (.aload_n 1, 1) := by decide +kernel
theorem dL_law_260 : decode cL_law 260 = .ok (.invokevirtual 53, 3) := by decide +kernel
theorem dL_law_263 : decode cL_law 263 = .ok (.aload_n 2, 1) := by decide +kernel
theorem dL_law_264 : decode cL_law 264 = .ok (.invokevirtual 56, 3) := by decide +kernel
theorem dL_law_267 : decode cL_law 267 = .ok (.if_icmp .eq 120, 3) := by decide +kernel
theorem dL_law_270 : decode cL_law 270 = .ok (.iconst 0, 1) := by decide +kernel
theorem dL_law_271 : decode cL_law 271 = .ok (.ireturn, 1) := by decide +kernel
theorem dL_law_272 : decode cL_law 272 = .ok (.aload_n 1, 1) := by decide +kernel
theorem dL_law_273 : decode cL_law 273 = .ok (.aload_n 0, 1) := by decide +kernel
theorem dL_law_274 : decode cL_law 274 = .ok (.iload_n 3, 1) := by decide +kernel
theorem dL_law_275 : decode cL_law 275 = .ok (.iconst 1, 1) := by decide +kernel
theorem dL_law_276 : decode cL_law 276 = .ok (.iadd, 1) := by decide +kernel
theorem dL_law_277 : decode cL_law 277 = .ok (.iaload, 1) := by decide +kernel
theorem dL_law_278 : decode cL_law 278 = .ok (.invokevirtual 57, 3) := by decide +kernel
theorem dL_law_281 : decode cL_law 281 = .ok (.aload_n 2, 1) := by decide +kernel
theorem dL_law_282 : decode cL_law 282 = .ok (.aload_n 0, 1) := by decide +kernel
theorem dL_law_283 : decode cL_law 283 = .ok (.iload_n 3, 1) := by decide +kernel
theorem dL_law_284 : decode cL_law 284 = .ok (.iconst 1, 1) := by decide +kernel
theorem dL_law_285 : decode cL_law 285 = .ok (.iadd, 1) := by decide +kernel
theorem dL_law_286 : decode cL_law 286 = .ok (.iaload, 1) := by decide +kernel
theorem dL_law_287 : decode cL_law 287 = .ok (.invokevirtual 60, 3) := by decide +kernel
theorem dL_law_290 : decode cL_law 290 = .ok (.if_icmp .eq 97, 3) := by decide +kernel
theorem dL_law_293 : decode cL_law 293 = .ok (.iconst 0, 1) := by decide +kernel
theorem dL_law_294 : decode cL_law 294 = .ok (.ireturn, 1) := by decide +kernel
theorem dL_law_295 : decode cL_law 295 = .ok (.aload_n 1, 1) := by decide +kernel
theorem dL_law_296 : decode cL_law 296 = .ok (.aload_n 0, 1) := by decide +kernel
theorem dL_law_297 : decode cL_law 297 = .ok (.iload_n 3, 1) := by decide +kernel
theorem dL_law_298 : decode cL_law 298 = .ok (.iconst 1, 1) := by decide +kernel
theorem dL_law_299 : decode cL_law 299 = .ok (.iadd, 1) := by decide +kernel
theorem dL_law_300 : decode cL_law 300 = .ok (.iaload, 1) := by decide +kernel
theorem dL_law_301 : decode cL_law 301 = .ok (.invokevirtual 61, 3) := by decide +kernel
theorem dL_law_304 : decode cL_law 304 = .ok (.aload_n 2, 1) := by decide +kernel
theorem dL_law_305 : decode cL_law 305 = .ok (.aload_n 0, 1) := by decide +kernel
theorem dL_law_306 : decode cL_law 306 = .ok (.iload_n 3, 1) := by decide +kernel
theorem dL_law_307 : decode cL_law 307 = .ok (.iconst 1, 1) := by decide +kernel
theorem dL_law_308 : decode cL_law 308 = .ok (.iadd, 1) := by decide +kernel
theorem dL_law_309 : decode cL_law 309 = .ok (.iaload, 1) := by decide +kernel
theorem dL_law_310 : decode cL_law 310 = .ok (.invokevirtual 64, 3) := by decide +kernel
theorem dL_law_313 : decode cL_law 313 = .ok (.if_icmp .eq 74, 3) := by decide +kernel
theorem dL_law_316 : decode cL_law 316 = .ok (.iconst 0, 1) := by decide +kernel
theorem dL_law_317 : decode cL_law 317 = .ok (.ireturn, 1) := by decide +kernel
theorem dL_law_318 : decode cL_law 318 = .ok (.aload_n 1, 1) := by decide +kernel
theorem dL_law_319 : decode cL_law 319 = .ok (.invokevirtual 65, 3) := by decide +kernel
theorem dL_law_322 : decode cL_law 322 = .ok (.aload_n 2, 1) := by decide +kernel
theorem dL_law_323 : decode cL_law 323 = .ok (.invokevirtual 68, 3) := by decide +kernel
theorem dL_law_326 : decode cL_law 326 = .ok (.if_icmp .eq 61, 3) := by decide +kernel
theorem dL_law_329 : decode cL_law 329 = .ok (.iconst 0, 1) := by decide +kernel
theorem dL_law_330 : decode cL_law 330 = .ok (.ireturn, 1) := by decide +kernel
theorem dL_law_331 : decode cL_law 331 = .ok (.aload_n 1, 1) := by decide +kernel
theorem dL_law_332 : decode cL_law 332 = .ok (.aload_n 0, 1) := by decide +kernel
theorem dL_law_333 : decode cL_law 333 = .ok (.iload_n 3, 1) := by decide +kernel
theorem dL_law_334 : decode cL_law 334 = .ok (.iconst 1, 1) := by decide +kernel
theorem dL_law_335 : decode cL_law 335 = .ok (.iadd, 1) := by decide +kernel
theorem dL_law_336 : decode cL_law 336 = .ok (.iaload, 1) := by decide +kernel
theorem dL_law_337 : decode cL_law 337 = .ok (.invokevirtual 69, 3) := by decide +kernel
theorem dL_law_340 : decode cL_law 340 = .ok (.aload_n 2, 1) := by decide +kernel
theorem dL_law_341 : decode cL_law 341 = .ok (.aload_n 0, 1) := by decide +kernel
theorem dL_law_342 : decode cL_law 342 = .ok (.iload_n 3, 1) := by decide +kernel
theorem dL_law_343 : decode cL_law 343 = .ok (.iconst 1, 1) := by decide +kernel
theorem dL_law_344 : decode cL_law 344 = .ok (.iadd, 1) := by decide +kernel
theorem dL_law_345 : decode cL_law 345 = .ok (.iaload, 1) := by decide +kernel
theorem dL_law_346 : decode cL_law 346 = .ok (.invokevirtual 72, 3) := by decide +kernel
theorem dL_law_349 : decode cL_law 349 = .ok (.if_icmp .eq 38, 3) := by decide +kernel
theorem dL_law_352 : decode cL_law 352 = .ok (.iconst 0, 1) := by decide +kernel
theorem dL_law_353 : decode cL_law 353 = .ok (.ireturn, 1) := by decide +kernel
theorem dL_law_354 : decode cL_law 354 = .ok (.aload_n 1, 1) := by decide +kernel
theorem dL_law_355 : decode cL_law 355 = .ok (.aload_n 0, 1) := by decide +kernel
theorem dL_law_356 : decode cL_law 356 = .ok (.iload_n 3, 1) := by decide +kernel
theorem dL_law_357 : decode cL_law 357 = .ok (.iconst 1, 1) := by decide +kernel
theorem dL_law_358 : decode cL_law 358 = .ok (.iadd, 1) := by decide +kernel
theorem dL_law_359 : decode cL_law 359 = .ok (.iaload, 1) := by decide +kernel
theorem dL_law_360 : decode cL_law 360 = .ok (.aload_n 0, 1) := by decide +kernel
theorem dL_law_361 : decode cL_law 361 = .ok (.iload_n 3, 1) := by decide +kernel
theorem dL_law_362 : decode cL_law 362 = .ok (.iconst 2, 1) := by decide +kernel
theorem dL_law_363 : decode cL_law 363 = .ok (.iadd, 1) := by decide +kernel
theorem dL_law_364 : decode cL_law 364 = .ok (.iaload, 1) := by decide +kernel
theorem dL_law_365 : decode cL_law 365 = .ok (.invokevirtual 73, 3) := by decide +kernel
theorem dL_law_368 : decode cL_law 368 = .ok (.aload_n 2, 1) := by decide +kernel
theorem dL_law_369 : decode cL_law 369 = .ok (.aload_n 0, 1) := by decide +kernel
theorem dL_law_370 : decode cL_law 370 = .ok (.iload_n 3, 1) := by decide +kernel
theorem dL_law_371 : decode cL_law 371 = .ok (.iconst 1, 1) := by decide +kernel
theorem dL_law_372 : decode cL_law 372 = .ok (.iadd, 1) := by decide +kernel
theorem dL_law_373 : decode cL_law 373 = .ok (.iaload, 1) := by decide +kernel
theorem dL_law_374 : decode cL_law 374 = .ok (.aload_n 0, 1) := by decide +kernel
theorem dL_law_375 : decode cL_law 375 = .ok (.iload_n 3, 1) := by decide +kernel
theorem dL_law_376 : decode cL_law 376 = .ok (.iconst 2, 1) := by decide +kernel
theorem dL_law_377 : decode cL_law 377 = .ok (.iadd, 1) := by decide +kernel
theorem dL_law_378 : decode cL_law 378 = .ok (.iaload, 1) := by decide +kernel
theorem dL_law_379 : decode cL_law 379 = .ok (.invokevirtual 76, 3) := by decide +kernel
theorem dL_law_382 : decode cL_law 382 = .ok (.if_icmp .eq 5, 3) := by decide +kernel
theorem dL_law_385 : decode cL_law 385 = .ok (.iconst 0, 1) := by decide +kernel
theorem dL_law_386 : decode cL_law 386 = .ok (.ireturn, 1) := by decide +kernel
theorem dL_law_387 : decode cL_law 387 = .ok (.iinc 3 3, 3) := by decide +kernel
theorem dL_law_390 : decode cL_law 390 = .ok (.goto (-362), 3) := by decide +kernel
theorem dL_law_393 : decode cL_law 393 = .ok (.iconst 1, 1) := by decide +kernel
theorem dL_law_394 : decode cL_law 394 = .ok (.ireturn, 1) := by decide +kernel
end
section
/-! numbers: an int as iI z, z : Int -/
def iI (z : Int) : Int32 := Int32.ofInt z
theorem iI_add (a b : Int) : iI a + iI b = iI (a + b) := (Int32.ofInt_add a b).symm
theorem iI_sub (a b : Int) : iI a - iI b = iI (a - b) := (Int32.ofInt_sub a b).symm
theorem iI_mul (a b : Int) : iI a * iI b = iI (a * b) := (Int32.ofInt_mul a b).symm
theorem iI_toInt {z : Int} (h : -2147483648 ≤ z ∧ z < 2147483648) : (iI z).toInt = z := Int32.toInt_ofInt_of_le (by omega) (by omega)
theorem iI_self (x : Int32) : iI x.toInt = x := Int32.ofInt_toInt x
theorem iI_of (x : Int32) : ∃ z : Int, (-2147483648 ≤ z ∧ z < 2147483648) ∧ x = iI z := ⟨x.toInt, ⟨Int32.le_toInt x, Int32.toInt_lt x⟩, (iI_self x).symm⟩
theorem iI_le {a b : Int} (ha : -2147483648 ≤ a ∧ a < 2147483648) (hb : -2147483648 ≤ b ∧ b < 2147483648) : iI a ≤ iI b ↔ a ≤ b := by rw [Int32.le_iff_toInt_le, iI_toInt ha, iI_toInt hb]
theorem iI_lt {a b : Int} (ha : -2147483648 ≤ a ∧ a < 2147483648) (hb : -2147483648 ≤ b ∧ b < 2147483648) : iI a < iI b ↔ a < b := by rw [Int32.lt_iff_toInt_lt, iI_toInt ha, iI_toInt hb]
theorem iI_eq {a b : Int} (ha : -2147483648 ≤ a ∧ a < 2147483648) (hb : -2147483648 ≤ b ∧ b < 2147483648) : iI a = iI b ↔ a = b := by
  constructor
  · intro h
    rw [← iI_toInt ha, ← iI_toInt hb, h]
  · intro h
    rw [h]
theorem iI_0 : (0 : Int32) = iI 0 := rfl
theorem iI_clamp {z : Int} {j : Nat} (hz : z = (j : Int)) (hj : j < 2147483648) : (iI z).toNatClampNeg = j := by
  subst hz
  show (Int32.ofInt (j : Int)).toInt.toNat = j
  rw [Int32.toInt_ofInt_of_le (by omega) (by omega)]
  rfl
theorem iI_in {z : Int} {j n : Nat} (hz : z = (j : Int)) (hj : j < n) (hn : n < 2147483648) : vp_in (iI z) n := by
  rw [vp_in_iff, iI_toInt (by omega)]
  omega
theorem iI_byte {z : Int} (h : -128 ≤ z ∧ z < 128) : (iI z).toInt8.toInt32 = iI z := by
  apply Int32.toInt_inj.mp
  rw [Int8.toInt_toInt32, Int32.toInt_toInt8, iI_toInt (by omega)]
  rw [Int.bmod_eq_of_le] <;> omega
theorem iI_upd (g : Nat → Int) (z x : Int) {j : Nat} (hz : z = (j : Int)) (hj : j < 2147483648) : upd (fun k => iI (g k)) (iI z).toNatClampNeg (iI x) = fun k => iI (va_up g j x k) := by
  rw [iI_clamp hz hj]
  funext k
  unfold upd va_up
  by_cases h : k = j
  · simp only [h, if_true]
  · simp only [h, if_false]
theorem iI_div {a b : Int} (ha : 0 ≤ a ∧ a < 2147483648) (hb : 0 < b ∧ b < 2147483648) : iI a / iI b = iI (a / b) := by
  apply Int32.toInt_inj.mp
  rw [Int32.toInt_div_of_ne_right]
  · rw [iI_toInt (by omega), iI_toInt (by omega), iI_toInt, Int.tdiv_eq_ediv_of_nonneg ha.1]
    have h1 := Int.ediv_nonneg ha.1 (Int.le_of_lt hb.1)
    have h2 := Int.ediv_le_self b ha.1
    omega
  · intro h
    have h2 := congrArg Int32.toInt h
    rw [iI_toInt (by omega)] at h2
    have h3 : (-1 : Int32).toInt = -1 := by decide
    omega

/-! the classes, the room by depth, the judgement -/
abbrev vwCl : List vw_C := [(RX1, TX1, 16), (RX2, TX2, 5)]
abbrev tyL (cI cB : ClassId) : List (ClassId × FieldType) := [(cI, .int), (cB, .byte)]
abbrev rmD (d : Nat) : Room := { frames := d, cells := 0, slots := 0, locals := 40 * d }
abbrev GT : Type := List (Nat × Value) → va_W → Nat → List Value → Prop
/-- what is fixed while a method runs; G lv ws pc st: from any heap that holds the picture ws, with the locals lv, at pc, over the stack st, the machine comes to the method's end -/
def Cx (l : Launch) (own : String) (cc : ByteArray) (nL : Nat) (R : Room) (D : va_G) (cI cB : ClassId) (A : Nat → Prop) (kc ks : Nat) (G : GT) : Prop :=
  ∃ (p : Program) (e : Env) (s : State) (m : MethodId) (args : Array Value) (below : List Frame) (meth : Method) (c : Code) (Q : State → Prop),
    p.tables.exec = Jvm.exec ∧ c.code = cc ∧ c.maxLocals = nL ∧ s.vm.findClass own = some m.cls ∧ (∀ w ∈ lw_all, w.before args s = true) ∧ va_K D vwCl (tyL cI cB) s ∧ (∀ q, s.heap.size ≤ q → A q) ∧
    G = fun lv ws pc st => ∀ (H : Heap) (locs : List Loc) (ls : Array Slot), va_P D vwCl ws H → va_D A ws → va_S A s.heap H locs → lv_has ls nL lv → W p l e R s m args below meth c H locs kc ks Q (F0 m pc ls st)
/-- a contract: any heap that holds ws; its answer z and its new picture u have post -/
def MDi (l : Launch) (y : MethodName) (cc : ByteArray) (nL : Nat) (rt : FieldType) (d : Nat) (vs : List Value) (D : va_G) (cI cB : ClassId) (ws : va_W) (post : Int → va_W → Prop) : Prop :=
  ∀ sz : Nat, Met l y (ws_ y cc nL (some rt)) (rmD d) (va_Pc vs (fun U => U.heap.size = sz ∧ va_P D vwCl ws U.heap ∧ va_K D vwCl (tyL cI cB) U ∧ va_D (fun _ => True) ws)) (va_Qi (fun r (u : va_W) => ∃ z, r = iI z ∧ post z u) (fun u t => va_P D vwCl u t.heap ∧ va_K D vwCl (tyL cI cB) t ∧ va_D (va_A ws sz) u) (va_A ws sz)) 0 0 (va_A ws sz)
def MDv (l : Launch) (y : MethodName) (cc : ByteArray) (nL : Nat) (d : Nat) (vs : List Value) (D : va_G) (cI cB : ClassId) (ws : va_W) (post : va_W → Prop) : Prop :=
  ∀ sz : Nat, Met l y (ws_ y cc nL none) (rmD d) (va_Pc vs (fun U => U.heap.size = sz ∧ va_P D vwCl ws U.heap ∧ va_K D vwCl (tyL cI cB) U ∧ va_D (fun _ => True) ws)) (va_Qv (fun (u : va_W) => post u) (fun u t => va_P D vwCl u t.heap ∧ va_K D vwCl (tyL cI cB) t ∧ va_D (va_A ws sz) u) (va_A ws sz)) 0 0 (va_A ws sz)
set_option maxHeartbeats 4000000 in
theorem md_i {l : Launch} {y : MethodName} {cc : ByteArray} {nL : Nat} {rt : FieldType} {d : Nat} {vs : List Value} {D : va_G} {cI cB : ClassId} {ws : va_W} {post : Int → va_W → Prop} (lv0 : List (Nat × Value)) (hy : plainName y.cls = true) (hn : (lg_sl vs).length ≤ nL) (hlv : lv_args 0 vs = lv0)
    (body : ∀ (A : Nat → Prop) (G : GT), Cx l y.cls cc nL (rmD d) D cI cB A 0 0 G → (∀ (lv : List (Nat × Value)) (z : Int) (u : va_W) (pc : Nat), decode cc pc = .ok (.ireturn, 1) → narrow rt (.int (iI z)) = .int (iI z) → post z u → G lv u pc [.int (iI z)]) → G lv0 ws 0 []) : MDi l y cc nL rt d vs D cI cB ws post := by
  intro sz
  refine Met.ofW (cc := cc) (maxL := nL) (ret := some rt) hy rfl ?_
  intro p e s m args below meth c s₁ B hml hv
  obtain ⟨rfl, hsz, hP, hK, hD0⟩ := hv
  have hx := B.exec
  have hb := B.bytes
  have hr := B.returns
  have hts := atoms_spec (ws := ws_ y cc nL (some rt)) B.pre
  have hts : ∀ w ∈ lw_all, w.before _ s = true := fun w h => hts w (List.mem_cons_of_mem _ h)
  have hown : s.vm.findClass y.cls = some m.cls := findClass_of_methodNamed B.named
  have hlocks := B.notSynchronized
  subst hsz
  have hD := hD0.self (sz := s.heap.size)
  have hl := lv_entry vs (n := nL) hn
  rw [lg_entry_eq]
  rw [hlv] at hl
  generalize ((lg_sl vs) ++ List.replicate (nL - (lg_sl vs).length) Slot.unset).toArray = ls at hl ⊢
  refine body (va_A ws s.heap.size) _ ⟨p, e, s, m, vs.toArray, below, meth, c, MQ below (va_Qi (fun r (u : va_W) => ∃ z, r = iI z ∧ post z u) (fun u t => va_P D vwCl u t.heap ∧ va_K D vwCl (tyL cI cB) t ∧ va_D (va_A ws s.heap.size) u) (va_A ws s.heap.size)) vs.toArray s 0 0 (va_A ws s.heap.size), hx, hb, hml, hown, hts, hK, fun q h => Or.inr h, rfl⟩ ?_ s.heap [] ls hP hD va_S.rf hl
  intro lv z u pc hd hnar hp H locs ls hP hD hS hl
  exact W.zret hx hb hr hnar (fun t ht hW => ⟨⟨iI z, u, rfl, ⟨z, rfl, hp⟩, by rw [ht]; exact hP, va_K.moved hW.alike hK, hD⟩, hS.F ht⟩) hS.2.2 hd
set_option maxHeartbeats 4000000 in
theorem md_v {l : Launch} {y : MethodName} {cc : ByteArray} {nL : Nat} {d : Nat} {vs : List Value} {D : va_G} {cI cB : ClassId} {ws : va_W} {post : va_W → Prop} (lv0 : List (Nat × Value)) (hy : plainName y.cls = true) (hn : (lg_sl vs).length ≤ nL) (hlv : lv_args 0 vs = lv0)
    (body : ∀ (A : Nat → Prop) (G : GT), Cx l y.cls cc nL (rmD d) D cI cB A 0 0 G → (∀ (lv : List (Nat × Value)) (u : va_W) (pc : Nat), decode cc pc = .ok (.return_, 1) → post u → G lv u pc []) → G lv0 ws 0 []) : MDv l y cc nL d vs D cI cB ws post := by
  intro sz
  refine Met.ofW (cc := cc) (maxL := nL) (ret := none) hy rfl ?_
  intro p e s m args below meth c s₁ B hml hv
  obtain ⟨rfl, hsz, hP, hK, hD0⟩ := hv
  have hx := B.exec
  have hb := B.bytes
  have hr := B.returns
  have hts := atoms_spec (ws := ws_ y cc nL none) B.pre
  have hts : ∀ w ∈ lw_all, w.before _ s = true := fun w h => hts w (List.mem_cons_of_mem _ h)
  have hown : s.vm.findClass y.cls = some m.cls := findClass_of_methodNamed B.named
  have hlocks := B.notSynchronized
  subst hsz
  have hD := hD0.self (sz := s.heap.size)
  have hl := lv_entry vs (n := nL) hn
  rw [lg_entry_eq]
  rw [hlv] at hl
  generalize ((lg_sl vs) ++ List.replicate (nL - (lg_sl vs).length) Slot.unset).toArray = ls at hl ⊢
  refine body (va_A ws s.heap.size) _ ⟨p, e, s, m, vs.toArray, below, meth, c, MQ below (va_Qv (fun (u : va_W) => post u) (fun u t => va_P D vwCl u t.heap ∧ va_K D vwCl (tyL cI cB) t ∧ va_D (va_A ws s.heap.size) u) (va_A ws s.heap.size)) vs.toArray s 0 0 (va_A ws s.heap.size), hx, hb, hml, hown, hts, hK, fun q h => Or.inr h, rfl⟩ ?_ s.heap [] ls hP hD va_S.rf hl
  intro lv u pc hd hp H locs ls hP hD hS hl
  exact W.vret hx hb hr (fun t ht hW => ⟨⟨u, rfl, hp, by rw [ht]; exact hP, va_K.moved hW.alike hK, hD⟩, hS.F ht⟩) hS.2.2 hd

section GL
variable {l : Launch} {own : String} {cc : ByteArray} {nL : Nat} {R : Room} {D : va_G} {cI cB : ClassId} {A : Nat → Prop} {kc ks : Nat} {G : GT} {lv lv' : List (Nat × Value)} {ws : va_W} {pc : Nat} {st : List Value}
theorem g_iconst (C : Cx l own cc nL R D cI cB A kc ks G) {n : Int} (hd : decode cc pc = .ok (.iconst n, 1)) (k : G lv ws (pc + 1) (.int (iI n) :: st)) : G lv ws pc st := by
  obtain ⟨p, e, s, m, args, below, meth, c, Q, hx, hb, hml, hown, hts, hK, hA, rfl⟩ := C
  intro H locs ls hP hD hS hl
  exact lv_iconst hx hb hd rfl (k H locs ls hP hD hS hl)
theorem g_bipush (C : Cx l own cc nL R D cI cB A kc ks G) {n : Int} (hd : decode cc pc = .ok (.bipush n, 2)) (hv : (Int8.ofInt n).toInt32 = iI n) (k : G lv ws (pc + 2) (.int (iI n) :: st)) : G lv ws pc st := by
  obtain ⟨p, e, s, m, args, below, meth, c, Q, hx, hb, hml, hown, hts, hK, hA, rfl⟩ := C
  intro H locs ls hP hD hS hl
  exact lv_bipush hx hb hd hv (k H locs ls hP hD hS hl)
theorem g_sipush (C : Cx l own cc nL R D cI cB A kc ks G) {n : Int} (hd : decode cc pc = .ok (.sipush n, 3)) (hv : (Int16.ofInt n).toInt32 = iI n) (k : G lv ws (pc + 3) (.int (iI n) :: st)) : G lv ws pc st := by
  obtain ⟨p, e, s, m, args, below, meth, c, Q, hx, hb, hml, hown, hts, hK, hA, rfl⟩ := C
  intro H locs ls hP hD hS hl
  exact lv_sipush hx hb hd hv (k H locs ls hP hD hS hl)
theorem g_ldc (C : Cx l own cc nL R D cI cB A kc ks G) {i : Nat} {v : Int32} {n : Int} (hq : Cond.constant own i v ∈ lw_all) (hv : v = iI n) (hd : decode cc pc = .ok (.ldc i, 2)) (k : G lv ws (pc + 2) (.int (iI n) :: st)) : G lv ws pc st := by
  obtain ⟨p, e, s, m, args, below, meth, c, Q, hx, hb, hml, hown, hts, hK, hA, rfl⟩ := C
  intro H locs ls hP hD hS hl
  subst hv; exact lv_ldc hx hb hown (hts _ hq) hd (k H locs ls hP hD hS hl)
theorem g_iload_n (C : Cx l own cc nL R D cI cB A kc ks G) (q : Nat) {j : Fin 4} {i : Nat} {z : Int} (hk : lv[q]? = some (i, .int (iI z))) (hi : (j : Nat) = i) (hd : decode cc pc = .ok (.iload_n j, 1)) (k : G lv ws (pc + 1) (.int (iI z) :: st)) : G lv ws pc st := by
  obtain ⟨p, e, s, m, args, below, meth, c, Q, hx, hb, hml, hown, hts, hK, hA, rfl⟩ := C
  intro H locs ls hP hD hS hl
  exact lv_iload_n hx hb hd hi (lv_at hl q hk) (k H locs ls hP hD hS hl)
theorem g_iload (C : Cx l own cc nL R D cI cB A kc ks G) (q : Nat) {i : Nat} {z : Int} (hk : lv[q]? = some (i, .int (iI z))) (hd : decode cc pc = .ok (.iload i, 2)) (k : G lv ws (pc + 2) (.int (iI z) :: st)) : G lv ws pc st := by
  obtain ⟨p, e, s, m, args, below, meth, c, Q, hx, hb, hml, hown, hts, hK, hA, rfl⟩ := C
  intro H locs ls hP hD hS hl
  exact lv_iload hx hb hd (lv_at hl q hk) (k H locs ls hP hD hS hl)
theorem g_aload_n (C : Cx l own cc nL R D cI cB A kc ks G) (q : Nat) {j : Fin 4} {i : Nat} {z : Nat} (hk : lv[q]? = some (i, .ref z)) (hi : (j : Nat) = i) (hd : decode cc pc = .ok (.aload_n j, 1)) (k : G lv ws (pc + 1) (.ref z :: st)) : G lv ws pc st := by
  obtain ⟨p, e, s, m, args, below, meth, c, Q, hx, hb, hml, hown, hts, hK, hA, rfl⟩ := C
  intro H locs ls hP hD hS hl
  exact lv_aload_n hx hb hd hi (lv_at hl q hk) (k H locs ls hP hD hS hl)
theorem g_istore_n (C : Cx l own cc nL R D cI cB A kc ks G) (lv' : List (Nat × Value)) (ks' : List Nat) {j : Fin 4} {i : Nat} {z : Int} (hi : (j : Nat) = i) (hn : i < nL) (hq : lv_pick ((i, Value.int (iI z)) :: lv.filter (fun q => !(q.1 == i) && !(q.1 + 1 == i && q.2.category == 2))) ks' = lv') (hd : decode cc pc = .ok (.istore_n j, 1)) (k : G lv' ws (pc + 1) st) : G lv ws pc (.int (iI z) :: st) := by
  obtain ⟨p, e, s, m, args, below, meth, c, Q, hx, hb, hml, hown, hts, hK, hA, rfl⟩ := C
  intro H locs ls hP hD hS hl
  exact lv_istore_n hx hb hd hi hl hn rfl (fun ls2 hl2 => k H locs ls2 hP hD hS (lv_sub hl2 ks' hq))
theorem g_istore (C : Cx l own cc nL R D cI cB A kc ks G) (lv' : List (Nat × Value)) (ks' : List Nat) {i : Nat} {z : Int} (hn : i < nL) (hq : lv_pick ((i, Value.int (iI z)) :: lv.filter (fun q => !(q.1 == i) && !(q.1 + 1 == i && q.2.category == 2))) ks' = lv') (hd : decode cc pc = .ok (.istore i, 2)) (k : G lv' ws (pc + 2) st) : G lv ws pc (.int (iI z) :: st) := by
  obtain ⟨p, e, s, m, args, below, meth, c, Q, hx, hb, hml, hown, hts, hK, hA, rfl⟩ := C
  intro H locs ls hP hD hS hl
  exact lv_istore hx hb hd hl hn rfl (fun ls2 hl2 => k H locs ls2 hP hD hS (lv_sub hl2 ks' hq))
theorem g_iinc (C : Cx l own cc nL R D cI cB A kc ks G) (lv' : List (Nat × Value)) (ks' : List Nat) (q : Nat) {i : Nat} {z n : Int} (hk : lv[q]? = some (i, .int (iI z))) (hn : i < nL) (hq : lv_pick ((i, Value.int (iI (z + n))) :: lv.filter (fun q => !(q.1 == i) && !(q.1 + 1 == i && q.2.category == 2))) ks' = lv') (hd : decode cc pc = .ok (.iinc i n, 3)) (k : G lv' ws (pc + 3) st) : G lv ws pc st := by
  obtain ⟨p, e, s, m, args, below, meth, c, Q, hx, hb, hml, hown, hts, hK, hA, rfl⟩ := C
  intro H locs ls hP hD hS hl
  exact lv_iinc hx hb hd hl hk (iI_add z n) hn rfl (fun ls2 hl2 => k H locs ls2 hP hD hS (lv_sub hl2 ks' hq))
theorem g_locals (C : Cx l own cc nL R D cI cB A kc ks G) (ks' : List Nat) (hq : lv_pick lv ks' = lv') (k : G lv' ws pc st) : G lv ws pc st := by
  obtain ⟨p, e, s, m, args, below, meth, c, Q, hx, hb, hml, hown, hts, hK, hA, rfl⟩ := C
  intro H locs ls hP hD hS hl
  exact k H locs ls hP hD hS (lv_sub hl ks' hq)
theorem g_iadd (C : Cx l own cc nL R D cI cB A kc ks G) {x y : Int} (hd : decode cc pc = .ok (.iadd, 1)) (k : G lv ws (pc + 1) (.int (iI (x + y)) :: st)) : G lv ws pc (.int (iI y) :: .int (iI x) :: st) := by
  obtain ⟨p, e, s, m, args, below, meth, c, Q, hx, hb, hml, hown, hts, hK, hA, rfl⟩ := C
  intro H locs ls hP hD hS hl
  exact lv_iadd hx hb hd (by rw [iI_add]; exact (k H locs ls hP hD hS hl))
theorem g_isub (C : Cx l own cc nL R D cI cB A kc ks G) {x y : Int} (hd : decode cc pc = .ok (.isub, 1)) (k : G lv ws (pc + 1) (.int (iI (x - y)) :: st)) : G lv ws pc (.int (iI y) :: .int (iI x) :: st) := by
  obtain ⟨p, e, s, m, args, below, meth, c, Q, hx, hb, hml, hown, hts, hK, hA, rfl⟩ := C
  intro H locs ls hP hD hS hl
  exact lv_isub hx hb hd (by rw [iI_sub]; exact (k H locs ls hP hD hS hl))
theorem g_imul (C : Cx l own cc nL R D cI cB A kc ks G) {x y : Int} (hd : decode cc pc = .ok (.imul, 1)) (k : G lv ws (pc + 1) (.int (iI (x * y)) :: st)) : G lv ws pc (.int (iI y) :: .int (iI x) :: st) := by
  obtain ⟨p, e, s, m, args, below, meth, c, Q, hx, hb, hml, hown, hts, hK, hA, rfl⟩ := C
  intro H locs ls hP hD hS hl
  exact lv_imul hx hb hd (by rw [iI_mul]; exact (k H locs ls hP hD hS hl))
theorem g_idiv (C : Cx l own cc nL R D cI cB A kc ks G) {x y : Int} (hx0 : 0 ≤ x ∧ x < 2147483648) (hy0 : 0 < y ∧ y < 2147483648) (hd : decode cc pc = .ok (.idiv, 1)) (k : G lv ws (pc + 1) (.int (iI (x / y)) :: st)) : G lv ws pc (.int (iI y) :: .int (iI x) :: st) := by
  obtain ⟨p, e, s, m, args, below, meth, c, Q, hx, hb, hml, hown, hts, hK, hA, rfl⟩ := C
  intro H locs ls hP hD hS hl
  exact lv_idiv hx hb hd (fun h => absurd ((iI_eq (by omega) (by omega)).mp (h.trans iI_0)) (by omega)) (by rw [iI_div hx0 hy0]; exact (k H locs ls hP hD hS hl))
theorem g_iand (C : Cx l own cc nL R D cI cB A kc ks G) {x y : Int} (z : Int) (he : iI x &&& iI y = iI z) (hd : decode cc pc = .ok (.iand, 1)) (k : G lv ws (pc + 1) (.int (iI z) :: st)) : G lv ws pc (.int (iI y) :: .int (iI x) :: st) := by
  obtain ⟨p, e, s, m, args, below, meth, c, Q, hx, hb, hml, hown, hts, hK, hA, rfl⟩ := C
  intro H locs ls hP hD hS hl
  exact lv_iand hx hb hd (by rw [he]; exact (k H locs ls hP hD hS hl))
theorem g_ior (C : Cx l own cc nL R D cI cB A kc ks G) {x y : Int} (z : Int) (he : iI x ||| iI y = iI z) (hd : decode cc pc = .ok (.ior, 1)) (k : G lv ws (pc + 1) (.int (iI z) :: st)) : G lv ws pc (.int (iI y) :: .int (iI x) :: st) := by
  obtain ⟨p, e, s, m, args, below, meth, c, Q, hx, hb, hml, hown, hts, hK, hA, rfl⟩ := C
  intro H locs ls hP hD hS hl
  exact lv_ior hx hb hd (by rw [he]; exact (k H locs ls hP hD hS hl))
theorem g_ixor (C : Cx l own cc nL R D cI cB A kc ks G) {x y : Int} (z : Int) (he : iI x ^^^ iI y = iI z) (hd : decode cc pc = .ok (.ixor, 1)) (k : G lv ws (pc + 1) (.int (iI z) :: st)) : G lv ws pc (.int (iI y) :: .int (iI x) :: st) := by
  obtain ⟨p, e, s, m, args, below, meth, c, Q, hx, hb, hml, hown, hts, hK, hA, rfl⟩ := C
  intro H locs ls hP hD hS hl
  exact lv_ixor hx hb hd (by rw [he]; exact (k H locs ls hP hD hS hl))
theorem g_ishl (C : Cx l own cc nL R D cI cB A kc ks G) {x y : Int} (z : Int) (he : iI x <<< (iI y &&& 31) = iI z) (hd : decode cc pc = .ok (.ishl, 1)) (k : G lv ws (pc + 1) (.int (iI z) :: st)) : G lv ws pc (.int (iI y) :: .int (iI x) :: st) := by
  obtain ⟨p, e, s, m, args, below, meth, c, Q, hx, hb, hml, hown, hts, hK, hA, rfl⟩ := C
  intro H locs ls hP hD hS hl
  exact lv_ishl hx hb hd (by rw [he]; exact (k H locs ls hP hD hS hl))
theorem g_ishr (C : Cx l own cc nL R D cI cB A kc ks G) {x y : Int} (z : Int) (he : iI x >>> (iI y &&& 31) = iI z) (hd : decode cc pc = .ok (.ishr, 1)) (k : G lv ws (pc + 1) (.int (iI z) :: st)) : G lv ws pc (.int (iI y) :: .int (iI x) :: st) := by
  obtain ⟨p, e, s, m, args, below, meth, c, Q, hx, hb, hml, hown, hts, hK, hA, rfl⟩ := C
  intro H locs ls hP hD hS hl
  exact lv_ishr hx hb hd (by rw [he]; exact (k H locs ls hP hD hS hl))
theorem g_i2b (C : Cx l own cc nL R D cI cB A kc ks G) {x : Int} (hr : -128 ≤ x ∧ x < 128) (hd : decode cc pc = .ok (.i2b, 1)) (k : G lv ws (pc + 1) (.int (iI x) :: st)) : G lv ws pc (.int (iI x) :: st) := by
  obtain ⟨p, e, s, m, args, below, meth, c, Q, hx, hb, hml, hown, hts, hK, hA, rfl⟩ := C
  intro H locs ls hP hD hS hl
  exact lv_i2b hx hb hd (iI_byte hr) (k H locs ls hP hD hS hl)
theorem g_dup (C : Cx l own cc nL R D cI cB A kc ks G) {v : Value} (hv : v.category = 1) (hd : decode cc pc = .ok (.dup, 1)) (k : G lv ws (pc + 1) (v :: v :: st)) : G lv ws pc (v :: st) := by
  obtain ⟨p, e, s, m, args, below, meth, c, Q, hx, hb, hml, hown, hts, hK, hA, rfl⟩ := C
  intro H locs ls hP hD hS hl
  exact lv_dup hx hb hd hv (k H locs ls hP hD hS hl)
theorem g_dup2 (C : Cx l own cc nL R D cI cB A kc ks G) {v w : Value} (hv : v.category = 1) (hw : w.category = 1) (hd : decode cc pc = .ok (.dup2, 1)) (k : G lv ws (pc + 1) (v :: w :: v :: w :: st)) : G lv ws pc (v :: w :: st) := by
  obtain ⟨p, e, s, m, args, below, meth, c, Q, hx, hb, hml, hown, hts, hK, hA, rfl⟩ := C
  intro H locs ls hP hD hS hl
  exact lv_dup2_11 hx hb hd hv hw (k H locs ls hP hD hS hl)
theorem g_goto (C : Cx l own cc nL R D cI cB A kc ks G) {off : Int} (tgt : Nat) (ht : (pc : Int) + off = (tgt : Int)) (hd : decode cc pc = .ok (.goto off, 3)) (k : G lv ws tgt st) : G lv ws pc st := by
  obtain ⟨p, e, s, m, args, below, meth, c, Q, hx, hb, hml, hown, hts, hK, hA, rfl⟩ := C
  intro H locs ls hP hD hS hl
  exact lv_goto hx hb hd ht (k H locs ls hP hD hS hl)
theorem g_icmp_eq (C : Cx l own cc nL R D cI cB A kc ks G) {x y off : Int} (tgt : Nat) (hx' : -2147483648 ≤ x ∧ x < 2147483648) (hy : -2147483648 ≤ y ∧ y < 2147483648) (ht : (pc : Int) + off = (tgt : Int)) (hd : decode cc pc = .ok (.if_icmp .eq off, 3)) (kt : x = y → G lv ws tgt st) (kf : ¬ x = y → G lv ws (pc + 3) st) : G lv ws pc (.int (iI y) :: .int (iI x) :: st) := by
  obtain ⟨p, e, s, m, args, below, meth, c, Q, hx, hb, hml, hown, hts, hK, hA, rfl⟩ := C
  intro H locs ls hP hD hS hl
  exact lv_icmp_eq hx hb hd ht (fun q => kt ((iI_eq hx' hy).mp q) H locs ls hP hD hS hl) (fun q => kf (fun r => q ((iI_eq hx' hy).mpr r)) H locs ls hP hD hS hl)
theorem g_if_eq (C : Cx l own cc nL R D cI cB A kc ks G) {x off : Int} (tgt : Nat) (hx' : -2147483648 ≤ x ∧ x < 2147483648) (ht : (pc : Int) + off = (tgt : Int)) (hd : decode cc pc = .ok (.ifCond .eq off, 3)) (kt : x = 0 → G lv ws tgt st) (kf : ¬ x = 0 → G lv ws (pc + 3) st) : G lv ws pc (.int (iI x) :: st) := by
  obtain ⟨p, e, s, m, args, below, meth, c, Q, hx, hb, hml, hown, hts, hK, hA, rfl⟩ := C
  intro H locs ls hP hD hS hl
  exact lv_if_eq hx hb hd ht (fun q => kt ((iI_eq (b := 0) hx' (by omega)).mp q) H locs ls hP hD hS hl) (fun q => kf (fun r => q ((iI_eq (b := 0) hx' (by omega)).mpr r)) H locs ls hP hD hS hl)
theorem g_icmp_ne (C : Cx l own cc nL R D cI cB A kc ks G) {x y off : Int} (tgt : Nat) (hx' : -2147483648 ≤ x ∧ x < 2147483648) (hy : -2147483648 ≤ y ∧ y < 2147483648) (ht : (pc : Int) + off = (tgt : Int)) (hd : decode cc pc = .ok (.if_icmp .ne off, 3)) (kt : ¬ x = y → G lv ws tgt st) (kf : x = y → G lv ws (pc + 3) st) : G lv ws pc (.int (iI y) :: .int (iI x) :: st) := by
  obtain ⟨p, e, s, m, args, below, meth, c, Q, hx, hb, hml, hown, hts, hK, hA, rfl⟩ := C
  intro H locs ls hP hD hS hl
  exact lv_icmp_ne hx hb hd ht (fun q => kt (fun r => q ((iI_eq hx' hy).mpr r)) H locs ls hP hD hS hl) (fun q => kf ((iI_eq hx' hy).mp q) H locs ls hP hD hS hl)
theorem g_if_ne (C : Cx l own cc nL R D cI cB A kc ks G) {x off : Int} (tgt : Nat) (hx' : -2147483648 ≤ x ∧ x < 2147483648) (ht : (pc : Int) + off = (tgt : Int)) (hd : decode cc pc = .ok (.ifCond .ne off, 3)) (kt : ¬ x = 0 → G lv ws tgt st) (kf : x = 0 → G lv ws (pc + 3) st) : G lv ws pc (.int (iI x) :: st) := by
  obtain ⟨p, e, s, m, args, below, meth, c, Q, hx, hb, hml, hown, hts, hK, hA, rfl⟩ := C
  intro H locs ls hP hD hS hl
  exact lv_if_ne hx hb hd ht (fun q => kt (fun r => q ((iI_eq (b := 0) hx' (by omega)).mpr r)) H locs ls hP hD hS hl) (fun q => kf ((iI_eq (b := 0) hx' (by omega)).mp q) H locs ls hP hD hS hl)
theorem g_icmp_lt (C : Cx l own cc nL R D cI cB A kc ks G) {x y off : Int} (tgt : Nat) (hx' : -2147483648 ≤ x ∧ x < 2147483648) (hy : -2147483648 ≤ y ∧ y < 2147483648) (ht : (pc : Int) + off = (tgt : Int)) (hd : decode cc pc = .ok (.if_icmp .lt off, 3)) (kt : x < y → G lv ws tgt st) (kf : y ≤ x → G lv ws (pc + 3) st) : G lv ws pc (.int (iI y) :: .int (iI x) :: st) := by
  obtain ⟨p, e, s, m, args, below, meth, c, Q, hx, hb, hml, hown, hts, hK, hA, rfl⟩ := C
  intro H locs ls hP hD hS hl
  exact lv_icmp_lt hx hb hd ht (fun q => kt ((iI_lt hx' hy).mp q) H locs ls hP hD hS hl) (fun q => kf (Int.not_lt.mp (fun r => q ((iI_lt hx' hy).mpr r))) H locs ls hP hD hS hl)
theorem g_if_lt (C : Cx l own cc nL R D cI cB A kc ks G) {x off : Int} (tgt : Nat) (hx' : -2147483648 ≤ x ∧ x < 2147483648) (ht : (pc : Int) + off = (tgt : Int)) (hd : decode cc pc = .ok (.ifCond .lt off, 3)) (kt : x < 0 → G lv ws tgt st) (kf : 0 ≤ x → G lv ws (pc + 3) st) : G lv ws pc (.int (iI x) :: st) := by
  obtain ⟨p, e, s, m, args, below, meth, c, Q, hx, hb, hml, hown, hts, hK, hA, rfl⟩ := C
  intro H locs ls hP hD hS hl
  exact lv_if_lt hx hb hd ht (fun q => kt ((iI_lt (b := 0) hx' (by omega)).mp q) H locs ls hP hD hS hl) (fun q => kf (Int.not_lt.mp (fun r => q ((iI_lt (b := 0) hx' (by omega)).mpr r))) H locs ls hP hD hS hl)
theorem g_icmp_ge (C : Cx l own cc nL R D cI cB A kc ks G) {x y off : Int} (tgt : Nat) (hx' : -2147483648 ≤ x ∧ x < 2147483648) (hy : -2147483648 ≤ y ∧ y < 2147483648) (ht : (pc : Int) + off = (tgt : Int)) (hd : decode cc pc = .ok (.if_icmp .ge off, 3)) (kt : y ≤ x → G lv ws tgt st) (kf : x < y → G lv ws (pc + 3) st) : G lv ws pc (.int (iI y) :: .int (iI x) :: st) := by
  obtain ⟨p, e, s, m, args, below, meth, c, Q, hx, hb, hml, hown, hts, hK, hA, rfl⟩ := C
  intro H locs ls hP hD hS hl
  exact lv_icmp_ge hx hb hd ht (fun q => kt ((iI_le hy hx').mp q) H locs ls hP hD hS hl) (fun q => kf (Int.not_le.mp (fun r => q ((iI_le hy hx').mpr r))) H locs ls hP hD hS hl)
theorem g_if_ge (C : Cx l own cc nL R D cI cB A kc ks G) {x off : Int} (tgt : Nat) (hx' : -2147483648 ≤ x ∧ x < 2147483648) (ht : (pc : Int) + off = (tgt : Int)) (hd : decode cc pc = .ok (.ifCond .ge off, 3)) (kt : 0 ≤ x → G lv ws tgt st) (kf : x < 0 → G lv ws (pc + 3) st) : G lv ws pc (.int (iI x) :: st) := by
  obtain ⟨p, e, s, m, args, below, meth, c, Q, hx, hb, hml, hown, hts, hK, hA, rfl⟩ := C
  intro H locs ls hP hD hS hl
  exact lv_if_ge hx hb hd ht (fun q => kt ((iI_le (a := 0) (by omega) hx').mp q) H locs ls hP hD hS hl) (fun q => kf (Int.not_le.mp (fun r => q ((iI_le (a := 0) (by omega) hx').mpr r))) H locs ls hP hD hS hl)
theorem g_icmp_gt (C : Cx l own cc nL R D cI cB A kc ks G) {x y off : Int} (tgt : Nat) (hx' : -2147483648 ≤ x ∧ x < 2147483648) (hy : -2147483648 ≤ y ∧ y < 2147483648) (ht : (pc : Int) + off = (tgt : Int)) (hd : decode cc pc = .ok (.if_icmp .gt off, 3)) (kt : y < x → G lv ws tgt st) (kf : x ≤ y → G lv ws (pc + 3) st) : G lv ws pc (.int (iI y) :: .int (iI x) :: st) := by
  obtain ⟨p, e, s, m, args, below, meth, c, Q, hx, hb, hml, hown, hts, hK, hA, rfl⟩ := C
  intro H locs ls hP hD hS hl
  exact lv_icmp_gt hx hb hd ht (fun q => kt ((iI_lt hy hx').mp q) H locs ls hP hD hS hl) (fun q => kf (Int.not_lt.mp (fun r => q ((iI_lt hy hx').mpr r))) H locs ls hP hD hS hl)
theorem g_if_gt (C : Cx l own cc nL R D cI cB A kc ks G) {x off : Int} (tgt : Nat) (hx' : -2147483648 ≤ x ∧ x < 2147483648) (ht : (pc : Int) + off = (tgt : Int)) (hd : decode cc pc = .ok (.ifCond .gt off, 3)) (kt : 0 < x → G lv ws tgt st) (kf : x ≤ 0 → G lv ws (pc + 3) st) : G lv ws pc (.int (iI x) :: st) := by
  obtain ⟨p, e, s, m, args, below, meth, c, Q, hx, hb, hml, hown, hts, hK, hA, rfl⟩ := C
  intro H locs ls hP hD hS hl
  exact lv_if_gt hx hb hd ht (fun q => kt ((iI_lt (a := 0) (by omega) hx').mp q) H locs ls hP hD hS hl) (fun q => kf (Int.not_lt.mp (fun r => q ((iI_lt (a := 0) (by omega) hx').mpr r))) H locs ls hP hD hS hl)
theorem g_icmp_le (C : Cx l own cc nL R D cI cB A kc ks G) {x y off : Int} (tgt : Nat) (hx' : -2147483648 ≤ x ∧ x < 2147483648) (hy : -2147483648 ≤ y ∧ y < 2147483648) (ht : (pc : Int) + off = (tgt : Int)) (hd : decode cc pc = .ok (.if_icmp .le off, 3)) (kt : x ≤ y → G lv ws tgt st) (kf : y < x → G lv ws (pc + 3) st) : G lv ws pc (.int (iI y) :: .int (iI x) :: st) := by
  obtain ⟨p, e, s, m, args, below, meth, c, Q, hx, hb, hml, hown, hts, hK, hA, rfl⟩ := C
  intro H locs ls hP hD hS hl
  exact lv_icmp_le hx hb hd ht (fun q => kt ((iI_le hx' hy).mp q) H locs ls hP hD hS hl) (fun q => kf (Int.not_le.mp (fun r => q ((iI_le hx' hy).mpr r))) H locs ls hP hD hS hl)
theorem g_if_le (C : Cx l own cc nL R D cI cB A kc ks G) {x off : Int} (tgt : Nat) (hx' : -2147483648 ≤ x ∧ x < 2147483648) (ht : (pc : Int) + off = (tgt : Int)) (hd : decode cc pc = .ok (.ifCond .le off, 3)) (kt : x ≤ 0 → G lv ws tgt st) (kf : 0 < x → G lv ws (pc + 3) st) : G lv ws pc (.int (iI x) :: st) := by
  obtain ⟨p, e, s, m, args, below, meth, c, Q, hx, hb, hml, hown, hts, hK, hA, rfl⟩ := C
  intro H locs ls hP hD hS hl
  exact lv_if_le hx hb hd ht (fun q => kt ((iI_le (b := 0) hx' (by omega)).mp q) H locs ls hP hD hS hl) (fun q => kf (Int.not_le.mp (fun r => q ((iI_le (b := 0) hx' (by omega)).mpr r))) H locs ls hP hD hS hl)
theorem g_top (C : Cx l own cc nL R D cI cB A kc ks G) {x y : Int} (h : x = y) (k : G lv ws pc (.int (iI y) :: st)) : G lv ws pc (.int (iI x) :: st) := by
  obtain ⟨p, e, s, m, args, below, meth, c, Q, hx, hb, hml, hown, hts, hK, hA, rfl⟩ := C
  intro H locs ls hP hD hS hl
  subst h; exact k H locs ls hP hD hS hl
theorem g_iald (C : Cx l own cc nL R D cI cB A kc ks G) (q0 : Nat) {a n : Nat} {g : Nat → Int} {z : Int} (j : Nat) (ha : ws[q0]? = some (a, .inl (cI, n, .inl (fun k => iI (g k))))) (hz : z = (j : Int)) (hj : j < n) (hn : n < 2147483648) (hd : decode cc pc = .ok (.iaload, 1)) (k : G lv ws (pc + 1) (.int (iI (g j)) :: st)) : G lv ws pc (.int (iI z) :: .ref a :: st) := by
  obtain ⟨p, e, s, m, args, below, meth, c, Q, hx, hb, hml, hown, hts, hK, hA, rfl⟩ := C
  intro H locs ls hP hD hS hl
  refine va_iald hx hb hK hP q0 0 ha rfl (iI_in hz hj hn) hd ?_
  rw [iI_clamp hz (by omega)]
  exact k H locs ls hP hD hS hl
theorem g_bald (C : Cx l own cc nL R D cI cB A kc ks G) (q0 : Nat) {a n : Nat} {g : Nat → Int} {z : Int} (j : Nat) (ha : ws[q0]? = some (a, .inl (cB, n, .inl (fun k => iI (g k))))) (hz : z = (j : Int)) (hj : j < n) (hn : n < 2147483648) (hd : decode cc pc = .ok (.baload, 1)) (k : G lv ws (pc + 1) (.int (iI (g j)) :: st)) : G lv ws pc (.int (iI z) :: .ref a :: st) := by
  obtain ⟨p, e, s, m, args, below, meth, c, Q, hx, hb, hml, hown, hts, hK, hA, rfl⟩ := C
  intro H locs ls hP hD hS hl
  refine va_bald hx hb hK hP q0 1 ha rfl (iI_in hz hj hn) hd ?_
  rw [iI_clamp hz (by omega)]
  exact k H locs ls hP hD hS hl
theorem g_iast (C : Cx l own cc nL R D cI cB A kc ks G) (q0 : Nat) {a n : Nat} {g : Nat → Int} {z x : Int} {ws' : va_W} (j : Nat) (ha : ws[q0]? = some (a, .inl (cI, n, .inl (fun k => iI (g k))))) (hw : ws.set q0 (a, .inl (cI, n, .inl (fun k => iI (va_up g j x k)))) = ws') (hz : z = (j : Int)) (hj : j < n) (hn : n < 2147483648) (hd : decode cc pc = .ok (.iastore, 1)) (k : G lv ws' (pc + 1) st) : G lv ws pc (.int (iI x) :: .int (iI z) :: .ref a :: st) := by
  obtain ⟨p, e, s, m, args, below, meth, c, Q, hx, hb, hml, hown, hts, hK, hA, rfl⟩ := C
  intro H locs ls hP hD hS hl
  refine va_iast hx hb hK hP hD hS q0 0 ha rfl (iI_in hz hj hn) hd (fun H1 locs1 hP1 hD1 hS1 => ?_)
  rw [iI_upd g z x hz (by omega), hw] at hP1 hD1
  exact k H1 locs1 ls hP1 hD1 hS1 hl
theorem g_bast (C : Cx l own cc nL R D cI cB A kc ks G) (q0 : Nat) {a n : Nat} {g : Nat → Int} {z x : Int} {ws' : va_W} (j : Nat) (ha : ws[q0]? = some (a, .inl (cB, n, .inl (fun k => iI (g k))))) (hw : ws.set q0 (a, .inl (cB, n, .inl (fun k => iI (va_up g j x k)))) = ws') (hr : -128 ≤ x ∧ x < 128) (hz : z = (j : Int)) (hj : j < n) (hn : n < 2147483648) (hd : decode cc pc = .ok (.bastore, 1)) (k : G lv ws' (pc + 1) st) : G lv ws pc (.int (iI x) :: .int (iI z) :: .ref a :: st) := by
  obtain ⟨p, e, s, m, args, below, meth, c, Q, hx, hb, hml, hown, hts, hK, hA, rfl⟩ := C
  intro H locs ls hP hD hS hl
  refine va_bast hx hb hK hP hD hS q0 1 ha rfl (iI_in hz hj hn) hd (fun H1 locs1 hP1 hD1 hS1 => ?_)
  rw [vp_nar_byte, iI_byte hr, iI_upd g z x hz (by omega), hw] at hP1 hD1
  exact k H1 locs1 ls hP1 hD1 hS1 hl
theorem g_ext (C : Cx l own cc nL R D cI cB A kc ks G) (q0 : Nat) {a n cA : Nat} {f f' : Nat → Int32} {ws' : va_W} (ha : ws[q0]? = some (a, .inl (cA, n, .inl f))) (hf : ∀ k, k < n → f k = f' k) (hw : ws.set q0 (a, .inl (cA, n, .inl f')) = ws') (k : G lv ws' pc st) : G lv ws pc st := by
  obtain ⟨p, e, s, m, args, below, meth, c, Q, hx, hb, hml, hown, hts, hK, hA, rfl⟩ := C
  intro H locs ls hP hD hS hl
  subst hw
  refine k H locs ls (hP.set hD ha ?_ (fun _ _ => rfl)) (hD.set ha) hS hl
  show H[a]? = some (vp_cell cA (n, .inl f'))
  have h1 : H[a]? = some (vp_cell cA (n, .inl f)) := hP q0 _ ha
  rw [h1, vp_cell_i, vp_cell_i]
  unfold arrV
  have e : (fun j : Fin n => Value.int (f j.val)) = fun j : Fin n => Value.int (f' j.val) := by funext j; rw [hf j.val j.isLt]
  rw [e]
end GL
section GC
variable {l : Launch} {own : String} {cc : ByteArray} {nL : Nat} {D : va_G} {cI cB : ClassId} {A : Nat → Prop} {kc ks : Nat} {G : GT} {lv : List (Nat × Value)} {ws : va_W} {pc : Nat} {y : MethodName} {bytes : ByteArray} {maxL d d' idx n : Nat} {rt : FieldType} {b : Nat} {T : u_T} {N ci q0 : Nat} {fs : List Value} {stk : List Value}
theorem g_free {s : State} {H : Heap} {locs : List Loc} (hA : ∀ q, s.heap.size ≤ q → A q) (hD : va_D A ws) (hS : va_S A s.heap H locs) : ∀ q, va_A ws H.size q → A q := by
  intro q h
  rcases h with ⟨k, e, h⟩ | h
  · exact hD.2 k (q, e) h
  · exact hA q (Nat.le_trans hS.1 h)
set_option maxHeartbeats 4000000 in
theorem g_calli (C : Cx l own cc nL (rmD d) D cI cB A 0 0 G) {post : Int → va_W → Prop} (st As : List Value) (hM : MDi l y bytes maxL rt d' (.ref b :: As) D cI cB ws post) {Cn : String} (hw : GoodIn lw_all (wsV own idx Cn y (ws_ y bytes maxL (some rt)))) (hpar : y.cls = Cn ∧ y.cls ≠ "java/lang/invoke/MethodHandle" ∧ y.cls ≠ "java/lang/invoke/VarHandle" ∧ (parseMethodDescriptor y.desc).map (fun d => d.parameters.length) = some n) (hd1 : d' + 1 ≤ d) (hm : maxL ≤ 21) (hn : As.length = n) (q0 ci : Nat) (hcl : vwCl[ci]? = some (Cn, T, N)) (hrec : ws[q0]? = some (b, .inr (ci, fs))) (hs : stk = As.reverse ++ .ref b :: st) (hst : (st.map fun v => v.category).sum ≤ 8) (hdg : decode cc pc = .ok (.invokevirtual idx, 3)) (k : ∀ (z : Int) (u : va_W), post z u → G lv u (pc + 3) (.int (iI z) :: st)) : G lv ws pc stk := by
  obtain ⟨p, e, s, m, args, below, meth, c, Q, hx, hb, hml, hown, hts, hK, hA, rfl⟩ := C
  intro H locs ls hP hD hS hl
  have hF := g_free hA hD hS
  refine va_calli (va_runV (As := As) (rest := st) ⟨hx, hb, hml, hown, hts⟩ (hM H.size) (cwV n hts hw rfl rfl rfl hpar ⟨hd1, by show 8 + (maxL + 11) + 40 * d' ≤ 40 * d; omega⟩) ⟨(fun a U g mk q => by obtain ⟨q0, q1, qP, qK, qD⟩ := q; exact ⟨q0, q1, qP, va_K.moved (u := U) (U := U.calling g mk a) (Vm.Alike.refl U.vm) qK, qD⟩), va_recv hK hP hcl hrec, (fun U hU hW => ⟨rfl, by rw [hU], by rw [hU]; exact hP, va_K.moved hW.alike hK, hD.weaken (fun _ _ _ _ => trivial)⟩)⟩ rfl hn hl.1 hs (lv_room hst) hdg ⟨Nat.zero_le _, Nat.zero_le _⟩) hS (fun q _ h => hF q h) hF (fun r u t H1 locs1 ht hvm hw1 hB hz1 hk1 hS1 => ?_)
  obtain ⟨z, rfl, hp⟩ := hw1
  obtain ⟨hP1, hK1, hD1⟩ := hB
  rw [ht] at hP1
  exact k z u hp H1 locs1 ls hP1 (hD1.weaken (fun _ q _ h => hF q.1 h)) hS1 hl
set_option maxHeartbeats 4000000 in
theorem g_callv (C : Cx l own cc nL (rmD d) D cI cB A 0 0 G) {post : va_W → Prop} (st As : List Value) (hM : MDv l y bytes maxL d' (.ref b :: As) D cI cB ws post) {Cn : String} (hw : GoodIn lw_all (wsV own idx Cn y (ws_ y bytes maxL none))) (hpar : y.cls = Cn ∧ y.cls ≠ "java/lang/invoke/MethodHandle" ∧ y.cls ≠ "java/lang/invoke/VarHandle" ∧ (parseMethodDescriptor y.desc).map (fun d => d.parameters.length) = some n) (hd1 : d' + 1 ≤ d) (hm : maxL ≤ 21) (hn : As.length = n) (q0 ci : Nat) (hcl : vwCl[ci]? = some (Cn, T, N)) (hrec : ws[q0]? = some (b, .inr (ci, fs))) (hs : stk = As.reverse ++ .ref b :: st) (hst : (st.map fun v => v.category).sum ≤ 8) (hdg : decode cc pc = .ok (.invokevirtual idx, 3)) (k : ∀ (u : va_W), post u → G lv u (pc + 3) st) : G lv ws pc stk := by
  obtain ⟨p, e, s, m, args, below, meth, c, Q, hx, hb, hml, hown, hts, hK, hA, rfl⟩ := C
  intro H locs ls hP hD hS hl
  have hF := g_free hA hD hS
  refine va_callv (va_runV (As := As) (rest := st) ⟨hx, hb, hml, hown, hts⟩ (hM H.size) (cwV n hts hw rfl rfl rfl hpar ⟨hd1, by show 8 + (maxL + 11) + 40 * d' ≤ 40 * d; omega⟩) ⟨(fun a U g mk q => by obtain ⟨q0, q1, qP, qK, qD⟩ := q; exact ⟨q0, q1, qP, va_K.moved (u := U) (U := U.calling g mk a) (Vm.Alike.refl U.vm) qK, qD⟩), va_recv hK hP hcl hrec, (fun U hU hW => ⟨rfl, by rw [hU], by rw [hU]; exact hP, va_K.moved hW.alike hK, hD.weaken (fun _ _ _ _ => trivial)⟩)⟩ rfl hn hl.1 hs (lv_room hst) hdg ⟨Nat.zero_le _, Nat.zero_le _⟩) hS (fun q _ h => hF q h) hF (fun u t H1 locs1 ht hvm hw1 hB hz1 hk1 hS1 => ?_)
  obtain ⟨hP1, hK1, hD1⟩ := hB
  rw [ht] at hP1
  exact k u hw1 H1 locs1 ls hP1 (hD1.weaken (fun _ q _ h => hF q.1 h)) hS1 hl
set_option maxHeartbeats 4000000 in
theorem g_callS (C : Cx l own cc nL (rmD d) D cI cB A 0 0 G) {post : Int → va_W → Prop} (st As : List Value) (hM : MDi l y bytes maxL rt d' As D cI cB ws post) (hw : GoodIn lw_all (va_wsS own idx y (ws_ y bytes maxL (some rt)))) (hpar : y.cls ≠ "java/lang/invoke/MethodHandle" ∧ y.cls ≠ "java/lang/invoke/VarHandle" ∧ (parseMethodDescriptor y.desc).map (fun d => d.parameters.length) = some n) (hd1 : d' + 1 ≤ d) (hm : maxL ≤ 21) (hn : As.length = n) (hs : stk = As.reverse ++ st) (hst : (st.map fun v => v.category).sum ≤ 8) (hdg : decode cc pc = .ok (.invokestatic idx, 3)) (k : ∀ (z : Int) (u : va_W), post z u → G lv u (pc + 3) (.int (iI z) :: st)) : G lv ws pc stk := by
  obtain ⟨p, e, s, m, args, below, meth, c, Q, hx, hb, hml, hown, hts, hK, hA, rfl⟩ := C
  intro H locs ls hP hD hS hl
  have hF := g_free hA hD hS
  refine va_calli (va_runS (As := As) (rest := st) ⟨hx, hb, hml, hown, hts⟩ (hM H.size) (va_cwS n hts hw rfl rfl rfl hpar ⟨hd1, by show 8 + (maxL + 11) + 40 * d' ≤ 40 * d; omega⟩) ⟨(fun a U g mk q => by obtain ⟨q0, q1, qP, qK, qD⟩ := q; exact ⟨q0, q1, qP, va_K.moved (u := U) (U := U.calling g mk a) (Vm.Alike.refl U.vm) qK, qD⟩), (fun U hU hW => ⟨rfl, by rw [hU], by rw [hU]; exact hP, va_K.moved hW.alike hK, hD.weaken (fun _ _ _ _ => trivial)⟩)⟩ rfl hn hl.1 hs (lv_room hst) hdg ⟨Nat.zero_le _, Nat.zero_le _⟩) hS (fun q _ h => hF q h) hF (fun r u t H1 locs1 ht hvm hw1 hB hz1 hk1 hS1 => ?_)
  obtain ⟨z, rfl, hp⟩ := hw1
  obtain ⟨hP1, hK1, hD1⟩ := hB
  rw [ht] at hP1
  exact k z u hp H1 locs1 ls hP1 (hD1.weaken (fun _ q _ h => hF q.1 h)) hS1 hl
end GC
/-- the desk: its object at a 0, its arrays at a 1 .. a 7 -/
def WD (a : Nat → Nat) (cI cB : ClassId) (f0 : Int) (f1 : Int) (g2 : Nat → Int) (f3 : Int) (f4 : Int) (g5 : Nat → Int) (f6 : Int) (g7 : Nat → Int) (f8 : Int) (g9 : Nat → Int) (g10 : Nat → Int) (f11 : Int) (g12 : Nat → Int) (f13 : Int) (f14 : Int) (g15 : Nat → Int) : va_W := [(a 0, .inr (0, [.int (iI f0), .int (iI f1), .ref (a 1), .int (iI f3), .int (iI f4), .ref (a 2), .int (iI f6), .ref (a 3), .int (iI f8), .ref (a 4), .ref (a 5), .int (iI f11), .ref (a 6), .int (iI f13), .int (iI f14), .ref (a 7)])), (a 1, .inl (cB, 8, .inl (fun k => iI (g2 k)))), (a 2, .inl (cI, 16, .inl (fun k => iI (g5 k)))), (a 3, .inl (cI, 16, .inl (fun k => iI (g7 k)))), (a 4, .inl (cB, 16, .inl (fun k => iI (g9 k)))), (a 5, .inl (cB, 16, .inl (fun k => iI (g10 k)))), (a 6, .inl (cI, 32, .inl (fun k => iI (g12 k)))), (a 7, .inl (cB, 8, .inl (fun k => iI (g15 k))))]
section GD
variable {l : Launch} {cc : ByteArray} {nL : Nat} {R : Room} {D : va_G} {cI cB : ClassId} {A : Nat → Prop} {kc ks : Nat} {G : GT} {lv : List (Nat × Value)} {a : Nat → Nat} {pc : Nat} {st : List Value} {f0 f1 f3 f4 f6 f8 f11 f13 f14 : Int} {g2 g5 g7 g9 g10 g12 g15 : Nat → Int}
theorem dg_binSize (C : Cx l RX1 cc nL R D cI cB A kc ks G) (hd : decode cc pc = .ok (.getfield 32, 3)) (k : G lv (WD a cI cB f0 f1 g2 f3 f4 g5 f6 g7 f8 g9 g10 f11 g12 f13 f14 g15) (pc + 3) (.int (iI f0) :: st)) : G lv (WD a cI cB f0 f1 g2 f3 f4 g5 f6 g7 f8 g9 g10 f11 g12 f13 f14 g15) pc (.ref (a 0) :: st) := by
  obtain ⟨p, e, s, m, args, below, meth, c, Q, hx, hb, hml, hown, hts, hK, hA, rfl⟩ := C
  intro H locs ls hP hD hS hl
  exact va_get (D := D) (ci := 0) (v := .int (iI f0)) (C := RX1) (T := TX1) (N := 16) hx hb hts in_X1 hown hK hP 0 rfl rfl 0 (by decide) (hts _ q34) (fun _ h9 => h9) rfl hd (k H locs ls hP hD hS hl)
theorem dp_binSize (C : Cx l RX1 cc nL R D cI cB A kc ks G) {x : Int} (hd : decode cc pc = .ok (.putfield 32, 3)) (k : G lv (WD a cI cB x f1 g2 f3 f4 g5 f6 g7 f8 g9 g10 f11 g12 f13 f14 g15) (pc + 3) st) : G lv (WD a cI cB f0 f1 g2 f3 f4 g5 f6 g7 f8 g9 g10 f11 g12 f13 f14 g15) pc (.int (iI x) :: .ref (a 0) :: st) := by
  obtain ⟨p, e, s, m, args, below, meth, c, Q, hx, hb, hml, hown, hts, hK, hA, rfl⟩ := C
  intro H locs ls hP hD hS hl
  exact va_put (D := D) (ci := 0) (v := .int (iI x)) (ty := .int) (C := RX1) (T := TX1) (N := 16) hx hb hts in_X1 tyX1 tyX1_ok nmX1 hown hK hP hD hS 0 rfl rfl 0 (by decide) (hts _ q34) (fun _ h9 => h9) rfl (by decide +kernel) rfl rfl (Nat.le_of_ble_eq_true rfl) hd (fun H1 locs1 hP1 hD1 hS1 => k H1 locs1 ls hP1 hD1 hS1 hl)
theorem dg_present (C : Cx l RX1 cc nL R D cI cB A kc ks G) (hd : decode cc pc = .ok (.getfield 36, 3)) (k : G lv (WD a cI cB f0 f1 g2 f3 f4 g5 f6 g7 f8 g9 g10 f11 g12 f13 f14 g15) (pc + 3) (.int (iI f1) :: st)) : G lv (WD a cI cB f0 f1 g2 f3 f4 g5 f6 g7 f8 g9 g10 f11 g12 f13 f14 g15) pc (.ref (a 0) :: st) := by
  obtain ⟨p, e, s, m, args, below, meth, c, Q, hx, hb, hml, hown, hts, hK, hA, rfl⟩ := C
  intro H locs ls hP hD hS hl
  exact va_get (D := D) (ci := 0) (v := .int (iI f1)) (C := RX1) (T := TX1) (N := 16) hx hb hts in_X1 hown hK hP 0 rfl rfl 1 (by decide) (hts _ q35) (fun _ h9 => h9) rfl hd (k H locs ls hP hD hS hl)
theorem dp_present (C : Cx l RX1 cc nL R D cI cB A kc ks G) {x : Int} (hd : decode cc pc = .ok (.putfield 36, 3)) (k : G lv (WD a cI cB f0 x g2 f3 f4 g5 f6 g7 f8 g9 g10 f11 g12 f13 f14 g15) (pc + 3) st) : G lv (WD a cI cB f0 f1 g2 f3 f4 g5 f6 g7 f8 g9 g10 f11 g12 f13 f14 g15) pc (.int (iI x) :: .ref (a 0) :: st) := by
  obtain ⟨p, e, s, m, args, below, meth, c, Q, hx, hb, hml, hown, hts, hK, hA, rfl⟩ := C
  intro H locs ls hP hD hS hl
  exact va_put (D := D) (ci := 0) (v := .int (iI x)) (ty := .int) (C := RX1) (T := TX1) (N := 16) hx hb hts in_X1 tyX1 tyX1_ok nmX1 hown hK hP hD hS 0 rfl rfl 1 (by decide) (hts _ q35) (fun _ h9 => h9) rfl (by decide +kernel) rfl rfl (Nat.le_of_ble_eq_true rfl) hd (fun H1 locs1 hP1 hD1 hS1 => k H1 locs1 ls hP1 hD1 hS1 hl)
theorem dg_sizes (C : Cx l RX1 cc nL R D cI cB A kc ks G) (hd : decode cc pc = .ok (.getfield 7, 3)) (k : G lv (WD a cI cB f0 f1 g2 f3 f4 g5 f6 g7 f8 g9 g10 f11 g12 f13 f14 g15) (pc + 3) (.ref (a 1) :: st)) : G lv (WD a cI cB f0 f1 g2 f3 f4 g5 f6 g7 f8 g9 g10 f11 g12 f13 f14 g15) pc (.ref (a 0) :: st) := by
  obtain ⟨p, e, s, m, args, below, meth, c, Q, hx, hb, hml, hown, hts, hK, hA, rfl⟩ := C
  intro H locs ls hP hD hS hl
  exact va_get (D := D) (ci := 0) (v := .ref (a 1)) (C := RX1) (T := TX1) (N := 16) hx hb hts in_X1 hown hK hP 0 rfl rfl 2 (by decide) (hts _ q36) (fun _ h9 => h9) rfl hd (k H locs ls hP hD hS hl)
theorem dl_sizes (C : Cx l RX1 cc nL R D cI cB A kc ks G) {z : Int} (j : Nat) (hz : z = (j : Int)) (hj : j < 8) (hd : decode cc pc = .ok (.baload, 1)) (k : G lv (WD a cI cB f0 f1 g2 f3 f4 g5 f6 g7 f8 g9 g10 f11 g12 f13 f14 g15) (pc + 1) (.int (iI (g2 j)) :: st)) : G lv (WD a cI cB f0 f1 g2 f3 f4 g5 f6 g7 f8 g9 g10 f11 g12 f13 f14 g15) pc (.int (iI z) :: .ref (a 1) :: st) := g_bald C 1 j rfl hz hj (by decide) hd k
theorem dx_sizes (C : Cx l RX1 cc nL R D cI cB A kc ks G) (g' : Nat → Int) (hg : ∀ k, k < 8 → g2 k = g' k) (k : G lv (WD a cI cB f0 f1 g' f3 f4 g5 f6 g7 f8 g9 g10 f11 g12 f13 f14 g15) pc st) : G lv (WD a cI cB f0 f1 g2 f3 f4 g5 f6 g7 f8 g9 g10 f11 g12 f13 f14 g15) pc st := g_ext C 1 rfl (fun j hj => by rw [hg j hj]) rfl k
theorem ds_sizes (C : Cx l RX1 cc nL R D cI cB A kc ks G) {z x : Int} (j : Nat) (hr : -128 ≤ x ∧ x < 128) (hz : z = (j : Int)) (hj : j < 8) (hd : decode cc pc = .ok (.bastore, 1)) (k : G lv (WD a cI cB f0 f1 (va_up g2 j x) f3 f4 g5 f6 g7 f8 g9 g10 f11 g12 f13 f14 g15) (pc + 1) st) : G lv (WD a cI cB f0 f1 g2 f3 f4 g5 f6 g7 f8 g9 g10 f11 g12 f13 f14 g15) pc (.int (iI x) :: .int (iI z) :: .ref (a 1) :: st) := g_bast C 1 j rfl rfl hr hz hj (by decide) hd k
theorem dg_room (C : Cx l RX1 cc nL R D cI cB A kc ks G) (hd : decode cc pc = .ok (.getfield 51, 3)) (k : G lv (WD a cI cB f0 f1 g2 f3 f4 g5 f6 g7 f8 g9 g10 f11 g12 f13 f14 g15) (pc + 3) (.int (iI f3) :: st)) : G lv (WD a cI cB f0 f1 g2 f3 f4 g5 f6 g7 f8 g9 g10 f11 g12 f13 f14 g15) pc (.ref (a 0) :: st) := by
  obtain ⟨p, e, s, m, args, below, meth, c, Q, hx, hb, hml, hown, hts, hK, hA, rfl⟩ := C
  intro H locs ls hP hD hS hl
  exact va_get (D := D) (ci := 0) (v := .int (iI f3)) (C := RX1) (T := TX1) (N := 16) hx hb hts in_X1 hown hK hP 0 rfl rfl 3 (by decide) (hts _ q37) (fun _ h9 => h9) rfl hd (k H locs ls hP hD hS hl)
theorem dp_room (C : Cx l RX1 cc nL R D cI cB A kc ks G) {x : Int} (hd : decode cc pc = .ok (.putfield 51, 3)) (k : G lv (WD a cI cB f0 f1 g2 x f4 g5 f6 g7 f8 g9 g10 f11 g12 f13 f14 g15) (pc + 3) st) : G lv (WD a cI cB f0 f1 g2 f3 f4 g5 f6 g7 f8 g9 g10 f11 g12 f13 f14 g15) pc (.int (iI x) :: .ref (a 0) :: st) := by
  obtain ⟨p, e, s, m, args, below, meth, c, Q, hx, hb, hml, hown, hts, hK, hA, rfl⟩ := C
  intro H locs ls hP hD hS hl
  exact va_put (D := D) (ci := 0) (v := .int (iI x)) (ty := .int) (C := RX1) (T := TX1) (N := 16) hx hb hts in_X1 tyX1 tyX1_ok nmX1 hown hK hP hD hS 0 rfl rfl 3 (by decide) (hts _ q37) (fun _ h9 => h9) rfl (by decide +kernel) rfl rfl (Nat.le_of_ble_eq_true rfl) hd (fun H1 locs1 hP1 hD1 hS1 => k H1 locs1 ls hP1 hD1 hS1 hl)
theorem dg_opened (C : Cx l RX1 cc nL R D cI cB A kc ks G) (hd : decode cc pc = .ok (.getfield 54, 3)) (k : G lv (WD a cI cB f0 f1 g2 f3 f4 g5 f6 g7 f8 g9 g10 f11 g12 f13 f14 g15) (pc + 3) (.int (iI f4) :: st)) : G lv (WD a cI cB f0 f1 g2 f3 f4 g5 f6 g7 f8 g9 g10 f11 g12 f13 f14 g15) pc (.ref (a 0) :: st) := by
  obtain ⟨p, e, s, m, args, below, meth, c, Q, hx, hb, hml, hown, hts, hK, hA, rfl⟩ := C
  intro H locs ls hP hD hS hl
  exact va_get (D := D) (ci := 0) (v := .int (iI f4)) (C := RX1) (T := TX1) (N := 16) hx hb hts in_X1 hown hK hP 0 rfl rfl 4 (by decide) (hts _ q38) (fun _ h9 => h9) rfl hd (k H locs ls hP hD hS hl)
theorem dp_opened (C : Cx l RX1 cc nL R D cI cB A kc ks G) {x : Int} (hd : decode cc pc = .ok (.putfield 54, 3)) (k : G lv (WD a cI cB f0 f1 g2 f3 x g5 f6 g7 f8 g9 g10 f11 g12 f13 f14 g15) (pc + 3) st) : G lv (WD a cI cB f0 f1 g2 f3 f4 g5 f6 g7 f8 g9 g10 f11 g12 f13 f14 g15) pc (.int (iI x) :: .ref (a 0) :: st) := by
  obtain ⟨p, e, s, m, args, below, meth, c, Q, hx, hb, hml, hown, hts, hK, hA, rfl⟩ := C
  intro H locs ls hP hD hS hl
  exact va_put (D := D) (ci := 0) (v := .int (iI x)) (ty := .int) (C := RX1) (T := TX1) (N := 16) hx hb hts in_X1 tyX1 tyX1_ok nmX1 hown hK hP hD hS 0 rfl rfl 4 (by decide) (hts _ q38) (fun _ h9 => h9) rfl (by decide +kernel) rfl rfl (Nat.le_of_ble_eq_true rfl) hd (fun H1 locs1 hP1 hD1 hS1 => k H1 locs1 ls hP1 hD1 hS1 hl)
theorem dg_loads (C : Cx l RX1 cc nL R D cI cB A kc ks G) (hd : decode cc pc = .ok (.getfield 13, 3)) (k : G lv (WD a cI cB f0 f1 g2 f3 f4 g5 f6 g7 f8 g9 g10 f11 g12 f13 f14 g15) (pc + 3) (.ref (a 2) :: st)) : G lv (WD a cI cB f0 f1 g2 f3 f4 g5 f6 g7 f8 g9 g10 f11 g12 f13 f14 g15) pc (.ref (a 0) :: st) := by
  obtain ⟨p, e, s, m, args, below, meth, c, Q, hx, hb, hml, hown, hts, hK, hA, rfl⟩ := C
  intro H locs ls hP hD hS hl
  exact va_get (D := D) (ci := 0) (v := .ref (a 2)) (C := RX1) (T := TX1) (N := 16) hx hb hts in_X1 hown hK hP 0 rfl rfl 5 (by decide) (hts _ q39) (fun _ h9 => h9) rfl hd (k H locs ls hP hD hS hl)
theorem dl_loads (C : Cx l RX1 cc nL R D cI cB A kc ks G) {z : Int} (j : Nat) (hz : z = (j : Int)) (hj : j < 16) (hd : decode cc pc = .ok (.iaload, 1)) (k : G lv (WD a cI cB f0 f1 g2 f3 f4 g5 f6 g7 f8 g9 g10 f11 g12 f13 f14 g15) (pc + 1) (.int (iI (g5 j)) :: st)) : G lv (WD a cI cB f0 f1 g2 f3 f4 g5 f6 g7 f8 g9 g10 f11 g12 f13 f14 g15) pc (.int (iI z) :: .ref (a 2) :: st) := g_iald C 2 j rfl hz hj (by decide) hd k
theorem dx_loads (C : Cx l RX1 cc nL R D cI cB A kc ks G) (g' : Nat → Int) (hg : ∀ k, k < 16 → g5 k = g' k) (k : G lv (WD a cI cB f0 f1 g2 f3 f4 g' f6 g7 f8 g9 g10 f11 g12 f13 f14 g15) pc st) : G lv (WD a cI cB f0 f1 g2 f3 f4 g5 f6 g7 f8 g9 g10 f11 g12 f13 f14 g15) pc st := g_ext C 2 rfl (fun j hj => by rw [hg j hj]) rfl k
theorem ds_loads (C : Cx l RX1 cc nL R D cI cB A kc ks G) {z x : Int} (j : Nat) (hz : z = (j : Int)) (hj : j < 16) (hd : decode cc pc = .ok (.iastore, 1)) (k : G lv (WD a cI cB f0 f1 g2 f3 f4 (va_up g5 j x) f6 g7 f8 g9 g10 f11 g12 f13 f14 g15) (pc + 1) st) : G lv (WD a cI cB f0 f1 g2 f3 f4 g5 f6 g7 f8 g9 g10 f11 g12 f13 f14 g15) pc (.int (iI x) :: .int (iI z) :: .ref (a 2) :: st) := g_iast C 2 j rfl rfl hz hj (by decide) hd k
theorem dg_restCount (C : Cx l RX1 cc nL R D cI cB A kc ks G) (hd : decode cc pc = .ok (.getfield 57, 3)) (k : G lv (WD a cI cB f0 f1 g2 f3 f4 g5 f6 g7 f8 g9 g10 f11 g12 f13 f14 g15) (pc + 3) (.int (iI f6) :: st)) : G lv (WD a cI cB f0 f1 g2 f3 f4 g5 f6 g7 f8 g9 g10 f11 g12 f13 f14 g15) pc (.ref (a 0) :: st) := by
  obtain ⟨p, e, s, m, args, below, meth, c, Q, hx, hb, hml, hown, hts, hK, hA, rfl⟩ := C
  intro H locs ls hP hD hS hl
  exact va_get (D := D) (ci := 0) (v := .int (iI f6)) (C := RX1) (T := TX1) (N := 16) hx hb hts in_X1 hown hK hP 0 rfl rfl 6 (by decide) (hts _ q40) (fun _ h9 => h9) rfl hd (k H locs ls hP hD hS hl)
theorem dp_restCount (C : Cx l RX1 cc nL R D cI cB A kc ks G) {x : Int} (hd : decode cc pc = .ok (.putfield 57, 3)) (k : G lv (WD a cI cB f0 f1 g2 f3 f4 g5 x g7 f8 g9 g10 f11 g12 f13 f14 g15) (pc + 3) st) : G lv (WD a cI cB f0 f1 g2 f3 f4 g5 f6 g7 f8 g9 g10 f11 g12 f13 f14 g15) pc (.int (iI x) :: .ref (a 0) :: st) := by
  obtain ⟨p, e, s, m, args, below, meth, c, Q, hx, hb, hml, hown, hts, hK, hA, rfl⟩ := C
  intro H locs ls hP hD hS hl
  exact va_put (D := D) (ci := 0) (v := .int (iI x)) (ty := .int) (C := RX1) (T := TX1) (N := 16) hx hb hts in_X1 tyX1 tyX1_ok nmX1 hown hK hP hD hS 0 rfl rfl 6 (by decide) (hts _ q40) (fun _ h9 => h9) rfl (by decide +kernel) rfl rfl (Nat.le_of_ble_eq_true rfl) hd (fun H1 locs1 hP1 hD1 hS1 => k H1 locs1 ls hP1 hD1 hS1 hl)
theorem dg_rest (C : Cx l RX1 cc nL R D cI cB A kc ks G) (hd : decode cc pc = .ok (.getfield 17, 3)) (k : G lv (WD a cI cB f0 f1 g2 f3 f4 g5 f6 g7 f8 g9 g10 f11 g12 f13 f14 g15) (pc + 3) (.ref (a 3) :: st)) : G lv (WD a cI cB f0 f1 g2 f3 f4 g5 f6 g7 f8 g9 g10 f11 g12 f13 f14 g15) pc (.ref (a 0) :: st) := by
  obtain ⟨p, e, s, m, args, below, meth, c, Q, hx, hb, hml, hown, hts, hK, hA, rfl⟩ := C
  intro H locs ls hP hD hS hl
  exact va_get (D := D) (ci := 0) (v := .ref (a 3)) (C := RX1) (T := TX1) (N := 16) hx hb hts in_X1 hown hK hP 0 rfl rfl 7 (by decide) (hts _ q41) (fun _ h9 => h9) rfl hd (k H locs ls hP hD hS hl)
theorem dl_rest (C : Cx l RX1 cc nL R D cI cB A kc ks G) {z : Int} (j : Nat) (hz : z = (j : Int)) (hj : j < 16) (hd : decode cc pc = .ok (.iaload, 1)) (k : G lv (WD a cI cB f0 f1 g2 f3 f4 g5 f6 g7 f8 g9 g10 f11 g12 f13 f14 g15) (pc + 1) (.int (iI (g7 j)) :: st)) : G lv (WD a cI cB f0 f1 g2 f3 f4 g5 f6 g7 f8 g9 g10 f11 g12 f13 f14 g15) pc (.int (iI z) :: .ref (a 3) :: st) := g_iald C 3 j rfl hz hj (by decide) hd k
theorem dx_rest (C : Cx l RX1 cc nL R D cI cB A kc ks G) (g' : Nat → Int) (hg : ∀ k, k < 16 → g7 k = g' k) (k : G lv (WD a cI cB f0 f1 g2 f3 f4 g5 f6 g' f8 g9 g10 f11 g12 f13 f14 g15) pc st) : G lv (WD a cI cB f0 f1 g2 f3 f4 g5 f6 g7 f8 g9 g10 f11 g12 f13 f14 g15) pc st := g_ext C 3 rfl (fun j hj => by rw [hg j hj]) rfl k
theorem ds_rest (C : Cx l RX1 cc nL R D cI cB A kc ks G) {z x : Int} (j : Nat) (hz : z = (j : Int)) (hj : j < 16) (hd : decode cc pc = .ok (.iastore, 1)) (k : G lv (WD a cI cB f0 f1 g2 f3 f4 g5 f6 (va_up g7 j x) f8 g9 g10 f11 g12 f13 f14 g15) (pc + 1) st) : G lv (WD a cI cB f0 f1 g2 f3 f4 g5 f6 g7 f8 g9 g10 f11 g12 f13 f14 g15) pc (.int (iI x) :: .int (iI z) :: .ref (a 3) :: st) := g_iast C 3 j rfl rfl hz hj (by decide) hd k
theorem dg_best (C : Cx l RX1 cc nL R D cI cB A kc ks G) (hd : decode cc pc = .ok (.getfield 78, 3)) (k : G lv (WD a cI cB f0 f1 g2 f3 f4 g5 f6 g7 f8 g9 g10 f11 g12 f13 f14 g15) (pc + 3) (.int (iI f8) :: st)) : G lv (WD a cI cB f0 f1 g2 f3 f4 g5 f6 g7 f8 g9 g10 f11 g12 f13 f14 g15) pc (.ref (a 0) :: st) := by
  obtain ⟨p, e, s, m, args, below, meth, c, Q, hx, hb, hml, hown, hts, hK, hA, rfl⟩ := C
  intro H locs ls hP hD hS hl
  exact va_get (D := D) (ci := 0) (v := .int (iI f8)) (C := RX1) (T := TX1) (N := 16) hx hb hts in_X1 hown hK hP 0 rfl rfl 8 (by decide) (hts _ q42) (fun _ h9 => h9) rfl hd (k H locs ls hP hD hS hl)
theorem dp_best (C : Cx l RX1 cc nL R D cI cB A kc ks G) {x : Int} (hd : decode cc pc = .ok (.putfield 78, 3)) (k : G lv (WD a cI cB f0 f1 g2 f3 f4 g5 f6 g7 x g9 g10 f11 g12 f13 f14 g15) (pc + 3) st) : G lv (WD a cI cB f0 f1 g2 f3 f4 g5 f6 g7 f8 g9 g10 f11 g12 f13 f14 g15) pc (.int (iI x) :: .ref (a 0) :: st) := by
  obtain ⟨p, e, s, m, args, below, meth, c, Q, hx, hb, hml, hown, hts, hK, hA, rfl⟩ := C
  intro H locs ls hP hD hS hl
  exact va_put (D := D) (ci := 0) (v := .int (iI x)) (ty := .int) (C := RX1) (T := TX1) (N := 16) hx hb hts in_X1 tyX1 tyX1_ok nmX1 hown hK hP hD hS 0 rfl rfl 8 (by decide) (hts _ q42) (fun _ h9 => h9) rfl (by decide +kernel) rfl rfl (Nat.le_of_ble_eq_true rfl) hd (fun H1 locs1 hP1 hD1 hS1 => k H1 locs1 ls hP1 hD1 hS1 hl)
theorem dg_place (C : Cx l RX1 cc nL R D cI cB A kc ks G) (hd : decode cc pc = .ok (.getfield 20, 3)) (k : G lv (WD a cI cB f0 f1 g2 f3 f4 g5 f6 g7 f8 g9 g10 f11 g12 f13 f14 g15) (pc + 3) (.ref (a 4) :: st)) : G lv (WD a cI cB f0 f1 g2 f3 f4 g5 f6 g7 f8 g9 g10 f11 g12 f13 f14 g15) pc (.ref (a 0) :: st) := by
  obtain ⟨p, e, s, m, args, below, meth, c, Q, hx, hb, hml, hown, hts, hK, hA, rfl⟩ := C
  intro H locs ls hP hD hS hl
  exact va_get (D := D) (ci := 0) (v := .ref (a 4)) (C := RX1) (T := TX1) (N := 16) hx hb hts in_X1 hown hK hP 0 rfl rfl 9 (by decide) (hts _ q43) (fun _ h9 => h9) rfl hd (k H locs ls hP hD hS hl)
theorem dl_place (C : Cx l RX1 cc nL R D cI cB A kc ks G) {z : Int} (j : Nat) (hz : z = (j : Int)) (hj : j < 16) (hd : decode cc pc = .ok (.baload, 1)) (k : G lv (WD a cI cB f0 f1 g2 f3 f4 g5 f6 g7 f8 g9 g10 f11 g12 f13 f14 g15) (pc + 1) (.int (iI (g9 j)) :: st)) : G lv (WD a cI cB f0 f1 g2 f3 f4 g5 f6 g7 f8 g9 g10 f11 g12 f13 f14 g15) pc (.int (iI z) :: .ref (a 4) :: st) := g_bald C 4 j rfl hz hj (by decide) hd k
theorem dx_place (C : Cx l RX1 cc nL R D cI cB A kc ks G) (g' : Nat → Int) (hg : ∀ k, k < 16 → g9 k = g' k) (k : G lv (WD a cI cB f0 f1 g2 f3 f4 g5 f6 g7 f8 g' g10 f11 g12 f13 f14 g15) pc st) : G lv (WD a cI cB f0 f1 g2 f3 f4 g5 f6 g7 f8 g9 g10 f11 g12 f13 f14 g15) pc st := g_ext C 4 rfl (fun j hj => by rw [hg j hj]) rfl k
theorem ds_place (C : Cx l RX1 cc nL R D cI cB A kc ks G) {z x : Int} (j : Nat) (hr : -128 ≤ x ∧ x < 128) (hz : z = (j : Int)) (hj : j < 16) (hd : decode cc pc = .ok (.bastore, 1)) (k : G lv (WD a cI cB f0 f1 g2 f3 f4 g5 f6 g7 f8 (va_up g9 j x) g10 f11 g12 f13 f14 g15) (pc + 1) st) : G lv (WD a cI cB f0 f1 g2 f3 f4 g5 f6 g7 f8 g9 g10 f11 g12 f13 f14 g15) pc (.int (iI x) :: .int (iI z) :: .ref (a 4) :: st) := g_bast C 4 j rfl rfl hr hz hj (by decide) hd k
theorem dg_openAt (C : Cx l RX1 cc nL R D cI cB A kc ks G) (hd : decode cc pc = .ok (.getfield 23, 3)) (k : G lv (WD a cI cB f0 f1 g2 f3 f4 g5 f6 g7 f8 g9 g10 f11 g12 f13 f14 g15) (pc + 3) (.ref (a 5) :: st)) : G lv (WD a cI cB f0 f1 g2 f3 f4 g5 f6 g7 f8 g9 g10 f11 g12 f13 f14 g15) pc (.ref (a 0) :: st) := by
  obtain ⟨p, e, s, m, args, below, meth, c, Q, hx, hb, hml, hown, hts, hK, hA, rfl⟩ := C
  intro H locs ls hP hD hS hl
  exact va_get (D := D) (ci := 0) (v := .ref (a 5)) (C := RX1) (T := TX1) (N := 16) hx hb hts in_X1 hown hK hP 0 rfl rfl 10 (by decide) (hts _ q44) (fun _ h9 => h9) rfl hd (k H locs ls hP hD hS hl)
theorem dl_openAt (C : Cx l RX1 cc nL R D cI cB A kc ks G) {z : Int} (j : Nat) (hz : z = (j : Int)) (hj : j < 16) (hd : decode cc pc = .ok (.baload, 1)) (k : G lv (WD a cI cB f0 f1 g2 f3 f4 g5 f6 g7 f8 g9 g10 f11 g12 f13 f14 g15) (pc + 1) (.int (iI (g10 j)) :: st)) : G lv (WD a cI cB f0 f1 g2 f3 f4 g5 f6 g7 f8 g9 g10 f11 g12 f13 f14 g15) pc (.int (iI z) :: .ref (a 5) :: st) := g_bald C 5 j rfl hz hj (by decide) hd k
theorem dx_openAt (C : Cx l RX1 cc nL R D cI cB A kc ks G) (g' : Nat → Int) (hg : ∀ k, k < 16 → g10 k = g' k) (k : G lv (WD a cI cB f0 f1 g2 f3 f4 g5 f6 g7 f8 g9 g' f11 g12 f13 f14 g15) pc st) : G lv (WD a cI cB f0 f1 g2 f3 f4 g5 f6 g7 f8 g9 g10 f11 g12 f13 f14 g15) pc st := g_ext C 5 rfl (fun j hj => by rw [hg j hj]) rfl k
theorem ds_openAt (C : Cx l RX1 cc nL R D cI cB A kc ks G) {z x : Int} (j : Nat) (hr : -128 ≤ x ∧ x < 128) (hz : z = (j : Int)) (hj : j < 16) (hd : decode cc pc = .ok (.bastore, 1)) (k : G lv (WD a cI cB f0 f1 g2 f3 f4 g5 f6 g7 f8 g9 (va_up g10 j x) f11 g12 f13 f14 g15) (pc + 1) st) : G lv (WD a cI cB f0 f1 g2 f3 f4 g5 f6 g7 f8 g9 g10 f11 g12 f13 f14 g15) pc (.int (iI x) :: .int (iI z) :: .ref (a 5) :: st) := g_bast C 5 j rfl rfl hr hz hj (by decide) hd k
theorem dg_weightCount (C : Cx l RX1 cc nL R D cI cB A kc ks G) (hd : decode cc pc = .ok (.getfield 64, 3)) (k : G lv (WD a cI cB f0 f1 g2 f3 f4 g5 f6 g7 f8 g9 g10 f11 g12 f13 f14 g15) (pc + 3) (.int (iI f11) :: st)) : G lv (WD a cI cB f0 f1 g2 f3 f4 g5 f6 g7 f8 g9 g10 f11 g12 f13 f14 g15) pc (.ref (a 0) :: st) := by
  obtain ⟨p, e, s, m, args, below, meth, c, Q, hx, hb, hml, hown, hts, hK, hA, rfl⟩ := C
  intro H locs ls hP hD hS hl
  exact va_get (D := D) (ci := 0) (v := .int (iI f11)) (C := RX1) (T := TX1) (N := 16) hx hb hts in_X1 hown hK hP 0 rfl rfl 11 (by decide) (hts _ q45) (fun _ h9 => h9) rfl hd (k H locs ls hP hD hS hl)
theorem dp_weightCount (C : Cx l RX1 cc nL R D cI cB A kc ks G) {x : Int} (hd : decode cc pc = .ok (.putfield 64, 3)) (k : G lv (WD a cI cB f0 f1 g2 f3 f4 g5 f6 g7 f8 g9 g10 x g12 f13 f14 g15) (pc + 3) st) : G lv (WD a cI cB f0 f1 g2 f3 f4 g5 f6 g7 f8 g9 g10 f11 g12 f13 f14 g15) pc (.int (iI x) :: .ref (a 0) :: st) := by
  obtain ⟨p, e, s, m, args, below, meth, c, Q, hx, hb, hml, hown, hts, hK, hA, rfl⟩ := C
  intro H locs ls hP hD hS hl
  exact va_put (D := D) (ci := 0) (v := .int (iI x)) (ty := .int) (C := RX1) (T := TX1) (N := 16) hx hb hts in_X1 tyX1 tyX1_ok nmX1 hown hK hP hD hS 0 rfl rfl 11 (by decide) (hts _ q45) (fun _ h9 => h9) rfl (by decide +kernel) rfl rfl (Nat.le_of_ble_eq_true rfl) hd (fun H1 locs1 hP1 hD1 hS1 => k H1 locs1 ls hP1 hD1 hS1 hl)
theorem dg_weights (C : Cx l RX1 cc nL R D cI cB A kc ks G) (hd : decode cc pc = .ok (.getfield 26, 3)) (k : G lv (WD a cI cB f0 f1 g2 f3 f4 g5 f6 g7 f8 g9 g10 f11 g12 f13 f14 g15) (pc + 3) (.ref (a 6) :: st)) : G lv (WD a cI cB f0 f1 g2 f3 f4 g5 f6 g7 f8 g9 g10 f11 g12 f13 f14 g15) pc (.ref (a 0) :: st) := by
  obtain ⟨p, e, s, m, args, below, meth, c, Q, hx, hb, hml, hown, hts, hK, hA, rfl⟩ := C
  intro H locs ls hP hD hS hl
  exact va_get (D := D) (ci := 0) (v := .ref (a 6)) (C := RX1) (T := TX1) (N := 16) hx hb hts in_X1 hown hK hP 0 rfl rfl 12 (by decide) (hts _ q46) (fun _ h9 => h9) rfl hd (k H locs ls hP hD hS hl)
theorem dl_weights (C : Cx l RX1 cc nL R D cI cB A kc ks G) {z : Int} (j : Nat) (hz : z = (j : Int)) (hj : j < 32) (hd : decode cc pc = .ok (.iaload, 1)) (k : G lv (WD a cI cB f0 f1 g2 f3 f4 g5 f6 g7 f8 g9 g10 f11 g12 f13 f14 g15) (pc + 1) (.int (iI (g12 j)) :: st)) : G lv (WD a cI cB f0 f1 g2 f3 f4 g5 f6 g7 f8 g9 g10 f11 g12 f13 f14 g15) pc (.int (iI z) :: .ref (a 6) :: st) := g_iald C 6 j rfl hz hj (by decide) hd k
theorem dx_weights (C : Cx l RX1 cc nL R D cI cB A kc ks G) (g' : Nat → Int) (hg : ∀ k, k < 32 → g12 k = g' k) (k : G lv (WD a cI cB f0 f1 g2 f3 f4 g5 f6 g7 f8 g9 g10 f11 g' f13 f14 g15) pc st) : G lv (WD a cI cB f0 f1 g2 f3 f4 g5 f6 g7 f8 g9 g10 f11 g12 f13 f14 g15) pc st := g_ext C 6 rfl (fun j hj => by rw [hg j hj]) rfl k
theorem ds_weights (C : Cx l RX1 cc nL R D cI cB A kc ks G) {z x : Int} (j : Nat) (hz : z = (j : Int)) (hj : j < 32) (hd : decode cc pc = .ok (.iastore, 1)) (k : G lv (WD a cI cB f0 f1 g2 f3 f4 g5 f6 g7 f8 g9 g10 f11 (va_up g12 j x) f13 f14 g15) (pc + 1) st) : G lv (WD a cI cB f0 f1 g2 f3 f4 g5 f6 g7 f8 g9 g10 f11 g12 f13 f14 g15) pc (.int (iI x) :: .int (iI z) :: .ref (a 6) :: st) := g_iast C 6 j rfl rfl hz hj (by decide) hd k
theorem dg_packed (C : Cx l RX1 cc nL R D cI cB A kc ks G) (hd : decode cc pc = .ok (.getfield 43, 3)) (k : G lv (WD a cI cB f0 f1 g2 f3 f4 g5 f6 g7 f8 g9 g10 f11 g12 f13 f14 g15) (pc + 3) (.int (iI f13) :: st)) : G lv (WD a cI cB f0 f1 g2 f3 f4 g5 f6 g7 f8 g9 g10 f11 g12 f13 f14 g15) pc (.ref (a 0) :: st) := by
  obtain ⟨p, e, s, m, args, below, meth, c, Q, hx, hb, hml, hown, hts, hK, hA, rfl⟩ := C
  intro H locs ls hP hD hS hl
  exact va_get (D := D) (ci := 0) (v := .int (iI f13)) (C := RX1) (T := TX1) (N := 16) hx hb hts in_X1 hown hK hP 0 rfl rfl 13 (by decide) (hts _ q47) (fun _ h9 => h9) rfl hd (k H locs ls hP hD hS hl)
theorem dp_packed (C : Cx l RX1 cc nL R D cI cB A kc ks G) {x : Int} (h01 : x = 0 ∨ x = 1) (hd : decode cc pc = .ok (.putfield 43, 3)) (k : G lv (WD a cI cB f0 f1 g2 f3 f4 g5 f6 g7 f8 g9 g10 f11 g12 x f14 g15) (pc + 3) st) : G lv (WD a cI cB f0 f1 g2 f3 f4 g5 f6 g7 f8 g9 g10 f11 g12 f13 f14 g15) pc (.int (iI x) :: .ref (a 0) :: st) := by
  obtain ⟨p, e, s, m, args, below, meth, c, Q, hx, hb, hml, hown, hts, hK, hA, rfl⟩ := C
  intro H locs ls hP hD hS hl
  exact va_put (D := D) (ci := 0) (v := .int (iI x)) (ty := .boolean) (C := RX1) (T := TX1) (N := 16) hx hb hts in_X1 tyX1 tyX1_ok nmX1 hown hK hP hD hS 0 rfl rfl 13 (by decide) (hts _ q47) (fun _ h9 => h9) rfl (by decide +kernel) (by rcases h01 with h | h <;> subst h <;> rfl) (by rcases h01 with h | h <;> subst h <;> rfl) (Nat.le_of_ble_eq_true rfl) hd (fun H1 locs1 hP1 hD1 hS1 => k H1 locs1 ls hP1 hD1 hS1 hl)
theorem dg_leastCount (C : Cx l RX1 cc nL R D cI cB A kc ks G) (hd : decode cc pc = .ok (.getfield 108, 3)) (k : G lv (WD a cI cB f0 f1 g2 f3 f4 g5 f6 g7 f8 g9 g10 f11 g12 f13 f14 g15) (pc + 3) (.int (iI f14) :: st)) : G lv (WD a cI cB f0 f1 g2 f3 f4 g5 f6 g7 f8 g9 g10 f11 g12 f13 f14 g15) pc (.ref (a 0) :: st) := by
  obtain ⟨p, e, s, m, args, below, meth, c, Q, hx, hb, hml, hown, hts, hK, hA, rfl⟩ := C
  intro H locs ls hP hD hS hl
  exact va_get (D := D) (ci := 0) (v := .int (iI f14)) (C := RX1) (T := TX1) (N := 16) hx hb hts in_X1 hown hK hP 0 rfl rfl 14 (by decide) (hts _ q48) (fun _ h9 => h9) rfl hd (k H locs ls hP hD hS hl)
theorem dp_leastCount (C : Cx l RX1 cc nL R D cI cB A kc ks G) {x : Int} (hd : decode cc pc = .ok (.putfield 108, 3)) (k : G lv (WD a cI cB f0 f1 g2 f3 f4 g5 f6 g7 f8 g9 g10 f11 g12 f13 x g15) (pc + 3) st) : G lv (WD a cI cB f0 f1 g2 f3 f4 g5 f6 g7 f8 g9 g10 f11 g12 f13 f14 g15) pc (.int (iI x) :: .ref (a 0) :: st) := by
  obtain ⟨p, e, s, m, args, below, meth, c, Q, hx, hb, hml, hown, hts, hK, hA, rfl⟩ := C
  intro H locs ls hP hD hS hl
  exact va_put (D := D) (ci := 0) (v := .int (iI x)) (ty := .int) (C := RX1) (T := TX1) (N := 16) hx hb hts in_X1 tyX1 tyX1_ok nmX1 hown hK hP hD hS 0 rfl rfl 14 (by decide) (hts _ q48) (fun _ h9 => h9) rfl (by decide +kernel) rfl rfl (Nat.le_of_ble_eq_true rfl) hd (fun H1 locs1 hP1 hD1 hS1 => k H1 locs1 ls hP1 hD1 hS1 hl)
theorem dg_bins (C : Cx l RX1 cc nL R D cI cB A kc ks G) (hd : decode cc pc = .ok (.getfield 29, 3)) (k : G lv (WD a cI cB f0 f1 g2 f3 f4 g5 f6 g7 f8 g9 g10 f11 g12 f13 f14 g15) (pc + 3) (.ref (a 7) :: st)) : G lv (WD a cI cB f0 f1 g2 f3 f4 g5 f6 g7 f8 g9 g10 f11 g12 f13 f14 g15) pc (.ref (a 0) :: st) := by
  obtain ⟨p, e, s, m, args, below, meth, c, Q, hx, hb, hml, hown, hts, hK, hA, rfl⟩ := C
  intro H locs ls hP hD hS hl
  exact va_get (D := D) (ci := 0) (v := .ref (a 7)) (C := RX1) (T := TX1) (N := 16) hx hb hts in_X1 hown hK hP 0 rfl rfl 15 (by decide) (hts _ q49) (fun _ h9 => h9) rfl hd (k H locs ls hP hD hS hl)
theorem dl_bins (C : Cx l RX1 cc nL R D cI cB A kc ks G) {z : Int} (j : Nat) (hz : z = (j : Int)) (hj : j < 8) (hd : decode cc pc = .ok (.baload, 1)) (k : G lv (WD a cI cB f0 f1 g2 f3 f4 g5 f6 g7 f8 g9 g10 f11 g12 f13 f14 g15) (pc + 1) (.int (iI (g15 j)) :: st)) : G lv (WD a cI cB f0 f1 g2 f3 f4 g5 f6 g7 f8 g9 g10 f11 g12 f13 f14 g15) pc (.int (iI z) :: .ref (a 7) :: st) := g_bald C 7 j rfl hz hj (by decide) hd k
theorem dx_bins (C : Cx l RX1 cc nL R D cI cB A kc ks G) (g' : Nat → Int) (hg : ∀ k, k < 8 → g15 k = g' k) (k : G lv (WD a cI cB f0 f1 g2 f3 f4 g5 f6 g7 f8 g9 g10 f11 g12 f13 f14 g') pc st) : G lv (WD a cI cB f0 f1 g2 f3 f4 g5 f6 g7 f8 g9 g10 f11 g12 f13 f14 g15) pc st := g_ext C 7 rfl (fun j hj => by rw [hg j hj]) rfl k
theorem ds_bins (C : Cx l RX1 cc nL R D cI cB A kc ks G) {z x : Int} (j : Nat) (hr : -128 ≤ x ∧ x < 128) (hz : z = (j : Int)) (hj : j < 8) (hd : decode cc pc = .ok (.bastore, 1)) (k : G lv (WD a cI cB f0 f1 g2 f3 f4 g5 f6 g7 f8 g9 g10 f11 g12 f13 f14 (va_up g15 j x)) (pc + 1) st) : G lv (WD a cI cB f0 f1 g2 f3 f4 g5 f6 g7 f8 g9 g10 f11 g12 f13 f14 g15) pc (.int (iI x) :: .int (iI z) :: .ref (a 7) :: st) := g_bast C 7 j rfl rfl hr hz hj (by decide) hd k
end GD
/-- the model: its object at a 0, its arrays at a 1, a 2, a 3 -/
def WM (a : Nat → Nat) (cI : ClassId) (f0 : Int) (g1 : Nat → Int) (f2 : Int) (g3 : Nat → Int) (g4 : Nat → Int) : va_W := [(a 0, .inr (1, [.int (iI f0), .ref (a 1), .int (iI f2), .ref (a 2), .ref (a 3)])), (a 1, .inl (cI, 8, .inl (fun k => iI (g1 k)))), (a 2, .inl (cI, 8, .inl (fun k => iI (g3 k)))), (a 3, .inl (cI, 8, .inl (fun k => iI (g4 k))))]
section GM
variable {l : Launch} {cc : ByteArray} {nL : Nat} {R : Room} {D : va_G} {cI cB : ClassId} {A : Nat → Prop} {kc ks : Nat} {G : GT} {lv : List (Nat × Value)} {a : Nat → Nat} {pc : Nat} {st : List Value} {f0 f2 : Int} {g1 g3 g4 : Nat → Int}
theorem mg_room (C : Cx l RX2 cc nL R D cI cB A kc ks G) (hd : decode cc pc = .ok (.getfield 19, 3)) (k : G lv (WM a cI f0 g1 f2 g3 g4) (pc + 3) (.int (iI f0) :: st)) : G lv (WM a cI f0 g1 f2 g3 g4) pc (.ref (a 0) :: st) := by
  obtain ⟨p, e, s, m, args, below, meth, c, Q, hx, hb, hml, hown, hts, hK, hA, rfl⟩ := C
  intro H locs ls hP hD hS hl
  exact va_get (D := D) (ci := 1) (v := .int (iI f0)) (C := RX2) (T := TX2) (N := 5) hx hb hts in_X2 hown hK hP 0 rfl rfl 0 (by decide) (hts _ q215) (fun _ h9 => h9) rfl hd (k H locs ls hP hD hS hl)
theorem mp_room (C : Cx l RX2 cc nL R D cI cB A kc ks G) {x : Int} (hd : decode cc pc = .ok (.putfield 19, 3)) (k : G lv (WM a cI x g1 f2 g3 g4) (pc + 3) st) : G lv (WM a cI f0 g1 f2 g3 g4) pc (.int (iI x) :: .ref (a 0) :: st) := by
  obtain ⟨p, e, s, m, args, below, meth, c, Q, hx, hb, hml, hown, hts, hK, hA, rfl⟩ := C
  intro H locs ls hP hD hS hl
  exact va_put (D := D) (ci := 1) (v := .int (iI x)) (ty := .int) (C := RX2) (T := TX2) (N := 5) hx hb hts in_X2 tyX2 tyX2_ok nmX2 hown hK hP hD hS 0 rfl rfl 0 (by decide) (hts _ q215) (fun _ h9 => h9) rfl (by decide +kernel) rfl rfl (Nat.le_of_ble_eq_true rfl) hd (fun H1 locs1 hP1 hD1 hS1 => k H1 locs1 ls hP1 hD1 hS1 hl)
theorem mg_sizes (C : Cx l RX2 cc nL R D cI cB A kc ks G) (hd : decode cc pc = .ok (.getfield 7, 3)) (k : G lv (WM a cI f0 g1 f2 g3 g4) (pc + 3) (.ref (a 1) :: st)) : G lv (WM a cI f0 g1 f2 g3 g4) pc (.ref (a 0) :: st) := by
  obtain ⟨p, e, s, m, args, below, meth, c, Q, hx, hb, hml, hown, hts, hK, hA, rfl⟩ := C
  intro H locs ls hP hD hS hl
  exact va_get (D := D) (ci := 1) (v := .ref (a 1)) (C := RX2) (T := TX2) (N := 5) hx hb hts in_X2 hown hK hP 0 rfl rfl 1 (by decide) (hts _ q216) (fun _ h9 => h9) rfl hd (k H locs ls hP hD hS hl)
theorem ml_sizes (C : Cx l RX2 cc nL R D cI cB A kc ks G) {z : Int} (j : Nat) (hz : z = (j : Int)) (hj : j < 8) (hd : decode cc pc = .ok (.iaload, 1)) (k : G lv (WM a cI f0 g1 f2 g3 g4) (pc + 1) (.int (iI (g1 j)) :: st)) : G lv (WM a cI f0 g1 f2 g3 g4) pc (.int (iI z) :: .ref (a 1) :: st) := g_iald C 1 j rfl hz hj (by decide) hd k
theorem mx_sizes (C : Cx l RX2 cc nL R D cI cB A kc ks G) (g' : Nat → Int) (hg : ∀ k, k < 8 → g1 k = g' k) (k : G lv (WM a cI f0 g' f2 g3 g4) pc st) : G lv (WM a cI f0 g1 f2 g3 g4) pc st := g_ext C 1 rfl (fun j hj => by rw [hg j hj]) rfl k
theorem ms_sizes (C : Cx l RX2 cc nL R D cI cB A kc ks G) {z x : Int} (j : Nat) (hz : z = (j : Int)) (hj : j < 8) (hd : decode cc pc = .ok (.iastore, 1)) (k : G lv (WM a cI f0 (va_up g1 j x) f2 g3 g4) (pc + 1) st) : G lv (WM a cI f0 g1 f2 g3 g4) pc (.int (iI x) :: .int (iI z) :: .ref (a 1) :: st) := g_iast C 1 j rfl rfl hz hj (by decide) hd k
theorem mg_n (C : Cx l RX2 cc nL R D cI cB A kc ks G) (hd : decode cc pc = .ok (.getfield 27, 3)) (k : G lv (WM a cI f0 g1 f2 g3 g4) (pc + 3) (.int (iI f2) :: st)) : G lv (WM a cI f0 g1 f2 g3 g4) pc (.ref (a 0) :: st) := by
  obtain ⟨p, e, s, m, args, below, meth, c, Q, hx, hb, hml, hown, hts, hK, hA, rfl⟩ := C
  intro H locs ls hP hD hS hl
  exact va_get (D := D) (ci := 1) (v := .int (iI f2)) (C := RX2) (T := TX2) (N := 5) hx hb hts in_X2 hown hK hP 0 rfl rfl 2 (by decide) (hts _ q217) (fun _ h9 => h9) rfl hd (k H locs ls hP hD hS hl)
theorem mp_n (C : Cx l RX2 cc nL R D cI cB A kc ks G) {x : Int} (hd : decode cc pc = .ok (.putfield 27, 3)) (k : G lv (WM a cI f0 g1 x g3 g4) (pc + 3) st) : G lv (WM a cI f0 g1 f2 g3 g4) pc (.int (iI x) :: .ref (a 0) :: st) := by
  obtain ⟨p, e, s, m, args, below, meth, c, Q, hx, hb, hml, hown, hts, hK, hA, rfl⟩ := C
  intro H locs ls hP hD hS hl
  exact va_put (D := D) (ci := 1) (v := .int (iI x)) (ty := .int) (C := RX2) (T := TX2) (N := 5) hx hb hts in_X2 tyX2 tyX2_ok nmX2 hown hK hP hD hS 0 rfl rfl 2 (by decide) (hts _ q217) (fun _ h9 => h9) rfl (by decide +kernel) rfl rfl (Nat.le_of_ble_eq_true rfl) hd (fun H1 locs1 hP1 hD1 hS1 => k H1 locs1 ls hP1 hD1 hS1 hl)
theorem mg_item (C : Cx l RX2 cc nL R D cI cB A kc ks G) (hd : decode cc pc = .ok (.getfield 13, 3)) (k : G lv (WM a cI f0 g1 f2 g3 g4) (pc + 3) (.ref (a 2) :: st)) : G lv (WM a cI f0 g1 f2 g3 g4) pc (.ref (a 0) :: st) := by
  obtain ⟨p, e, s, m, args, below, meth, c, Q, hx, hb, hml, hown, hts, hK, hA, rfl⟩ := C
  intro H locs ls hP hD hS hl
  exact va_get (D := D) (ci := 1) (v := .ref (a 2)) (C := RX2) (T := TX2) (N := 5) hx hb hts in_X2 hown hK hP 0 rfl rfl 3 (by decide) (hts _ q218) (fun _ h9 => h9) rfl hd (k H locs ls hP hD hS hl)
theorem ml_item (C : Cx l RX2 cc nL R D cI cB A kc ks G) {z : Int} (j : Nat) (hz : z = (j : Int)) (hj : j < 8) (hd : decode cc pc = .ok (.iaload, 1)) (k : G lv (WM a cI f0 g1 f2 g3 g4) (pc + 1) (.int (iI (g3 j)) :: st)) : G lv (WM a cI f0 g1 f2 g3 g4) pc (.int (iI z) :: .ref (a 2) :: st) := g_iald C 2 j rfl hz hj (by decide) hd k
theorem mx_item (C : Cx l RX2 cc nL R D cI cB A kc ks G) (g' : Nat → Int) (hg : ∀ k, k < 8 → g3 k = g' k) (k : G lv (WM a cI f0 g1 f2 g' g4) pc st) : G lv (WM a cI f0 g1 f2 g3 g4) pc st := g_ext C 2 rfl (fun j hj => by rw [hg j hj]) rfl k
theorem ms_item (C : Cx l RX2 cc nL R D cI cB A kc ks G) {z x : Int} (j : Nat) (hz : z = (j : Int)) (hj : j < 8) (hd : decode cc pc = .ok (.iastore, 1)) (k : G lv (WM a cI f0 g1 f2 (va_up g3 j x) g4) (pc + 1) st) : G lv (WM a cI f0 g1 f2 g3 g4) pc (.int (iI x) :: .int (iI z) :: .ref (a 2) :: st) := g_iast C 2 j rfl rfl hz hj (by decide) hd k
theorem mg_bin (C : Cx l RX2 cc nL R D cI cB A kc ks G) (hd : decode cc pc = .ok (.getfield 16, 3)) (k : G lv (WM a cI f0 g1 f2 g3 g4) (pc + 3) (.ref (a 3) :: st)) : G lv (WM a cI f0 g1 f2 g3 g4) pc (.ref (a 0) :: st) := by
  obtain ⟨p, e, s, m, args, below, meth, c, Q, hx, hb, hml, hown, hts, hK, hA, rfl⟩ := C
  intro H locs ls hP hD hS hl
  exact va_get (D := D) (ci := 1) (v := .ref (a 3)) (C := RX2) (T := TX2) (N := 5) hx hb hts in_X2 hown hK hP 0 rfl rfl 4 (by decide) (hts _ q219) (fun _ h9 => h9) rfl hd (k H locs ls hP hD hS hl)
theorem ml_bin (C : Cx l RX2 cc nL R D cI cB A kc ks G) {z : Int} (j : Nat) (hz : z = (j : Int)) (hj : j < 8) (hd : decode cc pc = .ok (.iaload, 1)) (k : G lv (WM a cI f0 g1 f2 g3 g4) (pc + 1) (.int (iI (g4 j)) :: st)) : G lv (WM a cI f0 g1 f2 g3 g4) pc (.int (iI z) :: .ref (a 3) :: st) := g_iald C 3 j rfl hz hj (by decide) hd k
theorem mx_bin (C : Cx l RX2 cc nL R D cI cB A kc ks G) (g' : Nat → Int) (hg : ∀ k, k < 8 → g4 k = g' k) (k : G lv (WM a cI f0 g1 f2 g3 g') pc st) : G lv (WM a cI f0 g1 f2 g3 g4) pc st := g_ext C 3 rfl (fun j hj => by rw [hg j hj]) rfl k
theorem ms_bin (C : Cx l RX2 cc nL R D cI cB A kc ks G) {z x : Int} (j : Nat) (hz : z = (j : Int)) (hj : j < 8) (hd : decode cc pc = .ok (.iastore, 1)) (k : G lv (WM a cI f0 g1 f2 g3 (va_up g4 j x)) (pc + 1) st) : G lv (WM a cI f0 g1 f2 g3 g4) pc (.int (iI x) :: .int (iI z) :: .ref (a 3) :: st) := g_iast C 3 j rfl rfl hz hj (by decide) hd k
end GM
end
section
/-! bins, plainly: Cp R t l k: the items t can be put into the bins 0 .. k-1 that hold l already, none over R -/
def bump (l : Nat → Int) (b : Nat) (r : Int) : Nat → Int := va_up l b (l b + r)
theorem up_same {α : Type} (f : Nat → α) (k : Nat) (v : α) : va_up f k v k = v := if_pos rfl
theorem up_ne {α : Type} (f : Nat → α) {k j : Nat} (v : α) (h : j ≠ k) : va_up f k v j = f j := if_neg h
theorem up_up {α : Type} (f : Nat → α) (k : Nat) (v w : α) : va_up (va_up f k v) k w = va_up f k w := by
  funext j
  by_cases h : j = k
  · subst h; rw [up_same, up_same]
  · rw [up_ne _ _ h, up_ne _ _ h, up_ne _ _ h]
theorem up_self {α : Type} (f : Nat → α) (k : Nat) : va_up f k (f k) = f := by
  funext j
  by_cases h : j = k
  · subst h; rw [up_same]
  · rw [up_ne _ _ h]
theorem bump_same (l : Nat → Int) (b : Nat) (r : Int) : bump l b r b = l b + r := up_same _ _ _
theorem bump_ne (l : Nat → Int) {b j : Nat} (r : Int) (h : j ≠ b) : bump l b r j = l j := up_ne _ _ h
theorem bump_comm (l : Nat → Int) (b c : Nat) (x y : Int) : bump (bump l b x) c y = bump (bump l c y) b x := by
  funext j
  by_cases h1 : j = b <;> by_cases h2 : j = c
  · subst h1; subst h2; simp only [bump_same]; omega
  · subst h1; rw [bump_ne _ _ h2, bump_same, bump_same, bump_ne _ _ h2]
  · subst h2; rw [bump_same, bump_ne _ _ h1, bump_ne _ _ h1, bump_same]
  · rw [bump_ne _ _ h2, bump_ne _ _ h1, bump_ne _ _ h1, bump_ne _ _ h2]
theorem bump_back (l : Nat → Int) (b : Nat) (r : Int) : va_up (bump l b r) b (bump l b r b - r) = l := by
  unfold bump
  rw [up_up, up_same]
  have e : l b + r - r = l b := by omega
  rw [e, up_self]
def Cp (R : Int) : List Int → (Nat → Int) → Nat → Prop
  | [], l, k => ∀ b, b < k → l b ≤ R
  | r :: t, l, k => ∃ b, b < k ∧ Cp R t (bump l b r) k
theorem Cp_ext {R : Int} {k : Nat} : ∀ (t : List Int) {l l' : Nat → Int}, (∀ b, b < k → l b = l' b) → Cp R t l k → Cp R t l' k
  | [], l, l', h, hc => fun b hb => by rw [← h b hb]; exact hc b hb
  | r :: t, l, l', h, ⟨b, hb, hc⟩ => ⟨b, hb, Cp_ext t (fun j hj => by
      by_cases e : j = b
      · subst e; rw [bump_same, bump_same, h j hj]
      · rw [bump_ne _ _ e, bump_ne _ _ e, h j hj]) hc⟩
theorem Cp_perm {R : Int} {k : Nat} {t t' : List Int} (hp : t.Perm t') : ∀ {l : Nat → Int}, Cp R t l k → Cp R t' l k := by
  induction hp with
  | nil => intro l h; exact h
  | cons x _ ih => intro l ⟨b, hb, h⟩; exact ⟨b, hb, ih h⟩
  | swap x y t => intro l ⟨b, hb, c, hc, h⟩; exact ⟨c, hc, b, hb, by rw [bump_comm]; exact h⟩
  | trans _ _ ih1 ih2 => intro l h; exact ih2 (ih1 h)
/-- two bins change places -/
def sw (b c j : Nat) : Nat := if j = b then c else if j = c then b else j
theorem sw_lt {b c k j : Nat} (hb : b < k) (hc : c < k) (hj : j < k) : sw b c j < k := by
  unfold sw
  split
  · exact hc
  · split
    · exact hb
    · exact hj
theorem sw_sw (b c j : Nat) : sw b c (sw b c j) = j := by
  unfold sw
  by_cases h1 : j = b
  · subst h1
    by_cases h2 : c = j
    · simp [h2]
    · simp [h2]
  · by_cases h2 : j = c
    · subst h2; simp [h1]
    · simp [h1, h2]
theorem Cp_swap {R : Int} {k b c : Nat} (hb : b < k) (hc : c < k) : ∀ (t : List Int) {l : Nat → Int}, Cp R t l k → Cp R t (fun j => l (sw b c j)) k
  | [], l, h => fun j hj => h _ (sw_lt hb hc hj)
  | r :: t, l, ⟨d, hd, h⟩ => ⟨sw b c d, sw_lt hb hc hd, by
      have e : bump (fun j => l (sw b c j)) (sw b c d) r = fun j => bump l d r (sw b c j) := by
        funext j
        by_cases hj : j = sw b c d
        · subst hj
          rw [bump_same]
          simp only [sw_sw]
          rw [bump_same]
        · rw [bump_ne _ _ hj, bump_ne]
          intro q
          apply hj
          rw [← q, sw_sw]
      rw [e]
      exact Cp_swap hb hc t h⟩
theorem Cp_mono {R : Int} {k k' : Nat} (hk : k ≤ k') : ∀ (t : List Int) {l : Nat → Int}, (∀ b, k ≤ b → b < k' → l b ≤ R) → Cp R t l k → Cp R t l k'
  | [], l, h, hc => fun b hb => by
      by_cases q : b < k
      · exact hc b q
      · exact h b (by omega) hb
  | r :: t, l, h, ⟨b, hb, hc⟩ => ⟨b, by omega, Cp_mono hk t (fun j h1 h2 => by rw [bump_ne _ _ (by omega)]; exact h j h1 h2) hc⟩
theorem Cp_le {R : Int} {k : Nat} : ∀ (t : List Int) {l l' : Nat → Int}, (∀ b, b < k → l' b ≤ l b) → Cp R t l k → Cp R t l' k
  | [], l, l', h, hc => fun b hb => by have h1 := h b hb; have h2 := hc b hb; omega
  | r :: t, l, l', h, ⟨b, hb, hc⟩ => ⟨b, hb, Cp_le t (fun j hj => by
      by_cases e : j = b
      · subst e; rw [bump_same, bump_same]; have h1 := h j hj; omega
      · rw [bump_ne _ _ e, bump_ne _ _ e]; exact h j hj) hc⟩
theorem Cp_R {R R' : Int} (hR : R ≤ R') {k : Nat} : ∀ (t : List Int) {l : Nat → Int}, Cp R t l k → Cp R' t l k
  | [], l, hc => fun b hb => by have h2 := hc b hb; omega
  | r :: t, l, ⟨b, hb, hc⟩ => ⟨b, hb, Cp_R hR t hc⟩
theorem Cp_bound {R : Int} {k : Nat} : ∀ (t : List Int) {l : Nat → Int}, (∀ x ∈ t, 0 ≤ x) → Cp R t l k → ∀ b, b < k → l b ≤ R
  | [], l, _, hc => hc
  | r :: t, l, h0, ⟨b, hb, hc⟩ => fun j hj => by
      have h1 := Cp_bound t (fun x hx => h0 x (List.mem_cons_of_mem _ hx)) hc j hj
      have h2 := h0 r List.mem_cons_self
      by_cases e : j = b
      · subst e; rw [bump_same] at h1; omega
      · rw [bump_ne _ _ e] at h1; exact h1
/-- the first item: into a bin that is open, or into the next one -/
theorem Cp_first {R r : Int} {k o : Nat} {t : List Int} {l : Nat → Int} (ho : o ≤ k) (hz : ∀ b, o ≤ b → l b = 0) (h : Cp R (r :: t) l k) : (∃ b, b < o ∧ Cp R t (bump l b r) k) ∨ (o + 1 ≤ k ∧ Cp R t (bump l o r) k) := by
  obtain ⟨b, hb, hc⟩ := h
  by_cases hbo : b < o
  · exact Or.inl ⟨b, hbo, hc⟩
  · refine Or.inr ⟨by omega, ?_⟩
    have h1 := Cp_swap (b := b) (c := o) hb (by omega) t hc
    refine Cp_ext t (fun j hj => ?_) h1
    by_cases e1 : j = o
    · subst e1
      by_cases e2 : j = b
      · subst e2; simp [sw]
      · have e3 : sw b j j = b := by unfold sw; rw [if_neg e2, if_pos rfl]
        rw [e3, bump_same, bump_same, hz b (by omega), hz j (by omega)]
    · by_cases e2 : j = b
      · subst e2
        have e3 : sw j o j = o := by unfold sw; rw [if_pos rfl]
        rw [e3, bump_ne _ _ e1, bump_ne _ _ (fun q => e1 q.symm), hz o (by omega), hz j (by omega)]
      · have e3 : sw b o j = j := by unfold sw; rw [if_neg e2, if_neg e1]
        rw [e3, bump_ne _ _ e2, bump_ne _ _ e1]
/-- bins that hold as much are alike -/
theorem Cp_like {R r : Int} {k b c : Nat} {t : List Int} {l : Nat → Int} (hb : b < k) (hc : c < k) (e : l b = l c) (h : Cp R t (bump l b r) k) : Cp R t (bump l c r) k := by
  have h1 := Cp_swap (b := b) (c := c) hb hc t h
  refine Cp_ext t (fun j hj => ?_) h1
  by_cases e1 : j = c
  · subst e1
    by_cases e2 : j = b
    · subst e2; simp [sw]
    · have e3 : sw b j j = b := by unfold sw; rw [if_neg e2, if_pos rfl]
      rw [e3, bump_same, bump_same, e]
  · by_cases e2 : j = b
    · subst e2
      have e3 : sw j c j = c := by unfold sw; rw [if_pos rfl]
      rw [e3, bump_ne _ _ e1, bump_ne _ _ (fun q => e1 q.symm), e]
    · have e3 : sw b c j = j := by unfold sw; rw [if_neg e2, if_neg e1]
      rw [e3, bump_ne _ _ e2, bump_ne _ _ e1]
/-! sums -/
def sg : Nat → (Nat → Int) → Int
  | 0, _ => 0
  | n + 1, f => sg n f + f n
theorem sg_ext {n : Nat} {f g : Nat → Int} (h : ∀ j, j < n → f j = g j) : sg n f = sg n g := by
  induction n with
  | zero => rfl
  | succ n ih => show sg n f + f n = sg n g + g n; rw [ih (fun j hj => h j (by omega)), h n (by omega)]
theorem sg_bump {n b : Nat} (f : Nat → Int) (r : Int) (hb : b < n) : sg n (bump f b r) = sg n f + r := by
  induction n with
  | zero => omega
  | succ n ih =>
    show sg n (bump f b r) + bump f b r n = sg n f + f n + r
    by_cases e : n = b
    · subst e
      rw [bump_same, sg_ext (g := f) (fun j hj => bump_ne _ _ (by omega))]
      omega
    · rw [bump_ne _ _ e, ih (by omega)]
      omega
theorem sg_le {n : Nat} {f : Nat → Int} {U : Int} (h : ∀ j, j < n → f j ≤ U) : sg n f ≤ U * n := by
  induction n with
  | zero => show (0 : Int) ≤ U * 0; omega
  | succ n ih =>
    have h1 := ih (fun j hj => h j (by omega))
    have h2 := h n (by omega)
    have e : U * ((n + 1 : Nat) : Int) = U * n + U := by rw [Int.natCast_add]; exact Int.mul_add U n 1 |>.trans (by rw [Int.mul_one])
    show sg n f + f n ≤ _
    omega
theorem sg_tail {n k : Nat} {f : Nat → Int} (hk : n ≤ k) (h : ∀ j, n ≤ j → j < k → f j = 0) : sg k f = sg n f := by
  induction k with
  | zero => have : n = 0 := by omega
            subst this; rfl
  | succ k ih =>
    by_cases e : n = k + 1
    · subst e; rfl
    · show sg k f + f k = sg n f
      rw [ih (by omega) (fun j h1 h2 => h j h1 (by omega)), h k (by omega) (by omega)]
      omega
/-- a potential that no bin passes -/
theorem Cp_pot {R U : Int} (P : Int → Int → Prop) (u : Int → Int) (hadd : ∀ s p w : Int, 0 ≤ w → s + w ≤ R → P s p → P (s + w) (p + u w)) (hend : ∀ s p : Int, s ≤ R → P s p → p ≤ U) {k : Nat} :
    ∀ (t : List Int) {l v : Nat → Int}, (∀ x ∈ t, 0 ≤ x) → (∀ b, b < k → P (l b) (v b)) → Cp R t l k → sg k v + (t.map u).sum ≤ U * k
  | [], l, v, _, hv, hc => by
      have h1 := sg_le (n := k) (f := v) (U := U) (fun j hj => hend _ _ (hc j hj) (hv j hj))
      simp only [List.map_nil, List.sum_nil]
      omega
  | r :: t, l, v, h0, hv, ⟨b, hb, hc⟩ => by
      have ht : ∀ x ∈ t, 0 ≤ x := fun x hx => h0 x (List.mem_cons_of_mem _ hx)
      have h1 := Cp_bound t ht hc b hb
      rw [bump_same] at h1
      have h2 := Cp_pot P u hadd hend t (l := bump l b r) (v := bump v b (u r)) ht (fun j hj => by
        by_cases e : j = b
        · subst e; rw [bump_same, bump_same]; exact hadd _ _ _ (h0 r List.mem_cons_self) h1 (hv j hj)
        · rw [bump_ne _ _ e, bump_ne _ _ e]; exact hv j hj) hc
      rw [sg_bump _ _ hb] at h2
      simp only [List.map_cons, List.sum_cons]
      omega
theorem Cp_sum {R : Int} {k : Nat} (t : List Int) {l : Nat → Int} (h0 : ∀ x ∈ t, 0 ≤ x) (hc : Cp R t l k) : sg k l + t.sum ≤ R * k := by
  have h := Cp_pot (R := R) (U := R) (fun s p => s = p) (fun x => x) (fun s p w _ _ e => by rw [e]) (fun s p h e => by rw [← e]; exact h) t (l := l) (v := l) h0 (fun _ _ => rfl) hc
  rw [List.map_id'] at h
  exact h
/-- amounts upwards: the least number of sizes that hold the amount -/
def ceilf (a s : Int) : Int := if a ≤ 0 then 0 else (a + s - 1) / s
theorem ceilf_le {a s n : Int} (hs : 0 < s) (hn : 0 ≤ n) (h : a ≤ s * n) : ceilf a s ≤ n := by
  unfold ceilf
  split
  · exact hn
  · have h1 : (a + s - 1) / s < n + 1 := by
      rw [Int.ediv_lt_iff_lt_mul hs]
      have e : (n + 1) * s = s * n + s := by rw [Int.add_mul, Int.one_mul, Int.mul_comm]
      omega
    omega
theorem mul_sub_nat (R : Int) {o k : Nat} (h : o ≤ k) : R * k = R * o + R * ((k : Int) - o) := by
  rw [← Int.mul_add]
  congr 1
  omega
/-- what the room that is left says -/
theorem hope_bound {R : Int} {k o : Nat} (hR : 0 < R) {t : List Int} {l : Nat → Int} (h0 : ∀ x ∈ t, 0 ≤ x) (hz : ∀ b, o ≤ b → l b = 0) (ho : o ≤ k) (hc : Cp R t l k) : (o : Int) + ceilf (t.sum - sg o (fun b => R - l b)) R ≤ k := by
  have h1 := Cp_sum t h0 hc
  rw [sg_tail ho (fun j h1 _ => hz j h1)] at h1
  have h2 : ∀ n : Nat, sg n (fun b => R - l b) = R * n - sg n l := by
    intro n
    induction n with
    | zero => show (0 : Int) = R * ((0 : Nat) : Int) - 0; simp
    | succ n ih =>
      show sg n (fun b => R - l b) + (R - l n) = R * ((n + 1 : Nat) : Int) - (sg n l + l n)
      rw [ih]
      have e : R * ((n + 1 : Nat) : Int) = R * n + R := by rw [Int.natCast_add]; exact Int.mul_add R n 1 |>.trans (by rw [Int.mul_one])
      omega
  rw [h2 o]
  have h3 := mul_sub_nat R ho
  have h4 := ceilf_le (a := t.sum - (R * o - sg o l)) (s := R) (n := (k : Int) - o) hR (by omega) (by omega)
  omega
end
section
/-! the bound -/
def its {α : Type} (m : Nat) (r : Nat → α) : List α := (List.range m).map r
theorem its_0 {α : Type} (r : Nat → α) : its 0 r = [] := rfl
theorem its_succ {α : Type} (m : Nat) (r : Nat → α) : its (m + 1) r = its m r ++ [r m] := by
  unfold its
  rw [List.range_succ, List.map_append]
  rfl
theorem its_len {α : Type} (m : Nat) (r : Nat → α) : (its m r).length = m := by unfold its; rw [List.length_map, List.length_range]
theorem its_mem {α : Type} {m j : Nat} (r : Nat → α) (h : j < m) : r j ∈ its m r := List.mem_map.mpr ⟨j, List.mem_range.mpr h, rfl⟩
theorem its_of_mem {α : Type} {m : Nat} {r : Nat → α} {x : α} (h : x ∈ its m r) : ∃ j, j < m ∧ r j = x := by
  obtain ⟨j, h1, h2⟩ := List.mem_map.mp h
  exact ⟨j, List.mem_range.mp h1, h2⟩
theorem its_ext {α : Type} {m : Nat} {r r' : Nat → α} (h : ∀ j, j < m → r j = r' j) : its m r = its m r' := by
  unfold its
  exact List.map_congr_left (fun j hj => h j (List.mem_range.mp hj))
theorem its_cons {α : Type} (m : Nat) (r : Nat → α) : its (m + 1) r = r 0 :: its m (fun j => r (j + 1)) := by
  unfold its
  rw [List.range_succ_eq_map, List.map_cons, List.map_map]
  rfl
theorem its_drop {α : Type} {m L : Nat} (r : Nat → α) (h : L < m) : (its m r).drop L = r L :: (its m r).drop (L + 1) := by
  have hl : L < (its m r).length := by rw [its_len]; exact h
  rw [List.drop_eq_getElem_cons hl]
  congr 1
  simp [its]
theorem its_dropAll {α : Type} (m : Nat) (r : Nat → α) : (its m r).drop m = [] := List.drop_eq_nil_of_le (by rw [its_len]; exact Nat.le_refl m)
theorem its_sum (m : Nat) (r : Nat → Int) (u : Int → Int) : ((its m r).map u).sum = sg m (fun j => u (r j)) := by
  induction m with
  | zero => rfl
  | succ m ih =>
    rw [its_succ, List.map_append, List.sum_append, ih]
    show _ = sg m (fun j => u (r j)) + u (r m)
    simp
theorem sg_app (o m : Nat) (f : Nat → Int) : sg (o + m) f = sg o f + sg m (fun j => f (o + j)) := by
  induction m with
  | zero => show sg o f = sg o f + 0; omega
  | succ m ih =>
    show sg (o + m) f + f (o + m) = sg o f + (sg m (fun j => f (o + j)) + f (o + m))
    rw [ih]
    omega
theorem sg_add (n : Nat) (f g : Nat → Int) : sg n f + sg n g = sg n (fun j => f j + g j) := by
  induction n with
  | zero => rfl
  | succ n ih =>
    show sg n f + f n + (sg n g + g n) = sg n (fun j => f j + g j) + (f n + g n)
    omega
theorem sg_mul (n : Nat) (R : Int) (f : Nat → Int) : R * sg n f = sg n (fun j => R * f j) := by
  induction n with
  | zero => exact Int.mul_zero R
  | succ n ih =>
    show R * (sg n f + f n) = sg n (fun j => R * f j) + R * f n
    rw [Int.mul_add, ih]
/-- all items and what is in open bins, as weights: a potential over them -/
theorem pot_all {R U : Int} (P : Int → Int → Prop) (u : Int → Int) (hadd : ∀ s p w : Int, 0 ≤ w → s + w ≤ R → P s p → P (s + w) (p + u w)) (hend : ∀ s p : Int, s ≤ R → P s p → p ≤ U) (h00 : P 0 0)
    {k o m : Nat} {r l w : Nat → Int} (hr : ∀ j, j < m → 0 ≤ r j) (hl : ∀ b, b < o → 0 ≤ l b ∧ l b ≤ R) (hz : ∀ b, o ≤ b → l b = 0) (hw1 : ∀ i, i < o → w i = l i) (hw2 : ∀ j, j < m → w (o + j) = r j) (ho : o ≤ k) (hc : Cp R (its m r) l k) :
    sg (o + m) (fun i => u (w i)) ≤ U * k := by
  have h1 := Cp_pot P u hadd hend (its m r) (l := l) (v := fun b => if b < o then u (l b) else 0) (fun x hx => by
    obtain ⟨j, h1, h2⟩ := its_of_mem hx
    rw [← h2]; exact hr j h1) (fun b _ => by
    by_cases hb : b < o
    · have h2 := hadd 0 0 (l b) (hl b hb).1 (by have := (hl b hb).2; omega) h00
      simp only [hb, if_true]
      rw [Int.zero_add, Int.zero_add] at h2
      exact h2
    · simp only [hb, if_false]
      rw [hz b (by omega)]
      exact h00) hc
  rw [sg_tail (n := o) ho (fun j h1 _ => by simp only [show ¬ j < o by omega, if_false]), its_sum] at h1
  rw [sg_app]
  have e1 : sg o (fun i => u (w i)) = sg o (fun b => if b < o then u (l b) else 0) := sg_ext (fun j hj => by simp only [hj, if_true]; rw [hw1 j hj])
  have e2 : sg m (fun j => u (w (o + j))) = sg m (fun j => u (r j)) := sg_ext (fun j hj => by rw [hw2 j hj])
  rw [e1, e2]
  exact h1
/-- the counts of boundWith -/
def bA (R s : Int) (w : Nat → Int) : Nat → Int := fun i => if R - s < w i then 1 else 0
def bH (R s : Int) (w : Nat → Int) : Nat → Int := fun i => if R - s < w i then 0 else if R < 2 * w i then 1 else 0
def bS (R s : Int) (w : Nat → Int) : Nat → Int := fun i => if R - s < w i then 0 else if R < 2 * w i then w i else 0
def bM (R s : Int) (w : Nat → Int) : Nat → Int := fun i => if R - s < w i then 0 else if R < 2 * w i then 0 else if s ≤ w i then w i else 0
def bw (R s : Int) (n : Nat) (w : Nat → Int) : Int := sg n (bA R s w) + sg n (bH R s w) + ceilf (sg n (bM R s w) - (sg n (bH R s w) * R - sg n (bS R s w))) R
theorem bw_le {R s : Int} (hR : 0 < R) (hs : 0 ≤ s) (hsR : 2 * s ≤ R) {k o m : Nat} {r l w : Nat → Int} (hr : ∀ j, j < m → 0 ≤ r j) (hl : ∀ b, b < o → 0 ≤ l b ∧ l b ≤ R) (hz : ∀ b, o ≤ b → l b = 0) (hw1 : ∀ i, i < o → w i = l i) (hw2 : ∀ j, j < m → w (o + j) = r j) (ho : o ≤ k) (hc : Cp R (its m r) l k) :
    bw R s (o + m) w ≤ k := by
  have h1 := pot_all (R := R) (U := 1) (fun t p => 0 ≤ t ∧ (p ≤ 0 ∨ (p ≤ 1 ∧ R < 2 * t))) (fun x => if R < 2 * x then 1 else 0) (fun t p x hx htx h => by
    show _ ∧ (_ ∨ _)
    split <;> omega) (fun t p h1 h2 => by omega) ⟨Int.le_refl 0, Or.inl (Int.le_refl 0)⟩ hr hl hz hw1 hw2 ho hc
  have h2 := pot_all (R := R) (U := R) (fun t p => 0 ≤ t ∧ ((p ≤ t ∧ (t < s → p ≤ 0)) ∨ (p ≤ R ∧ R - s < t))) (fun x => if R - s < x then R else if s ≤ x then x else 0) (fun t p x hx htx h => by
    show _ ∧ (_ ∨ _)
    split
    · omega
    · split <;> omega) (fun t p h1 h2 => by omega) ⟨Int.le_refl 0, Or.inl ⟨Int.le_refl 0, fun _ => Int.le_refl 0⟩⟩ hr hl hz hw1 hw2 ho hc
  have e1 : sg (o + m) (fun i => if R < 2 * w i then (1 : Int) else 0) = sg (o + m) (bA R s w) + sg (o + m) (bH R s w) := by
    rw [sg_add]
    refine sg_ext (fun j _ => ?_)
    unfold bA bH
    split <;> split <;> omega
  have e2 : sg (o + m) (fun i => if R - s < w i then R else if s ≤ w i then w i else 0) = R * sg (o + m) (bA R s w) + (sg (o + m) (bS R s w) + sg (o + m) (bM R s w)) := by
    rw [sg_mul, sg_add, sg_add]
    refine sg_ext (fun j _ => ?_)
    unfold bA bS bM
    split
    · simp
    · split <;> split <;> simp <;> omega
  have h1 : sg (o + m) (fun i => if R < 2 * w i then (1 : Int) else 0) ≤ 1 * k := h1
  have h2 : sg (o + m) (fun i => if R - s < w i then R else if s ≤ w i then w i else 0) ≤ R * k := h2
  rw [e1] at h1
  rw [e2] at h2
  unfold bw
  generalize sg (o + m) (bA R s w) = α at h1 h2 ⊢
  generalize sg (o + m) (bH R s w) = β at h1 h2 ⊢
  generalize sg (o + m) (bS R s w) = γ at h1 h2 ⊢
  generalize sg (o + m) (bM R s w) = δ at h1 h2 ⊢
  have h3 : ceilf (δ - (β * R - γ)) R ≤ (k : Int) - α - β := by
    refine ceilf_le hR (by omega) ?_
    rw [Int.mul_sub, Int.mul_sub, Int.mul_comm β R]
    omega
  omega
end
section
/-! the search, plainly -/
/-- the rounds of a node with t items left over o open bins -/
def ncost : Nat → Nat → Nat
  | 0, _ => 0
  | t + 1, o => o * (1 + ncost t o) + (1 + ncost t (o + 1)) + 1
def fcost (t o fr : Nat) : Nat := (o - fr) * (1 + ncost t o) + (if fr ≤ o then 1 + ncost t (o + 1) else 0) + 1
theorem fcost_0 (t o : Nat) : fcost t o 0 = ncost (t + 1) o := by
  unfold fcost
  rw [if_pos (Nat.zero_le o), Nat.sub_zero]
  rfl
theorem fcost_in {t o fr b : Nat} (h1 : fr ≤ b) (h2 : b < o) : 1 + ncost t o + fcost t o (b + 1) ≤ fcost t o fr := by
  unfold fcost
  rw [if_pos (show fr ≤ o by omega), if_pos (show b + 1 ≤ o by omega)]
  have h3 : (1 + (o - (b + 1))) * (1 + ncost t o) ≤ (o - fr) * (1 + ncost t o) := Nat.mul_le_mul_right _ (by omega)
  rw [Nat.add_mul, Nat.one_mul] at h3
  omega
theorem fcost_new {t o fr : Nat} (h1 : fr ≤ o) : 1 + ncost t (o + 1) + fcost t o (o + 1) ≤ fcost t o fr := by
  unfold fcost
  rw [if_pos h1, if_neg (show ¬ o + 1 ≤ o by omega), Nat.sub_eq_zero_of_le (show o ≤ o + 1 by omega), Nat.zero_mul]
  omega
theorem fcost_pos (t o fr : Nat) : 1 ≤ fcost t o fr := by unfold fcost; omega
def okB (R B r : Int) (g : Nat → Int) (o b : Nat) : Prop := (o : Int) < B ∧ g b + r ≤ R ∧ ∀ c, c < b → g c ≠ g b
/-- what nextBin answers -/
def NB (R B r : Int) (g : Nat → Int) (fr o : Nat) (z : Int) : Prop :=
  (∃ b : Nat, z = b ∧ fr ≤ b ∧ b < o ∧ okB R B r g o b ∧ ∀ c, fr ≤ c → c < b → ¬ okB R B r g o c) ∨
  ((∀ c, fr ≤ c → c < o → ¬ okB R B r g o c) ∧ ((z = o ∧ fr ≤ o ∧ (o : Int) + 1 < B) ∨ (z = -1 ∧ ¬ (fr ≤ o ∧ (o : Int) + 1 < B))))
abbrev ST : Type := Int → (Nat → Int) → (Nat → Int) → (Nat → Int) → Int → Int → Prop
/-- one round of the search: level L, the item's bin so far fr - 1, o bins open before it -/
def StepH (R : Int) (m : Nat) (r : Nat → Int) (S : ST) : Prop := ∀ (L fr o : Nat) (p q g g' : Nat → Int) (B n : Int), L < m → fr ≤ o + 1 → o + (m - L) ≤ 9 → (∀ b, 0 ≤ g b ∧ g b ≤ R) → (∀ b, 0 ≤ g' b ∧ g' b ≤ R) → (∀ b, o ≤ b → g' b = 0) → (0 ≤ B ∧ B ≤ 100) → (0 ≤ n ∧ n < 65536) → p L = (fr : Int) - 1 → q L = o → ((fr = 0 ∧ g = g') ∨ (0 < fr ∧ g = bump g' (fr - 1) (r L))) →
  (∀ z, NB R B (r L) g' fr o z → (z = -1 → S ((L : Int) - 1) (va_up p L (-1)) q g' B (n + 1)) ∧
    ∀ b : Nat, z = b → (L + 1 = m → S L (va_up p L b) q (bump g' b (r L)) ((if b = o then o + 1 else o : Nat) : Int) (n + 1)) ∧
      (L + 1 < m → S ((L : Int) + 1) (va_up (va_up p L b) (L + 1) (-1)) (va_up q (L + 1) ((if b = o then o + 1 else o : Nat) : Int)) (bump g' b (r L)) B (n + 1) ∧
        ((∀ k : Nat, (if b = o then o + 1 else o) ≤ k → Cp R ((its m r).drop (L + 1)) (bump g' b (r L)) k → B ≤ k) → S L (va_up p L b) q (bump g' b (r L)) B (n + 1)))) → S L p q g B n
/-- bins that nextBin passes over give nothing better -/
theorem passed {R B r : Int} {t : List Int} {l : Nat → Int} {o fr hi : Nat} (ht : ∀ x ∈ t, 0 ≤ x) (hhi : hi ≤ o) (hno : ∀ c, fr ≤ c → c < hi → ¬ okB R B r l o c) (hprev : ∀ c, c < fr → c < o → ∀ k : Nat, o ≤ k → Cp R t (bump l c r) k → B ≤ k) :
    ∀ c, c < hi → ∀ k : Nat, o ≤ k → Cp R t (bump l c r) k → B ≤ k := by
  intro c
  induction c using Nat.strongRecOn with
  | _ c ih =>
    intro hc k hk h
    by_cases hf : c < fr
    · exact hprev c hf (by omega) k hk h
    · have hn := hno c (by omega) hc
      by_cases hB : (o : Int) < B
      · have h1 := Cp_bound t ht h c (by omega)
        rw [bump_same] at h1
        by_cases he : ∃ c', c' < c ∧ l c' = l c
        · obtain ⟨c', h2, h3⟩ := he
          exact ih c' h2 (by omega) k hk (Cp_like (b := c) (c := c') (by omega) (by omega) h3.symm h)
        · exact absurd ⟨hB, h1, fun c' h2 h3 => he ⟨c', h2, h3⟩⟩ hn
      · omega
section Node
variable {R : Int} {m : Nat} {r l0 : Nat → Int} {o0 : Nat} {S : ST}
/-- a number of bins that the question at hand allows -/
def Fz (R : Int) (m : Nat) (r l0 : Nat → Int) (o0 : Nat) (B : Int) : Prop := ∃ K : Nat, B = K ∧ o0 ≤ K ∧ Cp R (its m r) l0 K
theorem Fz_last {l : Nat → Int} {L o b : Nat} (hLm : L + 1 = m) (hl : ∀ b, 0 ≤ l b ∧ l b ≤ R) (hb : l b + r L ≤ R) (hbo : b < o) (ho : o0 ≤ o) (hf : ∀ K : Nat, o ≤ K → Cp R ((its m r).drop L) l K → Cp R (its m r) l0 K) : Fz R m r l0 o0 o := by
  refine ⟨o, rfl, ho, hf o (Nat.le_refl o) ?_⟩
  rw [its_drop r (by omega), hLm, its_dropAll]
  refine ⟨b, hbo, fun j hj => ?_⟩
  by_cases e : j = b
  · subst e; rw [bump_same]; exact hb
  · rw [bump_ne _ _ e]; exact (hl j).2
theorem bump_rg {l : Nat → Int} {b : Nat} {x : Int} (hl : ∀ b, 0 ≤ l b ∧ l b ≤ R) (hx : 0 ≤ x) (h : l b + x ≤ R) : ∀ j, 0 ≤ bump l b x j ∧ bump l b x j ≤ R := by
  intro j
  have h1 := hl b
  by_cases e : j = b
  · subst e; rw [bump_same]; omega
  · rw [bump_ne _ _ e]; exact hl j
set_option maxHeartbeats 4000000 in
theorem node (hr : ∀ j, j < m → 0 < r j ∧ r j ≤ R) (hstep : StepH R m r S) : ∀ (t L o : Nat) (l p q : Nat → Int) (B n : Int), L + (t + 1) = m → o + (t + 1) ≤ 9 → (∀ b, 0 ≤ l b ∧ l b ≤ R) → (∀ b, o ≤ b → l b = 0) → 0 ≤ n → n + ncost (t + 1) o ≤ 65536 → p L = -1 → q L = o → (0 ≤ B ∧ B ≤ 100) → o0 ≤ o →
    (∀ K : Nat, o ≤ K → Cp R ((its m r).drop L) l K → Cp R (its m r) l0 K) →
    (∀ (p' q' : Nat → Int) (B' n' : Int), (∀ j, j < L → p' j = p j ∧ q' j = q j) → 0 ≤ B' → B' ≤ B → (B' = B ∨ Fz R m r l0 o0 B') → (∀ k : Nat, o ≤ k → Cp R ((its m r).drop L) l k → B' ≤ k) → n ≤ n' → n' ≤ n + ncost (t + 1) o → S ((L : Int) - 1) p' q' l B' n') → S L p q l B n := by
  intro t
  induction t using Nat.strongRecOn with
  | _ t iht =>
    intro L o l p q B n hLm ho hl hz hn0 hn hp hq hB hoo hf hcont
    have hrL := hr L (by omega)
    have hdrop : (its m r).drop L = r L :: (its m r).drop (L + 1) := its_drop r (by omega)
    have ht0 : ∀ x ∈ (its m r).drop (L + 1), 0 ≤ x := fun x hx => by
      obtain ⟨j, h1, h2⟩ := its_of_mem (List.mem_of_mem_drop hx)
      have h3 := hr j h1
      omega
    have inner : ∀ (d fr : Nat) (p1 q1 g : Nat → Int) (B1 n1 : Int), fr + d = o + 1 → ((fr = 0 ∧ g = l) ∨ (0 < fr ∧ l (fr - 1) + r L ≤ R ∧ g = bump l (fr - 1) (r L))) → p1 L = (fr : Int) - 1 → q1 L = o → (∀ j, j < L → p1 j = p j ∧ q1 j = q j) → 0 ≤ B1 → B1 ≤ B → (B1 = B ∨ Fz R m r l0 o0 B1) →
        (∀ c, c < fr → c < o → ∀ k : Nat, o ≤ k → Cp R ((its m r).drop (L + 1)) (bump l c (r L)) k → B1 ≤ k) → (fr = o + 1 → ∀ k : Nat, o + 1 ≤ k → Cp R ((its m r).drop (L + 1)) (bump l o (r L)) k → B1 ≤ k) → n ≤ n1 → n1 + fcost t o fr ≤ n + ncost (t + 1) o → S L p1 q1 g B1 n1 := by
      intro d
      induction d using Nat.strongRecOn with
      | _ d ihd =>
        intro fr p1 q1 g B1 n1 hfr hg hp1 hq1 hag hB10 hB1 hBF hprev hprevN hn1 hcost
        have hgrg : ∀ b, 0 ≤ g b ∧ g b ≤ R := by
          rcases hg with ⟨_, e⟩ | ⟨_, h2, e⟩
          · rw [e]; exact hl
          · rw [e]; exact bump_rg hl (by omega) h2
        have hfp := fcost_pos t o fr
        refine hstep L fr o p1 q1 g l B1 n1 (by omega) (by omega) (by omega) hgrg hl hz ⟨hB10, by omega⟩ ⟨by omega, by omega⟩ hp1 hq1 (hg.imp id (fun h => ⟨h.1, h.2.2⟩)) ?_
        intro z hzz
        rcases hzz with ⟨b, hzb, h1, h2, hok, hno⟩ | ⟨hno, ⟨hzo, h1, h2⟩ | ⟨hzm, h1⟩⟩
        · refine ⟨fun h => absurd h (by omega), fun b' hb' => ?_⟩
          have hbb : b' = b := by omega
          subst hbb
          have hne : ¬ b' = o := by omega
          simp only [if_neg hne]
          have hpass := passed ht0 (show b' ≤ o by omega) hno hprev
          have hcin := fcost_in (t := t) h1 h2
          have hok1 := hok.1
          have hgg : ((b' + 1 = 0 ∧ bump l b' (r L) = l) ∨ (0 < b' + 1 ∧ l (b' + 1 - 1) + r L ≤ R ∧ bump l b' (r L) = bump l (b' + 1 - 1) (r L))) := Or.inr ⟨by omega, by rw [Nat.add_sub_cancel]; exact hok.2.1, by rw [Nat.add_sub_cancel]⟩
          have hagb : ∀ j, j < L → va_up p1 L (b' : Int) j = p j ∧ q1 j = q j := fun j hj => by rw [up_ne _ _ (by omega)]; exact hag j hj
          refine ⟨fun hlast => ?_, fun hmore => ⟨?_, fun hhope => ?_⟩⟩
          · exact ihd (o + 1 - (b' + 1)) (by omega) (b' + 1) (va_up p1 L b') q1 (bump l b' (r L)) o (n1 + 1) (by omega) hgg (by rw [up_same]; omega) hq1 hagb (by omega) (by omega) (Or.inr (Fz_last hlast hl hok.2.1 h2 hoo hf)) (fun c hc hco k hk h => by omega) (fun h => absurd h (by omega)) (by omega) (by omega)
          · obtain ⟨t', rfl⟩ : ∃ t', t = t' + 1 := ⟨t - 1, by omega⟩
            have e1 : (L : Int) + 1 = ((L + 1 : Nat) : Int) := by omega
            rw [e1]
            refine iht t' (by omega) (L + 1) o (bump l b' (r L)) _ _ B1 (n1 + 1) (by omega) (by omega) (bump_rg hl (by omega) hok.2.1) (fun j hj => by rw [bump_ne _ _ (by omega)]; exact hz j hj) (by omega) (by omega) (up_same _ _ _) (up_same _ _ _) ⟨hB10, by omega⟩ hoo (fun K hK h => hf K hK (by rw [hdrop]; exact ⟨b', by omega, h⟩)) ?_
            intro p' q' B' n' hag' hB'0 hB' hBF' hall hn' hnc'
            have e : ((L + 1 : Nat) : Int) - 1 = L := by omega
            rw [e]
            have hL := hag' L (by omega)
            rw [up_ne _ _ (by omega), up_same, up_ne _ _ (by omega)] at hL
            refine ihd (o + 1 - (b' + 1)) (by omega) (b' + 1) p' q' (bump l b' (r L)) B' n' (by omega) hgg (by rw [hL.1]; omega) (by rw [hL.2]; exact hq1) (fun j hj => ?_) hB'0 (by omega) (hBF'.elim (fun e => by rw [e]; exact hBF) Or.inr) (fun c hc hco k hk h => ?_) (fun h => absurd h (by omega)) (by omega) (by omega)
            · have h3 := hag' j (by omega)
              rw [up_ne _ _ (by omega), up_ne _ _ (by omega), up_ne _ _ (by omega)] at h3
              exact ⟨h3.1.trans (hag j hj).1, h3.2.trans (hag j hj).2⟩
            · by_cases hcb : c = b'
              · subst hcb; exact hall k hk h
              · have h3 := hpass c (by omega) k hk h
                omega
          · refine ihd (o + 1 - (b' + 1)) (by omega) (b' + 1) (va_up p1 L b') q1 (bump l b' (r L)) B1 (n1 + 1) (by omega) hgg (by rw [up_same]; omega) hq1 hagb hB10 hB1 hBF (fun c hc hco k hk h => ?_) (fun h => absurd h (by omega)) (by omega) (by omega)
            by_cases hcb : c = b'
            · subst hcb; exact hhope k hk h
            · exact hpass c (by omega) k hk h
        · refine ⟨fun h => absurd h (by omega), fun b' hb' => ?_⟩
          have hbb : b' = o := by omega
          subst hbb
          simp only [↓reduceIte]
          have hpass := passed ht0 (Nat.le_refl b') hno hprev
          have hcin := fcost_new (t := t) h1
          have hok2 : l b' + r L ≤ R := by rw [hz b' (Nat.le_refl b')]; omega
          have hgg : ((b' + 1 = 0 ∧ bump l b' (r L) = l) ∨ (0 < b' + 1 ∧ l (b' + 1 - 1) + r L ≤ R ∧ bump l b' (r L) = bump l (b' + 1 - 1) (r L))) := Or.inr ⟨by omega, by rw [Nat.add_sub_cancel]; exact hok2, by rw [Nat.add_sub_cancel]⟩
          have hagb : ∀ j, j < L → va_up p1 L (b' : Int) j = p j ∧ q1 j = q j := fun j hj => by rw [up_ne _ _ (by omega)]; exact hag j hj
          have hf1 : ∀ K : Nat, b' + 1 ≤ K → Cp R ((its m r).drop L) l K → Cp R (its m r) l0 K := fun K hK h => hf K (by omega) h
          refine ⟨fun hlast => ?_, fun hmore => ⟨?_, fun hhope => ?_⟩⟩
          · refine ihd (b' + 1 - (b' + 1)) (by omega) (b' + 1) (va_up p1 L b') q1 (bump l b' (r L)) ((b' + 1 : Nat) : Int) (n1 + 1) (by omega) hgg (by rw [up_same]; omega) hq1 hagb (by omega) (by omega) (Or.inr (Fz_last hlast hl hok2 (by omega) (by omega) hf1)) (fun c hc hco k hk h => ?_) (fun _ k hk h => by omega) (by omega) (by omega)
            have h3 := hpass c hco k hk h
            omega
          · obtain ⟨t', rfl⟩ : ∃ t', t = t' + 1 := ⟨t - 1, by omega⟩
            have e1 : (L : Int) + 1 = ((L + 1 : Nat) : Int) := by omega
            rw [e1]
            refine iht t' (by omega) (L + 1) (b' + 1) (bump l b' (r L)) _ _ B1 (n1 + 1) (by omega) (by omega) (bump_rg hl (by omega) hok2) (fun j hj => by rw [bump_ne _ _ (by omega)]; exact hz j (by omega)) (by omega) (by omega) (up_same _ _ _) (up_same _ _ _) ⟨hB10, by omega⟩ (by omega) (fun K hK h => hf K (by omega) (by rw [hdrop]; exact ⟨b', by omega, h⟩)) ?_
            intro p' q' B' n' hag' hB'0 hB' hBF' hall hn' hnc'
            have e : ((L + 1 : Nat) : Int) - 1 = L := by omega
            rw [e]
            have hL := hag' L (by omega)
            rw [up_ne _ _ (by omega), up_same, up_ne _ _ (by omega)] at hL
            refine ihd (b' + 1 - (b' + 1)) (by omega) (b' + 1) p' q' (bump l b' (r L)) B' n' (by omega) hgg (by rw [hL.1]; omega) (by rw [hL.2]; exact hq1) (fun j hj => ?_) hB'0 (by omega) (hBF'.elim (fun e => by rw [e]; exact hBF) Or.inr) (fun c hc hco k hk h => ?_) (fun _ k hk h => hall k hk h) (by omega) (by omega)
            · have h3 := hag' j (by omega)
              rw [up_ne _ _ (by omega), up_ne _ _ (by omega), up_ne _ _ (by omega)] at h3
              exact ⟨h3.1.trans (hag j hj).1, h3.2.trans (hag j hj).2⟩
            · have h3 := hpass c hco k hk h
              omega
          · exact ihd (b' + 1 - (b' + 1)) (by omega) (b' + 1) (va_up p1 L b') q1 (bump l b' (r L)) B1 (n1 + 1) (by omega) hgg (by rw [up_same]; omega) hq1 hagb hB10 hB1 hBF (fun c hc hco k hk h => hpass c hco k hk h) (fun _ k hk h => hhope k hk h) (by omega) (by omega)
        · refine ⟨fun _ => ?_, fun b hb => absurd hb (by omega)⟩
          refine hcont (va_up p1 L (-1)) q1 B1 (n1 + 1) (fun j hj => by rw [up_ne _ _ (by omega)]; exact hag j hj) hB10 hB1 hBF (fun k hk h => ?_) (by omega) (by omega)
          rw [hdrop] at h
          rcases Cp_first hk hz h with ⟨c, hc, h⟩ | ⟨hk1, h⟩
          · exact passed ht0 (Nat.le_refl o) hno hprev c hc k hk h
          · by_cases e : fr = o + 1
            · exact hprevN e k hk1 h
            · have h3 : ¬ ((o : Int) + 1 < B1) := fun q2 => h1 ⟨by omega, q2⟩
              omega
    exact inner (o + 1) 0 p q l B n (by omega) (Or.inl ⟨rfl, rfl⟩) (by omega) hq (fun _ _ => ⟨rfl, rfl⟩) hB.1 (Int.le_refl _) (Or.inl rfl) (fun c hc => absurd hc (Nat.not_lt_zero c)) (fun h => absurd h (by omega)) (Int.le_refl _) (by rw [fcost_0]; omega)
end Node
theorem ncost_ok : ∀ t, t < 9 → ∀ o, o < 10 → o + (t + 1) ≤ 9 → ncost (t + 1) o ≤ 65536 := by decide +kernel
/-- the whole search -/
theorem search_all {R : Int} {m o : Nat} {r l : Nat → Int} {S : ST} (hm : 0 < m) (hmo : o + m ≤ 9) (hr : ∀ j, j < m → 0 < r j ∧ r j ≤ R) (hl : ∀ b, 0 ≤ l b ∧ l b ≤ R) (hz : ∀ b, o ≤ b → l b = 0) (hstep : StepH R m r S) (p q : Nat → Int) (B : Int) (hp : p 0 = -1) (hq : q 0 = o) (hB : 0 ≤ B ∧ B ≤ 100)
    (hend : ∀ (p' q' : Nat → Int) (B' n' : Int), (B' = B ∨ Fz R m r l o B') → (∀ k : Nat, o ≤ k → Cp R (its m r) l k → B' ≤ k) → (0 ≤ n' ∧ n' ≤ 65536) → S (-1) p' q' l B' n') : S 0 p q l B 0 := by
  obtain ⟨t, rfl⟩ : ∃ t, m = t + 1 := ⟨m - 1, by omega⟩
  have hc := ncost_ok t (by omega) o (by omega) (by omega)
  show S ((0 : Nat) : Int) p q l B 0
  refine node (l0 := l) (o0 := o) hr hstep t 0 o l p q B 0 (by omega) hmo hl hz (Int.le_refl 0) (by omega) hp hq hB (Nat.le_refl o) (fun K _ h => h) ?_
  intro p' q' B' n' _ _ _ hBF hall hn hn'
  show S (((0 : Nat) : Int) - 1) p' q' l B' n'
  exact hend p' q' B' n' hBF hall ⟨hn, by omega⟩
end
section
/-! bits of small numbers -/
theorem iI_nat (n : Nat) : iI (n : Int) = nI n := Int32.ofInt_eq_ofNat
theorem bs_l : ∀ n, n < 32 → ((nI n &&& 31).toBitVec.smod 32).toNat = n := by decide +kernel
theorem bit_shr {p i : Nat} (hp : p < 2147483648) (hi : i < 32) : iI (p : Int) >>> (iI (i : Int) &&& 31) = iI ((p / 2 ^ i : Nat) : Int) := by
  rw [iI_nat, iI_nat, iI_nat]
  exact pk_shrN hp _ i (bs_l i hi)
theorem bit_and1 {n : Nat} (h : n < 4294967296) : iI (n : Int) &&& iI 1 = iI ((n % 2 : Nat) : Int) := by
  rw [iI_nat, iI_nat]
  exact pk_andN h 1 (by decide)
theorem bit_shl {i : Nat} (hi : i < 31) : iI 1 <<< (iI (i : Int) &&& 31) = iI ((2 ^ i : Nat) : Int) := by
  rw [iI_nat, iI_nat]
  have h1 : 2 ^ i < 2 ^ 31 := Nat.pow_lt_pow_right (by decide) hi
  have h := pk_shlN (n := 1) (nI i &&& 31) i (bs_l i (by omega)) (by omega)
  rw [Nat.one_mul] at h
  exact h
theorem tb_iff (p i : Nat) : p.testBit i = true ↔ p / 2 ^ i % 2 = 1 := by
  rw [Nat.testBit_eq_decide_div_mod_eq]
  exact decide_eq_true_iff
theorem tb_not (p i : Nat) : p.testBit i = false ↔ p / 2 ^ i % 2 = 0 := by
  rw [Nat.testBit_eq_decide_div_mod_eq, decide_eq_false_iff_not]
  omega
theorem iI_bv (n : Nat) : (iI (n : Int)).toBitVec = BitVec.ofNat 32 n := by
  rw [iI_nat]
  rfl
theorem bit_or (p q : Nat) : iI (p : Int) ||| iI (q : Int) = iI ((p ||| q : Nat) : Int) := by
  apply Int32.toBitVec_inj.mp
  rw [Int32.toBitVec_or, iI_bv, iI_bv, iI_bv, BitVec.ofNat_or]
theorem bit_not (q : Nat) : iI (q : Int) ^^^ iI (-1) = iI (-(q : Int) - 1) := by
  apply Int32.toBitVec_inj.mp
  rw [Int32.toBitVec_xor, iI_bv]
  have e : -(q : Int) - 1 = Int.negSucc q := by omega
  rw [e]
  show _ = BitVec.ofInt 32 (Int.negSucc q)
  rw [BitVec.ofInt_negSucc_eq_not_ofNat]
  have e2 : (iI (-1)).toBitVec = BitVec.allOnes 32 := by decide
  rw [e2, BitVec.xor_allOnes]
/-- the set p without the set q -/
def clr (p q : Nat) : Nat := p &&& (255 ^^^ q)
theorem clr_lt {p q : Nat} (hp : p < 256) : clr p q < 256 := Nat.lt_of_le_of_lt Nat.and_le_left hp
theorem tb_255 (i : Nat) : (255 : Nat).testBit i = decide (i < 8) := Nat.testBit_two_pow_sub_one 8 i
theorem tb_big {p i : Nat} (hp : p < 256) (hi : 8 ≤ i) : p.testBit i = false := Nat.testBit_lt_two_pow (Nat.lt_of_lt_of_le hp (Nat.pow_le_pow_right (by decide) hi : 2 ^ 8 ≤ 2 ^ i))
theorem tb_clr {p q i : Nat} (hp : p < 256) : (clr p q).testBit i = (p.testBit i && !q.testBit i) := by
  unfold clr
  rw [Nat.testBit_and, Nat.testBit_xor, tb_255]
  by_cases h : i < 8
  · simp [h]
  · rw [tb_big hp (by omega)]
    simp
theorem bit_clr {p q : Nat} (hp : p < 256) (hq : q < 256) : iI (p : Int) &&& iI (-(q : Int) - 1) = iI ((clr p q : Nat) : Int) := by
  rw [← bit_not]
  apply Int32.toBitVec_inj.mp
  rw [Int32.toBitVec_and, Int32.toBitVec_xor, iI_bv, iI_bv, iI_bv]
  have e2 : (iI (-1)).toBitVec = BitVec.allOnes 32 := by decide
  rw [e2]
  apply BitVec.eq_of_getLsbD_eq
  intro i hi
  rw [BitVec.getLsbD_and, BitVec.getLsbD_xor, BitVec.getLsbD_ofNat, BitVec.getLsbD_ofNat, BitVec.getLsbD_ofNat, BitVec.getLsbD_allOnes, tb_clr hp]
  simp only [hi, decide_true, Bool.true_and, Bool.xor_true]
theorem tb_pow (i j : Nat) : (2 ^ i).testBit j = decide (i = j) := Nat.testBit_two_pow
theorem or_lt {p q : Nat} (hp : p < 256) (hq : q < 256) : p ||| q < 256 := Nat.or_lt_two_pow (n := 8) hp hq
theorem pow_lt {i : Nat} (hi : i < 8) : 2 ^ i < 256 := (Nat.pow_lt_pow_right (by decide) hi : 2 ^ i < 2 ^ 8)
/-- the answer of has -/
def hasb (p : Nat) (z : Int) : Bool := decide (0 ≤ z) && (decide (z < 8) && p.testBit z.toNat)
theorem hasb_nat {p i : Nat} (hi : i < 8) : hasb p (i : Int) = p.testBit i := by
  unfold hasb
  have h1 : (0 : Int) ≤ i := by omega
  have h2 : (i : Int) < 8 := by omega
  simp [h1, h2]
theorem hasb_of {p : Nat} {z : Int} (h : hasb p z = true) : ∃ i : Nat, i < 8 ∧ z = i ∧ p.testBit i = true := by
  unfold hasb at h
  simp only [Bool.and_eq_true, decide_eq_true_eq] at h
  exact ⟨z.toNat, by omega, by omega, h.2.2⟩
end
section
theorem its_drop_sum {m L : Nat} (r : Nat → Int) (h : L ≤ m) : ((its m r).drop L).sum = sg (m - L) (fun j => r (L + j)) := by
  obtain ⟨t, rfl⟩ : ∃ t, m = L + t := ⟨m - L, by omega⟩
  rw [Nat.add_sub_cancel_left]
  clear h
  induction t generalizing L with
  | zero => rw [Nat.add_zero, its_dropAll]; rfl
  | succ t ih =>
    rw [its_drop r (by omega), List.sum_cons]
    have e : L + (t + 1) = (L + 1) + t := by omega
    rw [e, ih (L := L + 1)]
    have e2 : t + 1 = 1 + t := by omega
    rw [e2, sg_app]
    show r L + _ = (0 + r (L + 0)) + _
    rw [Nat.add_zero, Int.zero_add]
    congr 1
    exact sg_ext (fun j _ => by congr 1; omega)
theorem sg_bd {n : Nat} {f : Nat → Int} {lo hi : Int} (h : ∀ j, j < n → lo ≤ f j ∧ f j ≤ hi) : lo * n ≤ sg n f ∧ sg n f ≤ hi * n := by
  induction n with
  | zero => show lo * ((0 : Nat) : Int) ≤ 0 ∧ 0 ≤ hi * ((0 : Nat) : Int); simp
  | succ n ih =>
    have h1 := ih (fun j hj => h j (by omega))
    have h2 := h n (by omega)
    have e : ∀ x : Int, x * ((n + 1 : Nat) : Int) = x * n + x := fun x => by rw [Int.natCast_add]; exact Int.mul_add x n 1 |>.trans (by rw [Int.mul_one])
    show _ ≤ sg n f + f n ∧ sg n f + f n ≤ _
    rw [e, e]
    omega
theorem ceilf_rg {a s : Int} (hs : 0 < s) : 0 ≤ ceilf a s ∧ ceilf a s ≤ (if a ≤ 0 then 0 else a) := by
  unfold ceilf
  split
  · omega
  · have h1 : 0 ≤ (a + s - 1) / s := Int.ediv_nonneg (by omega) (by omega)
    have h2 : (a + s - 1) / s < a + 1 := by
      rw [Int.ediv_lt_iff_lt_mul hs]
      have h3 : (a + 1) * s = a * s + s := by rw [Int.add_mul, Int.one_mul]
      have h4 : a * 1 ≤ a * s := Int.mul_le_mul_of_nonneg_left (by omega) (by omega)
      omega
    omega
set_option maxHeartbeats 4000000 in
set_option maxRecDepth 100000 in
/-- has(i): whether the bit is set -/
theorem met_has (l : Launch) (D : va_G) (cI cB : ClassId) (a : Nat → Nat) (f0 : Int) (g2 : Nat → Int) (f3 : Int) (f4 : Int) (g5 : Nat → Int) (f6 : Int) (g7 : Nat → Int) (f8 : Int) (g9 : Nat → Int) (g10 : Nat → Int) (f11 : Int) (g12 : Nat → Int) (f13 : Int) (f14 : Int) (g15 : Nat → Int) (p : Nat) (hp : p < 256) (z0 : Int) (hz : -2147483648 ≤ z0 ∧ z0 < 2147483648) : MDi l yX1_has cX1_has 2 .boolean 0 [.ref (a 0), .int (iI z0)] D cI cB (WD a cI cB f0 (p : Int) g2 f3 f4 g5 f6 g7 f8 g9 g10 f11 g12 f13 f14 g15) (fun z u => u = (WD a cI cB f0 (p : Int) g2 f3 f4 g5 f6 g7 f8 g9 g10 f11 g12 f13 f14 g15) ∧ z = if hasb p z0 then 1 else 0) := by
  refine md_i [(0, .ref (a 0)), (1, .int (iI z0))] rfl (Nat.le_of_ble_eq_true rfl) rfl ?_
  intro A G C hret
  have C : Cx l RX1 cX1_has 2 (rmD 0) D cI cB A 0 0 G := C
  refine g_iload_n C (pc := 0) 1 rfl rfl dX1_has_0 ?_
  refine g_if_lt C (pc := 1) 25 (by omega) (by decide) dX1_has_1 (fun c1 => ?_) (fun c1 => ?_)
  · have hb : hasb p z0 = false := by unfold hasb; simp; omega
    refine g_iconst C (pc := 25) dX1_has_25 ?_
    exact hret _ _ _ _ dX1_has_26 rfl ⟨rfl, by rw [hb]; rfl⟩
  · refine g_iload_n C (pc := 4) 1 rfl rfl dX1_has_4 ?_
    refine g_bipush C (pc := 5) dX1_has_5 (by decide) ?_
    refine g_icmp_ge C (pc := 7) 25 (by omega) (by omega) (by decide) dX1_has_7 (fun c7 => ?_) (fun c7 => ?_)
    · have hb : hasb p z0 = false := by unfold hasb; simp; omega
      refine g_iconst C (pc := 25) dX1_has_25 ?_
      exact hret _ _ _ _ dX1_has_26 rfl ⟨rfl, by rw [hb]; rfl⟩
    · refine g_aload_n C (pc := 10) 0 rfl rfl dX1_has_10 ?_
      refine dg_present C (pc := 11) dX1_has_11 ?_
      refine g_iload_n C (pc := 14) 1 rfl rfl dX1_has_14 ?_
      obtain ⟨i, hi⟩ : ∃ i : Nat, z0 = (i : Int) := ⟨z0.toNat, by omega⟩
      subst hi
      have hi8 : i < 8 := by omega
      refine g_ishr C (pc := 15) ((p / 2 ^ i : Nat) : Int) (bit_shr (by omega) (by omega)) dX1_has_15 ?_
      refine g_iconst C (pc := 16) dX1_has_16 ?_
      have hq : p / 2 ^ i ≤ p := Nat.div_le_self _ _
      refine g_iand C (pc := 17) ((p / 2 ^ i % 2 : Nat) : Int) (bit_and1 (by omega)) dX1_has_17 ?_
      refine g_if_eq C (pc := 18) 25 (by omega) (by decide) dX1_has_18 (fun c18 => ?_) (fun c18 => ?_)
      · have hb : hasb p (i : Int) = false := by rw [hasb_nat hi8, (tb_not p i).mpr (by omega)]
        refine g_iconst C (pc := 25) dX1_has_25 ?_
        exact hret _ _ _ _ dX1_has_26 rfl ⟨rfl, by rw [hb]; rfl⟩
      · have hb : p.testBit i = true := (tb_iff p i).mpr (by omega)
        refine g_iconst C (pc := 21) dX1_has_21 ?_
        refine g_goto C (pc := 22) 26 (by decide) dX1_has_22 ?_
        exact hret _ _ _ _ dX1_has_26 rfl ⟨rfl, by rw [hasb_nat hi8, hb]; rfl⟩
set_option maxHeartbeats 4000000 in
set_option maxRecDepth 100000 in
/-- ceiling -/
theorem met_ceiling (l : Launch) (D : va_G) (cI cB : ClassId) (a : Nat → Nat) (ws : va_W) (x0 s0 : Int) (hx0 : -1000000 ≤ x0 ∧ x0 ≤ 1000000) (hs0 : 0 < s0 ∧ s0 ≤ 1000000) : MDi l yX1_ceiling cX1_ceiling 2 .int 0 [.int (iI x0), .int (iI s0)] D cI cB ws (fun z u => u = ws ∧ z = ceilf x0 s0) := by
  refine md_i [(0, .int (iI x0)), (1, .int (iI s0))] rfl (Nat.le_of_ble_eq_true rfl) rfl ?_
  intro A G C hret
  have C : Cx l RX1 cX1_ceiling 2 (rmD 0) D cI cB A 0 0 G := C
  refine g_iload_n C (pc := 0) 0 rfl rfl dX1_ceiling_0 ?_
  refine g_if_gt C (pc := 1) 8 (by omega) (by decide) dX1_ceiling_1 (fun c1 => ?_) (fun c1 => ?_)
  · refine g_iload_n C (pc := 8) 0 rfl rfl dX1_ceiling_8 ?_
    refine g_iload_n C (pc := 9) 1 rfl rfl dX1_ceiling_9 ?_
    refine g_iadd C (pc := 10) dX1_ceiling_10 ?_
    refine g_iconst C (pc := 11) dX1_ceiling_11 ?_
    refine g_isub C (pc := 12) dX1_ceiling_12 ?_
    refine g_iload_n C (pc := 13) 1 rfl rfl dX1_ceiling_13 ?_
    refine g_if_le C (pc := 14) 21 (by omega) (by decide) dX1_ceiling_14 (fun c14 => ?_) (fun c14 => ?_)
    · exact absurd c14 (by omega)
    · refine g_iload_n C (pc := 17) 1 rfl rfl dX1_ceiling_17 ?_
      refine g_goto C (pc := 18) 22 (by decide) dX1_ceiling_18 ?_
      refine g_idiv C (pc := 22) (by omega) (by omega) dX1_ceiling_22 ?_
      exact hret _ _ _ _ dX1_ceiling_23 rfl ⟨rfl, by unfold ceilf; rw [if_neg (by omega)]⟩
  · refine g_iconst C (pc := 4) dX1_ceiling_4 ?_
    refine g_goto C (pc := 5) 23 (by decide) dX1_ceiling_5 ?_
    exact hret _ _ _ _ dX1_ceiling_23 rfl ⟨rfl, by unfold ceilf; rw [if_pos (by omega)]⟩
set_option maxHeartbeats 4000000 in
set_option maxRecDepth 100000 in
/-- seen(b): a bin before b holds as much -/
theorem met_seen (l : Launch) (D : va_G) (cI cB : ClassId) (a : Nat → Nat) (f0 : Int) (f1 : Int) (g2 : Nat → Int) (f3 : Int) (f4 : Int) (g5 : Nat → Int) (f6 : Int) (g7 : Nat → Int) (f8 : Int) (g9 : Nat → Int) (g10 : Nat → Int) (f11 : Int) (g12 : Nat → Int) (f13 : Int) (f14 : Int) (g15 : Nat → Int) (b : Nat) (hb : b < 16) (hg : ∀ k, 0 ≤ g5 k ∧ g5 k ≤ 100000) : MDi l yX1_seen cX1_seen 3 .boolean 0 [.ref (a 0), .int (iI (b : Int))] D cI cB (WD a cI cB f0 f1 g2 f3 f4 g5 f6 g7 f8 g9 g10 f11 g12 f13 f14 g15) (fun z u => u = (WD a cI cB f0 f1 g2 f3 f4 g5 f6 g7 f8 g9 g10 f11 g12 f13 f14 g15) ∧ ((z = 1 ∧ ∃ c, c < b ∧ g5 c = g5 b) ∨ (z = 0 ∧ ∀ c, c < b → g5 c ≠ g5 b))) := by
  refine md_i [(0, .ref (a 0)), (1, .int (iI (b : Int)))] rfl (Nat.le_of_ble_eq_true rfl) rfl ?_
  intro A G C hret
  have C : Cx l RX1 cX1_seen 3 (rmD 0) D cI cB A 0 0 G := C
  have loop : ∀ (n c : Nat), c ≤ b → b < c + n → (∀ j, j < c → g5 j ≠ g5 b) → G [(0, .ref (a 0)), (1, .int (iI (b : Int))), (2, .int (iI (c : Int)))] (WD a cI cB f0 f1 g2 f3 f4 g5 f6 g7 f8 g9 g10 f11 g12 f13 f14 g15) 2 [] := by
    intro n
    induction n with
    | zero => intro c h1 h2; exact absurd h2 (by omega)
    | succ n ih =>
      intro c h1 h2 h3
      have hc := hg c
      have hcb := hg b
      refine g_iload_n C (pc := 2) 2 rfl rfl dX1_seen_2 ?_
      refine g_iload_n C (pc := 3) 1 rfl rfl dX1_seen_3 ?_
      refine g_icmp_ge C (pc := 4) 30 (by omega) (by omega) (by decide) dX1_seen_4 (fun c4 => ?_) (fun c4 => ?_)
      · refine g_iconst C (pc := 30) dX1_seen_30 ?_
        exact hret _ _ _ _ dX1_seen_31 rfl ⟨rfl, Or.inr ⟨rfl, fun j hj => h3 j (by omega)⟩⟩
      · refine g_aload_n C (pc := 7) 0 rfl rfl dX1_seen_7 ?_
        refine dg_loads C (pc := 8) dX1_seen_8 ?_
        refine g_iload_n C (pc := 11) 2 rfl rfl dX1_seen_11 ?_
        refine dl_loads C (pc := 12) c (by omega) (by omega) dX1_seen_12 ?_
        refine g_aload_n C (pc := 13) 0 rfl rfl dX1_seen_13 ?_
        refine dg_loads C (pc := 14) dX1_seen_14 ?_
        refine g_iload_n C (pc := 17) 1 rfl rfl dX1_seen_17 ?_
        refine dl_loads C (pc := 18) b (by omega) (by omega) dX1_seen_18 ?_
        refine g_icmp_ne C (pc := 19) 24 (by omega) (by omega) (by decide) dX1_seen_19 (fun c19 => ?_) (fun c19 => ?_)
        · refine g_iinc C (pc := 24) [(0, .ref (a 0)), (1, .int (iI (b : Int))), (2, .int (iI ((c : Int) + 1)))] [1, 2, 0] 2 rfl (by decide) rfl dX1_seen_24 ?_
          refine g_goto C (pc := 27) 2 (by decide) dX1_seen_27 ?_
          exact ih (c + 1) (by omega) (by omega) (fun j hj => by
            by_cases e : j = c
            · rw [e]; exact c19
            · exact h3 j (by omega))
        · refine g_iconst C (pc := 22) dX1_seen_22 ?_
          exact hret _ _ _ _ dX1_seen_23 rfl ⟨rfl, Or.inl ⟨rfl, c, by omega, c19⟩⟩
  refine g_iconst C (pc := 0) dX1_seen_0 ?_
  refine g_istore_n C (pc := 1) [(0, .ref (a 0)), (1, .int (iI (b : Int))), (2, .int (iI 0))] [1, 2, 0] rfl (by decide) rfl dX1_seen_1 ?_
  exact loop (b + 1) 0 (by omega) (by omega) (fun j hj => absurd hj (by omega))
set_option maxHeartbeats 4000000 in
set_option maxRecDepth 100000 in
/-- hopeful(level, open) -/
theorem met_hopeful (l : Launch) (D : va_G) (cI cB : ClassId) (a : Nat → Nat) (f0 : Int) (f1 : Int) (g2 : Nat → Int) (f3 : Int) (f4 : Int) (g5 : Nat → Int) (g7 : Nat → Int) (f8 : Int) (g9 : Nat → Int) (g10 : Nat → Int) (f11 : Int) (g12 : Nat → Int) (f13 : Int) (f14 : Int) (g15 : Nat → Int) (L m o : Nat) (hm : m < 16) (ho : o ≤ 16) (hL : L ≤ m) (hR : 0 < f3 ∧ f3 ≤ 1000) (hg : ∀ k, 0 ≤ g5 k ∧ g5 k ≤ 1000) (hr : ∀ k, k < m → 0 ≤ g7 k ∧ g7 k ≤ 1000) (hz : ∀ b, o ≤ b → g5 b = 0) (hB : 0 ≤ f8 ∧ f8 ≤ 1000) : MDi l yX1_hopeful cX1_hopeful 6 .boolean 1 [.ref (a 0), .int (iI (L : Int)), .int (iI (o : Int))] D cI cB (WD a cI cB f0 f1 g2 f3 f4 g5 (m : Int) g7 f8 g9 g10 f11 g12 f13 f14 g15) (fun z u => u = (WD a cI cB f0 f1 g2 f3 f4 g5 (m : Int) g7 f8 g9 g10 f11 g12 f13 f14 g15) ∧ (z = 1 ∨ (z = 0 ∧ ∀ k : Nat, o ≤ k → Cp f3 ((its m g7).drop L) g5 k → f8 ≤ k))) := by
  refine md_i [(0, .ref (a 0)), (1, .int (iI (L : Int))), (2, .int (iI (o : Int)))] rfl (Nat.le_of_ble_eq_true rfl) rfl ?_
  intro A G C hret
  have C : Cx l RX1 cX1_hopeful 6 (rmD 1) D cI cB A 0 0 G := C
  have hsum : ((its m g7).drop L).sum = sg (m - L) (fun j => g7 (L + j)) := its_drop_sum g7 hL
  have hb1 := sg_bd (n := o) (f := (fun b => f3 - g5 b)) (lo := -1000) (hi := 1000) (fun j _ => by have h1 := hg j; show -1000 ≤ f3 - g5 j ∧ f3 - g5 j ≤ 1000; omega)
  have hb2 := sg_bd (n := m - L) (f := (fun j => g7 (L + j))) (lo := 0) (hi := 1000) (fun j hj => hr (L + j) (by omega))
  have hcl := ceilf_rg (a := sg (m - L) (fun j => g7 (L + j)) - sg o (fun b => f3 - g5 b)) (s := f3) hR.1
  have loop2 : ∀ (n c : Nat), L + c ≤ m → m < L + c + n → G [(0, .ref (a 0)), (1, .int (iI (L : Int))), (2, .int (iI (o : Int))), (3, .int (iI (sg o (fun b => f3 - g5 b)))), (4, .int (iI (sg c (fun j => g7 (L + j))))), (5, .int (iI ((L + c : Nat) : Int)))] (WD a cI cB f0 f1 g2 f3 f4 g5 (m : Int) g7 f8 g9 g10 f11 g12 f13 f14 g15) 38 [] := by
    intro n
    induction n with
    | zero => intro c h1 h2; exact absurd h2 (by omega)
    | succ n ih =>
      intro c h1 h2
      refine g_iload C (pc := 38) 5 rfl dX1_hopeful_38 ?_
      refine g_aload_n C (pc := 40) 0 rfl rfl dX1_hopeful_40 ?_
      refine dg_restCount C (pc := 41) dX1_hopeful_41 ?_
      refine g_icmp_ge C (pc := 44) 65 (by omega) (by omega) (by decide) dX1_hopeful_44 (fun c44 => ?_) (fun c44 => ?_)
      · have hcm : c = m - L := by omega
        subst hcm
        refine g_iload_n C (pc := 65) 2 rfl rfl dX1_hopeful_65 ?_
        refine g_iload C (pc := 66) 4 rfl dX1_hopeful_66 ?_
        refine g_iload_n C (pc := 68) 3 rfl rfl dX1_hopeful_68 ?_
        refine g_isub C (pc := 69) dX1_hopeful_69 ?_
        refine g_aload_n C (pc := 70) 0 rfl rfl dX1_hopeful_70 ?_
        refine dg_room C (pc := 71) dX1_hopeful_71 ?_
        refine g_callS C (pc := 74) (n := 2) [.int (iI (o : Int))] [.int (iI ((sg (m - L) (fun j => g7 (L + j))) - (sg o (fun b => f3 - g5 b)))), .int (iI f3)] (met_ceiling l D cI cB a (WD a cI cB f0 f1 g2 f3 f4 g5 (m : Int) g7 f8 g9 g10 f11 g12 f13 f14 g15) _ f3 (by omega) (by omega)) (lw_S q157 q158 q24 q159) (by decide +kernel) (by decide) (by decide) rfl rfl (Nat.le_of_ble_eq_true rfl) dX1_hopeful_74 (fun z u hu => ?_)
        obtain ⟨rfl, rfl⟩ := hu
        refine g_iadd C (pc := 77) dX1_hopeful_77 ?_
        refine g_aload_n C (pc := 78) 0 rfl rfl dX1_hopeful_78 ?_
        refine dg_best C (pc := 79) dX1_hopeful_79 ?_
        refine g_icmp_ge C (pc := 82) 89 (by omega) (by omega) (by decide) dX1_hopeful_82 (fun c82 => ?_) (fun c82 => ?_)
        · refine g_iconst C (pc := 89) dX1_hopeful_89 ?_
          refine hret _ _ _ _ dX1_hopeful_90 rfl ⟨rfl, Or.inr ⟨rfl, fun k hk hc => ?_⟩⟩
          have h5 := hope_bound hR.1 (fun x hx => by
            obtain ⟨j, h6, h7⟩ := its_of_mem (List.mem_of_mem_drop hx)
            have h8 := hr j h6
            omega) hz hk hc
          rw [hsum] at h5
          omega
        · refine g_iconst C (pc := 85) dX1_hopeful_85 ?_
          refine g_goto C (pc := 86) 90 (by decide) dX1_hopeful_86 ?_
          exact hret _ _ _ _ dX1_hopeful_90 rfl ⟨rfl, Or.inl rfl⟩
      · refine g_iload C (pc := 47) 4 rfl dX1_hopeful_47 ?_
        refine g_aload_n C (pc := 49) 0 rfl rfl dX1_hopeful_49 ?_
        refine dg_rest C (pc := 50) dX1_hopeful_50 ?_
        refine g_iload C (pc := 53) 5 rfl dX1_hopeful_53 ?_
        refine dl_rest C (pc := 55) (L + c) (by omega) (by omega) dX1_hopeful_55 ?_
        refine g_iadd C (pc := 56) dX1_hopeful_56 ?_
        refine g_istore C (pc := 57) [(0, .ref (a 0)), (1, .int (iI (L : Int))), (2, .int (iI (o : Int))), (3, .int (iI (sg o (fun b => f3 - g5 b)))), (4, .int (iI ((sg c (fun j => g7 (L + j))) + (g7 (L + c))))), (5, .int (iI ((L + c : Nat) : Int)))] [1, 2, 3, 4, 0, 5] (by decide) rfl dX1_hopeful_57 ?_
        refine g_iinc C (pc := 59) [(0, .ref (a 0)), (1, .int (iI (L : Int))), (2, .int (iI (o : Int))), (3, .int (iI (sg o (fun b => f3 - g5 b)))), (4, .int (iI ((sg c (fun j => g7 (L + j))) + (g7 (L + c))))), (5, .int (iI (((L + c : Nat) : Int) + 1)))] [1, 2, 3, 4, 5, 0] 5 rfl (by decide) rfl dX1_hopeful_59 ?_
        refine g_goto C (pc := 62) 38 (by decide) dX1_hopeful_62 ?_
        exact ih (c + 1) (by omega) (by omega)
  have loop1 : ∀ (n c : Nat), c ≤ o → o < c + n → G [(0, .ref (a 0)), (1, .int (iI (L : Int))), (2, .int (iI (o : Int))), (3, .int (iI (sg c (fun b => f3 - g5 b)))), (4, .int (iI (c : Int)))] (WD a cI cB f0 f1 g2 f3 f4 g5 (m : Int) g7 f8 g9 g10 f11 g12 f13 f14 g15) 5 [] := by
    intro n
    induction n with
    | zero => intro c h1 h2; exact absurd h2 (by omega)
    | succ n ih =>
      intro c h1 h2
      refine g_iload C (pc := 5) 4 rfl dX1_hopeful_5 ?_
      refine g_iload_n C (pc := 7) 2 rfl rfl dX1_hopeful_7 ?_
      refine g_icmp_ge C (pc := 8) 32 (by omega) (by omega) (by decide) dX1_hopeful_8 (fun c8 => ?_) (fun c8 => ?_)
      · have hco : c = o := by omega
        subst hco
        refine g_iconst C (pc := 32) dX1_hopeful_32 ?_
        refine g_istore C (pc := 33) [(0, .ref (a 0)), (1, .int (iI (L : Int))), (2, .int (iI (c : Int))), (3, .int (iI (sg c (fun b => f3 - g5 b)))), (4, .int (iI 0))] [1, 2, 3, 4, 0] (by decide) rfl dX1_hopeful_33 ?_
        refine g_iload_n C (pc := 35) 1 rfl rfl dX1_hopeful_35 ?_
        refine g_istore C (pc := 36) [(0, .ref (a 0)), (1, .int (iI (L : Int))), (2, .int (iI (c : Int))), (3, .int (iI (sg c (fun b => f3 - g5 b)))), (4, .int (iI 0)), (5, .int (iI (L : Int)))] [1, 2, 3, 4, 5, 0] (by decide) rfl dX1_hopeful_36 ?_
        exact loop2 (m + 1) 0 (by omega) (by omega)
      · refine g_iload_n C (pc := 11) 3 rfl rfl dX1_hopeful_11 ?_
        refine g_aload_n C (pc := 12) 0 rfl rfl dX1_hopeful_12 ?_
        refine dg_room C (pc := 13) dX1_hopeful_13 ?_
        refine g_aload_n C (pc := 16) 0 rfl rfl dX1_hopeful_16 ?_
        refine dg_loads C (pc := 17) dX1_hopeful_17 ?_
        refine g_iload C (pc := 20) 4 rfl dX1_hopeful_20 ?_
        refine dl_loads C (pc := 22) c (by omega) (by omega) dX1_hopeful_22 ?_
        refine g_isub C (pc := 23) dX1_hopeful_23 ?_
        refine g_iadd C (pc := 24) dX1_hopeful_24 ?_
        refine g_istore_n C (pc := 25) [(0, .ref (a 0)), (1, .int (iI (L : Int))), (2, .int (iI (o : Int))), (3, .int (iI ((sg c (fun b => f3 - g5 b)) + (f3 - (g5 c))))), (4, .int (iI (c : Int)))] [1, 2, 3, 0, 4] rfl (by decide) rfl dX1_hopeful_25 ?_
        refine g_iinc C (pc := 26) [(0, .ref (a 0)), (1, .int (iI (L : Int))), (2, .int (iI (o : Int))), (3, .int (iI ((sg c (fun b => f3 - g5 b)) + (f3 - (g5 c))))), (4, .int (iI ((c : Int) + 1)))] [1, 2, 3, 4, 0] 4 rfl (by decide) rfl dX1_hopeful_26 ?_
        refine g_goto C (pc := 29) 5 (by decide) dX1_hopeful_29 ?_
        exact ih (c + 1) (by omega) (by omega)
  refine g_iconst C (pc := 0) dX1_hopeful_0 ?_
  refine g_istore_n C (pc := 1) [(0, .ref (a 0)), (1, .int (iI (L : Int))), (2, .int (iI (o : Int))), (3, .int (iI 0))] [1, 2, 3, 0] rfl (by decide) rfl dX1_hopeful_1 ?_
  refine g_iconst C (pc := 2) dX1_hopeful_2 ?_
  refine g_istore C (pc := 3) [(0, .ref (a 0)), (1, .int (iI (L : Int))), (2, .int (iI (o : Int))), (3, .int (iI 0)), (4, .int (iI 0))] [1, 2, 3, 4, 0] (by decide) rfl dX1_hopeful_3 ?_
  exact loop1 (o + 1) 0 (by omega) (by omega)
end
section
theorem its_split {α : Type} {m k : Nat} (g : Nat → α) (h : k ≤ m) : its m g = its k g ++ its (m - k) (fun j => g (k + j)) := by
  obtain ⟨t, rfl⟩ : ∃ t, m = k + t := ⟨m - k, by omega⟩
  rw [Nat.add_sub_cancel_left]
  clear h
  induction t with
  | zero => rw [Nat.add_zero, its_0, List.append_nil]
  | succ t ih => rw [← Nat.add_assoc, its_succ, ih, its_succ, List.append_assoc]
theorem want_perm {m k : Nat} {g g7 : Nat → Int} {s0 : Int} (hk : k ≤ m) (h1 : ∀ j, j < k → g j = g7 j) (h2 : ∀ j, k < j → j ≤ m → g j = g7 (j - 1)) : (its (m + 1) (va_up g k s0)).Perm (s0 :: its m g7) := by
  rw [its_split (m := m + 1) (k := k) _ (by omega), its_split (m := m) (k := k) g7 hk]
  have e1 : its k (va_up g k s0) = its k g7 := its_ext (fun j hj => by rw [up_ne _ _ (by omega)]; exact h1 j hj)
  have e2 : its (m + 1 - k) (fun j => va_up g k s0 (k + j)) = s0 :: its (m - k) (fun j => g7 (k + j)) := by
    have e3 : m + 1 - k = (m - k) + 1 := by omega
    rw [e3, its_cons, Nat.add_zero, up_same]
    congr 1
    refine its_ext (fun j hj => ?_)
    rw [up_ne _ _ (by omega), h2 _ (by omega) (by omega)]
    congr 1
  rw [e1, e2]
  exact List.perm_middle
/-- the sizes of the set's items below i -/
def sel (p i : Nat) (g : Nat → Int) : List Int := ((List.range i).filter (fun j => p.testBit j)).map g
theorem sel_no {p i : Nat} {g : Nat → Int} (h : p.testBit i = false) : sel p (i + 1) g = sel p i g := by
  unfold sel
  rw [List.range_succ, List.filter_append, List.filter_cons, h]
  simp
theorem sel_succ {p i : Nat} {g : Nat → Int} (h : p.testBit i = true) : sel p (i + 1) g = sel p i g ++ [g i] := by
  unfold sel
  rw [List.range_succ, List.filter_append, List.filter_cons, h]
  simp
theorem sel_yes {p i m1 : Nat} {g2 g g' : Nat → Int} {b : List Int} (h : p.testBit i = true) (h1 : (its m1 g).Perm (sel p i g2 ++ b)) (h2 : (its (m1 + 1) g').Perm (g2 i :: its m1 g)) : (its (m1 + 1) g').Perm (sel p (i + 1) g2 ++ b) := by
  rw [sel_succ h, List.append_assoc]
  refine h2.trans ?_
  refine (List.Perm.cons _ h1).trans ?_
  exact List.perm_middle.symm
theorem perm_bd {n : Nat} {g : Nat → Int} {t : List Int} {P : Int → Prop} (h : (its n g).Perm t) (ht : ∀ x ∈ t, P x) : ∀ j, j < n → P (g j) := fun j hj => ht _ (h.mem_iff.mp (its_mem g hj))
set_option maxHeartbeats 4000000 in
set_option maxRecDepth 100000 in
/-- nextBin(level, from, open) -/
theorem met_nextBin (l : Launch) (D : va_G) (cI cB : ClassId) (a : Nat → Nat) (f0 : Int) (f1 : Int) (g2 : Nat → Int) (f3 : Int) (f4 : Int) (g5 : Nat → Int) (f6 : Int) (g7 : Nat → Int) (f8 : Int) (g9 : Nat → Int) (g10 : Nat → Int) (f11 : Int) (g12 : Nat → Int) (f13 : Int) (f14 : Int) (g15 : Nat → Int) (L fr o : Nat) (hL : L < 16) (ho : o < 16) (hfr : fr ≤ 16) (hg : ∀ k, 0 ≤ g5 k ∧ g5 k ≤ 1000) (hr : 0 ≤ g7 L ∧ g7 L ≤ 1000) (hR : 0 ≤ f3 ∧ f3 ≤ 1000) (hB : 0 ≤ f8 ∧ f8 ≤ 1000) : MDi l yX1_nextBin cX1_nextBin 5 .int 1 [.ref (a 0), .int (iI (L : Int)), .int (iI (fr : Int)), .int (iI (o : Int))] D cI cB (WD a cI cB f0 f1 g2 f3 f4 g5 f6 g7 f8 g9 g10 f11 g12 f13 f14 g15) (fun z u => u = (WD a cI cB f0 f1 g2 f3 f4 g5 f6 g7 f8 g9 g10 f11 g12 f13 f14 g15) ∧ NB f3 f8 (g7 L) g5 fr o z) := by
  refine md_i [(0, .ref (a 0)), (1, .int (iI (L : Int))), (2, .int (iI (fr : Int))), (3, .int (iI (o : Int)))] rfl (Nat.le_of_ble_eq_true rfl) rfl ?_
  intro A G C hret
  have C : Cx l RX1 cX1_nextBin 5 (rmD 1) D cI cB A 0 0 G := C
  have loop : ∀ (n b : Nat), fr ≤ b → b ≤ 16 → 16 < b + n → (∀ c, fr ≤ c → c < b → ¬ okB f3 f8 (g7 L) g5 o c) → G [(0, .ref (a 0)), (1, .int (iI (L : Int))), (2, .int (iI (fr : Int))), (3, .int (iI (o : Int))), (4, .int (iI (b : Int)))] (WD a cI cB f0 f1 g2 f3 f4 g5 f6 g7 f8 g9 g10 f11 g12 f13 f14 g15) 3 [] := by
    intro n
    induction n with
    | zero => intro b h1 h2 h3 h4; exact absurd h3 (by omega)
    | succ n ih =>
      intro b h1 h2 h3 h4
      refine g_iload C (pc := 3) 4 rfl dX1_nextBin_3 ?_
      refine g_iload_n C (pc := 5) 3 rfl rfl dX1_nextBin_5 ?_
      refine g_icmp_ge C (pc := 6) 56 (by omega) (by omega) (by decide) dX1_nextBin_6 (fun c6 => ?_) (fun c6 => ?_)
      · refine g_iload_n C (pc := 56) 2 rfl rfl dX1_nextBin_56 ?_
        refine g_iload_n C (pc := 57) 3 rfl rfl dX1_nextBin_57 ?_
        refine g_icmp_gt C (pc := 58) 75 (by omega) (by omega) (by decide) dX1_nextBin_58 (fun c58 => ?_) (fun c58 => ?_)
        · refine g_iconst C (pc := 75) dX1_nextBin_75 ?_
          exact hret _ _ _ _ dX1_nextBin_76 rfl ⟨rfl, Or.inr ⟨fun c h5 h6 => h4 c h5 (by omega), Or.inr ⟨rfl, by omega⟩⟩⟩
        · refine g_iload_n C (pc := 61) 3 rfl rfl dX1_nextBin_61 ?_
          refine g_iconst C (pc := 62) dX1_nextBin_62 ?_
          refine g_iadd C (pc := 63) dX1_nextBin_63 ?_
          refine g_aload_n C (pc := 64) 0 rfl rfl dX1_nextBin_64 ?_
          refine dg_best C (pc := 65) dX1_nextBin_65 ?_
          refine g_icmp_ge C (pc := 68) 75 (by omega) (by omega) (by decide) dX1_nextBin_68 (fun c68 => ?_) (fun c68 => ?_)
          · refine g_iconst C (pc := 75) dX1_nextBin_75 ?_
            exact hret _ _ _ _ dX1_nextBin_76 rfl ⟨rfl, Or.inr ⟨fun c h5 h6 => h4 c h5 (by omega), Or.inr ⟨rfl, by omega⟩⟩⟩
          · refine g_iload_n C (pc := 71) 3 rfl rfl dX1_nextBin_71 ?_
            refine g_goto C (pc := 72) 76 (by decide) dX1_nextBin_72 ?_
            exact hret _ _ _ _ dX1_nextBin_76 rfl ⟨rfl, Or.inr ⟨fun c h5 h6 => h4 c h5 (by omega), Or.inl ⟨rfl, by omega, by omega⟩⟩⟩
      · refine g_iload_n C (pc := 9) 3 rfl rfl dX1_nextBin_9 ?_
        refine g_aload_n C (pc := 10) 0 rfl rfl dX1_nextBin_10 ?_
        refine dg_best C (pc := 11) dX1_nextBin_11 ?_
        refine g_icmp_ge C (pc := 14) 50 (by omega) (by omega) (by decide) dX1_nextBin_14 (fun c14 => ?_) (fun c14 => ?_)
        · have hno : ¬ okB f3 f8 (g7 L) g5 o b := fun hk => absurd hk.1 (by omega)
          refine g_iinc C (pc := 50) [(0, .ref (a 0)), (1, .int (iI (L : Int))), (2, .int (iI (fr : Int))), (3, .int (iI (o : Int))), (4, .int (iI ((b : Int) + 1)))] [1, 2, 3, 4, 0] 4 rfl (by decide) rfl dX1_nextBin_50 ?_
          refine g_goto C (pc := 53) 3 (by decide) dX1_nextBin_53 ?_
          exact ih (b + 1) (by omega) (by omega) (by omega) (fun c h5 h6 => by
            by_cases e : c = b
            · rw [e]; exact hno
            · exact h4 c h5 (by omega))
        · have hgb := hg b
          refine g_aload_n C (pc := 17) 0 rfl rfl dX1_nextBin_17 ?_
          refine dg_loads C (pc := 18) dX1_nextBin_18 ?_
          refine g_iload C (pc := 21) 4 rfl dX1_nextBin_21 ?_
          refine dl_loads C (pc := 23) b (by omega) (by omega) dX1_nextBin_23 ?_
          refine g_aload_n C (pc := 24) 0 rfl rfl dX1_nextBin_24 ?_
          refine dg_rest C (pc := 25) dX1_nextBin_25 ?_
          refine g_iload_n C (pc := 28) 1 rfl rfl dX1_nextBin_28 ?_
          refine dl_rest C (pc := 29) L (by omega) (by omega) dX1_nextBin_29 ?_
          refine g_iadd C (pc := 30) dX1_nextBin_30 ?_
          refine g_aload_n C (pc := 31) 0 rfl rfl dX1_nextBin_31 ?_
          refine dg_room C (pc := 32) dX1_nextBin_32 ?_
          refine g_icmp_gt C (pc := 35) 50 (by omega) (by omega) (by decide) dX1_nextBin_35 (fun c35 => ?_) (fun c35 => ?_)
          · have hno : ¬ okB f3 f8 (g7 L) g5 o b := fun hk => absurd hk.2.1 (by omega)
            refine g_iinc C (pc := 50) [(0, .ref (a 0)), (1, .int (iI (L : Int))), (2, .int (iI (fr : Int))), (3, .int (iI (o : Int))), (4, .int (iI ((b : Int) + 1)))] [1, 2, 3, 4, 0] 4 rfl (by decide) rfl dX1_nextBin_50 ?_
            refine g_goto C (pc := 53) 3 (by decide) dX1_nextBin_53 ?_
            exact ih (b + 1) (by omega) (by omega) (by omega) (fun c h5 h6 => by
              by_cases e : c = b
              · rw [e]; exact hno
              · exact h4 c h5 (by omega))
          · refine g_aload_n C (pc := 38) 0 rfl rfl dX1_nextBin_38 ?_
            refine g_iload C (pc := 39) 4 rfl dX1_nextBin_39 ?_
            refine g_calli C (pc := 41) (n := 1) [] [.int (iI (b : Int))] (met_seen l D cI cB a f0 f1 g2 f3 f4 g5 f6 g7 f8 g9 g10 f11 g12 f13 f14 g15 b (by omega) (fun k => by have h5 := hg k; omega)) (lw_V q169 q171 qs12 q24 q172) (by decide +kernel) (by decide) (by decide) rfl 0 0 rfl rfl rfl (Nat.le_of_ble_eq_true rfl) dX1_nextBin_41 (fun z u hu => ?_)
            obtain ⟨rfl, hs⟩ := hu
            have hz01 : 0 ≤ z ∧ z ≤ 1 := by rcases hs with ⟨h, _⟩ | ⟨h, _⟩ <;> omega
            refine g_if_ne C (pc := 44) 50 (by omega) (by decide) dX1_nextBin_44 (fun c44 => ?_) (fun c44 => ?_)
            · have hno : ¬ okB f3 f8 (g7 L) g5 o b := fun hk => by
                rcases hs with ⟨_, c, h5, h6⟩ | ⟨h5, _⟩
                · exact hk.2.2 c h5 h6
                · omega
              refine g_iinc C (pc := 50) [(0, .ref (a 0)), (1, .int (iI (L : Int))), (2, .int (iI (fr : Int))), (3, .int (iI (o : Int))), (4, .int (iI ((b : Int) + 1)))] [1, 2, 3, 4, 0] 4 rfl (by decide) rfl dX1_nextBin_50 ?_
              refine g_goto C (pc := 53) 3 (by decide) dX1_nextBin_53 ?_
              exact ih (b + 1) (by omega) (by omega) (by omega) (fun c h5 h6 => by
                by_cases e : c = b
                · rw [e]; exact hno
                · exact h4 c h5 (by omega))
            · refine g_iload C (pc := 47) 4 rfl dX1_nextBin_47 ?_
              refine hret _ _ _ _ dX1_nextBin_49 rfl ⟨rfl, Or.inl ⟨b, rfl, h1, by omega, ⟨by omega, by omega, ?_⟩, h4⟩⟩
              rcases hs with ⟨h5, _⟩ | ⟨_, h5⟩
              · omega
              · exact h5
  refine g_iload_n C (pc := 0) 2 rfl rfl dX1_nextBin_0 ?_
  refine g_istore C (pc := 1) [(0, .ref (a 0)), (1, .int (iI (L : Int))), (2, .int (iI (fr : Int))), (3, .int (iI (o : Int))), (4, .int (iI (fr : Int)))] [1, 2, 3, 4, 0] (by decide) rfl dX1_nextBin_1 ?_
  exact loop 17 fr (by omega) (by omega) (by omega) (fun c h5 h6 => absurd h6 (by omega))
set_option maxHeartbeats 4000000 in
set_option maxRecDepth 100000 in
/-- ask(size): an empty question -/
theorem met_ask (l : Launch) (D : va_G) (cI cB : ClassId) (a : Nat → Nat) (f0 : Int) (f1 : Int) (g2 : Nat → Int) (f3 : Int) (f4 : Int) (g5 : Nat → Int) (f6 : Int) (g7 : Nat → Int) (f8 : Int) (g9 : Nat → Int) (g10 : Nat → Int) (f11 : Int) (g12 : Nat → Int) (f13 : Int) (f14 : Int) (g15 : Nat → Int) (s0 : Int) : MDv l yX1_ask cX1_ask 3 0 [.ref (a 0), .int (iI s0)] D cI cB (WD a cI cB f0 f1 g2 f3 f4 g5 f6 g7 f8 g9 g10 f11 g12 f13 f14 g15) (fun u => u = (WD a cI cB f0 f1 g2 s0 0 (fun _ => 0) 0 g7 f8 g9 g10 f11 g12 f13 f14 g15)) := by
  refine md_v [(0, .ref (a 0)), (1, .int (iI s0))] rfl (Nat.le_of_ble_eq_true rfl) rfl ?_
  intro A G C hret
  have C : Cx l RX1 cX1_ask 3 (rmD 0) D cI cB A 0 0 G := C
  have loop : ∀ (n b : Nat) (g : Nat → Int), b ≤ 16 → 16 < b + n → (∀ j, j < b → g j = 0) → G [(0, .ref (a 0)), (1, .int (iI s0)), (2, .int (iI (b : Int)))] (WD a cI cB f0 f1 g2 s0 0 g 0 g7 f8 g9 g10 f11 g12 f13 f14 g15) 17 [] := by
    intro n
    induction n with
    | zero => intro b g h1 h2; exact absurd h2 (by omega)
    | succ n ih =>
      intro b g h1 h2 h3
      refine g_iload_n C (pc := 17) 2 rfl rfl dX1_ask_17 ?_
      refine g_bipush C (pc := 18) dX1_ask_18 (by decide) ?_
      refine g_icmp_ge C (pc := 20) 36 (by omega) (by omega) (by decide) dX1_ask_20 (fun c20 => ?_) (fun c20 => ?_)
      · refine dx_loads C (fun _ => 0) (fun j hj => h3 j (by omega)) ?_
        exact hret _ _ _ dX1_ask_36 rfl
      · refine g_aload_n C (pc := 23) 0 rfl rfl dX1_ask_23 ?_
        refine dg_loads C (pc := 24) dX1_ask_24 ?_
        refine g_iload_n C (pc := 27) 2 rfl rfl dX1_ask_27 ?_
        refine g_iconst C (pc := 28) dX1_ask_28 ?_
        refine ds_loads C (pc := 29) b (by omega) (by omega) dX1_ask_29 ?_
        refine g_iinc C (pc := 30) [(0, .ref (a 0)), (1, .int (iI s0)), (2, .int (iI ((b : Int) + 1)))] [1, 2, 0] 2 rfl (by decide) rfl dX1_ask_30 ?_
        refine g_goto C (pc := 33) 17 (by decide) dX1_ask_33 ?_
        exact ih (b + 1) _ (by omega) (by omega) (fun j hj => by
          by_cases e : j = b
          · rw [e, up_same]
          · rw [up_ne _ _ e]; exact h3 j (by omega))
  refine g_aload_n C (pc := 0) 0 rfl rfl dX1_ask_0 ?_
  refine g_iload_n C (pc := 1) 1 rfl rfl dX1_ask_1 ?_
  refine dp_room C (pc := 2) dX1_ask_2 ?_
  refine g_aload_n C (pc := 5) 0 rfl rfl dX1_ask_5 ?_
  refine g_iconst C (pc := 6) dX1_ask_6 ?_
  refine dp_opened C (pc := 7) dX1_ask_7 ?_
  refine g_aload_n C (pc := 10) 0 rfl rfl dX1_ask_10 ?_
  refine g_iconst C (pc := 11) dX1_ask_11 ?_
  refine dp_restCount C (pc := 12) dX1_ask_12 ?_
  refine g_iconst C (pc := 15) dX1_ask_15 ?_
  refine g_istore_n C (pc := 16) [(0, .ref (a 0)), (1, .int (iI s0)), (2, .int (iI 0))] [1, 2, 0] rfl (by decide) rfl dX1_ask_16 ?_
  exact loop 17 0 g5 (by omega) (by omega) (fun j hj => absurd hj (by omega))
set_option maxHeartbeats 4000000 in
set_option maxRecDepth 100000 in
/-- want(s): one more item -/
theorem met_want (l : Launch) (D : va_G) (cI cB : ClassId) (a : Nat → Nat) (f0 : Int) (f1 : Int) (g2 : Nat → Int) (f3 : Int) (f4 : Int) (g5 : Nat → Int) (g7 : Nat → Int) (f8 : Int) (g9 : Nat → Int) (g10 : Nat → Int) (f11 : Int) (g12 : Nat → Int) (f13 : Int) (f14 : Int) (g15 : Nat → Int) (m : Nat) (s0 : Int) (hm : m < 16) (hs : 0 ≤ s0 ∧ s0 ≤ 1000) (hr : ∀ j, j < m → 0 ≤ g7 j ∧ g7 j ≤ 1000) : MDv l yX1_want cX1_want 3 0 [.ref (a 0), .int (iI s0)] D cI cB (WD a cI cB f0 f1 g2 f3 f4 g5 (m : Int) g7 f8 g9 g10 f11 g12 f13 f14 g15) (fun u => ∃ g' : Nat → Int, u = (WD a cI cB f0 f1 g2 f3 f4 g5 ((m + 1 : Nat) : Int) g' f8 g9 g10 f11 g12 f13 f14 g15) ∧ (its (m + 1) g').Perm (s0 :: its m g7)) := by
  refine md_v [(0, .ref (a 0)), (1, .int (iI s0))] rfl (Nat.le_of_ble_eq_true rfl) rfl ?_
  intro A G C hret
  have C : Cx l RX1 cX1_want 3 (rmD 0) D cI cB A 0 0 G := C
  have loop : ∀ (n k : Nat) (g : Nat → Int), k < n → k ≤ m → (∀ j, j < k → g j = g7 j) → (∀ j, k < j → j ≤ m → g j = g7 (j - 1)) → G [(0, .ref (a 0)), (1, .int (iI s0)), (2, .int (iI (k : Int)))] (WD a cI cB f0 f1 g2 f3 f4 g5 (m : Int) g f8 g9 g10 f11 g12 f13 f14 g15) 5 [] := by
    intro n
    induction n with
    | zero => intro k g h1; exact absurd h1 (by omega)
    | succ n ih =>
      intro k g h1 h2 h3 h4
      refine g_iload_n C (pc := 5) 2 rfl rfl dX1_want_5 ?_
      refine g_if_le C (pc := 6) 41 (by omega) (by decide) dX1_want_6 (fun c6 => ?_) (fun c6 => ?_)
      · refine g_aload_n C (pc := 41) 0 rfl rfl dX1_want_41 ?_
        refine dg_rest C (pc := 42) dX1_want_42 ?_
        refine g_iload_n C (pc := 45) 2 rfl rfl dX1_want_45 ?_
        refine g_iload_n C (pc := 46) 1 rfl rfl dX1_want_46 ?_
        refine ds_rest C (pc := 47) k (by omega) (by omega) dX1_want_47 ?_
        refine g_aload_n C (pc := 48) 0 rfl rfl dX1_want_48 ?_
        refine g_dup C (pc := 49) rfl dX1_want_49 ?_
        refine dg_restCount C (pc := 50) dX1_want_50 ?_
        refine g_iconst C (pc := 53) dX1_want_53 ?_
        refine g_iadd C (pc := 54) dX1_want_54 ?_
        refine dp_restCount C (pc := 55) dX1_want_55 ?_
        exact hret _ _ _ dX1_want_58 ⟨_, rfl, want_perm h2 h3 h4⟩
      · refine g_aload_n C (pc := 9) 0 rfl rfl dX1_want_9 ?_
        refine dg_rest C (pc := 10) dX1_want_10 ?_
        refine g_iload_n C (pc := 13) 2 rfl rfl dX1_want_13 ?_
        refine g_iconst C (pc := 14) dX1_want_14 ?_
        refine g_isub C (pc := 15) dX1_want_15 ?_
        refine dl_rest C (pc := 16) (k - 1) (by omega) (by omega) dX1_want_16 ?_
        have hk1 : g (k - 1) = g7 (k - 1) := h3 (k - 1) (by omega)
        have hk2 := hr (k - 1) (by omega)
        refine g_iload_n C (pc := 17) 1 rfl rfl dX1_want_17 ?_
        refine g_icmp_ge C (pc := 18) 41 (by omega) (by omega) (by decide) dX1_want_18 (fun c18 => ?_) (fun c18 => ?_)
        · refine g_aload_n C (pc := 41) 0 rfl rfl dX1_want_41 ?_
          refine dg_rest C (pc := 42) dX1_want_42 ?_
          refine g_iload_n C (pc := 45) 2 rfl rfl dX1_want_45 ?_
          refine g_iload_n C (pc := 46) 1 rfl rfl dX1_want_46 ?_
          refine ds_rest C (pc := 47) k (by omega) (by omega) dX1_want_47 ?_
          refine g_aload_n C (pc := 48) 0 rfl rfl dX1_want_48 ?_
          refine g_dup C (pc := 49) rfl dX1_want_49 ?_
          refine dg_restCount C (pc := 50) dX1_want_50 ?_
          refine g_iconst C (pc := 53) dX1_want_53 ?_
          refine g_iadd C (pc := 54) dX1_want_54 ?_
          refine dp_restCount C (pc := 55) dX1_want_55 ?_
          exact hret _ _ _ dX1_want_58 ⟨_, rfl, want_perm h2 h3 h4⟩
        · refine g_aload_n C (pc := 21) 0 rfl rfl dX1_want_21 ?_
          refine dg_rest C (pc := 22) dX1_want_22 ?_
          refine g_iload_n C (pc := 25) 2 rfl rfl dX1_want_25 ?_
          refine g_aload_n C (pc := 26) 0 rfl rfl dX1_want_26 ?_
          refine dg_rest C (pc := 27) dX1_want_27 ?_
          refine g_iload_n C (pc := 30) 2 rfl rfl dX1_want_30 ?_
          refine g_iconst C (pc := 31) dX1_want_31 ?_
          refine g_isub C (pc := 32) dX1_want_32 ?_
          refine dl_rest C (pc := 33) (k - 1) (by omega) (by omega) dX1_want_33 ?_
          refine ds_rest C (pc := 34) k (by omega) (by omega) dX1_want_34 ?_
          refine g_iinc C (pc := 35) [(0, .ref (a 0)), (1, .int (iI s0)), (2, .int (iI ((k : Int) + (-1))))] [1, 2, 0] 2 rfl (by decide) rfl dX1_want_35 ?_
          refine g_goto C (pc := 38) 5 (by decide) dX1_want_38 ?_
          have e : (k : Int) + (-1) = ((k - 1 : Nat) : Int) := by omega
          rw [e]
          exact ih (k - 1) _ (by omega) (by omega) (fun j hj => by rw [up_ne _ _ (by omega)]; exact h3 j (by omega)) (fun j h5 h6 => by
            by_cases e : j = k
            · rw [e, up_same]; exact h3 (k - 1) (by omega)
            · rw [up_ne _ _ e]; exact h4 j (by omega) h6)
  refine g_aload_n C (pc := 0) 0 rfl rfl dX1_want_0 ?_
  refine dg_restCount C (pc := 1) dX1_want_1 ?_
  refine g_istore_n C (pc := 4) [(0, .ref (a 0)), (1, .int (iI s0)), (2, .int (iI (m : Int)))] [1, 2, 0] rfl (by decide) rfl dX1_want_4 ?_
  exact loop (m + 1) m g7 (by omega) (by omega) (fun j _ => rfl) (fun j h1 h2 => absurd h1 (by omega))
set_option maxHeartbeats 4000000 in
set_option maxRecDepth 100000 in
/-- wantAll(set): all items of the set -/
theorem met_wantAll (l : Launch) (D : va_G) (cI cB : ClassId) (a : Nat → Nat) (f0 : Int) (f1 : Int) (g2 : Nat → Int) (f3 : Int) (f4 : Int) (g5 : Nat → Int) (g7 : Nat → Int) (f8 : Int) (g9 : Nat → Int) (g10 : Nat → Int) (f11 : Int) (g12 : Nat → Int) (f13 : Int) (f14 : Int) (g15 : Nat → Int) (m p : Nat) (hm : m + 8 ≤ 16) (hp : p < 256) (hs : ∀ k, 0 ≤ g2 k ∧ g2 k ≤ 1000) (hr : ∀ j, j < m → 0 ≤ g7 j ∧ g7 j ≤ 1000) : MDv l yX1_wantAll cX1_wantAll 3 1 [.ref (a 0), .int (iI (p : Int))] D cI cB (WD a cI cB f0 f1 g2 f3 f4 g5 (m : Int) g7 f8 g9 g10 f11 g12 f13 f14 g15) (fun u => ∃ (m' : Nat) (g' : Nat → Int), u = (WD a cI cB f0 f1 g2 f3 f4 g5 (m' : Int) g' f8 g9 g10 f11 g12 f13 f14 g15) ∧ (its m' g').Perm (sel p 8 g2 ++ its m g7)) := by
  refine md_v [(0, .ref (a 0)), (1, .int (iI (p : Int)))] rfl (Nat.le_of_ble_eq_true rfl) rfl ?_
  intro A G C hret
  have C : Cx l RX1 cX1_wantAll 3 (rmD 1) D cI cB A 0 0 G := C
  have loop : ∀ (n i m1 : Nat) (g : Nat → Int), i ≤ 8 → 8 < i + n → m1 ≤ m + i → (∀ j, j < m1 → 0 ≤ g j ∧ g j ≤ 1000) → (its m1 g).Perm (sel p i g2 ++ its m g7) → G [(0, .ref (a 0)), (1, .int (iI (p : Int))), (2, .int (iI (i : Int)))] (WD a cI cB f0 f1 g2 f3 f4 g5 (m1 : Int) g f8 g9 g10 f11 g12 f13 f14 g15) 2 [] := by
    intro n
    induction n with
    | zero => intro i m1 g h1 h2; exact absurd h2 (by omega)
    | succ n ih =>
      intro i m1 g h1 h2 h3 h4 h5
      refine g_iload_n C (pc := 2) 2 rfl rfl dX1_wantAll_2 ?_
      refine g_bipush C (pc := 3) dX1_wantAll_3 (by decide) ?_
      refine g_icmp_ge C (pc := 5) 32 (by omega) (by omega) (by decide) dX1_wantAll_5 (fun c5 => ?_) (fun c5 => ?_)
      · have e8 : i = 8 := by omega
        subst e8
        exact hret _ _ _ dX1_wantAll_32 ⟨m1, g, rfl, h5⟩
      · refine g_iload_n C (pc := 8) 1 rfl rfl dX1_wantAll_8 ?_
        refine g_iload_n C (pc := 9) 2 rfl rfl dX1_wantAll_9 ?_
        have hi8 : i < 8 := by omega
        refine g_ishr C (pc := 10) ((p / 2 ^ i : Nat) : Int) (bit_shr (by omega) (by omega)) dX1_wantAll_10 ?_
        refine g_iconst C (pc := 11) dX1_wantAll_11 ?_
        have hq : p / 2 ^ i ≤ p := Nat.div_le_self _ _
        refine g_iand C (pc := 12) ((p / 2 ^ i % 2 : Nat) : Int) (bit_and1 (by omega)) dX1_wantAll_12 ?_
        refine g_if_eq C (pc := 13) 26 (by omega) (by decide) dX1_wantAll_13 (fun c13 => ?_) (fun c13 => ?_)
        · have hbit : p.testBit i = false := (tb_not p i).mpr (by omega)
          refine g_iinc C (pc := 26) [(0, .ref (a 0)), (1, .int (iI (p : Int))), (2, .int (iI ((i : Int) + 1)))] [1, 2, 0] 2 rfl (by decide) rfl dX1_wantAll_26 ?_
          refine g_goto C (pc := 29) 2 (by decide) dX1_wantAll_29 ?_
          exact ih (i + 1) m1 g (by omega) (by omega) (by omega) h4 (by rw [sel_no hbit]; exact h5)
        · have hbit : p.testBit i = true := (tb_iff p i).mpr (by omega)
          refine g_aload_n C (pc := 16) 0 rfl rfl dX1_wantAll_16 ?_
          refine g_aload_n C (pc := 17) 0 rfl rfl dX1_wantAll_17 ?_
          refine dg_sizes C (pc := 18) dX1_wantAll_18 ?_
          refine g_iload_n C (pc := 21) 2 rfl rfl dX1_wantAll_21 ?_
          refine dl_sizes C (pc := 22) i (by omega) (by omega) dX1_wantAll_22 ?_
          refine g_callv C (pc := 23) (n := 1) [] [.int (iI (g2 i))] (met_want l D cI cB a f0 f1 g2 f3 f4 g5 g f8 g9 g10 f11 g12 f13 f14 g15 m1 (g2 i) (by omega) (hs i) h4) (lw_V q137 q139 qs5 q24 q140) (by decide +kernel) (by decide) (by decide) rfl 0 0 rfl rfl rfl (Nat.le_of_ble_eq_true rfl) dX1_wantAll_23 (fun u hu => ?_)
          obtain ⟨g', rfl, hgp⟩ := hu
          refine g_iinc C (pc := 26) [(0, .ref (a 0)), (1, .int (iI (p : Int))), (2, .int (iI ((i : Int) + 1)))] [1, 2, 0] 2 rfl (by decide) rfl dX1_wantAll_26 ?_
          refine g_goto C (pc := 29) 2 (by decide) dX1_wantAll_29 ?_
          exact ih (i + 1) (m1 + 1) g' (by omega) (by omega) (by omega) (perm_bd (P := fun x => 0 ≤ x ∧ x ≤ 1000) hgp (fun x hx => by
            rcases List.mem_cons.mp hx with e | e
            · rw [e]; exact hs i
            · obtain ⟨j, h6, h7⟩ := its_of_mem e
              rw [← h7]; exact h4 j h6)) (sel_yes hbit h5 hgp)
  refine g_iconst C (pc := 0) dX1_wantAll_0 ?_
  refine g_istore_n C (pc := 1) [(0, .ref (a 0)), (1, .int (iI (p : Int))), (2, .int (iI 0))] [1, 2, 0] rfl (by decide) rfl dX1_wantAll_1 ?_
  exact loop 9 0 m g7 (by omega) (by omega) (by omega) hr (List.Perm.refl _)
end
section
theorem fall_p {k b : Nat} {p : Nat → Int} (h : ∀ t, t < k → 0 ≤ p t ∧ p t < 16) (hb : b < 16) : ∀ t, t < k + 1 → 0 ≤ va_up p k (b : Int) t ∧ va_up p k (b : Int) t < 16 := by
  intro t ht
  by_cases e : t = k
  · rw [e, up_same]; omega
  · rw [up_ne _ _ e]; exact h t (by omega)
theorem fall_s {k b : Nat} {p g g5 r : Nat → Int} (h : ∀ c : Nat, c < 16 → g c = g5 c + sg k (fun t => if p t = (c : Int) then r t else 0)) : ∀ c : Nat, c < 16 → bump g b (r k) c = g5 c + sg (k + 1) (fun t => if va_up p k (b : Int) t = (c : Int) then r t else 0) := by
  intro c hc
  show _ = g5 c + (sg k (fun t => if va_up p k (b : Int) t = (c : Int) then r t else 0) + (if va_up p k (b : Int) k = (c : Int) then r k else 0))
  have e1 : sg k (fun t => if va_up p k (b : Int) t = (c : Int) then r t else 0) = sg k (fun t => if p t = (c : Int) then r t else 0) := sg_ext (fun j hj => by rw [up_ne _ _ (by omega)])
  rw [e1, up_same]
  by_cases e : c = b
  · subst e
    rw [bump_same, if_pos rfl, h c hc]
    omega
  · rw [bump_ne _ _ e, if_neg (by omega), h c hc]
    omega
set_option maxHeartbeats 4000000 in
set_option maxRecDepth 100000 in
/-- boundWith(small) -/
theorem met_boundWith (l : Launch) (D : va_G) (cI cB : ClassId) (a : Nat → Nat) (f0 : Int) (f1 : Int) (g2 : Nat → Int) (f3 : Int) (f4 : Int) (g5 : Nat → Int) (f6 : Int) (g7 : Nat → Int) (f8 : Int) (g9 : Nat → Int) (g10 : Nat → Int) (g12 : Nat → Int) (f13 : Int) (f14 : Int) (g15 : Nat → Int) (c0 : Nat) (sm : Int) (hc0 : c0 ≤ 32) (hsm : 0 ≤ sm ∧ sm ≤ 1000) (hR : 0 < f3 ∧ f3 ≤ 1000) (hw : ∀ k, k < c0 → 0 ≤ g12 k ∧ g12 k ≤ 1000) : MDi l yX1_boundWith cX1_boundWith 8 .int 1 [.ref (a 0), .int (iI sm)] D cI cB (WD a cI cB f0 f1 g2 f3 f4 g5 f6 g7 f8 g9 g10 (c0 : Int) g12 f13 f14 g15) (fun z u => u = (WD a cI cB f0 f1 g2 f3 f4 g5 f6 g7 f8 g9 g10 (c0 : Int) g12 f13 f14 g15) ∧ z = bw f3 sm c0 g12 ∧ 0 ≤ z ∧ z ≤ 200000) := by
  refine md_i [(0, .ref (a 0)), (1, .int (iI sm))] rfl (Nat.le_of_ble_eq_true rfl) rfl ?_
  intro A G C hret
  have C : Cx l RX1 cX1_boundWith 8 (rmD 1) D cI cB A 0 0 G := C
  have loop : ∀ (n c : Nat), c ≤ c0 → c0 < c + n → G [(0, .ref (a 0)), (1, .int (iI sm)), (2, .int (iI (sg c (bA f3 sm g12)))), (3, .int (iI (sg c (bH f3 sm g12)))), (4, .int (iI (sg c (bS f3 sm g12)))), (5, .int (iI (sg c (bM f3 sm g12)))), (6, .int (iI (c : Int)))] (WD a cI cB f0 f1 g2 f3 f4 g5 f6 g7 f8 g9 g10 (c0 : Int) g12 f13 f14 g15) 13 [] := by
    intro n
    induction n with
    | zero => intro c h1 h2; exact absurd h2 (by omega)
    | succ n ih =>
      intro c h1 h2
      refine g_iload C (pc := 13) 6 rfl dX1_boundWith_13 ?_
      refine g_aload_n C (pc := 15) 0 rfl rfl dX1_boundWith_15 ?_
      refine dg_weightCount C (pc := 16) dX1_boundWith_16 ?_
      refine g_icmp_ge C (pc := 19) 91 (by omega) (by omega) (by decide) dX1_boundWith_19 (fun c19 => ?_) (fun c19 => ?_)
      · have hcc : c = c0 := by omega
        subst hcc
        have d0 := sg_bd (n := c) (f := bA f3 sm g12) (lo := 0) (hi := 1) (fun j _ => by unfold bA; split <;> omega)
        have d1 := sg_bd (n := c) (f := bH f3 sm g12) (lo := 0) (hi := 1) (fun j _ => by unfold bH; (repeat' split) <;> omega)
        have d2 := sg_bd (n := c) (f := bS f3 sm g12) (lo := 0) (hi := 1000) (fun j hj => by have h5 := hw j hj; unfold bS; (repeat' split) <;> omega)
        have d3 := sg_bd (n := c) (f := bM f3 sm g12) (lo := 0) (hi := 1000) (fun j hj => by have h5 := hw j hj; unfold bM; (repeat' split) <;> omega)
        have d4 : 0 ≤ sg c (bH f3 sm g12) * f3 := Int.mul_nonneg (by omega) (by omega)
        have d5 : sg c (bH f3 sm g12) * f3 ≤ 32 * 1000 := Int.mul_le_mul (by omega) (by omega) (by omega) (by omega)
        have d6 := ceilf_rg (a := sg c (bM f3 sm g12) - (sg c (bH f3 sm g12) * f3 - sg c (bS f3 sm g12))) (s := f3) hR.1
        have d7 : ceilf (sg c (bM f3 sm g12) - (sg c (bH f3 sm g12) * f3 - sg c (bS f3 sm g12))) f3 ≤ 100000 := by have d8 := d6.2; split at d8 <;> omega
        refine g_iload C (pc := 91) 5 rfl dX1_boundWith_91 ?_
        refine g_iload_n C (pc := 93) 3 rfl rfl dX1_boundWith_93 ?_
        refine g_aload_n C (pc := 94) 0 rfl rfl dX1_boundWith_94 ?_
        refine dg_room C (pc := 95) dX1_boundWith_95 ?_
        refine g_imul C (pc := 98) dX1_boundWith_98 ?_
        refine g_iload C (pc := 99) 4 rfl dX1_boundWith_99 ?_
        refine g_isub C (pc := 101) dX1_boundWith_101 ?_
        refine g_isub C (pc := 102) dX1_boundWith_102 ?_
        refine g_istore C (pc := 103) [(0, .ref (a 0)), (1, .int (iI sm)), (2, .int (iI (sg c (bA f3 sm g12)))), (3, .int (iI (sg c (bH f3 sm g12)))), (4, .int (iI (sg c (bS f3 sm g12)))), (5, .int (iI (sg c (bM f3 sm g12)))), (6, .int (iI ((sg c (bM f3 sm g12)) - (((sg c (bH f3 sm g12)) * f3) - (sg c (bS f3 sm g12))))))] [1, 2, 3, 4, 5, 6, 0] (by decide) rfl dX1_boundWith_103 ?_
        refine g_iload_n C (pc := 105) 2 rfl rfl dX1_boundWith_105 ?_
        refine g_iload_n C (pc := 106) 3 rfl rfl dX1_boundWith_106 ?_
        refine g_iadd C (pc := 107) dX1_boundWith_107 ?_
        refine g_iload C (pc := 108) 6 rfl dX1_boundWith_108 ?_
        refine g_aload_n C (pc := 110) 0 rfl rfl dX1_boundWith_110 ?_
        refine dg_room C (pc := 111) dX1_boundWith_111 ?_
        refine g_callS C (pc := 114) (n := 2) [.int (iI ((sg c (bA f3 sm g12)) + (sg c (bH f3 sm g12))))] [.int (iI ((sg c (bM f3 sm g12)) - (((sg c (bH f3 sm g12)) * f3) - (sg c (bS f3 sm g12))))), .int (iI f3)] (met_ceiling l D cI cB a (WD a cI cB f0 f1 g2 f3 f4 g5 f6 g7 f8 g9 g10 (c : Int) g12 f13 f14 g15) _ f3 (by omega) (by omega)) (lw_S q157 q158 q24 q159) (by decide +kernel) (by decide) (by decide) rfl rfl (Nat.le_of_ble_eq_true rfl) dX1_boundWith_114 (fun z u hu => ?_)
        obtain ⟨rfl, rfl⟩ := hu
        refine g_iadd C (pc := 117) dX1_boundWith_117 ?_
        exact hret _ _ _ _ dX1_boundWith_118 rfl ⟨rfl, rfl, by omega, by omega⟩
      · refine g_aload_n C (pc := 22) 0 rfl rfl dX1_boundWith_22 ?_
        refine dg_weights C (pc := 23) dX1_boundWith_23 ?_
        refine g_iload C (pc := 26) 6 rfl dX1_boundWith_26 ?_
        refine dl_weights C (pc := 28) c (by omega) (by omega) dX1_boundWith_28 ?_
        have hwc := hw c (by omega)
        refine g_istore C (pc := 29) [(0, .ref (a 0)), (1, .int (iI sm)), (2, .int (iI (sg c (bA f3 sm g12)))), (3, .int (iI (sg c (bH f3 sm g12)))), (4, .int (iI (sg c (bS f3 sm g12)))), (5, .int (iI (sg c (bM f3 sm g12)))), (6, .int (iI (c : Int))), (7, .int (iI (g12 c)))] [1, 2, 3, 4, 5, 6, 7, 0] (by decide) rfl dX1_boundWith_29 ?_
        refine g_iload C (pc := 31) 7 rfl dX1_boundWith_31 ?_
        refine g_aload_n C (pc := 33) 0 rfl rfl dX1_boundWith_33 ?_
        refine dg_room C (pc := 34) dX1_boundWith_34 ?_
        refine g_iload_n C (pc := 37) 1 rfl rfl dX1_boundWith_37 ?_
        refine g_isub C (pc := 38) dX1_boundWith_38 ?_
        refine g_icmp_le C (pc := 39) 48 (by omega) (by omega) (by decide) dX1_boundWith_39 (fun c39 => ?_) (fun c39 => ?_)
        · refine g_iconst C (pc := 48) dX1_boundWith_48 ?_
          refine g_iload C (pc := 49) 7 rfl dX1_boundWith_49 ?_
          refine g_imul C (pc := 51) dX1_boundWith_51 ?_
          refine g_aload_n C (pc := 52) 0 rfl rfl dX1_boundWith_52 ?_
          refine dg_room C (pc := 53) dX1_boundWith_53 ?_
          refine g_icmp_le C (pc := 56) 72 (by omega) (by omega) (by decide) dX1_boundWith_56 (fun c56 => ?_) (fun c56 => ?_)
          · refine g_iload C (pc := 72) 7 rfl dX1_boundWith_72 ?_
            refine g_iload_n C (pc := 74) 1 rfl rfl dX1_boundWith_74 ?_
            refine g_icmp_lt C (pc := 75) 85 (by omega) (by omega) (by decide) dX1_boundWith_75 (fun c75 => ?_) (fun c75 => ?_)
            · refine g_iinc C (pc := 85) [(0, .ref (a 0)), (1, .int (iI sm)), (2, .int (iI (sg c (bA f3 sm g12)))), (3, .int (iI (sg c (bH f3 sm g12)))), (4, .int (iI (sg c (bS f3 sm g12)))), (5, .int (iI (sg c (bM f3 sm g12)))), (6, .int (iI ((c : Int) + 1))), (7, .int (iI (g12 c)))] [1, 2, 3, 4, 5, 6, 0, 7] 6 rfl (by decide) rfl dX1_boundWith_85 ?_
              refine g_goto C (pc := 88) 13 (by decide) dX1_boundWith_88 ?_
              have b0 : bA f3 sm g12 c = 0 := by unfold bA; (repeat' split) <;> omega
              have b1 : bH f3 sm g12 c = 0 := by unfold bH; (repeat' split) <;> omega
              have b2 : bS f3 sm g12 c = 0 := by unfold bS; (repeat' split) <;> omega
              have b3 : bM f3 sm g12 c = 0 := by unfold bM; (repeat' split) <;> omega
              have e0 : (sg c (bA f3 sm g12)) = sg (c + 1) (bA f3 sm g12) := by show _ = sg c (bA f3 sm g12) + bA f3 sm g12 c; rw [b0]; omega
              have e1 : (sg c (bH f3 sm g12)) = sg (c + 1) (bH f3 sm g12) := by show _ = sg c (bH f3 sm g12) + bH f3 sm g12 c; rw [b1]; omega
              have e2 : (sg c (bS f3 sm g12)) = sg (c + 1) (bS f3 sm g12) := by show _ = sg c (bS f3 sm g12) + bS f3 sm g12 c; rw [b2]; omega
              have e3 : (sg c (bM f3 sm g12)) = sg (c + 1) (bM f3 sm g12) := by show _ = sg c (bM f3 sm g12) + bM f3 sm g12 c; rw [b3]; omega
              refine g_locals C [0, 1, 2, 3, 4, 5, 6] rfl ?_
              rw [e0, e1, e2, e3]
              exact ih (c + 1) (by omega) (by omega)
            · refine g_iload C (pc := 78) 5 rfl dX1_boundWith_78 ?_
              refine g_iload C (pc := 80) 7 rfl dX1_boundWith_80 ?_
              refine g_iadd C (pc := 82) dX1_boundWith_82 ?_
              refine g_istore C (pc := 83) [(0, .ref (a 0)), (1, .int (iI sm)), (2, .int (iI (sg c (bA f3 sm g12)))), (3, .int (iI (sg c (bH f3 sm g12)))), (4, .int (iI (sg c (bS f3 sm g12)))), (5, .int (iI ((sg c (bM f3 sm g12)) + (g12 c)))), (6, .int (iI (c : Int))), (7, .int (iI (g12 c)))] [1, 2, 3, 4, 5, 0, 6, 7] (by decide) rfl dX1_boundWith_83 ?_
              refine g_iinc C (pc := 85) [(0, .ref (a 0)), (1, .int (iI sm)), (2, .int (iI (sg c (bA f3 sm g12)))), (3, .int (iI (sg c (bH f3 sm g12)))), (4, .int (iI (sg c (bS f3 sm g12)))), (5, .int (iI ((sg c (bM f3 sm g12)) + (g12 c)))), (6, .int (iI ((c : Int) + 1))), (7, .int (iI (g12 c)))] [1, 2, 3, 4, 5, 6, 0, 7] 6 rfl (by decide) rfl dX1_boundWith_85 ?_
              refine g_goto C (pc := 88) 13 (by decide) dX1_boundWith_88 ?_
              have b0 : bA f3 sm g12 c = 0 := by unfold bA; (repeat' split) <;> omega
              have b1 : bH f3 sm g12 c = 0 := by unfold bH; (repeat' split) <;> omega
              have b2 : bS f3 sm g12 c = 0 := by unfold bS; (repeat' split) <;> omega
              have b3 : bM f3 sm g12 c = g12 c := by unfold bM; (repeat' split) <;> omega
              have e0 : (sg c (bA f3 sm g12)) = sg (c + 1) (bA f3 sm g12) := by show _ = sg c (bA f3 sm g12) + bA f3 sm g12 c; rw [b0]; omega
              have e1 : (sg c (bH f3 sm g12)) = sg (c + 1) (bH f3 sm g12) := by show _ = sg c (bH f3 sm g12) + bH f3 sm g12 c; rw [b1]; omega
              have e2 : (sg c (bS f3 sm g12)) = sg (c + 1) (bS f3 sm g12) := by show _ = sg c (bS f3 sm g12) + bS f3 sm g12 c; rw [b2]; omega
              have e3 : ((sg c (bM f3 sm g12)) + (g12 c)) = sg (c + 1) (bM f3 sm g12) := by show _ = sg c (bM f3 sm g12) + bM f3 sm g12 c; rw [b3]
              refine g_locals C [0, 1, 2, 3, 4, 5, 6] rfl ?_
              rw [e0, e1, e2, e3]
              exact ih (c + 1) (by omega) (by omega)
          · refine g_iinc C (pc := 59) [(0, .ref (a 0)), (1, .int (iI sm)), (2, .int (iI (sg c (bA f3 sm g12)))), (3, .int (iI ((sg c (bH f3 sm g12)) + 1))), (4, .int (iI (sg c (bS f3 sm g12)))), (5, .int (iI (sg c (bM f3 sm g12)))), (6, .int (iI (c : Int))), (7, .int (iI (g12 c)))] [1, 2, 3, 0, 4, 5, 6, 7] 3 rfl (by decide) rfl dX1_boundWith_59 ?_
            refine g_iload C (pc := 62) 4 rfl dX1_boundWith_62 ?_
            refine g_iload C (pc := 64) 7 rfl dX1_boundWith_64 ?_
            refine g_iadd C (pc := 66) dX1_boundWith_66 ?_
            refine g_istore C (pc := 67) [(0, .ref (a 0)), (1, .int (iI sm)), (2, .int (iI (sg c (bA f3 sm g12)))), (3, .int (iI ((sg c (bH f3 sm g12)) + 1))), (4, .int (iI ((sg c (bS f3 sm g12)) + (g12 c)))), (5, .int (iI (sg c (bM f3 sm g12)))), (6, .int (iI (c : Int))), (7, .int (iI (g12 c)))] [1, 2, 3, 4, 0, 5, 6, 7] (by decide) rfl dX1_boundWith_67 ?_
            refine g_goto C (pc := 69) 85 (by decide) dX1_boundWith_69 ?_
            refine g_iinc C (pc := 85) [(0, .ref (a 0)), (1, .int (iI sm)), (2, .int (iI (sg c (bA f3 sm g12)))), (3, .int (iI ((sg c (bH f3 sm g12)) + 1))), (4, .int (iI ((sg c (bS f3 sm g12)) + (g12 c)))), (5, .int (iI (sg c (bM f3 sm g12)))), (6, .int (iI ((c : Int) + 1))), (7, .int (iI (g12 c)))] [1, 2, 3, 4, 5, 6, 0, 7] 6 rfl (by decide) rfl dX1_boundWith_85 ?_
            refine g_goto C (pc := 88) 13 (by decide) dX1_boundWith_88 ?_
            have b0 : bA f3 sm g12 c = 0 := by unfold bA; (repeat' split) <;> omega
            have b1 : bH f3 sm g12 c = 1 := by unfold bH; (repeat' split) <;> omega
            have b2 : bS f3 sm g12 c = g12 c := by unfold bS; (repeat' split) <;> omega
            have b3 : bM f3 sm g12 c = 0 := by unfold bM; (repeat' split) <;> omega
            have e0 : (sg c (bA f3 sm g12)) = sg (c + 1) (bA f3 sm g12) := by show _ = sg c (bA f3 sm g12) + bA f3 sm g12 c; rw [b0]; omega
            have e1 : ((sg c (bH f3 sm g12)) + 1) = sg (c + 1) (bH f3 sm g12) := by show _ = sg c (bH f3 sm g12) + bH f3 sm g12 c; rw [b1]
            have e2 : ((sg c (bS f3 sm g12)) + (g12 c)) = sg (c + 1) (bS f3 sm g12) := by show _ = sg c (bS f3 sm g12) + bS f3 sm g12 c; rw [b2]
            have e3 : (sg c (bM f3 sm g12)) = sg (c + 1) (bM f3 sm g12) := by show _ = sg c (bM f3 sm g12) + bM f3 sm g12 c; rw [b3]; omega
            refine g_locals C [0, 1, 2, 3, 4, 5, 6] rfl ?_
            rw [e0, e1, e2, e3]
            exact ih (c + 1) (by omega) (by omega)
        · refine g_iinc C (pc := 42) [(0, .ref (a 0)), (1, .int (iI sm)), (2, .int (iI ((sg c (bA f3 sm g12)) + 1))), (3, .int (iI (sg c (bH f3 sm g12)))), (4, .int (iI (sg c (bS f3 sm g12)))), (5, .int (iI (sg c (bM f3 sm g12)))), (6, .int (iI (c : Int))), (7, .int (iI (g12 c)))] [1, 2, 0, 3, 4, 5, 6, 7] 2 rfl (by decide) rfl dX1_boundWith_42 ?_
          refine g_goto C (pc := 45) 85 (by decide) dX1_boundWith_45 ?_
          refine g_iinc C (pc := 85) [(0, .ref (a 0)), (1, .int (iI sm)), (2, .int (iI ((sg c (bA f3 sm g12)) + 1))), (3, .int (iI (sg c (bH f3 sm g12)))), (4, .int (iI (sg c (bS f3 sm g12)))), (5, .int (iI (sg c (bM f3 sm g12)))), (6, .int (iI ((c : Int) + 1))), (7, .int (iI (g12 c)))] [1, 2, 3, 4, 5, 6, 0, 7] 6 rfl (by decide) rfl dX1_boundWith_85 ?_
          refine g_goto C (pc := 88) 13 (by decide) dX1_boundWith_88 ?_
          have b0 : bA f3 sm g12 c = 1 := by unfold bA; (repeat' split) <;> omega
          have b1 : bH f3 sm g12 c = 0 := by unfold bH; (repeat' split) <;> omega
          have b2 : bS f3 sm g12 c = 0 := by unfold bS; (repeat' split) <;> omega
          have b3 : bM f3 sm g12 c = 0 := by unfold bM; (repeat' split) <;> omega
          have e0 : ((sg c (bA f3 sm g12)) + 1) = sg (c + 1) (bA f3 sm g12) := by show _ = sg c (bA f3 sm g12) + bA f3 sm g12 c; rw [b0]
          have e1 : (sg c (bH f3 sm g12)) = sg (c + 1) (bH f3 sm g12) := by show _ = sg c (bH f3 sm g12) + bH f3 sm g12 c; rw [b1]; omega
          have e2 : (sg c (bS f3 sm g12)) = sg (c + 1) (bS f3 sm g12) := by show _ = sg c (bS f3 sm g12) + bS f3 sm g12 c; rw [b2]; omega
          have e3 : (sg c (bM f3 sm g12)) = sg (c + 1) (bM f3 sm g12) := by show _ = sg c (bM f3 sm g12) + bM f3 sm g12 c; rw [b3]; omega
          refine g_locals C [0, 1, 2, 3, 4, 5, 6] rfl ?_
          rw [e0, e1, e2, e3]
          exact ih (c + 1) (by omega) (by omega)
  refine g_iconst C (pc := 0) dX1_boundWith_0 ?_
  refine g_istore_n C (pc := 1) [(0, .ref (a 0)), (1, .int (iI sm)), (2, .int (iI 0))] [1, 2, 0] rfl (by decide) rfl dX1_boundWith_1 ?_
  refine g_iconst C (pc := 2) dX1_boundWith_2 ?_
  refine g_istore_n C (pc := 3) [(0, .ref (a 0)), (1, .int (iI sm)), (2, .int (iI 0)), (3, .int (iI 0))] [1, 2, 3, 0] rfl (by decide) rfl dX1_boundWith_3 ?_
  refine g_iconst C (pc := 4) dX1_boundWith_4 ?_
  refine g_istore C (pc := 5) [(0, .ref (a 0)), (1, .int (iI sm)), (2, .int (iI 0)), (3, .int (iI 0)), (4, .int (iI 0))] [1, 2, 3, 4, 0] (by decide) rfl dX1_boundWith_5 ?_
  refine g_iconst C (pc := 7) dX1_boundWith_7 ?_
  refine g_istore C (pc := 8) [(0, .ref (a 0)), (1, .int (iI sm)), (2, .int (iI 0)), (3, .int (iI 0)), (4, .int (iI 0)), (5, .int (iI 0))] [1, 2, 3, 4, 5, 0] (by decide) rfl dX1_boundWith_8 ?_
  refine g_iconst C (pc := 10) dX1_boundWith_10 ?_
  refine g_istore C (pc := 11) [(0, .ref (a 0)), (1, .int (iI sm)), (2, .int (iI 0)), (3, .int (iI 0)), (4, .int (iI 0)), (5, .int (iI 0)), (6, .int (iI 0))] [1, 2, 3, 4, 5, 6, 0] (by decide) rfl dX1_boundWith_11 ?_
  exact loop (c0 + 1) 0 (by omega) (by omega)
set_option maxHeartbeats 4000000 in
set_option maxRecDepth 100000 in
/-- lowerBound() -/
theorem met_lowerBound (l : Launch) (D : va_G) (cI cB : ClassId) (a : Nat → Nat) (f0 : Int) (f1 : Int) (g2 : Nat → Int) (f3 : Int) (g5 : Nat → Int) (g7 : Nat → Int) (f8 : Int) (g9 : Nat → Int) (g10 : Nat → Int) (f11 : Int) (g12 : Nat → Int) (f13 : Int) (f14 : Int) (g15 : Nat → Int) (o m : Nat) (hom : o + m ≤ 16) (hR : 0 < f3 ∧ f3 ≤ 1000) (hg : ∀ k, 0 ≤ g5 k ∧ g5 k ≤ f3) (hz : ∀ b, o ≤ b → g5 b = 0) (hr : ∀ j, j < m → 0 ≤ g7 j ∧ g7 j ≤ 1000) : MDi l yX1_lowerBound cX1_lowerBound 4 .int 2 [.ref (a 0)] D cI cB (WD a cI cB f0 f1 g2 f3 (o : Int) g5 (m : Int) g7 f8 g9 g10 f11 g12 f13 f14 g15) (fun z u => ∃ (c' : Int) (w' : Nat → Int), u = (WD a cI cB f0 f1 g2 f3 (o : Int) g5 (m : Int) g7 f8 g9 g10 c' w' f13 f14 g15) ∧ (0 ≤ z ∧ z ≤ 200000) ∧ ∀ K : Nat, o ≤ K → Cp f3 (its m g7) g5 K → z ≤ K) := by
  refine md_i [(0, .ref (a 0))] rfl (Nat.le_of_ble_eq_true rfl) rfl ?_
  intro A G C hret
  have C : Cx l RX1 cX1_lowerBound 4 (rmD 2) D cI cB A 0 0 G := C
  have loop3 : ∀ (n k : Nat) (bd : Int) (g : Nat → Int), k ≤ o + m → o + m < k + n → (∀ j, j < o → g j = g5 j) → (∀ j, j < m → g (o + j) = g7 j) → (0 ≤ bd ∧ bd ≤ 200000) → (∀ K : Nat, o ≤ K → Cp f3 (its m g7) g5 K → bd ≤ K) → G [(0, .ref (a 0)), (1, .int (iI bd)), (2, .int (iI (k : Int)))] (WD a cI cB f0 f1 g2 f3 (o : Int) g5 (m : Int) g7 f8 g9 g10 ((o + m : Nat) : Int) g f13 f14 g15) 94 [] := by
    intro n
    induction n with
    | zero => intro k bd g h1 h2; exact absurd h2 (by omega)
    | succ n ih =>
      intro k bd g h1 h2 h3 h4 h5 h6
      have hgw : ∀ j, j < o + m → 0 ≤ g j ∧ g j ≤ 1000 := fun j hj => by
        by_cases e : j < o
        · rw [h3 j e]; have h7 := hg j; omega
        · have e2 : j = o + (j - o) := by omega
          rw [e2, h4 (j - o) (by omega)]; exact hr _ (by omega)
      refine g_iload_n C (pc := 94) 2 rfl rfl dX1_lowerBound_94 ?_
      refine g_aload_n C (pc := 95) 0 rfl rfl dX1_lowerBound_95 ?_
      refine dg_weightCount C (pc := 96) dX1_lowerBound_96 ?_
      refine g_icmp_ge C (pc := 99) 145 (by omega) (by omega) (by decide) dX1_lowerBound_99 (fun c99 => ?_) (fun c99 => ?_)
      · refine g_aload_n C (pc := 145) 0 rfl rfl dX1_lowerBound_145 ?_
        refine g_iconst C (pc := 146) dX1_lowerBound_146 ?_
        refine g_calli C (pc := 147) (n := 1) [] [.int (iI 0)] (met_boundWith l D cI cB a f0 f1 g2 f3 (o : Int) g5 (m : Int) g7 f8 g9 g10 g f13 f14 g15 (o + m) 0 (by omega) (by omega) hR hgw) (lw_V q153 q155 qs9 q24 q156) (by decide +kernel) (by decide) (by decide) rfl 0 0 rfl rfl rfl (Nat.le_of_ble_eq_true rfl) dX1_lowerBound_147 (fun z u hu => ?_)
        obtain ⟨rfl, hbw, hzr⟩ := hu
        have hzb : ∀ K : Nat, o ≤ K → Cp f3 (its m g7) g5 K → z ≤ K := fun K hK hc => by rw [hbw]; exact bw_le hR.1 (by omega) (by omega) (fun j hj => (hr j hj).1) (fun b _ => hg b) hz h3 h4 hK hc
        refine g_istore_n C (pc := 150) [(0, .ref (a 0)), (1, .int (iI bd)), (2, .int (iI z))] [1, 2, 0] rfl (by decide) rfl dX1_lowerBound_150 ?_
        refine g_iload_n C (pc := 151) 2 rfl rfl dX1_lowerBound_151 ?_
        refine g_iload_n C (pc := 152) 1 rfl rfl dX1_lowerBound_152 ?_
        refine g_icmp_le C (pc := 153) 160 (by omega) (by omega) (by decide) dX1_lowerBound_153 (fun c153 => ?_) (fun c153 => ?_)
        · refine g_iload_n C (pc := 160) 1 rfl rfl dX1_lowerBound_160 ?_
          exact hret _ _ _ _ dX1_lowerBound_161 rfl ⟨_, _, rfl, h5, h6⟩
        · refine g_iload_n C (pc := 156) 2 rfl rfl dX1_lowerBound_156 ?_
          refine g_goto C (pc := 157) 161 (by decide) dX1_lowerBound_157 ?_
          exact hret _ _ _ _ dX1_lowerBound_161 rfl ⟨_, _, rfl, hzr, hzb⟩
      · have hgk := hgw k (by omega)
        refine g_iconst C (pc := 102) dX1_lowerBound_102 ?_
        refine g_aload_n C (pc := 103) 0 rfl rfl dX1_lowerBound_103 ?_
        refine dg_weights C (pc := 104) dX1_lowerBound_104 ?_
        refine g_iload_n C (pc := 107) 2 rfl rfl dX1_lowerBound_107 ?_
        refine dl_weights C (pc := 108) k (by omega) (by omega) dX1_lowerBound_108 ?_
        refine g_imul C (pc := 109) dX1_lowerBound_109 ?_
        refine g_aload_n C (pc := 110) 0 rfl rfl dX1_lowerBound_110 ?_
        refine dg_room C (pc := 111) dX1_lowerBound_111 ?_
        refine g_icmp_gt C (pc := 114) 139 (by omega) (by omega) (by decide) dX1_lowerBound_114 (fun c114 => ?_) (fun c114 => ?_)
        · refine g_iinc C (pc := 139) [(0, .ref (a 0)), (1, .int (iI bd)), (2, .int (iI ((k : Int) + 1)))] [1, 2, 0] 2 rfl (by decide) rfl dX1_lowerBound_139 ?_
          refine g_goto C (pc := 142) 94 (by decide) dX1_lowerBound_142 ?_
          -- on
          exact ih (k + 1) bd g (by omega) (by omega) h3 h4 h5 h6
        · refine g_aload_n C (pc := 117) 0 rfl rfl dX1_lowerBound_117 ?_
          refine g_aload_n C (pc := 118) 0 rfl rfl dX1_lowerBound_118 ?_
          refine dg_weights C (pc := 119) dX1_lowerBound_119 ?_
          refine g_iload_n C (pc := 122) 2 rfl rfl dX1_lowerBound_122 ?_
          refine dl_weights C (pc := 123) k (by omega) (by omega) dX1_lowerBound_123 ?_
          refine g_calli C (pc := 124) (n := 1) [] [.int (iI (g k))] (met_boundWith l D cI cB a f0 f1 g2 f3 (o : Int) g5 (m : Int) g7 f8 g9 g10 g f13 f14 g15 (o + m) (g k) (by omega) (by omega) hR hgw) (lw_V q153 q155 qs9 q24 q156) (by decide +kernel) (by decide) (by decide) rfl 0 0 rfl rfl rfl (Nat.le_of_ble_eq_true rfl) dX1_lowerBound_124 (fun z u hu => ?_)
          obtain ⟨rfl, hbw, hzr⟩ := hu
          have hzb : ∀ K : Nat, o ≤ K → Cp f3 (its m g7) g5 K → z ≤ K := fun K hK hc => by rw [hbw]; exact bw_le hR.1 (by omega) (by omega) (fun j hj => (hr j hj).1) (fun b _ => hg b) hz h3 h4 hK hc
          refine g_istore_n C (pc := 127) [(0, .ref (a 0)), (1, .int (iI bd)), (2, .int (iI (k : Int))), (3, .int (iI z))] [1, 2, 3, 0] rfl (by decide) rfl dX1_lowerBound_127 ?_
          refine g_iload_n C (pc := 128) 3 rfl rfl dX1_lowerBound_128 ?_
          refine g_iload_n C (pc := 129) 1 rfl rfl dX1_lowerBound_129 ?_
          refine g_icmp_le C (pc := 130) 137 (by omega) (by omega) (by decide) dX1_lowerBound_130 (fun c130 => ?_) (fun c130 => ?_)
          · refine g_iload_n C (pc := 137) 1 rfl rfl dX1_lowerBound_137 ?_
            refine g_istore_n C (pc := 138) [(0, .ref (a 0)), (1, .int (iI bd)), (2, .int (iI (k : Int))), (3, .int (iI z))] [1, 0, 2, 3] rfl (by decide) rfl dX1_lowerBound_138 ?_
            refine g_iinc C (pc := 139) [(0, .ref (a 0)), (1, .int (iI bd)), (2, .int (iI ((k : Int) + 1))), (3, .int (iI z))] [1, 2, 0, 3] 2 rfl (by decide) rfl dX1_lowerBound_139 ?_
            refine g_goto C (pc := 142) 94 (by decide) dX1_lowerBound_142 ?_
            refine g_locals C [0, 1, 2] rfl ?_
            exact ih (k + 1) bd g (by omega) (by omega) h3 h4 h5 h6
          · refine g_iload_n C (pc := 133) 3 rfl rfl dX1_lowerBound_133 ?_
            refine g_goto C (pc := 134) 138 (by decide) dX1_lowerBound_134 ?_
            refine g_istore_n C (pc := 138) [(0, .ref (a 0)), (1, .int (iI z)), (2, .int (iI (k : Int))), (3, .int (iI z))] [1, 0, 2, 3] rfl (by decide) rfl dX1_lowerBound_138 ?_
            refine g_iinc C (pc := 139) [(0, .ref (a 0)), (1, .int (iI z)), (2, .int (iI ((k : Int) + 1))), (3, .int (iI z))] [1, 2, 0, 3] 2 rfl (by decide) rfl dX1_lowerBound_139 ?_
            refine g_goto C (pc := 142) 94 (by decide) dX1_lowerBound_142 ?_
            refine g_locals C [0, 1, 2] rfl ?_
            exact ih (k + 1) z g (by omega) (by omega) h3 h4 hzr hzb
  have loop2 : ∀ (n k : Nat) (g : Nat → Int), k ≤ m → m < k + n → (∀ j, j < o → g j = g5 j) → (∀ j, j < k → g (o + j) = g7 j) → G [(0, .ref (a 0)), (1, .int (iI (k : Int)))] (WD a cI cB f0 f1 g2 f3 (o : Int) g5 (m : Int) g7 f8 g9 g10 ((o + k : Nat) : Int) g f13 f14 g15) 48 [] := by
    intro n
    induction n with
    | zero => intro k g h1 h2; exact absurd h2 (by omega)
    | succ n ih =>
      intro k g h1 h2 h3 h4
      refine g_iload_n C (pc := 48) 1 rfl rfl dX1_lowerBound_48 ?_
      refine g_aload_n C (pc := 49) 0 rfl rfl dX1_lowerBound_49 ?_
      refine dg_restCount C (pc := 50) dX1_lowerBound_50 ?_
      refine g_icmp_ge C (pc := 53) 87 (by omega) (by omega) (by decide) dX1_lowerBound_53 (fun c53 => ?_) (fun c53 => ?_)
      · have hkm : k = m := by omega
        subst hkm
        refine g_aload_n C (pc := 87) 0 rfl rfl dX1_lowerBound_87 ?_
        refine dg_opened C (pc := 88) dX1_lowerBound_88 ?_
        refine g_istore_n C (pc := 91) [(0, .ref (a 0)), (1, .int (iI (o : Int)))] [1, 0] rfl (by decide) rfl dX1_lowerBound_91 ?_
        refine g_iconst C (pc := 92) dX1_lowerBound_92 ?_
        refine g_istore_n C (pc := 93) [(0, .ref (a 0)), (1, .int (iI (o : Int))), (2, .int (iI 0))] [1, 2, 0] rfl (by decide) rfl dX1_lowerBound_93 ?_
        exact loop3 (o + k + 1) 0 o g (by omega) (by omega) h3 h4 (by omega) (fun K hK _ => by omega)
      · refine g_aload_n C (pc := 56) 0 rfl rfl dX1_lowerBound_56 ?_
        refine dg_weights C (pc := 57) dX1_lowerBound_57 ?_
        refine g_aload_n C (pc := 60) 0 rfl rfl dX1_lowerBound_60 ?_
        refine dg_weightCount C (pc := 61) dX1_lowerBound_61 ?_
        refine g_aload_n C (pc := 64) 0 rfl rfl dX1_lowerBound_64 ?_
        refine dg_rest C (pc := 65) dX1_lowerBound_65 ?_
        refine g_iload_n C (pc := 68) 1 rfl rfl dX1_lowerBound_68 ?_
        refine dl_rest C (pc := 69) k (by omega) (by omega) dX1_lowerBound_69 ?_
        refine ds_weights C (pc := 70) (o + k) (by omega) (by omega) dX1_lowerBound_70 ?_
        refine g_aload_n C (pc := 71) 0 rfl rfl dX1_lowerBound_71 ?_
        refine g_dup C (pc := 72) rfl dX1_lowerBound_72 ?_
        refine dg_weightCount C (pc := 73) dX1_lowerBound_73 ?_
        refine g_iconst C (pc := 76) dX1_lowerBound_76 ?_
        refine g_iadd C (pc := 77) dX1_lowerBound_77 ?_
        refine dp_weightCount C (pc := 78) dX1_lowerBound_78 ?_
        refine g_iinc C (pc := 81) [(0, .ref (a 0)), (1, .int (iI ((k : Int) + 1)))] [1, 0] 1 rfl (by decide) rfl dX1_lowerBound_81 ?_
        refine g_goto C (pc := 84) 48 (by decide) dX1_lowerBound_84 ?_
        have e : ((o + k : Nat) : Int) + 1 = ((o + (k + 1) : Nat) : Int) := by omega
        rw [e]
        exact ih (k + 1) _ (by omega) (by omega) (fun j hj => by rw [up_ne _ _ (by omega)]; exact h3 j hj) (fun j hj => by
          by_cases e : j = k
          · rw [e, up_same]
          · rw [up_ne _ _ (by omega)]; exact h4 j (by omega))
  have loop1 : ∀ (n b : Nat) (g : Nat → Int), b ≤ o → o < b + n → (∀ j, j < b → g j = g5 j) → G [(0, .ref (a 0)), (1, .int (iI (b : Int)))] (WD a cI cB f0 f1 g2 f3 (o : Int) g5 (m : Int) g7 f8 g9 g10 (b : Int) g f13 f14 g15) 7 [] := by
    intro n
    induction n with
    | zero => intro b g h1 h2; exact absurd h2 (by omega)
    | succ n ih =>
      intro b g h1 h2 h3
      refine g_iload_n C (pc := 7) 1 rfl rfl dX1_lowerBound_7 ?_
      refine g_aload_n C (pc := 8) 0 rfl rfl dX1_lowerBound_8 ?_
      refine dg_opened C (pc := 9) dX1_lowerBound_9 ?_
      refine g_icmp_ge C (pc := 12) 46 (by omega) (by omega) (by decide) dX1_lowerBound_12 (fun c12 => ?_) (fun c12 => ?_)
      · have hbo : b = o := by omega
        subst hbo
        refine g_iconst C (pc := 46) dX1_lowerBound_46 ?_
        refine g_istore_n C (pc := 47) [(0, .ref (a 0)), (1, .int (iI 0))] [1, 0] rfl (by decide) rfl dX1_lowerBound_47 ?_
        exact loop2 (m + 1) 0 g (by omega) (by omega) h3 (fun j hj => absurd hj (by omega))
      · refine g_aload_n C (pc := 15) 0 rfl rfl dX1_lowerBound_15 ?_
        refine dg_weights C (pc := 16) dX1_lowerBound_16 ?_
        refine g_aload_n C (pc := 19) 0 rfl rfl dX1_lowerBound_19 ?_
        refine dg_weightCount C (pc := 20) dX1_lowerBound_20 ?_
        refine g_aload_n C (pc := 23) 0 rfl rfl dX1_lowerBound_23 ?_
        refine dg_loads C (pc := 24) dX1_lowerBound_24 ?_
        refine g_iload_n C (pc := 27) 1 rfl rfl dX1_lowerBound_27 ?_
        refine dl_loads C (pc := 28) b (by omega) (by omega) dX1_lowerBound_28 ?_
        refine ds_weights C (pc := 29) b (by omega) (by omega) dX1_lowerBound_29 ?_
        refine g_aload_n C (pc := 30) 0 rfl rfl dX1_lowerBound_30 ?_
        refine g_dup C (pc := 31) rfl dX1_lowerBound_31 ?_
        refine dg_weightCount C (pc := 32) dX1_lowerBound_32 ?_
        refine g_iconst C (pc := 35) dX1_lowerBound_35 ?_
        refine g_iadd C (pc := 36) dX1_lowerBound_36 ?_
        refine dp_weightCount C (pc := 37) dX1_lowerBound_37 ?_
        refine g_iinc C (pc := 40) [(0, .ref (a 0)), (1, .int (iI ((b : Int) + 1)))] [1, 0] 1 rfl (by decide) rfl dX1_lowerBound_40 ?_
        refine g_goto C (pc := 43) 7 (by decide) dX1_lowerBound_43 ?_
        exact ih (b + 1) _ (by omega) (by omega) (fun j hj => by
          by_cases e : j = b
          · rw [e, up_same]
          · rw [up_ne _ _ e]; exact h3 j (by omega))
  refine g_aload_n C (pc := 0) 0 rfl rfl dX1_lowerBound_0 ?_
  refine g_iconst C (pc := 1) dX1_lowerBound_1 ?_
  refine dp_weightCount C (pc := 2) dX1_lowerBound_2 ?_
  refine g_iconst C (pc := 5) dX1_lowerBound_5 ?_
  refine g_istore_n C (pc := 6) [(0, .ref (a 0)), (1, .int (iI 0))] [1, 0] rfl (by decide) rfl dX1_lowerBound_6 ?_
  exact loop1 (o + 1) 0 g12 (by omega) (by omega) (fun j hj => absurd hj (by omega))
set_option maxHeartbeats 4000000 in
set_option maxRecDepth 100000 in
/-- byFallingSizes() -/
theorem met_falling (l : Launch) (D : va_G) (cI cB : ClassId) (a : Nat → Nat) (f0 : Int) (f1 : Int) (g2 : Nat → Int) (f3 : Int) (g5 : Nat → Int) (g7 : Nat → Int) (f8 : Int) (g9 : Nat → Int) (g10 : Nat → Int) (f11 : Int) (g12 : Nat → Int) (f13 : Int) (f14 : Int) (g15 : Nat → Int) (o m : Nat) (hom : o + m ≤ 15) (hR : 0 < f3 ∧ f3 ≤ 1000) (hg : ∀ k, 0 ≤ g5 k ∧ g5 k ≤ f3) (hz : ∀ b, o ≤ b → g5 b = 0) (hr : ∀ j, j < m → 0 < g7 j ∧ g7 j ≤ f3) : MDi l yX1_byFallingSizes cX1_byFallingSizes 4 .int 0 [.ref (a 0)] D cI cB (WD a cI cB f0 f1 g2 f3 (o : Int) g5 (m : Int) g7 f8 g9 g10 f11 g12 f13 f14 g15) (fun z u => ∃ (p' : Nat → Int) (v : Nat), u = (WD a cI cB f0 f1 g2 f3 (o : Int) g5 (m : Int) g7 f8 p' g10 f11 g12 f13 f14 g15) ∧ z = v ∧ o ≤ v ∧ v ≤ o + m ∧ Cp f3 (its m g7) g5 v) := by
  refine md_i [(0, .ref (a 0))] rfl (Nat.le_of_ble_eq_true rfl) rfl ?_
  intro A G C hret
  have C : Cx l RX1 cX1_byFallingSizes 4 (rmD 0) D cI cB A 0 0 G := C
  have undo : ∀ (n j v : Nat) (g p : Nat → Int), j ≤ m → m < j + n → o ≤ v → v ≤ o + m → Cp f3 (its m g7) g5 v → (∀ t, t < m → 0 ≤ p t ∧ p t < 16) → (∀ b : Nat, b < 16 → g b = g5 b + sg m (fun t => if p t = (b : Int) then g7 t else 0) - sg j (fun t => if p t = (b : Int) then g7 t else 0)) → G [(0, .ref (a 0)), (1, .int (iI (v : Int))), (2, .int (iI (j : Int)))] (WD a cI cB f0 f1 g2 f3 (o : Int) g (m : Int) g7 f8 p g10 f11 g12 f13 f14 g15) 87 [] := by
    intro n
    induction n with
    | zero => intro j v g p h1 h2; exact absurd h2 (by omega)
    | succ n ih =>
      intro j v g p h1 h2 hv1 hv2 hcp hp hgs
      refine g_iload_n C (pc := 87) 2 rfl rfl dX1_byFallingSizes_87 ?_
      refine g_aload_n C (pc := 88) 0 rfl rfl dX1_byFallingSizes_88 ?_
      refine dg_restCount C (pc := 89) dX1_byFallingSizes_89 ?_
      refine g_icmp_ge C (pc := 92) 121 (by omega) (by omega) (by decide) dX1_byFallingSizes_92 (fun c92 => ?_) (fun c92 => ?_)
      · have hjm : j = m := by omega
        subst hjm
        refine dx_loads C g5 (fun b hb => by rw [hgs b hb]; omega) ?_
        refine g_iload_n C (pc := 121) 1 rfl rfl dX1_byFallingSizes_121 ?_
        exact hret _ _ _ _ dX1_byFallingSizes_122 rfl ⟨p, v, rfl, rfl, hv1, hv2, hcp⟩
      · have hpj := hp j (by omega)
        refine g_aload_n C (pc := 95) 0 rfl rfl dX1_byFallingSizes_95 ?_
        refine dg_loads C (pc := 96) dX1_byFallingSizes_96 ?_
        refine g_aload_n C (pc := 99) 0 rfl rfl dX1_byFallingSizes_99 ?_
        refine dg_place C (pc := 100) dX1_byFallingSizes_100 ?_
        refine g_iload_n C (pc := 103) 2 rfl rfl dX1_byFallingSizes_103 ?_
        refine dl_place C (pc := 104) j (by omega) (by omega) dX1_byFallingSizes_104 ?_
        refine g_dup2 C (pc := 105) rfl rfl dX1_byFallingSizes_105 ?_
        refine dl_loads C (pc := 106) ((p j)).toNat (by omega) (by omega) dX1_byFallingSizes_106 ?_
        refine g_aload_n C (pc := 107) 0 rfl rfl dX1_byFallingSizes_107 ?_
        refine dg_rest C (pc := 108) dX1_byFallingSizes_108 ?_
        refine g_iload_n C (pc := 111) 2 rfl rfl dX1_byFallingSizes_111 ?_
        refine dl_rest C (pc := 112) j (by omega) (by omega) dX1_byFallingSizes_112 ?_
        refine g_isub C (pc := 113) dX1_byFallingSizes_113 ?_
        refine ds_loads C (pc := 114) ((p j)).toNat (by omega) (by omega) dX1_byFallingSizes_114 ?_
        refine g_iinc C (pc := 115) [(0, .ref (a 0)), (1, .int (iI (v : Int))), (2, .int (iI ((j : Int) + 1)))] [1, 2, 0] 2 rfl (by decide) rfl dX1_byFallingSizes_115 ?_
        refine g_goto C (pc := 118) 87 (by decide) dX1_byFallingSizes_118 ?_
        exact ih (j + 1) v _ p (by omega) (by omega) hv1 hv2 hcp hp (fun b hb => by
          have hpj := hp j (by omega)
          show _ = g5 b + sg m (fun t => if p t = (b : Int) then g7 t else 0) - (sg j (fun t => if p t = (b : Int) then g7 t else 0) + (if p j = (b : Int) then g7 j else 0))
          by_cases e : p j = (b : Int)
          · have e2 : b = (p j).toNat := by omega
            rw [if_pos e, ← e2, up_same, hgs b hb]
            omega
          · rw [if_neg e, up_ne _ _ (by omega), hgs b hb]
            omega)
  have loop : ∀ (n k v : Nat) (g p : Nat → Int), k ≤ m → m < k + n → o ≤ v → v ≤ o + k → (∀ b, 0 ≤ g b ∧ g b ≤ f3) → (∀ b, v ≤ b → g b = 0) → (∀ K : Nat, v ≤ K → Cp f3 ((its m g7).drop k) g K → Cp f3 (its m g7) g5 K) → (∀ t, t < k → 0 ≤ p t ∧ p t < 16) → (∀ b : Nat, b < 16 → g b = g5 b + sg k (fun t => if p t = (b : Int) then g7 t else 0)) → G [(0, .ref (a 0)), (1, .int (iI (v : Int))), (2, .int (iI (k : Int)))] (WD a cI cB f0 f1 g2 f3 (o : Int) g (m : Int) g7 f8 p g10 f11 g12 f13 f14 g15) 7 [] := by
    intro n
    induction n with
    | zero => intro k v g p h1 h2; exact absurd h2 (by omega)
    | succ n ih =>
      intro k v g p h1 h2 hv1 hv2 i1 i2 i3 i4 i5
      refine g_iload_n C (pc := 7) 2 rfl rfl dX1_byFallingSizes_7 ?_
      refine g_aload_n C (pc := 8) 0 rfl rfl dX1_byFallingSizes_8 ?_
      refine dg_restCount C (pc := 9) dX1_byFallingSizes_9 ?_
      refine g_icmp_ge C (pc := 12) 85 (by omega) (by omega) (by decide) dX1_byFallingSizes_12 (fun c12 => ?_) (fun c12 => ?_)
      · have hkm : k = m := by omega
        subst hkm
        refine g_iconst C (pc := 85) dX1_byFallingSizes_85 ?_
        refine g_istore_n C (pc := 86) [(0, .ref (a 0)), (1, .int (iI (v : Int))), (2, .int (iI 0))] [1, 2, 0] rfl (by decide) rfl dX1_byFallingSizes_86 ?_
        exact undo (k + 1) 0 v g p (by omega) (by omega) hv1 hv2 (i3 v (Nat.le_refl v) (by rw [its_dropAll]; exact fun b _ => (i1 b).2)) i4 (fun b hb => by rw [i5 b hb]; show _ = _ - (0 : Int); omega)
      · have hrk := hr k (by omega)
        have inner : ∀ (n2 b : Nat), b ≤ v → v < b + n2 → G [(0, .ref (a 0)), (1, .int (iI (v : Int))), (2, .int (iI (k : Int))), (3, .int (iI (b : Int)))] (WD a cI cB f0 f1 g2 f3 (o : Int) g (m : Int) g7 f8 p g10 f11 g12 f13 f14 g15) 17 [] := by
          intro n2
          induction n2 with
          | zero => intro b q1 q2; exact absurd q2 (by omega)
          | succ n2 ih2 =>
            intro b q1 q2
            have hgb := i1 b
            refine g_iload_n C (pc := 17) 3 rfl rfl dX1_byFallingSizes_17 ?_
            refine g_iload_n C (pc := 18) 1 rfl rfl dX1_byFallingSizes_18 ?_
            refine g_icmp_ge C (pc := 19) 48 (by omega) (by omega) (by decide) dX1_byFallingSizes_19 (fun c19 => ?_) (fun c19 => ?_)
            · have hfit : g b + g7 k ≤ f3 := by rw [i2 b (by omega)]; omega
              refine g_aload_n C (pc := 48) 0 rfl rfl dX1_byFallingSizes_48 ?_
              refine dg_loads C (pc := 49) dX1_byFallingSizes_49 ?_
              refine g_iload_n C (pc := 52) 3 rfl rfl dX1_byFallingSizes_52 ?_
              refine g_dup2 C (pc := 53) rfl rfl dX1_byFallingSizes_53 ?_
              refine dl_loads C (pc := 54) b (by omega) (by omega) dX1_byFallingSizes_54 ?_
              refine g_aload_n C (pc := 55) 0 rfl rfl dX1_byFallingSizes_55 ?_
              refine dg_rest C (pc := 56) dX1_byFallingSizes_56 ?_
              refine g_iload_n C (pc := 59) 2 rfl rfl dX1_byFallingSizes_59 ?_
              refine dl_rest C (pc := 60) k (by omega) (by omega) dX1_byFallingSizes_60 ?_
              refine g_iadd C (pc := 61) dX1_byFallingSizes_61 ?_
              refine ds_loads C (pc := 62) b (by omega) (by omega) dX1_byFallingSizes_62 ?_
              refine g_aload_n C (pc := 63) 0 rfl rfl dX1_byFallingSizes_63 ?_
              refine dg_place C (pc := 64) dX1_byFallingSizes_64 ?_
              refine g_iload_n C (pc := 67) 2 rfl rfl dX1_byFallingSizes_67 ?_
              refine g_iload_n C (pc := 68) 3 rfl rfl dX1_byFallingSizes_68 ?_
              refine g_i2b C (pc := 69) (by omega) dX1_byFallingSizes_69 ?_
              refine ds_place C (pc := 70) k (by omega) (by omega) (by omega) dX1_byFallingSizes_70 ?_
              refine g_iload_n C (pc := 71) 3 rfl rfl dX1_byFallingSizes_71 ?_
              refine g_iload_n C (pc := 72) 1 rfl rfl dX1_byFallingSizes_72 ?_
              refine g_icmp_ne C (pc := 73) 79 (by omega) (by omega) (by decide) dX1_byFallingSizes_73 (fun c73 => ?_) (fun c73 => ?_)
              · refine g_iinc C (pc := 79) [(0, .ref (a 0)), (1, .int (iI (v : Int))), (2, .int (iI ((k : Int) + 1))), (3, .int (iI (b : Int)))] [1, 2, 0, 3] 2 rfl (by decide) rfl dX1_byFallingSizes_79 ?_
                refine g_goto C (pc := 82) 7 (by decide) dX1_byFallingSizes_82 ?_
                refine g_locals C [0, 1, 2] rfl ?_
                exact ih (k + 1) v (bump g b (g7 k)) (va_up p k (b : Int)) (by omega) (by omega) (by omega) (by omega) (bump_rg i1 (by omega) hfit) (fun c hc => by rw [bump_ne _ _ (by omega)]; exact i2 c (by omega)) (fun K hK h => i3 K (by omega) (by rw [its_drop g7 (by omega)]; exact ⟨b, by omega, h⟩)) (fall_p i4 (by omega)) (fall_s i5)
              · refine g_iinc C (pc := 76) [(0, .ref (a 0)), (1, .int (iI ((v : Int) + 1))), (2, .int (iI (k : Int))), (3, .int (iI (b : Int)))] [1, 0, 2, 3] 1 rfl (by decide) rfl dX1_byFallingSizes_76 ?_
                refine g_iinc C (pc := 79) [(0, .ref (a 0)), (1, .int (iI ((v : Int) + 1))), (2, .int (iI ((k : Int) + 1))), (3, .int (iI (b : Int)))] [1, 2, 0, 3] 2 rfl (by decide) rfl dX1_byFallingSizes_79 ?_
                refine g_goto C (pc := 82) 7 (by decide) dX1_byFallingSizes_82 ?_
                refine g_locals C [0, 1, 2] rfl ?_
                exact ih (k + 1) (v + 1) (bump g b (g7 k)) (va_up p k (b : Int)) (by omega) (by omega) (by omega) (by omega) (bump_rg i1 (by omega) hfit) (fun c hc => by rw [bump_ne _ _ (by omega)]; exact i2 c (by omega)) (fun K hK h => i3 K (by omega) (by rw [its_drop g7 (by omega)]; exact ⟨b, by omega, h⟩)) (fall_p i4 (by omega)) (fall_s i5)
            · refine g_aload_n C (pc := 22) 0 rfl rfl dX1_byFallingSizes_22 ?_
              refine dg_loads C (pc := 23) dX1_byFallingSizes_23 ?_
              refine g_iload_n C (pc := 26) 3 rfl rfl dX1_byFallingSizes_26 ?_
              refine dl_loads C (pc := 27) b (by omega) (by omega) dX1_byFallingSizes_27 ?_
              refine g_aload_n C (pc := 28) 0 rfl rfl dX1_byFallingSizes_28 ?_
              refine dg_rest C (pc := 29) dX1_byFallingSizes_29 ?_
              refine g_iload_n C (pc := 32) 2 rfl rfl dX1_byFallingSizes_32 ?_
              refine dl_rest C (pc := 33) k (by omega) (by omega) dX1_byFallingSizes_33 ?_
              refine g_iadd C (pc := 34) dX1_byFallingSizes_34 ?_
              refine g_aload_n C (pc := 35) 0 rfl rfl dX1_byFallingSizes_35 ?_
              refine dg_room C (pc := 36) dX1_byFallingSizes_36 ?_
              refine g_icmp_le C (pc := 39) 48 (by omega) (by omega) (by decide) dX1_byFallingSizes_39 (fun c39 => ?_) (fun c39 => ?_)
              · have hfit : g b + g7 k ≤ f3 := by omega
                refine g_aload_n C (pc := 48) 0 rfl rfl dX1_byFallingSizes_48 ?_
                refine dg_loads C (pc := 49) dX1_byFallingSizes_49 ?_
                refine g_iload_n C (pc := 52) 3 rfl rfl dX1_byFallingSizes_52 ?_
                refine g_dup2 C (pc := 53) rfl rfl dX1_byFallingSizes_53 ?_
                refine dl_loads C (pc := 54) b (by omega) (by omega) dX1_byFallingSizes_54 ?_
                refine g_aload_n C (pc := 55) 0 rfl rfl dX1_byFallingSizes_55 ?_
                refine dg_rest C (pc := 56) dX1_byFallingSizes_56 ?_
                refine g_iload_n C (pc := 59) 2 rfl rfl dX1_byFallingSizes_59 ?_
                refine dl_rest C (pc := 60) k (by omega) (by omega) dX1_byFallingSizes_60 ?_
                refine g_iadd C (pc := 61) dX1_byFallingSizes_61 ?_
                refine ds_loads C (pc := 62) b (by omega) (by omega) dX1_byFallingSizes_62 ?_
                refine g_aload_n C (pc := 63) 0 rfl rfl dX1_byFallingSizes_63 ?_
                refine dg_place C (pc := 64) dX1_byFallingSizes_64 ?_
                refine g_iload_n C (pc := 67) 2 rfl rfl dX1_byFallingSizes_67 ?_
                refine g_iload_n C (pc := 68) 3 rfl rfl dX1_byFallingSizes_68 ?_
                refine g_i2b C (pc := 69) (by omega) dX1_byFallingSizes_69 ?_
                refine ds_place C (pc := 70) k (by omega) (by omega) (by omega) dX1_byFallingSizes_70 ?_
                refine g_iload_n C (pc := 71) 3 rfl rfl dX1_byFallingSizes_71 ?_
                refine g_iload_n C (pc := 72) 1 rfl rfl dX1_byFallingSizes_72 ?_
                refine g_icmp_ne C (pc := 73) 79 (by omega) (by omega) (by decide) dX1_byFallingSizes_73 (fun c73 => ?_) (fun c73 => ?_)
                · refine g_iinc C (pc := 79) [(0, .ref (a 0)), (1, .int (iI (v : Int))), (2, .int (iI ((k : Int) + 1))), (3, .int (iI (b : Int)))] [1, 2, 0, 3] 2 rfl (by decide) rfl dX1_byFallingSizes_79 ?_
                  refine g_goto C (pc := 82) 7 (by decide) dX1_byFallingSizes_82 ?_
                  refine g_locals C [0, 1, 2] rfl ?_
                  exact ih (k + 1) v (bump g b (g7 k)) (va_up p k (b : Int)) (by omega) (by omega) (by omega) (by omega) (bump_rg i1 (by omega) hfit) (fun c hc => by rw [bump_ne _ _ (by omega)]; exact i2 c (by omega)) (fun K hK h => i3 K (by omega) (by rw [its_drop g7 (by omega)]; exact ⟨b, by omega, h⟩)) (fall_p i4 (by omega)) (fall_s i5)
                · refine g_iinc C (pc := 76) [(0, .ref (a 0)), (1, .int (iI ((v : Int) + 1))), (2, .int (iI (k : Int))), (3, .int (iI (b : Int)))] [1, 0, 2, 3] 1 rfl (by decide) rfl dX1_byFallingSizes_76 ?_
                  refine g_iinc C (pc := 79) [(0, .ref (a 0)), (1, .int (iI ((v : Int) + 1))), (2, .int (iI ((k : Int) + 1))), (3, .int (iI (b : Int)))] [1, 2, 0, 3] 2 rfl (by decide) rfl dX1_byFallingSizes_79 ?_
                  refine g_goto C (pc := 82) 7 (by decide) dX1_byFallingSizes_82 ?_
                  refine g_locals C [0, 1, 2] rfl ?_
                  exact ih (k + 1) (v + 1) (bump g b (g7 k)) (va_up p k (b : Int)) (by omega) (by omega) (by omega) (by omega) (bump_rg i1 (by omega) hfit) (fun c hc => by rw [bump_ne _ _ (by omega)]; exact i2 c (by omega)) (fun K hK h => i3 K (by omega) (by rw [its_drop g7 (by omega)]; exact ⟨b, by omega, h⟩)) (fall_p i4 (by omega)) (fall_s i5)
              · refine g_iinc C (pc := 42) [(0, .ref (a 0)), (1, .int (iI (v : Int))), (2, .int (iI (k : Int))), (3, .int (iI ((b : Int) + 1)))] [1, 2, 3, 0] 3 rfl (by decide) rfl dX1_byFallingSizes_42 ?_
                refine g_goto C (pc := 45) 17 (by decide) dX1_byFallingSizes_45 ?_
                exact ih2 (b + 1) (by omega) (by omega)
        refine g_iconst C (pc := 15) dX1_byFallingSizes_15 ?_
        refine g_istore_n C (pc := 16) [(0, .ref (a 0)), (1, .int (iI (v : Int))), (2, .int (iI (k : Int))), (3, .int (iI 0))] [1, 2, 3, 0] rfl (by decide) rfl dX1_byFallingSizes_16 ?_
        exact inner (v + 1) 0 (by omega) (by omega)
  refine g_aload_n C (pc := 0) 0 rfl rfl dX1_byFallingSizes_0 ?_
  refine dg_opened C (pc := 1) dX1_byFallingSizes_1 ?_
  refine g_istore_n C (pc := 4) [(0, .ref (a 0)), (1, .int (iI (o : Int)))] [1, 0] rfl (by decide) rfl dX1_byFallingSizes_4 ?_
  refine g_iconst C (pc := 5) dX1_byFallingSizes_5 ?_
  refine g_istore_n C (pc := 6) [(0, .ref (a 0)), (1, .int (iI (o : Int))), (2, .int (iI 0))] [1, 2, 0] rfl (by decide) rfl dX1_byFallingSizes_6 ?_
  exact loop (m + 1) 0 o g5 g9 (by omega) (by omega) (by omega) (by omega) hg hz (fun K _ h => h) (fun t ht => absurd ht (by omega)) (fun b _ => by show g5 b = g5 b + 0; omega)
end
section
/-- the least number of bins for the items t, o bins open with l in them -/
def Opt (R : Int) (t : List Int) (l : Nat → Int) (o : Nat) (z : Int) : Prop := (∃ K : Nat, z = K ∧ o ≤ K ∧ Cp R t l K) ∧ ∀ k : Nat, o ≤ k → Cp R t l k → z ≤ k
set_option maxHeartbeats 4000000 in
set_option maxRecDepth 100000 in
/-- search() -/
theorem met_search (l : Launch) (D : va_G) (cI cB : ClassId) (a : Nat → Nat) (f0 : Int) (f1 : Int) (g2 : Nat → Int) (f3 : Int) (g5 : Nat → Int) (g7 : Nat → Int) (f8 : Int) (g9 : Nat → Int) (g10 : Nat → Int) (f11 : Int) (g12 : Nat → Int) (f13 : Int) (f14 : Int) (g15 : Nat → Int) (o m : Nat) (hm : 0 < m) (hom : o + m ≤ 9) (hR : 0 < f3 ∧ f3 ≤ 1000) (hg : ∀ k, 0 ≤ g5 k ∧ g5 k ≤ f3) (hz : ∀ b, o ≤ b → g5 b = 0) (hr : ∀ j, j < m → 0 < g7 j ∧ g7 j ≤ f3) (hB : 0 ≤ f8 ∧ f8 ≤ 100) : MDv l yX1_search cX1_search 6 2 [.ref (a 0)] D cI cB (WD a cI cB f0 f1 g2 f3 (o : Int) g5 (m : Int) g7 f8 g9 g10 f11 g12 f13 f14 g15) (fun u => ∃ (B' : Int) (p' q' : Nat → Int), u = (WD a cI cB f0 f1 g2 f3 (o : Int) g5 (m : Int) g7 B' p' q' f11 g12 f13 f14 g15) ∧ (B' = f8 ∨ Fz f3 m g7 g5 o B') ∧ ∀ k : Nat, o ≤ k → Cp f3 (its m g7) g5 k → B' ≤ k) := by
  refine md_v [(0, .ref (a 0))] rfl (Nat.le_of_ble_eq_true rfl) rfl ?_
  intro A G C hret
  have C : Cx l RX1 cX1_search 6 (rmD 2) D cI cB A 0 0 G := C
  have hstep : StepH f3 m g7 (fun L p q g B n => G [(0, .ref (a 0)), (1, .int (iI L)), (2, .int (iI n))] (WD a cI cB f0 f1 g2 f3 (o : Int) g (m : Int) g7 B p q f11 g12 f13 f14 g15) 22 [] : ST) := by
    intro L fr o1 p q g g' B n hL hfr hoL hgr hgr' hz' hB' hn hpL hqL hgg hk
    have hrL := hr L hL
    have j61 : G [(0, .ref (a 0)), (1, .int (iI (L : Int))), (2, .int (iI n))] (WD a cI cB f0 f1 g2 f3 (o : Int) g' (m : Int) g7 B p q f11 g12 f13 f14 g15) 61 [] := by
      refine g_aload_n C (pc := 61) 0 rfl rfl dX1_search_61 ?_
      refine dg_openAt C (pc := 62) dX1_search_62 ?_
      refine g_iload_n C (pc := 65) 1 rfl rfl dX1_search_65 ?_
      refine dl_openAt C (pc := 66) L (by omega) (by omega) dX1_search_66 ?_
      refine g_top C (y := (o1 : Int)) (hqL) ?_
      refine g_istore_n C (pc := 67) [(0, .ref (a 0)), (1, .int (iI (L : Int))), (2, .int (iI n)), (3, .int (iI (o1 : Int)))] [1, 2, 3, 0] rfl (by decide) rfl dX1_search_67 ?_
      refine g_aload_n C (pc := 68) 0 rfl rfl dX1_search_68 ?_
      refine g_iload_n C (pc := 69) 1 rfl rfl dX1_search_69 ?_
      refine g_aload_n C (pc := 70) 0 rfl rfl dX1_search_70 ?_
      refine dg_place C (pc := 71) dX1_search_71 ?_
      refine g_iload_n C (pc := 74) 1 rfl rfl dX1_search_74 ?_
      refine dl_place C (pc := 75) L (by omega) (by omega) dX1_search_75 ?_
      refine g_top C (y := ((fr : Int) - 1)) (hpL) ?_
      refine g_iconst C (pc := 76) dX1_search_76 ?_
      refine g_iadd C (pc := 77) dX1_search_77 ?_
      refine g_top C (y := (fr : Int)) (by omega) ?_
      refine g_iload_n C (pc := 78) 3 rfl rfl dX1_search_78 ?_
      refine g_calli C (pc := 79) (n := 3) [] [.int (iI (L : Int)), .int (iI (fr : Int)), .int (iI (o1 : Int))] (met_nextBin l D cI cB a f0 f1 g2 f3 (o : Int) g' (m : Int) g7 B p q f11 g12 f13 f14 g15 L fr o1 (by omega) (by omega) (by omega) (fun k => by have h5 := hgr' k; omega) (by omega) (by omega) (by omega)) (lw_V q165 q167 qs11 q24 q168) (by decide +kernel) (by decide) (by decide) rfl 0 0 rfl rfl rfl (Nat.le_of_ble_eq_true rfl) dX1_search_79 (fun z u hu => ?_)
      obtain ⟨rfl, hNB⟩ := hu
      have hzr : -1 ≤ z ∧ z ≤ o1 := by
        rcases hNB with ⟨b, h5, _, h6, _⟩ | ⟨_, ⟨h5, _⟩ | ⟨h5, _⟩⟩ <;> omega
      have hkz := hk z hNB
      refine g_istore C (pc := 82) [(0, .ref (a 0)), (1, .int (iI (L : Int))), (2, .int (iI n)), (3, .int (iI (o1 : Int))), (4, .int (iI z))] [1, 2, 3, 4, 0] (by decide) rfl dX1_search_82 ?_
      refine g_aload_n C (pc := 84) 0 rfl rfl dX1_search_84 ?_
      refine dg_place C (pc := 85) dX1_search_85 ?_
      refine g_iload_n C (pc := 88) 1 rfl rfl dX1_search_88 ?_
      refine g_iload C (pc := 89) 4 rfl dX1_search_89 ?_
      refine g_i2b C (pc := 91) (by omega) dX1_search_91 ?_
      refine ds_place C (pc := 92) L (by omega) (by omega) (by omega) dX1_search_92 ?_
      refine g_iload C (pc := 93) 4 rfl dX1_search_93 ?_
      refine g_if_ge C (pc := 95) 104 (by omega) (by decide) dX1_search_95 (fun c95 => ?_) (fun c95 => ?_)
      · obtain ⟨b, hb⟩ : ∃ b : Nat, z = (b : Int) := ⟨z.toNat, by omega⟩
        subst hb
        have hkb := hkz.2 b rfl
        refine g_aload_n C (pc := 104) 0 rfl rfl dX1_search_104 ?_
        refine dg_loads C (pc := 105) dX1_search_105 ?_
        refine g_iload C (pc := 108) 4 rfl dX1_search_108 ?_
        refine g_dup2 C (pc := 110) rfl rfl dX1_search_110 ?_
        refine dl_loads C (pc := 111) b (by omega) (by omega) dX1_search_111 ?_
        refine g_aload_n C (pc := 112) 0 rfl rfl dX1_search_112 ?_
        refine dg_rest C (pc := 113) dX1_search_113 ?_
        refine g_iload_n C (pc := 116) 1 rfl rfl dX1_search_116 ?_
        refine dl_rest C (pc := 117) L (by omega) (by omega) dX1_search_117 ?_
        refine g_iadd C (pc := 118) dX1_search_118 ?_
        refine ds_loads C (pc := 119) b (by omega) (by omega) dX1_search_119 ?_
        obtain ⟨w, hw⟩ : ∃ w : Nat, w = if b = o1 then o1 + 1 else o1 := ⟨_, rfl⟩
        have hw2 : w ≤ o1 + 1 := by rw [hw]; split <;> omega
        rw [← hw] at hkb
        have j133 : G [(0, .ref (a 0)), (1, .int (iI (L : Int))), (2, .int (iI n)), (3, .int (iI (o1 : Int))), (4, .int (iI (b : Int)))] (WD a cI cB f0 f1 g2 f3 (o : Int) (bump g' b (g7 L)) (m : Int) g7 B (va_up p L (b : Int)) q f11 g12 f13 f14 g15) 133 [.int (iI (w : Int))] := by
          refine g_istore C (pc := 133) [(0, .ref (a 0)), (1, .int (iI (L : Int))), (2, .int (iI n)), (3, .int (iI (o1 : Int))), (4, .int (iI (b : Int))), (5, .int (iI (w : Int)))] [1, 2, 3, 4, 5, 0] (by decide) rfl dX1_search_133 ?_
          refine g_iload_n C (pc := 135) 1 rfl rfl dX1_search_135 ?_
          refine g_aload_n C (pc := 136) 0 rfl rfl dX1_search_136 ?_
          refine dg_restCount C (pc := 137) dX1_search_137 ?_
          refine g_iconst C (pc := 140) dX1_search_140 ?_
          refine g_isub C (pc := 141) dX1_search_141 ?_
          refine g_icmp_ne C (pc := 142) 154 (by omega) (by omega) (by decide) dX1_search_142 (fun c142 => ?_) (fun c142 => ?_)
          · refine g_aload_n C (pc := 154) 0 rfl rfl dX1_search_154 ?_
            refine g_iload_n C (pc := 155) 1 rfl rfl dX1_search_155 ?_
            refine g_iconst C (pc := 156) dX1_search_156 ?_
            refine g_iadd C (pc := 157) dX1_search_157 ?_
            refine g_top C (y := ((L + 1 : Nat) : Int)) (by omega) ?_
            refine g_iload C (pc := 158) 5 rfl dX1_search_158 ?_
            have hbr : g' b + g7 L ≤ f3 := by
              rcases hNB with ⟨b2, h5, _, h6, h7, _⟩ | ⟨_, ⟨h5, _, _⟩ | ⟨h5, _⟩⟩
              · have e : b2 = b := by omega
                rw [← e]; exact h7.2.1
              · rw [hz' b (by omega)]; omega
              · omega
            have hgb := bump_rg hgr' (show 0 ≤ g7 L by omega) hbr
            have hwz : ∀ c, w ≤ c → bump g' b (g7 L) c = 0 := fun c hc => by
              have h5 : b ≤ o1 := by omega
              by_cases e : b = o1
              · rw [if_pos e] at hw; rw [bump_ne _ _ (by omega)]; exact hz' c (by omega)
              · rw [if_neg e] at hw; rw [bump_ne _ _ (by omega)]; exact hz' c (by omega)
            refine g_calli C (pc := 160) (n := 2) [] [.int (iI ((L + 1 : Nat) : Int)), .int (iI (w : Int))] (met_hopeful l D cI cB a f0 f1 g2 f3 (o : Int) (bump g' b (g7 L)) g7 B (va_up p L (b : Int)) q f11 g12 f13 f14 g15 (L + 1) m w (by omega) (by omega) (by omega) hR (fun k => by have h5 := hgb k; omega) (fun k hk2 => by have h5 := hr k hk2; omega) hwz (by omega)) (lw_V q173 q175 qs13 q24 q176) (by decide +kernel) (by decide) (by decide) rfl 0 0 rfl rfl rfl (Nat.le_of_ble_eq_true rfl) dX1_search_160 (fun z u hu => ?_)
            obtain ⟨rfl, hho⟩ := hu
            have hz2 : 0 ≤ z ∧ z ≤ 1 := by rcases hho with h | ⟨h, _⟩ <;> omega
            refine g_if_eq C (pc := 163) 185 (by omega) (by decide) dX1_search_163 (fun c163 => ?_) (fun c163 => ?_)
            · refine g_iinc C (pc := 185) [(0, .ref (a 0)), (1, .int (iI (L : Int))), (2, .int (iI (n + 1))), (3, .int (iI (o1 : Int))), (4, .int (iI (b : Int))), (5, .int (iI (w : Int)))] [1, 2, 0, 3, 4, 5] 2 rfl (by decide) rfl dX1_search_185 ?_
              refine g_goto C (pc := 188) 22 (by decide) dX1_search_188 ?_
              refine g_locals C [0, 1, 2] rfl ?_
              refine (hkb.2 (by omega)).2 ?_
              rcases hho with h | ⟨_, h⟩
              · omega
              · exact h
            · refine g_iinc C (pc := 166) [(0, .ref (a 0)), (1, .int (iI ((L : Int) + 1))), (2, .int (iI n)), (3, .int (iI (o1 : Int))), (4, .int (iI (b : Int))), (5, .int (iI (w : Int)))] [1, 0, 2, 3, 4, 5] 1 rfl (by decide) rfl dX1_search_166 ?_
              refine g_aload_n C (pc := 169) 0 rfl rfl dX1_search_169 ?_
              refine dg_place C (pc := 170) dX1_search_170 ?_
              refine g_iload_n C (pc := 173) 1 rfl rfl dX1_search_173 ?_
              refine g_iconst C (pc := 174) dX1_search_174 ?_
              refine ds_place C (pc := 175) (L + 1) (by omega) (by omega) (by omega) dX1_search_175 ?_
              refine g_aload_n C (pc := 176) 0 rfl rfl dX1_search_176 ?_
              refine dg_openAt C (pc := 177) dX1_search_177 ?_
              refine g_iload_n C (pc := 180) 1 rfl rfl dX1_search_180 ?_
              refine g_iload C (pc := 181) 5 rfl dX1_search_181 ?_
              refine g_i2b C (pc := 183) (by omega) dX1_search_183 ?_
              refine ds_openAt C (pc := 184) (L + 1) (by omega) (by omega) (by omega) dX1_search_184 ?_
              refine g_iinc C (pc := 185) [(0, .ref (a 0)), (1, .int (iI ((L : Int) + 1))), (2, .int (iI (n + 1))), (3, .int (iI (o1 : Int))), (4, .int (iI (b : Int))), (5, .int (iI (w : Int)))] [1, 2, 0, 3, 4, 5] 2 rfl (by decide) rfl dX1_search_185 ?_
              refine g_goto C (pc := 188) 22 (by decide) dX1_search_188 ?_
              refine g_locals C [0, 1, 2] rfl ?_
              exact (hkb.2 (by omega)).1
          · refine g_aload_n C (pc := 145) 0 rfl rfl dX1_search_145 ?_
            refine g_iload C (pc := 146) 5 rfl dX1_search_146 ?_
            refine dp_best C (pc := 148) dX1_search_148 ?_
            refine g_goto C (pc := 151) 185 (by decide) dX1_search_151 ?_
            refine g_iinc C (pc := 185) [(0, .ref (a 0)), (1, .int (iI (L : Int))), (2, .int (iI (n + 1))), (3, .int (iI (o1 : Int))), (4, .int (iI (b : Int))), (5, .int (iI (w : Int)))] [1, 2, 0, 3, 4, 5] 2 rfl (by decide) rfl dX1_search_185 ?_
            refine g_goto C (pc := 188) 22 (by decide) dX1_search_188 ?_
            refine g_locals C [0, 1, 2] rfl ?_
            exact hkb.1 (by omega)
        refine g_iload C (pc := 120) 4 rfl dX1_search_120 ?_
        refine g_iload_n C (pc := 122) 3 rfl rfl dX1_search_122 ?_
        refine g_icmp_ne C (pc := 123) 132 (by omega) (by omega) (by decide) dX1_search_123 (fun c123 => ?_) (fun c123 => ?_)
        · refine g_iload_n C (pc := 132) 3 rfl rfl dX1_search_132 ?_
          refine g_top C (y := (w : Int)) (by rw [hw, if_neg (by omega)]) ?_
          exact j133
        · refine g_iload_n C (pc := 126) 3 rfl rfl dX1_search_126 ?_
          refine g_iconst C (pc := 127) dX1_search_127 ?_
          refine g_iadd C (pc := 128) dX1_search_128 ?_
          refine g_goto C (pc := 129) 133 (by decide) dX1_search_129 ?_
          refine g_top C (y := (w : Int)) (by rw [hw, if_pos (by omega)]; omega) ?_
          exact j133
      · have hzm : z = -1 := by omega
        subst hzm
        refine g_iinc C (pc := 98) [(0, .ref (a 0)), (1, .int (iI ((L : Int) + (-1)))), (2, .int (iI n)), (3, .int (iI (o1 : Int))), (4, .int (iI (-1)))] [1, 0, 2, 3, 4] 1 rfl (by decide) rfl dX1_search_98 ?_
        refine g_goto C (pc := 101) 185 (by decide) dX1_search_101 ?_
        refine g_iinc C (pc := 185) [(0, .ref (a 0)), (1, .int (iI ((L : Int) + (-1)))), (2, .int (iI (n + 1))), (3, .int (iI (o1 : Int))), (4, .int (iI (-1)))] [1, 2, 0, 3, 4] 2 rfl (by decide) rfl dX1_search_185 ?_
        refine g_goto C (pc := 188) 22 (by decide) dX1_search_188 ?_
        refine g_locals C [0, 1, 2] rfl ?_
        have e1 : (L : Int) + (-1) = (L : Int) - 1 := by omega
        rw [e1]
        exact hkz.1 rfl
    show G [(0, .ref (a 0)), (1, .int (iI (L : Int))), (2, .int (iI n))] (WD a cI cB f0 f1 g2 f3 (o : Int) g (m : Int) g7 B p q f11 g12 f13 f14 g15) 22 []
    refine g_iload_n C (pc := 22) 2 rfl rfl dX1_search_22 ?_
    refine g_ldc C (pc := 23) (n := 65536) q164 rfl dX1_search_23 ?_
    refine g_icmp_ge C (pc := 25) 191 (by omega) (by omega) (by decide) dX1_search_25 (fun c25 => ?_) (fun c25 => ?_)
    · exact absurd c25 (by omega)
    · refine g_iload_n C (pc := 28) 1 rfl rfl dX1_search_28 ?_
      refine g_if_lt C (pc := 29) 191 (by omega) (by decide) dX1_search_29 (fun c29 => ?_) (fun c29 => ?_)
      · exact absurd c29 (by omega)
      · refine g_aload_n C (pc := 32) 0 rfl rfl dX1_search_32 ?_
        refine dg_place C (pc := 33) dX1_search_33 ?_
        refine g_iload_n C (pc := 36) 1 rfl rfl dX1_search_36 ?_
        refine dl_place C (pc := 37) L (by omega) (by omega) dX1_search_37 ?_
        refine g_top C (y := ((fr : Int) - 1)) (hpL) ?_
        refine g_if_lt C (pc := 38) 61 (by omega) (by decide) dX1_search_38 (fun c38 => ?_) (fun c38 => ?_)
        · rcases hgg with ⟨_, e⟩ | ⟨h5, _⟩
          · rw [e]; exact j61
          · omega
        · refine g_aload_n C (pc := 41) 0 rfl rfl dX1_search_41 ?_
          refine dg_loads C (pc := 42) dX1_search_42 ?_
          refine g_aload_n C (pc := 45) 0 rfl rfl dX1_search_45 ?_
          refine dg_place C (pc := 46) dX1_search_46 ?_
          refine g_iload_n C (pc := 49) 1 rfl rfl dX1_search_49 ?_
          refine dl_place C (pc := 50) L (by omega) (by omega) dX1_search_50 ?_
          refine g_top C (y := ((fr : Int) - 1)) (hpL) ?_
          refine g_dup2 C (pc := 51) rfl rfl dX1_search_51 ?_
          refine dl_loads C (pc := 52) (fr - 1) (by omega) (by omega) dX1_search_52 ?_
          refine g_aload_n C (pc := 53) 0 rfl rfl dX1_search_53 ?_
          refine dg_rest C (pc := 54) dX1_search_54 ?_
          refine g_iload_n C (pc := 57) 1 rfl rfl dX1_search_57 ?_
          refine dl_rest C (pc := 58) L (by omega) (by omega) dX1_search_58 ?_
          refine g_isub C (pc := 59) dX1_search_59 ?_
          refine ds_loads C (pc := 60) (fr - 1) (by omega) (by omega) dX1_search_60 ?_
          rcases hgg with ⟨h5, _⟩ | ⟨_, e⟩
          · omega
          · have e2 : va_up g (fr - 1) (g (fr - 1) - g7 L) = g' := by rw [e]; exact bump_back _ _ _
            rw [e2]; exact j61
  refine g_iconst C (pc := 0) dX1_search_0 ?_
  refine g_istore_n C (pc := 1) [(0, .ref (a 0)), (1, .int (iI 0))] [1, 0] rfl (by decide) rfl dX1_search_1 ?_
  refine g_aload_n C (pc := 2) 0 rfl rfl dX1_search_2 ?_
  refine dg_place C (pc := 3) dX1_search_3 ?_
  refine g_iconst C (pc := 6) dX1_search_6 ?_
  refine g_iconst C (pc := 7) dX1_search_7 ?_
  refine ds_place C (pc := 8) 0 (by omega) (by omega) (by omega) dX1_search_8 ?_
  refine g_aload_n C (pc := 9) 0 rfl rfl dX1_search_9 ?_
  refine dg_openAt C (pc := 10) dX1_search_10 ?_
  refine g_iconst C (pc := 13) dX1_search_13 ?_
  refine g_aload_n C (pc := 14) 0 rfl rfl dX1_search_14 ?_
  refine dg_opened C (pc := 15) dX1_search_15 ?_
  refine g_i2b C (pc := 18) (by omega) dX1_search_18 ?_
  refine ds_openAt C (pc := 19) 0 (by omega) (by omega) (by omega) dX1_search_19 ?_
  refine g_iconst C (pc := 20) dX1_search_20 ?_
  refine g_istore_n C (pc := 21) [(0, .ref (a 0)), (1, .int (iI 0)), (2, .int (iI 0))] [1, 2, 0] rfl (by decide) rfl dX1_search_21 ?_
  refine search_all (S := (fun L p q g B n => G [(0, .ref (a 0)), (1, .int (iI L)), (2, .int (iI n))] (WD a cI cB f0 f1 g2 f3 (o : Int) g (m : Int) g7 B p q f11 g12 f13 f14 g15) 22 [] : ST)) hm hom hr hg hz hstep _ _ f8 (up_same _ _ _) (up_same _ _ _) hB ?_
  intro p' q' B' n' hBF hall hn'
  show G [(0, .ref (a 0)), (1, .int (iI (-1))), (2, .int (iI n'))] (WD a cI cB f0 f1 g2 f3 (o : Int) g5 (m : Int) g7 B' p' q' f11 g12 f13 f14 g15) 22 []
  refine g_iload_n C (pc := 22) 2 rfl rfl dX1_search_22 ?_
  refine g_ldc C (pc := 23) (n := 65536) q164 rfl dX1_search_23 ?_
  refine g_icmp_ge C (pc := 25) 191 (by omega) (by omega) (by decide) dX1_search_25 (fun c25 => ?_) (fun c25 => ?_)
  · exact hret _ _ _ dX1_search_191 ⟨B', p', q', rfl, hBF, hall⟩
  · refine g_iload_n C (pc := 28) 1 rfl rfl dX1_search_28 ?_
    refine g_if_lt C (pc := 29) 191 (by omega) (by decide) dX1_search_29 (fun c29 => ?_) (fun c29 => ?_)
    · exact hret _ _ _ dX1_search_191 ⟨B', p', q', rfl, hBF, hall⟩
    · exact absurd c29 (by omega)
set_option maxHeartbeats 4000000 in
set_option maxRecDepth 100000 in
/-- solve() -/
theorem met_solve (l : Launch) (D : va_G) (cI cB : ClassId) (a : Nat → Nat) (f0 : Int) (f1 : Int) (g2 : Nat → Int) (f3 : Int) (g5 : Nat → Int) (g7 : Nat → Int) (f8 : Int) (g9 : Nat → Int) (g10 : Nat → Int) (f11 : Int) (g12 : Nat → Int) (f13 : Int) (f14 : Int) (g15 : Nat → Int) (o m : Nat) (hom : o + m ≤ 9) (hR : 0 < f3 ∧ f3 ≤ 1000) (hg : ∀ k, 0 ≤ g5 k ∧ g5 k ≤ f3) (hz : ∀ b, o ≤ b → g5 b = 0) (hr : ∀ j, j < m → 0 < g7 j ∧ g7 j ≤ f3) : MDi l yX1_solve cX1_solve 2 .int 3 [.ref (a 0)] D cI cB (WD a cI cB f0 f1 g2 f3 (o : Int) g5 (m : Int) g7 f8 g9 g10 f11 g12 f13 f14 g15) (fun z u => ∃ (B' : Int) (p' q' : Nat → Int) (c' : Int) (w' : Nat → Int), u = (WD a cI cB f0 f1 g2 f3 (o : Int) g5 (m : Int) g7 B' p' q' c' w' f13 f14 g15) ∧ Opt f3 (its m g7) g5 o z) := by
  refine md_i [(0, .ref (a 0))] rfl (Nat.le_of_ble_eq_true rfl) rfl ?_
  intro A G C hret
  have C : Cx l RX1 cX1_solve 2 (rmD 3) D cI cB A 0 0 G := C
  refine g_aload_n C (pc := 0) 0 rfl rfl dX1_solve_0 ?_
  refine dg_restCount C (pc := 1) dX1_solve_1 ?_
  refine g_if_ne C (pc := 4) 12 (by omega) (by decide) dX1_solve_4 (fun c4 => ?_) (fun c4 => ?_)
  · refine g_aload_n C (pc := 12) 0 rfl rfl dX1_solve_12 ?_
    refine g_aload_n C (pc := 13) 0 rfl rfl dX1_solve_13 ?_
    refine g_calli C (pc := 14) (n := 0) [.ref (a 0)] [] (met_falling l D cI cB a f0 f1 g2 f3 g5 g7 f8 g9 g10 f11 g12 f13 f14 g15 o m (by omega) hR hg hz hr) (lw_V q145 q147 qs7 q24 q148) (by decide +kernel) (by decide) (by decide) rfl 0 0 rfl rfl rfl (Nat.le_of_ble_eq_true rfl) dX1_solve_14 (fun z u hu => ?_)
    obtain ⟨p1, v, rfl, hzv, hv1, hv2, hcv⟩ := hu
    subst hzv
    refine dp_best C (pc := 17) dX1_solve_17 ?_
    refine g_aload_n C (pc := 20) 0 rfl rfl dX1_solve_20 ?_
    refine g_calli C (pc := 21) (n := 0) [] [] (met_lowerBound l D cI cB a f0 f1 g2 f3 g5 g7 (v : Int) p1 g10 f11 g12 f13 f14 g15 o m (by omega) hR hg hz (fun j hj => by have h5 := hr j hj; omega)) (lw_V q149 q151 qs8 q24 q152) (by decide +kernel) (by decide) (by decide) rfl 0 0 rfl rfl rfl (Nat.le_of_ble_eq_true rfl) dX1_solve_21 (fun z u hu => ?_)
    obtain ⟨c1, w1, rfl, hzr, hlb⟩ := hu
    refine g_istore_n C (pc := 24) [(0, .ref (a 0)), (1, .int (iI z))] [1, 0] rfl (by decide) rfl dX1_solve_24 ?_
    refine g_aload_n C (pc := 25) 0 rfl rfl dX1_solve_25 ?_
    refine dg_best C (pc := 26) dX1_solve_26 ?_
    refine g_iload_n C (pc := 29) 1 rfl rfl dX1_solve_29 ?_
    refine g_icmp_le C (pc := 30) 37 (by omega) (by omega) (by decide) dX1_solve_30 (fun c30 => ?_) (fun c30 => ?_)
    · refine g_aload_n C (pc := 37) 0 rfl rfl dX1_solve_37 ?_
      refine dg_best C (pc := 38) dX1_solve_38 ?_
      exact hret _ _ _ _ dX1_solve_41 rfl ⟨_, _, _, _, _, rfl, ⟨v, rfl, hv1, hcv⟩, fun k hk hc => by have h5 := hlb k hk hc; omega⟩
    · refine g_aload_n C (pc := 33) 0 rfl rfl dX1_solve_33 ?_
      refine g_callv C (pc := 34) (n := 0) [] [] (met_search l D cI cB a f0 f1 g2 f3 g5 g7 (v : Int) p1 g10 c1 w1 f13 f14 g15 o m (by omega) hom hR hg hz hr (by omega)) (lw_V q160 q162 qs10 q24 q163) (by decide +kernel) (by decide) (by decide) rfl 0 0 rfl rfl rfl (Nat.le_of_ble_eq_true rfl) dX1_solve_34 (fun u hu => ?_)
      obtain ⟨B2, p2, q2, rfl, hBF, hall⟩ := hu
      refine g_aload_n C (pc := 37) 0 rfl rfl dX1_solve_37 ?_
      refine dg_best C (pc := 38) dX1_solve_38 ?_
      refine hret _ _ _ _ dX1_solve_41 rfl ⟨_, _, _, _, _, rfl, ?_, hall⟩
      rcases hBF with h | h
      · rw [h]; exact ⟨v, rfl, hv1, hcv⟩
      · exact h
  · refine g_aload_n C (pc := 7) 0 rfl rfl dX1_solve_7 ?_
    refine dg_opened C (pc := 8) dX1_solve_8 ?_
    have hm0 : m = 0 := by omega
    subst hm0
    exact hret _ _ _ _ dX1_solve_11 rfl ⟨_, _, _, _, _, rfl, ⟨o, rfl, Nat.le_refl o, fun b _ => (hg b).2⟩, fun k hk _ => by omega⟩
end
section
/-! packings as functions: f j is the bin of item j -/
def ld (n : Nat) (f : Nat → Nat) (s : Nat → Int) : Nat → Int := fun b => sg n (fun j => if f j = b then s j else 0)
/-- how many bins the first k items take, if none is left out -/
def mx : Nat → (Nat → Nat) → Nat
  | 0, _ => 0
  | k + 1, f => if mx k f ≤ f k then f k + 1 else mx k f
/-- a neat packing: a bin is opened when all before it are -/
def Rgs (n : Nat) (f : Nat → Nat) : Prop := ∀ j, j < n → f j ≤ mx j f
theorem ld_0 (f : Nat → Nat) (s : Nat → Int) : ld 0 f s = fun _ => 0 := rfl
theorem ld_succ (n : Nat) (f : Nat → Nat) (s : Nat → Int) : ld (n + 1) f s = bump (ld n f s) (f n) (s n) := by
  funext b
  show sg n (fun j => if f j = b then s j else 0) + (if f n = b then s n else 0) = _
  by_cases e : b = f n
  · subst e
    rw [bump_same, if_pos rfl]
    rfl
  · rw [bump_ne _ _ e, if_neg (fun h => e h.symm)]
    show _ = sg n (fun j => if f j = b then s j else 0)
    omega
theorem ld_ext {n : Nat} {f g : Nat → Nat} (s : Nat → Int) (h : ∀ j, j < n → f j = g j) : ld n f s = ld n g s := by
  funext b
  exact sg_ext (fun j hj => by rw [h j hj])
theorem mx_ext {k : Nat} {f g : Nat → Nat} (h : ∀ j, j < k → f j = g j) : mx k f = mx k g := by
  induction k with
  | zero => rfl
  | succ k ih =>
    show (if mx k f ≤ f k then f k + 1 else mx k f) = (if mx k g ≤ g k then g k + 1 else mx k g)
    rw [ih (fun j hj => h j (by omega)), h k (by omega)]
theorem mx_step (k : Nat) (f : Nat → Nat) : mx k f ≤ mx (k + 1) f ∧ f k < mx (k + 1) f ∧ (mx (k + 1) f = mx k f ∨ mx (k + 1) f = f k + 1) := by
  show mx k f ≤ (if mx k f ≤ f k then f k + 1 else mx k f) ∧ f k < (if mx k f ≤ f k then f k + 1 else mx k f) ∧ ((if mx k f ≤ f k then f k + 1 else mx k f) = mx k f ∨ (if mx k f ≤ f k then f k + 1 else mx k f) = f k + 1)
  split <;> omega
theorem mx_mono {j k : Nat} (f : Nat → Nat) (h : j ≤ k) : mx j f ≤ mx k f := by
  induction k with
  | zero => have : j = 0 := by omega
            subst this; exact Nat.le_refl _
  | succ k ih =>
    by_cases e : j = k + 1
    · subst e; exact Nat.le_refl _
    · have h1 := ih (by omega)
      have h2 := mx_step k f
      omega
theorem mx_gt {j k : Nat} (f : Nat → Nat) (h : j < k) : f j < mx k f := by
  have h1 := mx_mono f (show j + 1 ≤ k from h)
  have h2 := mx_step j f
  omega
theorem mx_le {k K : Nat} {f : Nat → Nat} (h : ∀ j, j < k → f j < K) : mx k f ≤ K := by
  induction k with
  | zero => exact Nat.zero_le _
  | succ k ih =>
    have h1 := ih (fun j hj => h j (by omega))
    have h2 := h k (by omega)
    have h3 := mx_step k f
    omega
theorem mx_len {n : Nat} {f : Nat → Nat} (h : Rgs n f) : mx n f ≤ n := by
  induction n with
  | zero => exact Nat.le_refl _
  | succ n ih =>
    have h1 := ih (fun j hj => h j (by omega))
    have h2 := h n (by omega)
    have h3 := mx_step n f
    omega
theorem mx_used {n : Nat} {f : Nat → Nat} (h : Rgs n f) : ∀ b, b < mx n f → ∃ j, j < n ∧ f j = b := by
  induction n with
  | zero => intro b hb; exact absurd hb (Nat.not_lt_zero b)
  | succ n ih =>
    intro b hb
    have h3 := mx_step n f
    have h2 := h n (by omega)
    by_cases e : b = f n
    · exact ⟨n, by omega, e.symm⟩
    · obtain ⟨j, h4, h5⟩ := ih (fun j hj => h j (by omega)) b (by omega)
      exact ⟨j, by omega, h5⟩
theorem ld_nonneg {n : Nat} {f : Nat → Nat} {s : Nat → Int} (h : ∀ j, j < n → 0 ≤ s j) (b : Nat) : 0 ≤ ld n f s b := by
  unfold ld
  induction n with
  | zero => exact Int.le_refl 0
  | succ n ih =>
    have h1 := ih (fun j hj => h j (by omega))
    have h2 := h n (by omega)
    show 0 ≤ sg n _ + (if f n = b then s n else 0)
    split <;> omega
theorem ld_ge {n j : Nat} {f : Nat → Nat} {s : Nat → Int} (h : ∀ j, j < n → 0 ≤ s j) (hj : j < n) : s j ≤ ld n f s (f j) := by
  induction n with
  | zero => omega
  | succ n ih =>
    rw [ld_succ]
    by_cases e : j = n
    · subst e
      rw [bump_same]
      have h1 := ld_nonneg (n := j) (f := f) (s := s) (fun i hi => h i (by omega)) (f j)
      omega
    · have h1 := ih (fun i hi => h i (by omega)) (by omega)
      have h2 := h n (by omega)
      by_cases e2 : f j = f n
      · rw [e2] at h1 ⊢; rw [bump_same]; omega
      · rw [bump_ne _ _ e2]; exact h1
theorem ld_out {n b : Nat} {f : Nat → Nat} (s : Nat → Int) (h : ∀ j, j < n → f j ≠ b) : ld n f s b = 0 := by
  unfold ld
  induction n with
  | zero => rfl
  | succ n ih =>
    show sg n _ + (if f n = b then s n else 0) = 0
    rw [ih (fun j hj => h j (by omega)), if_neg (h n (by omega))]
    rfl
/-- a packing is a way to put the items in, from any place on -/
theorem Cp_of_asg {R : Int} {n K : Nat} {f : Nat → Nat} {s : Nat → Int} (hK : ∀ j, j < n → f j < K) (hf : ∀ b, b < K → ld n f s b ≤ R) : ∀ t k, k + t = n → Cp R ((its n s).drop k) (ld k f s) K := by
  intro t
  induction t with
  | zero =>
    intro k hk
    have e : k = n := by omega
    subst e
    rw [its_dropAll]
    exact hf
  | succ t ih =>
    intro k hk
    rw [its_drop s (by omega)]
    refine ⟨f k, hK k (by omega), ?_⟩
    rw [← ld_succ]
    exact ih (k + 1) (by omega)
theorem Cp_asg {R : Int} {n K : Nat} {s : Nat → Int} : ∀ (t k : Nat) (f : Nat → Nat), k + t = n → Cp R ((its n s).drop k) (ld k f s) K → ∃ f' : Nat → Nat, (∀ j, j < k → f' j = f j) ∧ (∀ j, k ≤ j → j < n → f' j < K) ∧ ∀ b, b < K → ld n f' s b ≤ R := by
  intro t
  induction t with
  | zero =>
    intro k f hk h
    have e : k = n := by omega
    subst e
    rw [its_dropAll] at h
    exact ⟨f, fun _ _ => rfl, fun j h1 h2 => absurd h2 (by omega), h⟩
  | succ t ih =>
    intro k f hk h
    rw [its_drop s (by omega)] at h
    obtain ⟨b, hb, h⟩ := h
    have e : bump (ld k f s) b (s k) = ld (k + 1) (va_up f k b) s := by
      rw [ld_succ, up_same, ld_ext (f := va_up f k b) (g := f) s (fun j hj => up_ne _ _ (by omega))]
    rw [e] at h
    obtain ⟨f', h1, h2, h3⟩ := ih (k + 1) (va_up f k b) (by omega) h
    refine ⟨f', fun j hj => ?_, fun j hj1 hj2 => ?_, h3⟩
    · rw [h1 j (by omega), up_ne _ _ (by omega)]
    · by_cases e2 : j = k
      · subst e2; rw [h1 j (by omega), up_same]; exact hb
      · exact h2 j (by omega) hj2
theorem Cp_iff {R : Int} {n K : Nat} {s : Nat → Int} : Cp R (its n s) (fun _ => 0) K ↔ ∃ f : Nat → Nat, (∀ j, j < n → f j < K) ∧ ∀ b, b < K → ld n f s b ≤ R := by
  constructor
  · intro h
    obtain ⟨f, _, h2, h3⟩ := Cp_asg (R := R) (n := n) (K := K) (s := s) n 0 (fun _ => 0) (by omega) h
    exact ⟨f, fun j hj => h2 j (by omega) hj, h3⟩
  · rintro ⟨f, h1, h2⟩
    exact Cp_of_asg h1 h2 n 0 (by omega)
/-- every packing is a neat one, but for the numbers of its bins -/
theorem norm {K : Nat} (f : Nat → Nat) : ∀ n, (∀ j, j < n → f j < K) → ∃ π π' : Nat → Nat, (∀ b, b < K → π b < K ∧ π' b < K ∧ π' (π b) = b ∧ π (π' b) = b) ∧ Rgs n (fun j => π (f j)) := by
  intro n
  induction n with
  | zero => intro _; exact ⟨id, id, fun b hb => ⟨hb, hb, rfl, rfl⟩, fun j hj => absurd hj (Nat.not_lt_zero j)⟩
  | succ n ih =>
    intro hK
    obtain ⟨π, π', hp, hr⟩ := ih (fun j hj => hK j (by omega))
    have hn := hK n (by omega)
    by_cases hc : π (f n) ≤ mx n (fun j => π (f j))
    · refine ⟨π, π', hp, fun j hj => ?_⟩
      by_cases e : j = n
      · subst e; exact hc
      · exact hr j (by omega)
    · have hc1 := hp (f n) hn
      have ho : mx n (fun j => π (f j)) < K := by omega
      generalize hcc : π (f n) = c at hc hc1
      generalize hoo : mx n (fun j => π (f j)) = o at hc ho
      have hfix : ∀ j, j < n → sw c o (π (f j)) = π (f j) := fun j hj => by
        have h1 := mx_gt (fun j => π (f j)) hj
        rw [hoo] at h1
        have h1 : π (f j) < o := h1
        unfold sw
        rw [if_neg (by omega), if_neg (by omega)]
      refine ⟨fun b => sw c o (π b), fun b => π' (sw c o b), fun b hb => ?_, fun j hj => ?_⟩
      · have h1 := hp b hb
        have h2 := sw_lt (b := c) (c := o) (k := K) hc1.1 ho hb
        have h3 := hp _ h2
        refine ⟨sw_lt hc1.1 ho h1.1, h3.2.1, ?_, ?_⟩
        · show π' (sw c o (sw c o (π b))) = b
          rw [sw_sw]; exact h1.2.2.1
        · show sw c o (π (π' (sw c o b))) = b
          rw [h3.2.2.2, sw_sw]
      · have e1 : mx j (fun j => sw c o (π (f j))) = mx j (fun j => π (f j)) := mx_ext (fun i hi => hfix i (by omega))
        show sw c o (π (f j)) ≤ mx j (fun j => sw c o (π (f j)))
        rw [e1]
        by_cases e : j = n
        · subst e
          rw [hcc, hoo]
          unfold sw
          rw [if_pos rfl]
          exact Nat.le_refl _
        · rw [hfix j (by omega)]; exact hr j (by omega)
theorem ld_norm {K n : Nat} {f π π' : Nat → Nat} (s : Nat → Int) (hK : ∀ j, j < n → f j < K) (hp : ∀ b, b < K → π b < K ∧ π' b < K ∧ π' (π b) = b ∧ π (π' b) = b) {b : Nat} (hb : b < K) : ld n (fun j => π (f j)) s (π b) = ld n f s b := by
  refine sg_ext (fun j hj => ?_)
  show (if π (f j) = π b then s j else 0) = (if f j = b then s j else 0)
  by_cases e : f j = b
  · rw [if_pos e, if_pos (by rw [e])]
  · rw [if_neg e, if_neg (fun h => e (by rw [← (hp _ (hK j hj)).2.2.1, h, (hp b hb).2.2.1]))]
/-- a neat packing out of any, with what it keeps -/
theorem neat {R : Int} {n K : Nat} {s : Nat → Int} {f : Nat → Nat} (hK : ∀ j, j < n → f j < K) (hf : ∀ b, b < K → ld n f s b ≤ R) : ∃ g : Nat → Nat, Rgs n g ∧ mx n g ≤ K ∧ (∀ b, b < K → ld n g s b ≤ R) ∧ (∀ i j, i < n → j < n → f i = f j → g i = g j) ∧ (∀ b, b < K → ∃ c, c < K ∧ ld n g s c = ld n f s b) := by
  obtain ⟨π, π', hp, hr⟩ := norm f n hK
  refine ⟨fun j => π (f j), hr, mx_le (fun j hj => (hp _ (hK j hj)).1), fun b hb => ?_, fun i j _ _ e => by show π (f i) = π (f j); rw [e], fun b hb => ⟨π b, (hp b hb).1, ld_norm s hK hp hb⟩⟩
  have h1 := hp b hb
  rw [← h1.2.2.2, ld_norm s hK hp h1.2.1]
  exact hf _ h1.2.1
/-- the least count, by neat packings -/
theorem opt_rgs {R z : Int} {n : Nat} {s : Nat → Int} (h1 : ∃ g : Nat → Nat, Rgs n g ∧ (∀ b, b < mx n g → ld n g s b ≤ R) ∧ z = mx n g) (h2 : ∀ g : Nat → Nat, Rgs n g → (∀ b, b < mx n g → ld n g s b ≤ R) → z ≤ mx n g) : Opt R (its n s) (fun _ => 0) 0 z := by
  obtain ⟨g, g1, g2, g3⟩ := h1
  refine ⟨⟨mx n g, g3, Nat.zero_le _, Cp_iff.mpr ⟨g, fun j hj => mx_gt g hj, g2⟩⟩, fun k _ hc => ?_⟩
  obtain ⟨f, f1, f2⟩ := Cp_iff.mp hc
  obtain ⟨g', k1, k2, k3, _⟩ := neat f1 f2
  have h3 := h2 g' k1 (fun b hb => k3 b (by omega))
  omega
theorem opt_uniq {R z z' : Int} {t : List Int} {l : Nat → Int} {o : Nat} (h : Opt R t l o z) (h' : Opt R t l o z') : z = z' := by
  obtain ⟨⟨K, e, hk, hc⟩, hm⟩ := h
  obtain ⟨⟨K', e', hk', hc'⟩, hm'⟩ := h'
  have h1 := hm K' hk' hc'
  have h2 := hm' K hk hc
  omega
theorem opt_perm {R z : Int} {t t' : List Int} {l : Nat → Int} {o : Nat} (hp : t.Perm t') (h : Opt R t l o z) : Opt R t' l o z := by
  obtain ⟨⟨K, e, hk, hc⟩, hm⟩ := h
  exact ⟨⟨K, e, hk, Cp_perm hp hc⟩, fun k hk hc => hm k hk (Cp_perm hp.symm hc)⟩
theorem opt_neat {R : Int} {n K : Nat} {s : Nat → Int} (h : Opt R (its n s) (fun _ => 0) 0 (K : Int)) {g : Nat → Nat} (hK : ∀ j, j < n → g j < K) (hf : ∀ b, b < K → ld n g s b ≤ R) (hm : mx n g ≤ K) : mx n g = K := by
  have h1 := h.2 (mx n g) (Nat.zero_le _) (Cp_iff.mpr ⟨g, fun j hj => mx_gt g hj, fun b hb => hf b (by omega)⟩)
  omega
/-! the packings in the order of the dictionary -/
def lexf (n : Nat) (f g : Nat → Nat) : Prop := ∃ k, k < n ∧ (∀ j, j < k → f j = g j) ∧ f k < g k
theorem lex_tri (n : Nat) (f g : Nat → Nat) : (∀ j, j < n → f j = g j) ∨ lexf n f g ∨ lexf n g f := by
  induction n with
  | zero => exact Or.inl (fun j hj => absurd hj (Nat.not_lt_zero j))
  | succ n ih =>
    rcases ih with h | ⟨k, h1, h2, h3⟩ | ⟨k, h1, h2, h3⟩
    · rcases Nat.lt_trichotomy (f n) (g n) with e | e | e
      · exact Or.inr (Or.inl ⟨n, by omega, h, e⟩)
      · refine Or.inl (fun j hj => ?_)
        by_cases q : j = n
        · subst q; exact e
        · exact h j (by omega)
      · exact Or.inr (Or.inr ⟨n, by omega, fun j hj => (h j hj).symm, e⟩)
    · exact Or.inr (Or.inl ⟨k, by omega, h2, h3⟩)
    · exact Or.inr (Or.inr ⟨k, by omega, h2, h3⟩)
theorem lex_trans {n : Nat} {f g h : Nat → Nat} (h1 : lexf n f g) (h2 : lexf n g h) : lexf n f h := by
  obtain ⟨k, a1, a2, a3⟩ := h1
  obtain ⟨q, b1, b2, b3⟩ := h2
  rcases Nat.lt_trichotomy k q with e | e | e
  · exact ⟨k, a1, fun j hj => (a2 j hj).trans (b2 j (by omega)), by rw [← b2 k e]; exact a3⟩
  · subst e; exact ⟨k, a1, fun j hj => (a2 j hj).trans (b2 j hj), by omega⟩
  · exact ⟨q, b1, fun j hj => (a2 j (by omega)).trans (b2 j hj), by rw [a2 q e]; exact b3⟩
theorem lex_irr {n : Nat} {f g : Nat → Nat} (e : ∀ j, j < n → f j = g j) : ¬ lexf n f g := by
  rintro ⟨k, h1, _, h3⟩
  have := e k h1
  omega
theorem lex_l {n : Nat} {f f' g : Nat → Nat} (e : ∀ j, j < n → f j = f' j) (h : lexf n f g) : lexf n f' g := by
  obtain ⟨k, a1, a2, a3⟩ := h
  exact ⟨k, a1, fun j hj => by rw [← e j (by omega)]; exact a2 j hj, by rw [← e k a1]; exact a3⟩
/-- the next neat packing: at k one more, zeros behind it -/
def NXT (n : Nat) (f f' : Nat → Nat) : Prop := ∃ k, 0 < k ∧ k < n ∧ f k < mx k f ∧ (∀ j, k < j → j < n → ¬ f j < mx j f) ∧ (∀ j, j < k → f' j = f j) ∧ f' k = f k + 1 ∧ ∀ j, k < j → j < n → f' j = 0
def LAST (n : Nat) (f : Nat → Nat) : Prop := ∀ k, 0 < k → k < n → ¬ f k < mx k f
theorem nxt_rgs {n : Nat} {f f' : Nat → Nat} (h : Rgs n f) (hn : NXT n f f') : Rgs n f' := by
  obtain ⟨k, h0, hk, h1, h2, h3, h4, h5⟩ := hn
  intro j hj
  rcases Nat.lt_trichotomy j k with e | e | e
  · rw [h3 j e, mx_ext (g := f) (fun i hi => h3 i (by omega))]; exact h j hj
  · subst e
    rw [h4, mx_ext (g := f) (fun i hi => h3 i (by omega))]; exact h1
  · rw [h5 j e hj]; exact Nat.zero_le _
theorem nxt_lex {n : Nat} {f f' : Nat → Nat} (hn : NXT n f f') : lexf n f f' := by
  obtain ⟨k, h0, hk, h1, h2, h3, h4, h5⟩ := hn
  exact ⟨k, hk, fun j hj => (h3 j hj).symm, by omega⟩
theorem nxt_no {n : Nat} {f f' g : Nat → Nat} (hg : Rgs n g) (hn : NXT n f f') (hl : lexf n g f') : (∀ j, j < n → g j = f j) ∨ lexf n g f := by
  rcases lex_tri n g f with e | e | e
  · exact Or.inl e
  · exact Or.inr e
  · exfalso
    obtain ⟨k, h0, hk, h1, h2, h3, h4, h5⟩ := hn
    obtain ⟨q, q1, q2, q3⟩ := e
    obtain ⟨u, u1, u2, u3⟩ := hl
    have hgq := hg q q1
    rw [← mx_ext (f := f) (g := g) q2] at hgq
    have hqk : q ≤ k := by
      rcases Nat.lt_or_ge k q with x | x
      · exact absurd (Nat.lt_of_lt_of_le q3 hgq) (h2 q x q1)
      · exact x
    rcases Nat.lt_trichotomy u k with x | x | x
    · rw [h3 u x] at u3
      rcases Nat.lt_trichotomy u q with y | y | y
      · have := q2 u y; omega
      · subst y; omega
      · have h6 := u2 q y
        rw [h3 q (by omega)] at h6
        omega
    · subst x
      rw [h4] at u3
      rcases Nat.lt_or_ge q u with y | y
      · have h6 := u2 q y
        rw [h3 q y] at h6
        omega
      · have : q = u := by omega
        subst this; omega
    · rw [h5 u x u1] at u3; omega
theorem last_no {n : Nat} {f g : Nat → Nat} (hg : Rgs n g) (hn : LAST n f) : (∀ j, j < n → g j = f j) ∨ lexf n g f := by
  rcases lex_tri n g f with e | e | e
  · exact Or.inl e
  · exact Or.inr e
  · exfalso
    obtain ⟨q, q1, q2, q3⟩ := e
    have hgq := hg q q1
    rw [← mx_ext (f := f) (g := g) q2] at hgq
    have h0 : 0 < q := by
      rcases Nat.eq_zero_or_pos q with x | x
      · subst x
        have : mx 0 f = 0 := rfl
        omega
      · exact x
    exact hn q h0 q1 (by omega)
theorem first_no {n : Nat} {f g : Nat → Nat} (hf : ∀ j, j < n → f j = 0) : ¬ lexf n g f := by
  rintro ⟨k, h1, _, h3⟩
  rw [hf k h1] at h3
  omega
/-- all neat packings, and how many are before one -/
def allS : Nat → Nat → List (List Nat)
  | 0, _ => [[]]
  | t + 1, o => (List.range (o + 1)).flatMap (fun b => (allS t (if b = o then o + 1 else o)).map (fun y => b :: y))
theorem allS_mem {f : Nat → Nat} : ∀ t k, (∀ j, k ≤ j → j < k + t → f j ≤ mx j f) → its t (fun j => f (k + j)) ∈ allS t (mx k f) := by
  intro t
  induction t with
  | zero => intro k _; exact List.mem_cons_self
  | succ t ih =>
    intro k h
    have h1 := h k (by omega) (by omega)
    have h2 := ih (k + 1) (fun j h3 h4 => h j (by omega) (by omega))
    have e : mx (k + 1) f = if f k = mx k f then mx k f + 1 else mx k f := by
      show (if mx k f ≤ f k then f k + 1 else mx k f) = _
      by_cases q : f k = mx k f
      · rw [if_pos (by omega), if_pos q, q]
      · rw [if_neg (by omega), if_neg q]
    rw [e] at h2
    rw [its_cons]
    refine List.mem_flatMap.mpr ⟨f k, List.mem_range.mpr (by omega), List.mem_map.mpr ⟨_, h2, ?_⟩⟩
    show f k :: its t (fun j => f (k + 1 + j)) = f (k + 0) :: its t (fun j => f (k + (j + 1)))
    rw [Nat.add_zero]
    congr 1
    exact its_ext (fun j _ => by congr 1; omega)
theorem allS_len : ∀ n, n < 9 → (allS n 0).length ≤ 4140 := by decide +kernel
theorem cP_lt {α : Type} {l : List α} {p q : α → Bool} {x : α} (hx : x ∈ l) (hp : p x = false) (hq : q x = true) (h : ∀ y, p y = true → q y = true) : l.countP p < l.countP q := by
  induction l with
  | nil => cases hx
  | cons a l ih =>
    rw [List.countP_cons, List.countP_cons]
    have mono : l.countP p ≤ l.countP q := List.countP_mono_left (fun y _ hy => h y hy)
    rcases List.mem_cons.mp hx with e | e
    · subst e; rw [hp, hq]; simp; omega
    · have h1 := ih e
      have ha := h a
      cases hpa : p a <;> cases hqa : q a <;> simp [hpa, hqa] at ha ⊢ <;> omega
theorem its_getD {α : Type} {n j : Nat} (f : Nat → α) (d : α) (h : j < n) : (its n f).getD j d = f j := by
  unfold its
  simp [h]
noncomputable def lexd (n : Nat) (f : Nat → Nat) (y : List Nat) : Bool := @decide (lexf n (fun j => y.getD j 0) f) (Classical.propDecidable _)
theorem lexd_t {n : Nat} {f : Nat → Nat} {y : List Nat} : lexd n f y = true ↔ lexf n (fun j => y.getD j 0) f := @decide_eq_true_iff _ (Classical.propDecidable _)
theorem lexd_f {n : Nat} {f : Nat → Nat} {y : List Nat} (h : ¬ lexf n (fun j => y.getD j 0) f) : lexd n f y = false := @decide_eq_false _ (Classical.propDecidable _) h
noncomputable def rankf (n : Nat) (f : Nat → Nat) : Nat := (allS n 0).countP (lexd n f)
theorem its_in {n : Nat} {f : Nat → Nat} (hf : Rgs n f) : its n f ∈ allS n 0 := by
  have h := allS_mem (f := f) n 0 (fun j _ h => hf j (by omega))
  have e : its n (fun j => f (0 + j)) = its n f := its_ext (fun j _ => by rw [Nat.zero_add])
  rw [e] at h
  exact h
theorem rank_lt {n : Nat} {f f' : Nat → Nat} (hf : Rgs n f) (h : lexf n f f') : rankf n f < rankf n f' := by
  have e : ∀ j, j < n → (its n f).getD j 0 = f j := fun j hj => its_getD f 0 hj
  refine cP_lt (its_in hf) ?_ ?_ (fun y hy => ?_)
  · exact lexd_f (lex_irr e)
  · exact lexd_t.mpr (lex_l (fun j hj => (e j hj).symm) h)
  · exact lexd_t.mpr (lex_trans (lexd_t.mp hy) h)
theorem rank_ok {n : Nat} {f : Nat → Nat} (hf : Rgs n f) (hn : n < 9) : rankf n f < 4140 := by
  have e : ∀ j, j < n → (its n f).getD j 0 = f j := fun j hj => its_getD f 0 hj
  have h1 := cP_lt (q := fun _ => true) (its_in hf) (lexd_f (f := f) (lex_irr e)) rfl (fun _ _ => rfl)
  rw [List.countP_true] at h1
  have h2 := allS_len n hn
  show (allS n 0).countP _ < 4140
  omega
end
section
/-! the first packing: PKp: the first k items as the desk puts them; LXM: the model's -/
def PKp (R : Int) (n : Nat) (s : Nat → Int) (K : Nat) (f : Nat → Nat) (k : Nat) : Prop :=
  Rgs k f ∧ (∀ j, j < k → ∀ b, b < f j → ¬ Cp R ((its n s).drop (j + 1)) (bump (ld j f s) b (s j)) K) ∧ mx k f ≤ K ∧ Cp R ((its n s).drop k) (ld k f s) K
def LXM (R : Int) (n : Nat) (s : Nat → Int) (K : Nat) (f : Nat → Nat) : Prop :=
  Rgs n f ∧ mx n f = K ∧ (∀ b, b < K → ld n f s b ≤ R) ∧ ∀ g : Nat → Nat, Rgs n g → mx n g = K → (∀ b, b < K → ld n g s b ≤ R) → ¬ lexf n g f
theorem pkp_0 {R : Int} {n K : Nat} {s : Nat → Int} (f : Nat → Nat) (h : Cp R (its n s) (fun _ => 0) K) : PKp R n s K f 0 := ⟨fun j hj => absurd hj (Nat.not_lt_zero j), fun j hj => absurd hj (Nat.not_lt_zero j), Nat.zero_le _, h⟩
theorem pkp_ext {R : Int} {n K k : Nat} {s : Nat → Int} {f g : Nat → Nat} (hk : k ≤ n) (e : ∀ j, j < k → f j = g j) (h : PKp R n s K f k) : PKp R n s K g k := by
  obtain ⟨h1, h2, h3, h4⟩ := h
  refine ⟨fun j hj => ?_, fun j hj b hb => ?_, ?_, ?_⟩
  · rw [← e j hj, ← mx_ext (f := f) (fun i hi => e i (by omega))]; exact h1 j hj
  · rw [← ld_ext (f := f) s (fun i hi => e i (by omega))]
    exact h2 j hj b (by rw [e j hj]; exact hb)
  · rw [← mx_ext (f := f) (fun i hi => e i (by omega))]; exact h3
  · rw [← ld_ext (f := f) s (fun i hi => e i (by omega))]; exact h4
theorem pkp_step {R : Int} {n K k b : Nat} {s : Nat → Int} {f : Nat → Nat} (hk : k < n) (h : PKp R n s K f k) (hb : b ≤ mx k f) (hno : ∀ c, c < b → ¬ Cp R ((its n s).drop (k + 1)) (bump (ld k f s) c (s k)) K) (hbK : b < K) (hyes : Cp R ((its n s).drop (k + 1)) (bump (ld k f s) b (s k)) K) : PKp R n s K (va_up f k b) (k + 1) := by
  obtain ⟨h1, h2, h3, h4⟩ := h
  have e : ∀ j, j < k → va_up f k b j = f j := fun j hj => up_ne _ _ (by omega)
  refine ⟨fun j hj => ?_, fun j hj c hc => ?_, ?_, ?_⟩
  · by_cases q : j = k
    · subst q
      rw [up_same, mx_ext (g := f) e]; exact hb
    · rw [e j (by omega), mx_ext (g := f) (fun i hi => e i (by omega))]; exact h1 j (by omega)
  · by_cases q : j = k
    · subst q
      rw [up_same] at hc
      rw [ld_ext (g := f) s e]; exact hno c hc
    · rw [e j (by omega)] at hc
      rw [ld_ext (g := f) s (fun i hi => e i (by omega))]; exact h2 j (by omega) c hc
  · have h5 := mx_step k (va_up f k b)
    rw [mx_ext (f := va_up f k b) (g := f) e, up_same] at h5
    omega
  · rw [ld_succ, up_same, ld_ext (g := f) s e]; exact hyes
/-- both are the same packing -/
theorem first_same {R : Int} {n K : Nat} {s : Nat → Int} {f g : Nat → Nat} (ho : Opt R (its n s) (fun _ => 0) 0 (K : Int)) (hf : PKp R n s K f n) (hg : LXM R n s K g) : ∀ j, j < n → f j = g j := by
  obtain ⟨f1, f2, f3, f4⟩ := hf
  obtain ⟨g1, g2, g3, g4⟩ := hg
  rw [its_dropAll] at f4
  have fK : ∀ j, j < n → f j < K := fun j hj => by have := mx_gt f hj; omega
  have fm := opt_neat ho fK f4 f3
  rcases lex_tri n f g with e | e | ⟨k, e1, e2, e3⟩
  · exact e
  · exact absurd e (g4 f f1 fm f4)
  · exfalso
    refine f2 k e1 (g k) e3 ?_
    have h1 := Cp_of_asg (f := g) (fun j hj => by have := mx_gt g hj; omega) g3 (n - (k + 1)) (k + 1) (by omega)
    rw [ld_succ, ld_ext (f := g) (g := f) s e2] at h1
    exact h1
/-! masks: the k-th item of the set p, and how many are before i -/
def it (p k : Nat) : Nat := ((List.range 8).filter (fun j => p.testBit j)).getD k 0
def rk (p i : Nat) : Nat := ((List.range i).filter (fun j => p.testBit j)).length
theorem rk_0 (p : Nat) : rk p 0 = 0 := rfl
theorem rk_yes {p i : Nat} (h : p.testBit i = true) : rk p (i + 1) = rk p i + 1 := by
  unfold rk
  rw [List.range_succ, List.filter_append, List.length_append, List.filter_cons, h]
  rfl
theorem rk_no {p i : Nat} (h : p.testBit i = false) : rk p (i + 1) = rk p i := by
  unfold rk
  rw [List.range_succ, List.filter_append, List.length_append, List.filter_cons, h]
  rfl
theorem rk_mono {p i j : Nat} (h : i ≤ j) : rk p i ≤ rk p j := by
  induction j with
  | zero => have : i = 0 := by omega
            subst this; exact Nat.le_refl _
  | succ j ih =>
    by_cases e : i = j + 1
    · subst e; exact Nat.le_refl _
    · have h1 := ih (by omega)
      cases hb : p.testBit j with
      | true => rw [rk_yes hb]; omega
      | false => rw [rk_no hb]; omega
theorem rk_le (p i : Nat) : rk p i ≤ i := by
  induction i with
  | zero => exact Nat.le_refl _
  | succ i ih =>
    cases hb : p.testBit i with
    | true => rw [rk_yes hb]; omega
    | false => rw [rk_no hb]; omega
theorem range8 {i : Nat} (h : i ≤ 8) : List.range 8 = List.range i ++ (List.range (8 - i)).map (fun t => i + t) := by
  have e := its_split (m := 8) (k := i) (fun j => j) h
  unfold its at e
  rw [List.map_id', List.map_id'] at e
  exact e
theorem it_rk {p i : Nat} (hi : i < 8) (h : p.testBit i = true) : it p (rk p i) = i := by
  unfold it rk
  rw [range8 (show i + 1 ≤ 8 by omega), List.range_succ, List.filter_append, List.filter_append, List.filter_cons, h]
  simp
/-- a sum over the set's items by their places, and by their order -/
theorem sg_rank {p : Nat} (F : Nat → Nat → Int) : ∀ i, i ≤ 8 → sg i (fun x => if p.testBit x = true then F x (rk p x) else 0) = sg (rk p i) (fun k => F (it p k) k) := by
  intro i
  induction i with
  | zero => intro _; rfl
  | succ i ih =>
    intro hi
    show sg i _ + (if p.testBit i = true then F i (rk p i) else 0) = _
    rw [ih (by omega)]
    cases hb : p.testBit i with
    | true =>
      rw [rk_yes hb, if_pos rfl]
      show _ = sg (rk p i) _ + F (it p (rk p i)) (rk p i)
      rw [it_rk (by omega) hb]
    | false =>
      rw [rk_no hb, if_neg (by decide)]
      omega
theorem its_sel {p : Nat} (g : Nat → Int) : ∀ i, i ≤ 8 → sel p i g = its (rk p i) (fun k => g (it p k)) := by
  intro i
  induction i with
  | zero => intro _; rfl
  | succ i ih =>
    intro hi
    cases hb : p.testBit i with
    | true => rw [sel_succ hb, rk_yes hb, its_succ, ih (by omega), it_rk (by omega) hb]
    | false => rw [sel_no hb, rk_no hb, ih (by omega)]
theorem it_of {p : Nat} : ∀ i, i ≤ 8 → ∀ k, k < rk p i → ∃ x, x < i ∧ p.testBit x = true ∧ rk p x = k ∧ it p k = x := by
  intro i
  induction i with
  | zero => intro _ k hk; exact absurd hk (Nat.not_lt_zero k)
  | succ i ih =>
    intro hi k hk
    cases hb : p.testBit i with
    | true =>
      rw [rk_yes hb] at hk
      by_cases e : k = rk p i
      · exact ⟨i, by omega, hb, e.symm, by rw [e]; exact it_rk (by omega) hb⟩
      · obtain ⟨x, h1, h2, h3, h4⟩ := ih (by omega) k (by omega)
        exact ⟨x, by omega, h2, h3, h4⟩
    | false =>
      rw [rk_no hb] at hk
      obtain ⟨x, h1, h2, h3, h4⟩ := ih (by omega) k hk
      exact ⟨x, by omega, h2, h3, h4⟩
theorem rk_lt {p i : Nat} (hi : i < 8) (h : p.testBit i = true) : rk p i < rk p 8 := by
  have h1 := rk_yes h
  have h2 := rk_mono (p := p) (show i + 1 ≤ 8 by omega)
  omega
/-- the set's items behind i -/
theorem sel_after {p q i : Nat} (hi : i < 8) (g : Nat → Int) (hq : ∀ x, x < 8 → q.testBit x = (p.testBit x && decide (i < x))) : sel q 8 g = (sel p 8 g).drop (rk p (i + 1)) := by
  have e1 : ∀ r : Nat, sel r 8 g = sel r (i + 1) g ++ (((List.range (8 - (i + 1))).map (fun t => (i + 1) + t)).filter (fun j => r.testBit j)).map g := fun r => by
    unfold sel
    rw [range8 (show i + 1 ≤ 8 by omega), List.filter_append, List.map_append]
  have e2 : sel q (i + 1) g = [] := by
    unfold sel
    rw [List.filter_eq_nil_iff.mpr (fun x hx => ?_), List.map_nil]
    have h1 := List.mem_range.mp hx
    rw [hq x (by omega), decide_eq_false (by omega)]
    simp
  rw [e1 q, e1 p, e2, List.nil_append]
  have e3 : (sel p (i + 1) g).length = rk p (i + 1) := by unfold sel rk; rw [List.length_map]
  rw [← e3, List.drop_left]
  congr 1
  refine List.filter_congr (fun x hx => ?_)
  obtain ⟨t, h1, h2⟩ := List.mem_map.mp hx
  have h3 := List.mem_range.mp h1
  rw [hq x (by omega), decide_eq_true (by omega)]
  simp
end
section
/-! what the desk holds, and what pack leaves -/
def SzOk (R : Int) (p : Nat) (g : Nat → Int) : Prop := (1 ≤ R ∧ R ≤ 60) ∧ p < 256 ∧ (∀ k, 0 ≤ g k ∧ g k ≤ 60) ∧ ∀ k, k < 8 → p.testBit k = true → 1 ≤ g k ∧ g k ≤ R
def PkS (R : Int) (p : Nat) (g : Nat → Int) (c : Int) (h : Nat → Int) : Prop := ∃ (K : Nat) (f : Nat → Nat), c = K ∧ K ≤ 8 ∧ Opt R (sel p 8 g) (fun _ => 0) 0 (K : Int) ∧ PKp R (rk p 8) (fun k => g (it p k)) K f (rk p 8) ∧ ∀ x, x < 8 → p.testBit x = true → h x = f (rk p x)
def PkI (R : Int) (p : Nat) (g : Nat → Int) (d c : Int) (h : Nat → Int) : Prop := d = 0 ∨ (d = 1 ∧ PkS R p g c h)
theorem has01 {b : Bool} {z : Int} (h : z = if b then 1 else 0) : (z = 1 ∧ b = true) ∨ (z = 0 ∧ b = false) := by
  cases b with
  | true => exact Or.inl ⟨h, rfl⟩
  | false => exact Or.inr ⟨h, rfl⟩
theorem tb_mod (p i x : Nat) : (p % 2 ^ i).testBit x = (decide (x < i) && p.testBit x) := Nat.testBit_mod_two_pow p i x
theorem mod_or {p i : Nat} (h : p.testBit i = true) : (p % 2 ^ i) ||| 2 ^ i = p % 2 ^ (i + 1) := by
  apply Nat.eq_of_testBit_eq
  intro x
  rw [Nat.testBit_or, tb_mod, tb_mod, tb_pow]
  rcases Nat.lt_trichotomy x i with e | e | e
  · rw [decide_eq_true e, decide_eq_true (show x < i + 1 by omega), decide_eq_false (show ¬ i = x by omega)]; simp
  · subst e; rw [h]; simp
  · rw [decide_eq_false (show ¬ x < i by omega), decide_eq_false (show ¬ x < i + 1 by omega), decide_eq_false (show ¬ i = x by omega)]; simp
theorem mod_no {p i : Nat} (h : p.testBit i = false) : p % 2 ^ (i + 1) = p % 2 ^ i := by
  apply Nat.eq_of_testBit_eq
  intro x
  rw [tb_mod, tb_mod]
  rcases Nat.lt_trichotomy x i with e | e | e
  · rw [decide_eq_true e, decide_eq_true (show x < i + 1 by omega)]
  · subst e; rw [h]; simp
  · rw [decide_eq_false (show ¬ x < i by omega), decide_eq_false (show ¬ x < i + 1 by omega)]
theorem q_bits {p i : Nat} (hp : p < 256) (x : Nat) : (clr (clr p (p % 2 ^ i)) (2 ^ i)).testBit x = (p.testBit x && decide (i < x)) := by
  rw [tb_clr (clr_lt hp), tb_clr hp, tb_mod, tb_pow]
  rcases Nat.lt_trichotomy x i with e | e | e
  · rw [decide_eq_true e, decide_eq_false (show ¬ i < x by omega)]; cases p.testBit x <;> simp
  · subst e; simp
  · rw [decide_eq_false (show ¬ x < i by omega), decide_eq_true (show i < x by omega), decide_eq_false (show ¬ i = x by omega)]; simp
theorem mod_lt {p i : Nat} (hp : p < 256) : p % 2 ^ i < 256 := Nat.lt_of_le_of_lt (Nat.mod_le _ _) hp
theorem sel_len (q i : Nat) (g : Nat → Int) : (sel q i g).length = rk q i := by unfold sel rk; rw [List.length_map]
theorem sel_bd {q i : Nat} {g : Nat → Int} {P : Int → Prop} (h : ∀ k, k < i → q.testBit k = true → P (g k)) : ∀ x ∈ sel q i g, P x := by
  intro x hx
  obtain ⟨k, h1, h2⟩ := List.mem_map.mp hx
  obtain ⟨h3, h4⟩ := List.mem_filter.mp h1
  rw [← h2]
  exact h k (List.mem_range.mp h3) h4
/-- the loads of the fixed items -/
def lF (F : Nat) (h g : Nat → Int) (i : Nat) : Nat → Int := fun b => sg i (fun x => if F.testBit x = true ∧ h x = (b : Int) then g x else 0)
theorem lF_yes {F i b : Nat} {h g : Nat → Int} (hb : F.testBit i = true) (e : h i = (b : Int)) : lF F h g (i + 1) = bump (lF F h g i) b (g i) := by
  funext c
  show sg i _ + (if F.testBit i = true ∧ h i = (c : Int) then g i else 0) = _
  by_cases q : c = b
  · subst q
    rw [bump_same, if_pos ⟨hb, e⟩]
    rfl
  · rw [bump_ne _ _ q, if_neg (fun x => q (by have := x.2; omega))]
    show _ = sg i _
    omega
theorem lF_no {F i : Nat} {h g : Nat → Int} (hb : F.testBit i = false) : lF F h g (i + 1) = lF F h g i := by
  funext c
  show sg i _ + (if F.testBit i = true ∧ h i = (c : Int) then g i else 0) = sg i _
  rw [if_neg (fun x => by rw [hb] at x; exact absurd x.1 (by decide))]
  omega
theorem lF_ld {p i : Nat} {h g : Nat → Int} {f : Nat → Nat} (hi : i ≤ 8) (hh : ∀ x, x < i → p.testBit x = true → h x = (f (rk p x) : Int)) : lF (p % 2 ^ i) h g 8 = ld (rk p i) f (fun k => g (it p k)) := by
  funext b
  unfold lF ld
  rw [sg_tail (n := i) hi (fun j h1 _ => by
    rw [if_neg (fun x => by rw [tb_mod, decide_eq_false (show ¬ j < i by omega)] at x; exact absurd x.1 (by simp))])]
  rw [← sg_rank (p := p) (fun x k => if f k = b then g x else 0) i hi]
  refine sg_ext (fun j hj => ?_)
  rw [tb_mod, decide_eq_true hj, Bool.true_and]
  by_cases q : p.testBit j = true
  · rw [if_pos q]
    have h1 := hh j hj q
    by_cases q2 : f (rk p j) = b
    · rw [if_pos q2, if_pos ⟨q, by omega⟩]
    · rw [if_neg q2, if_neg (fun x => q2 (by have := x.2; omega))]
  · rw [if_neg q, if_neg (fun x => q x.1)]
theorem sz_it {R : Int} {p : Nat} {g : Nat → Int} (h : SzOk R p g) : ∀ k, k < rk p 8 → 1 ≤ g (it p k) ∧ g (it p k) ≤ R := by
  intro k hk
  obtain ⟨x, h1, h2, h3, h4⟩ := it_of 8 (Nat.le_refl 8) k hk
  rw [h4]
  exact h.2.2.2 x h1 h2
theorem pkp_ld {R : Int} {n K k : Nat} {s : Nat → Int} {f : Nat → Nat} (hR : 0 ≤ R) (hk : k ≤ n) (hs : ∀ j, j < n → 1 ≤ s j ∧ s j ≤ R) (h : PKp R n s K f k) : (∀ b, 0 ≤ ld k f s b ∧ ld k f s b ≤ R) ∧ ∀ b, mx k f ≤ b → ld k f s b = 0 := by
  have hz : ∀ b, mx k f ≤ b → ld k f s b = 0 := fun b hb => ld_out s (fun j hj => by have := mx_gt f hj; omega)
  refine ⟨fun b => ⟨ld_nonneg (fun j hj => by have := hs j (by omega); omega) b, ?_⟩, hz⟩
  by_cases q : b < K
  · exact Cp_bound _ (fun x hx => by
      obtain ⟨j, h1, h2⟩ := its_of_mem (List.mem_of_mem_drop hx)
      have h3 := hs j h1
      omega) h.2.2.2 b q
  · rw [hz b (by have := h.2.2.1; omega)]; exact hR
/-- what a bin of the first k items allows says of all -/
theorem pkp_min {R : Int} {n K k : Nat} {s : Nat → Int} {f : Nat → Nat} (hk : k ≤ n) (ho : Opt R (its n s) (fun _ => 0) 0 (K : Int)) {k' : Nat} (hm : mx k f ≤ k') (h : Cp R ((its n s).drop k) (ld k f s) k') : K ≤ k' := by
  obtain ⟨f', h1, h2, h3⟩ := Cp_asg (R := R) (n := n) (K := k') (s := s) (n - k) k f (by omega) h
  have h4 := ho.2 k' (Nat.zero_le _) (Cp_iff.mpr ⟨f', fun j hj => by
    by_cases q : j < k
    · rw [h1 j q]; have := mx_gt f q; omega
    · exact h2 j (by omega) hj, h3⟩)
  omega
theorem yb_iff {R : Int} {n K k c : Nat} {s : Nat → Int} {f : Nat → Nat} (hk : k < n) (hs : ∀ j, j < n → 1 ≤ s j ∧ s j ≤ R) (ho : Opt R (its n s) (fun _ => 0) 0 (K : Int)) (h : PKp R n s K f k) (hc : c < mx k f) :
    (ld k f s c + s k ≤ R ∧ Opt R ((its n s).drop (k + 1)) (bump (ld k f s) c (s k)) (mx k f) (K : Int)) ↔ Cp R ((its n s).drop (k + 1)) (bump (ld k f s) c (s k)) K := by
  constructor
  · rintro ⟨_, ⟨K', e, _, h2⟩, _⟩
    have e : K' = K := by omega
    rw [← e]; exact h2
  · intro h2
    have hKc : mx k f ≤ K := h.2.2.1
    have h3 := Cp_bound _ (fun x hx => by
      obtain ⟨j, h1, h2⟩ := its_of_mem (List.mem_of_mem_drop hx)
      have h3 := hs j h1
      omega) h2 c (by omega)
    rw [bump_same] at h3
    refine ⟨h3, ⟨K, rfl, hKc, h2⟩, fun k' hk' h4 => ?_⟩
    have h5 := pkp_min (f := f) (Nat.le_of_lt hk) ho hk' (by rw [its_drop s hk]; exact ⟨c, by omega, h4⟩)
    omega
theorem pkp_new {R : Int} {n K k : Nat} {s : Nat → Int} {f : Nat → Nat} (hk : k < n) (h : PKp R n s K f k) (hno : ∀ c, c < mx k f → ¬ Cp R ((its n s).drop (k + 1)) (bump (ld k f s) c (s k)) K) : mx k f < K ∧ Cp R ((its n s).drop (k + 1)) (bump (ld k f s) (mx k f) (s k)) K := by
  have h1 := h.2.2.2
  rw [its_drop s hk] at h1
  rcases Cp_first h.2.2.1 (fun b hb => ld_out s (fun j hj => by have := mx_gt f hj; omega)) h1 with ⟨c, h2, h3⟩ | ⟨h2, h3⟩
  · exact absurd h3 (hno c h2)
  · exact ⟨by omega, h3⟩
theorem pkp_mx {k b : Nat} {f : Nat → Nat} (hb : b ≤ mx k f) : mx (k + 1) (va_up f k b) = if b = mx k f then mx k f + 1 else mx k f := by
  show (if mx k (va_up f k b) ≤ va_up f k b k then va_up f k b k + 1 else mx k (va_up f k b)) = _
  rw [up_same, mx_ext (g := f) (fun j hj => up_ne _ _ (by omega))]
  by_cases q : b = mx k f
  · rw [if_pos (by omega), if_pos q, q]
  · rw [if_neg (by omega), if_neg q]
theorem Cp_item {R x y : Int} {k : Nat} {t : List Int} {l : Nat → Int} (h : y ≤ x) (hc : Cp R (x :: t) l k) : Cp R (y :: t) l k := by
  obtain ⟨b, hb, hc⟩ := hc
  refine ⟨b, hb, Cp_le t (fun j hj => ?_) hc⟩
  by_cases e : j = b
  · subst e; rw [bump_same, bump_same]; omega
  · rw [bump_ne _ _ e, bump_ne _ _ e]; exact Int.le_refl _
theorem Cp_all {R : Int} {k : Nat} {t : List Int} (h0 : ∀ x ∈ t, 0 ≤ x) (hc : Cp R t (fun _ => 0) k) : ∀ x ∈ t, x ≤ R := by
  intro x hx
  obtain ⟨t', hp⟩ : ∃ t', t.Perm (x :: t') := ⟨_, List.perm_cons_erase hx⟩
  have h1 := Cp_perm hp hc
  obtain ⟨b, hb, h1⟩ := h1
  have h2 := Cp_bound t' (fun y hy => h0 y (hp.mem_iff.mpr (List.mem_cons_of_mem _ hy))) h1 b hb
  rw [bump_same] at h2
  omega
theorem Cp_one {R : Int} {k : Nat} (hk : 0 < k) (hR : 0 ≤ R) : ∀ (t : List Int) (l : Nat → Int), (∀ b, 0 < b → l b = 0) → l 0 + t.sum ≤ R → Cp R t l k
  | [], l, hz, h => fun b hb => by
      by_cases e : b = 0
      · subst e; simp at h; exact h
      · rw [hz b (by omega)]; exact hR
  | r :: t, l, hz, h => ⟨0, hk, Cp_one hk hR t _ (fun b hb => by rw [bump_ne _ _ (by omega)]; exact hz b hb) (by rw [bump_same]; simp only [List.sum_cons] at h; omega)⟩
theorem bit_shr1 {n : Nat} (h : n < 2147483648) : iI (n : Int) >>> (iI 1 &&& 31) = iI ((n / 2 : Nat) : Int) := bit_shr (p := n) (i := 1) h (by decide)
/-- the first free place -/
def FZ (p i : Nat) : Prop := i ≤ 8 ∧ (∀ j, j < i → p.testBit j = true) ∧ (i < 8 → p.testBit i = false)
theorem FZ_uniq {p i j : Nat} (hi : FZ p i) (hj : FZ p j) : i = j := by
  rcases Nat.lt_trichotomy i j with e | e | e
  · have h1 := hj.2.1 i e
    have h2 := hi.2.2 (by have := hj.1; omega)
    rw [h1] at h2; exact absurd h2 (by decide)
  · exact e
  · have h1 := hi.2.1 j e
    have h2 := hj.2.2 (by have := hi.1; omega)
    rw [h1] at h2; exact absurd h2 (by decide)
end
section
set_option maxHeartbeats 4000000 in
set_option maxRecDepth 100000 in
theorem met_size (l : Launch) (D : va_G) (cI cB : ClassId) (a : Nat → Nat) (f0 : Int) (f1 : Int) (g2 : Nat → Int) (f3 : Int) (f4 : Int) (g5 : Nat → Int) (f6 : Int) (g7 : Nat → Int) (f8 : Int) (g9 : Nat → Int) (g10 : Nat → Int) (f11 : Int) (g12 : Nat → Int) (f13 : Int) (f14 : Int) (g15 : Nat → Int) : MDi l yX1_size cX1_size 1 .int 0 [.ref (a 0)] D cI cB (WD a cI cB f0 f1 g2 f3 f4 g5 f6 g7 f8 g9 g10 f11 g12 f13 f14 g15) (fun z u => u = (WD a cI cB f0 f1 g2 f3 f4 g5 f6 g7 f8 g9 g10 f11 g12 f13 f14 g15) ∧ z = f0) := by
  refine md_i [(0, .ref (a 0))] rfl (Nat.le_of_ble_eq_true rfl) rfl ?_
  intro A G C hret
  have C : Cx l RX1 cX1_size 1 (rmD 0) D cI cB A 0 0 G := C
  refine g_aload_n C (pc := 0) 0 rfl rfl dX1_size_0 ?_
  refine dg_binSize C (pc := 1) dX1_size_1 ?_
  exact hret _ _ _ _ dX1_size_4 rfl ⟨rfl, rfl⟩
set_option maxHeartbeats 4000000 in
set_option maxRecDepth 100000 in
theorem met_items (l : Launch) (D : va_G) (cI cB : ClassId) (a : Nat → Nat) (f0 : Int) (f1 : Int) (g2 : Nat → Int) (f3 : Int) (f4 : Int) (g5 : Nat → Int) (f6 : Int) (g7 : Nat → Int) (f8 : Int) (g9 : Nat → Int) (g10 : Nat → Int) (f11 : Int) (g12 : Nat → Int) (f13 : Int) (f14 : Int) (g15 : Nat → Int) : MDi l yX1_items cX1_items 1 .int 0 [.ref (a 0)] D cI cB (WD a cI cB f0 f1 g2 f3 f4 g5 f6 g7 f8 g9 g10 f11 g12 f13 f14 g15) (fun z u => u = (WD a cI cB f0 f1 g2 f3 f4 g5 f6 g7 f8 g9 g10 f11 g12 f13 f14 g15) ∧ z = f1) := by
  refine md_i [(0, .ref (a 0))] rfl (Nat.le_of_ble_eq_true rfl) rfl ?_
  intro A G C hret
  have C : Cx l RX1 cX1_items 1 (rmD 0) D cI cB A 0 0 G := C
  refine g_aload_n C (pc := 0) 0 rfl rfl dX1_items_0 ?_
  refine dg_present C (pc := 1) dX1_items_1 ?_
  exact hret _ _ _ _ dX1_items_4 rfl ⟨rfl, rfl⟩
set_option maxHeartbeats 4000000 in
set_option maxRecDepth 100000 in
theorem met_sizeOf (l : Launch) (D : va_G) (cI cB : ClassId) (a : Nat → Nat) (f0 : Int) (g2 : Nat → Int) (f3 : Int) (f4 : Int) (g5 : Nat → Int) (f6 : Int) (g7 : Nat → Int) (f8 : Int) (g9 : Nat → Int) (g10 : Nat → Int) (f11 : Int) (g12 : Nat → Int) (f13 : Int) (f14 : Int) (g15 : Nat → Int) (p : Nat) (hp : p < 256) (z0 : Int) (hz0 : -2147483648 ≤ z0 ∧ z0 < 2147483648) : MDi l yX1_sizeOf cX1_sizeOf 2 .int 1 [.ref (a 0), .int (iI z0)] D cI cB (WD a cI cB f0 (p : Int) g2 f3 f4 g5 f6 g7 f8 g9 g10 f11 g12 f13 f14 g15) (fun z u => u = (WD a cI cB f0 (p : Int) g2 f3 f4 g5 f6 g7 f8 g9 g10 f11 g12 f13 f14 g15) ∧ ((hasb p z0 = false ∧ z = -1) ∨ ∃ i : Nat, i < 8 ∧ z0 = i ∧ p.testBit i = true ∧ z = g2 i)) := by
  refine md_i [(0, .ref (a 0)), (1, .int (iI z0))] rfl (Nat.le_of_ble_eq_true rfl) rfl ?_
  intro A G C hret
  have C : Cx l RX1 cX1_sizeOf 2 (rmD 1) D cI cB A 0 0 G := C
  refine g_aload_n C (pc := 0) 0 rfl rfl dX1_sizeOf_0 ?_
  refine g_iload_n C (pc := 1) 1 rfl rfl dX1_sizeOf_1 ?_
  refine g_calli C (pc := 2) (n := 1) [] [.int (iI z0)] (met_has l D cI cB a f0 g2 f3 f4 g5 f6 g7 f8 g9 g10 f11 g12 f13 f14 g15 p hp z0 (by omega)) (lw_V q89 q91 qs0 q24 q92) (by decide +kernel) (by decide) (by decide) rfl 0 0 rfl rfl rfl (Nat.le_of_ble_eq_true rfl) dX1_sizeOf_2 (fun z u hu => ?_)
  obtain ⟨rfl, hz1⟩ := hu
  have hz := has01 hz1
  clear hz1
  have hz2 : 0 ≤ z ∧ z ≤ 1 := by rcases hz with ⟨h, _⟩ | ⟨h, _⟩ <;> omega
  refine g_if_eq C (pc := 5) 17 (by omega) (by decide) dX1_sizeOf_5 (fun c5 => ?_) (fun c5 => ?_)
  · have hh : hasb p z0 = false := by
      rcases hz with ⟨h, _⟩ | ⟨_, h⟩
      · omega
      · exact h
    refine g_iconst C (pc := 17) dX1_sizeOf_17 ?_
    exact hret _ _ _ _ dX1_sizeOf_18 rfl ⟨rfl, Or.inl ⟨hh, rfl⟩⟩
  · have hh : hasb p z0 = true := by
      rcases hz with ⟨_, h⟩ | ⟨h, _⟩
      · exact h
      · omega
    obtain ⟨i, hi8, rfl, hbit⟩ := hasb_of hh
    refine g_aload_n C (pc := 8) 0 rfl rfl dX1_sizeOf_8 ?_
    refine dg_sizes C (pc := 9) dX1_sizeOf_9 ?_
    refine g_iload_n C (pc := 12) 1 rfl rfl dX1_sizeOf_12 ?_
    refine dl_sizes C (pc := 13) i (by omega) (by omega) dX1_sizeOf_13 ?_
    refine g_goto C (pc := 14) 18 (by decide) dX1_sizeOf_14 ?_
    exact hret _ _ _ _ dX1_sizeOf_18 rfl ⟨rfl, Or.inr ⟨i, hi8, rfl, hbit, rfl⟩⟩
set_option maxHeartbeats 4000000 in
set_option maxRecDepth 100000 in
/-- add(s) -/
theorem met_add (l : Launch) (D : va_G) (cI cB : ClassId) (a : Nat → Nat) (f0 : Int) (g2 : Nat → Int) (f3 : Int) (f4 : Int) (g5 : Nat → Int) (f6 : Int) (g7 : Nat → Int) (f8 : Int) (g9 : Nat → Int) (g10 : Nat → Int) (f11 : Int) (g12 : Nat → Int) (f13 : Int) (f14 : Int) (g15 : Nat → Int) (p : Nat) (hp : p < 256) (hR : 1 ≤ f0 ∧ f0 ≤ 60) (s0 : Int) (hs0 : -2147483648 ≤ s0 ∧ s0 < 2147483648) : MDi l yX1_add cX1_add 3 .int 1 [.ref (a 0), .int (iI s0)] D cI cB (WD a cI cB f0 (p : Int) g2 f3 f4 g5 f6 g7 f8 g9 g10 f11 g12 f13 f14 g15) (fun z u => (¬ (1 ≤ s0 ∧ s0 ≤ f0) ∧ z = -1 ∧ u = (WD a cI cB f0 (p : Int) g2 f3 f4 g5 f6 g7 f8 g9 g10 f11 g12 f13 f14 g15)) ∨ ((1 ≤ s0 ∧ s0 ≤ f0) ∧ ∃ i : Nat, FZ p i ∧ ((i = 8 ∧ z = -2 ∧ u = (WD a cI cB f0 (p : Int) g2 f3 f4 g5 f6 g7 f8 g9 g10 f11 g12 f13 f14 g15)) ∨ (i < 8 ∧ z = i ∧ u = (WD a cI cB f0 ((p ||| 2 ^ i : Nat) : Int) (va_up g2 i s0) f3 f4 g5 f6 g7 f8 g9 g10 f11 g12 0 f14 g15))))) := by
  refine md_i [(0, .ref (a 0)), (1, .int (iI s0))] rfl (Nat.le_of_ble_eq_true rfl) rfl ?_
  intro A G C hret
  have C : Cx l RX1 cX1_add 3 (rmD 1) D cI cB A 0 0 G := C
  have loop : ∀ (n i : Nat), i ≤ 8 → 8 < i + n → (1 ≤ s0 ∧ s0 ≤ f0) → (∀ j, j < i → p.testBit j = true) → G [(0, .ref (a 0)), (1, .int (iI s0)), (2, .int (iI (i : Int)))] (WD a cI cB f0 (p : Int) g2 f3 f4 g5 f6 g7 f8 g9 g10 f11 g12 f13 f14 g15) 17 [] := by
    intro n
    induction n with
    | zero => intro i h1 h2; exact absurd h2 (by omega)
    | succ n ih =>
      intro i h1 h2 h3 h4
      refine g_iload_n C (pc := 17) 2 rfl rfl dX1_add_17 ?_
      refine g_bipush C (pc := 18) dX1_add_18 (by decide) ?_
      refine g_icmp_ge C (pc := 20) 64 (by omega) (by omega) (by decide) dX1_add_20 (fun c20 => ?_) (fun c20 => ?_)
      · refine g_bipush C (pc := 64) dX1_add_64 (by decide) ?_
        have e8 : i = 8 := by omega
        subst e8
        exact hret _ _ _ _ dX1_add_66 rfl (Or.inr ⟨h3, 8, ⟨by omega, h4, fun h => absurd h (by omega)⟩, Or.inl ⟨rfl, rfl, rfl⟩⟩)
      · refine g_aload_n C (pc := 23) 0 rfl rfl dX1_add_23 ?_
        refine g_iload_n C (pc := 24) 2 rfl rfl dX1_add_24 ?_
        refine g_calli C (pc := 25) (n := 1) [] [.int (iI (i : Int))] (met_has l D cI cB a f0 g2 f3 f4 g5 f6 g7 f8 g9 g10 f11 g12 f13 f14 g15 p hp (i : Int) (by omega)) (lw_V q89 q91 qs0 q24 q92) (by decide +kernel) (by decide) (by decide) rfl 0 0 rfl rfl rfl (Nat.le_of_ble_eq_true rfl) dX1_add_25 (fun z u hu => ?_)
        obtain ⟨rfl, hz1⟩ := hu
        have hz := has01 hz1
        clear hz1
        have hz2 : 0 ≤ z ∧ z ≤ 1 := by rcases hz with ⟨h, _⟩ | ⟨h, _⟩ <;> omega
        refine g_if_ne C (pc := 28) 58 (by omega) (by decide) dX1_add_28 (fun c28 => ?_) (fun c28 => ?_)
        · have hi8 : i < 8 := by omega
          have hh : hasb p (i : Int) = true := by
            rcases hz with ⟨_, h⟩ | ⟨h, _⟩
            · exact h
            · omega
          have hbit : p.testBit i = true := by rw [← hasb_nat hi8]; exact hh
          refine g_iinc C (pc := 58) [(0, .ref (a 0)), (1, .int (iI s0)), (2, .int (iI ((i : Int) + 1)))] [1, 2, 0] 2 rfl (by decide) rfl dX1_add_58 ?_
          refine g_goto C (pc := 61) 17 (by decide) dX1_add_61 ?_
          exact ih (i + 1) (by omega) (by omega) h3 (fun j hj => by
            by_cases e : j = i
            · rw [e]; exact hbit
            · exact h4 j (by omega))
        · have hi8 : i < 8 := by omega
          have hh : hasb p (i : Int) = false := by
            rcases hz with ⟨h, _⟩ | ⟨_, h⟩
            · omega
            · exact h
          rw [hasb_nat hi8] at hh
          refine g_aload_n C (pc := 31) 0 rfl rfl dX1_add_31 ?_
          refine g_dup C (pc := 32) rfl dX1_add_32 ?_
          refine dg_present C (pc := 33) dX1_add_33 ?_
          refine g_iconst C (pc := 36) dX1_add_36 ?_
          refine g_iload_n C (pc := 37) 2 rfl rfl dX1_add_37 ?_
          refine g_ishl C (pc := 38) ((2 ^ i : Nat) : Int) (bit_shl (by omega)) dX1_add_38 ?_
          refine g_ior C (pc := 39) ((p ||| 2 ^ i : Nat) : Int) (bit_or p (2 ^ i)) dX1_add_39 ?_
          refine dp_present C (pc := 40) dX1_add_40 ?_
          refine g_aload_n C (pc := 43) 0 rfl rfl dX1_add_43 ?_
          refine dg_sizes C (pc := 44) dX1_add_44 ?_
          refine g_iload_n C (pc := 47) 2 rfl rfl dX1_add_47 ?_
          refine g_iload_n C (pc := 48) 1 rfl rfl dX1_add_48 ?_
          refine g_i2b C (pc := 49) (by omega) dX1_add_49 ?_
          refine ds_sizes C (pc := 50) i (by omega) (by omega) (by omega) dX1_add_50 ?_
          refine g_aload_n C (pc := 51) 0 rfl rfl dX1_add_51 ?_
          refine g_iconst C (pc := 52) dX1_add_52 ?_
          refine dp_packed C (pc := 53) (by omega) dX1_add_53 ?_
          refine g_iload_n C (pc := 56) 2 rfl rfl dX1_add_56 ?_
          exact hret _ _ _ _ dX1_add_57 rfl (Or.inr ⟨h3, i, ⟨by omega, h4, fun _ => hh⟩, Or.inr ⟨hi8, rfl, rfl⟩⟩)
  refine g_iload_n C (pc := 0) 1 rfl rfl dX1_add_0 ?_
  refine g_iconst C (pc := 1) dX1_add_1 ?_
  refine g_icmp_lt C (pc := 2) 13 (by omega) (by omega) (by decide) dX1_add_2 (fun c2 => ?_) (fun c2 => ?_)
  · refine g_iconst C (pc := 13) dX1_add_13 ?_
    exact hret _ _ _ _ dX1_add_14 rfl (Or.inl ⟨by omega, rfl, rfl⟩)
  · refine g_iload_n C (pc := 5) 1 rfl rfl dX1_add_5 ?_
    refine g_aload_n C (pc := 6) 0 rfl rfl dX1_add_6 ?_
    refine dg_binSize C (pc := 7) dX1_add_7 ?_
    refine g_icmp_le C (pc := 10) 15 (by omega) (by omega) (by decide) dX1_add_10 (fun c10 => ?_) (fun c10 => ?_)
    · refine g_iconst C (pc := 15) dX1_add_15 ?_
      refine g_istore_n C (pc := 16) [(0, .ref (a 0)), (1, .int (iI s0)), (2, .int (iI 0))] [1, 2, 0] rfl (by decide) rfl dX1_add_16 ?_
      exact loop 9 0 (by omega) (by omega) (by omega) (fun j hj => absurd hj (by omega))
    · refine g_iconst C (pc := 13) dX1_add_13 ?_
      exact hret _ _ _ _ dX1_add_14 rfl (Or.inl ⟨by omega, rfl, rfl⟩)
set_option maxHeartbeats 4000000 in
set_option maxRecDepth 100000 in
/-- remove(i) -/
theorem met_remove (l : Launch) (D : va_G) (cI cB : ClassId) (a : Nat → Nat) (f0 : Int) (g2 : Nat → Int) (f3 : Int) (f4 : Int) (g5 : Nat → Int) (f6 : Int) (g7 : Nat → Int) (f8 : Int) (g9 : Nat → Int) (g10 : Nat → Int) (f11 : Int) (g12 : Nat → Int) (f13 : Int) (f14 : Int) (g15 : Nat → Int) (p : Nat) (hp : p < 256) (z0 : Int) (hz0 : -2147483648 ≤ z0 ∧ z0 < 2147483648) : MDi l yX1_remove cX1_remove 2 .boolean 1 [.ref (a 0), .int (iI z0)] D cI cB (WD a cI cB f0 (p : Int) g2 f3 f4 g5 f6 g7 f8 g9 g10 f11 g12 f13 f14 g15) (fun z u => (hasb p z0 = false ∧ z = 0 ∧ u = (WD a cI cB f0 (p : Int) g2 f3 f4 g5 f6 g7 f8 g9 g10 f11 g12 f13 f14 g15)) ∨ ∃ i : Nat, i < 8 ∧ z0 = i ∧ p.testBit i = true ∧ z = 1 ∧ u = (WD a cI cB f0 ((clr p (2 ^ i) : Nat) : Int) g2 f3 f4 g5 f6 g7 f8 g9 g10 f11 g12 0 f14 g15)) := by
  refine md_i [(0, .ref (a 0)), (1, .int (iI z0))] rfl (Nat.le_of_ble_eq_true rfl) rfl ?_
  intro A G C hret
  have C : Cx l RX1 cX1_remove 2 (rmD 1) D cI cB A 0 0 G := C
  refine g_aload_n C (pc := 0) 0 rfl rfl dX1_remove_0 ?_
  refine g_iload_n C (pc := 1) 1 rfl rfl dX1_remove_1 ?_
  refine g_calli C (pc := 2) (n := 1) [] [.int (iI z0)] (met_has l D cI cB a f0 g2 f3 f4 g5 f6 g7 f8 g9 g10 f11 g12 f13 f14 g15 p hp z0 (by omega)) (lw_V q89 q91 qs0 q24 q92) (by decide +kernel) (by decide) (by decide) rfl 0 0 rfl rfl rfl (Nat.le_of_ble_eq_true rfl) dX1_remove_2 (fun z u hu => ?_)
  obtain ⟨rfl, hz1⟩ := hu
  have hz := has01 hz1
  clear hz1
  have hz2 : 0 ≤ z ∧ z ≤ 1 := by rcases hz with ⟨h, _⟩ | ⟨h, _⟩ <;> omega
  refine g_if_ne C (pc := 5) 10 (by omega) (by decide) dX1_remove_5 (fun c5 => ?_) (fun c5 => ?_)
  · have hh : hasb p z0 = true := by
      rcases hz with ⟨_, h⟩ | ⟨h, _⟩
      · exact h
      · omega
    obtain ⟨i, hi8, rfl, hbit⟩ := hasb_of hh
    refine g_aload_n C (pc := 10) 0 rfl rfl dX1_remove_10 ?_
    refine g_dup C (pc := 11) rfl dX1_remove_11 ?_
    refine dg_present C (pc := 12) dX1_remove_12 ?_
    refine g_iconst C (pc := 15) dX1_remove_15 ?_
    refine g_iload_n C (pc := 16) 1 rfl rfl dX1_remove_16 ?_
    refine g_ishl C (pc := 17) ((2 ^ i : Nat) : Int) (bit_shl (by omega)) dX1_remove_17 ?_
    refine g_iconst C (pc := 18) dX1_remove_18 ?_
    refine g_ixor C (pc := 19) (-((2 ^ i : Nat) : Int) - 1) (bit_not (2 ^ i)) dX1_remove_19 ?_
    refine g_iand C (pc := 20) ((clr p (2 ^ i) : Nat) : Int) (bit_clr hp (pow_lt hi8)) dX1_remove_20 ?_
    refine dp_present C (pc := 21) dX1_remove_21 ?_
    refine g_aload_n C (pc := 24) 0 rfl rfl dX1_remove_24 ?_
    refine g_iconst C (pc := 25) dX1_remove_25 ?_
    refine dp_packed C (pc := 26) (by omega) dX1_remove_26 ?_
    refine g_iconst C (pc := 29) dX1_remove_29 ?_
    exact hret _ _ _ _ dX1_remove_30 rfl (Or.inr ⟨i, hi8, rfl, hbit, rfl, rfl⟩)
  · have hh : hasb p z0 = false := by
      rcases hz with ⟨h, _⟩ | ⟨_, h⟩
      · omega
      · exact h
    refine g_iconst C (pc := 8) dX1_remove_8 ?_
    exact hret _ _ _ _ dX1_remove_9 rfl (Or.inl ⟨hh, rfl, rfl⟩)
set_option maxHeartbeats 4000000 in
set_option maxRecDepth 100000 in
/-- resize(i, s) -/
theorem met_resize (l : Launch) (D : va_G) (cI cB : ClassId) (a : Nat → Nat) (f0 : Int) (g2 : Nat → Int) (f3 : Int) (f4 : Int) (g5 : Nat → Int) (f6 : Int) (g7 : Nat → Int) (f8 : Int) (g9 : Nat → Int) (g10 : Nat → Int) (f11 : Int) (g12 : Nat → Int) (f13 : Int) (f14 : Int) (g15 : Nat → Int) (p : Nat) (hp : p < 256) (hR : 1 ≤ f0 ∧ f0 ≤ 60) (z0 s0 : Int) (hz0 : -2147483648 ≤ z0 ∧ z0 < 2147483648) (hs0 : -2147483648 ≤ s0 ∧ s0 < 2147483648) : MDi l yX1_resize cX1_resize 3 .boolean 1 [.ref (a 0), .int (iI z0), .int (iI s0)] D cI cB (WD a cI cB f0 (p : Int) g2 f3 f4 g5 f6 g7 f8 g9 g10 f11 g12 f13 f14 g15) (fun z u => (¬ (hasb p z0 = true ∧ 1 ≤ s0 ∧ s0 ≤ f0) ∧ z = 0 ∧ u = (WD a cI cB f0 (p : Int) g2 f3 f4 g5 f6 g7 f8 g9 g10 f11 g12 f13 f14 g15)) ∨ ∃ i : Nat, i < 8 ∧ z0 = i ∧ p.testBit i = true ∧ (1 ≤ s0 ∧ s0 ≤ f0) ∧ z = 1 ∧ u = (WD a cI cB f0 (p : Int) (va_up g2 i s0) f3 f4 g5 f6 g7 f8 g9 g10 f11 g12 0 f14 g15)) := by
  refine md_i [(0, .ref (a 0)), (1, .int (iI z0)), (2, .int (iI s0))] rfl (Nat.le_of_ble_eq_true rfl) rfl ?_
  intro A G C hret
  have C : Cx l RX1 cX1_resize 3 (rmD 1) D cI cB A 0 0 G := C
  refine g_aload_n C (pc := 0) 0 rfl rfl dX1_resize_0 ?_
  refine g_iload_n C (pc := 1) 1 rfl rfl dX1_resize_1 ?_
  refine g_calli C (pc := 2) (n := 1) [] [.int (iI z0)] (met_has l D cI cB a f0 g2 f3 f4 g5 f6 g7 f8 g9 g10 f11 g12 f13 f14 g15 p hp z0 (by omega)) (lw_V q89 q91 qs0 q24 q92) (by decide +kernel) (by decide) (by decide) rfl 0 0 rfl rfl rfl (Nat.le_of_ble_eq_true rfl) dX1_resize_2 (fun z u hu => ?_)
  obtain ⟨rfl, hz1⟩ := hu
  have hz := has01 hz1
  clear hz1
  have hz2 : 0 ≤ z ∧ z ≤ 1 := by rcases hz with ⟨h, _⟩ | ⟨h, _⟩ <;> omega
  refine g_if_eq C (pc := 5) 21 (by omega) (by decide) dX1_resize_5 (fun c5 => ?_) (fun c5 => ?_)
  · have hh : hasb p z0 = false := by
      rcases hz with ⟨h, _⟩ | ⟨_, h⟩
      · omega
      · exact h
    have hno : ¬ (hasb p z0 = true ∧ 1 ≤ s0 ∧ s0 ≤ f0) := fun h => by rw [hh] at h; exact absurd h.1 (by decide)
    refine g_iconst C (pc := 21) dX1_resize_21 ?_
    exact hret _ _ _ _ dX1_resize_22 rfl (Or.inl ⟨hno, rfl, rfl⟩)
  · have hh : hasb p z0 = true := by
      rcases hz with ⟨_, h⟩ | ⟨h, _⟩
      · exact h
      · omega
    refine g_iload_n C (pc := 8) 2 rfl rfl dX1_resize_8 ?_
    refine g_iconst C (pc := 9) dX1_resize_9 ?_
    refine g_icmp_lt C (pc := 10) 21 (by omega) (by omega) (by decide) dX1_resize_10 (fun c10 => ?_) (fun c10 => ?_)
    · have hno : ¬ (hasb p z0 = true ∧ 1 ≤ s0 ∧ s0 ≤ f0) := fun h => by omega
      refine g_iconst C (pc := 21) dX1_resize_21 ?_
      exact hret _ _ _ _ dX1_resize_22 rfl (Or.inl ⟨hno, rfl, rfl⟩)
    · refine g_iload_n C (pc := 13) 2 rfl rfl dX1_resize_13 ?_
      refine g_aload_n C (pc := 14) 0 rfl rfl dX1_resize_14 ?_
      refine dg_binSize C (pc := 15) dX1_resize_15 ?_
      refine g_icmp_le C (pc := 18) 23 (by omega) (by omega) (by decide) dX1_resize_18 (fun c18 => ?_) (fun c18 => ?_)
      · obtain ⟨i, hi8, rfl, hbit⟩ := hasb_of hh
        refine g_aload_n C (pc := 23) 0 rfl rfl dX1_resize_23 ?_
        refine dg_sizes C (pc := 24) dX1_resize_24 ?_
        refine g_iload_n C (pc := 27) 1 rfl rfl dX1_resize_27 ?_
        refine g_iload_n C (pc := 28) 2 rfl rfl dX1_resize_28 ?_
        refine g_i2b C (pc := 29) (by omega) dX1_resize_29 ?_
        refine ds_sizes C (pc := 30) i (by omega) (by omega) (by omega) dX1_resize_30 ?_
        refine g_aload_n C (pc := 31) 0 rfl rfl dX1_resize_31 ?_
        refine g_iconst C (pc := 32) dX1_resize_32 ?_
        refine dp_packed C (pc := 33) (by omega) dX1_resize_33 ?_
        refine g_iconst C (pc := 36) dX1_resize_36 ?_
        exact hret _ _ _ _ dX1_resize_37 rfl (Or.inr ⟨i, hi8, rfl, hbit, by omega, rfl, rfl⟩)
      · have hno : ¬ (hasb p z0 = true ∧ 1 ≤ s0 ∧ s0 ≤ f0) := fun h => by omega
        refine g_iconst C (pc := 21) dX1_resize_21 ?_
        exact hret _ _ _ _ dX1_resize_22 rfl (Or.inl ⟨hno, rfl, rfl⟩)
set_option maxHeartbeats 4000000 in
set_option maxRecDepth 100000 in
/-- largest() -/
theorem met_largest (l : Launch) (D : va_G) (cI cB : ClassId) (a : Nat → Nat) (f0 : Int) (g2 : Nat → Int) (f3 : Int) (f4 : Int) (g5 : Nat → Int) (f6 : Int) (g7 : Nat → Int) (f8 : Int) (g9 : Nat → Int) (g10 : Nat → Int) (f11 : Int) (g12 : Nat → Int) (f13 : Int) (f14 : Int) (g15 : Nat → Int) (p : Nat) (hp : p < 256) (hg : ∀ k, 0 ≤ g2 k ∧ g2 k ≤ 60) : MDi l yX1_largest cX1_largest 3 .int 1 [.ref (a 0)] D cI cB (WD a cI cB f0 (p : Int) g2 f3 f4 g5 f6 g7 f8 g9 g10 f11 g12 f13 f14 g15) (fun z u => u = (WD a cI cB f0 (p : Int) g2 f3 f4 g5 f6 g7 f8 g9 g10 f11 g12 f13 f14 g15) ∧ (0 ≤ z ∧ z ≤ 60) ∧ (∀ x, x < 8 → p.testBit x = true → g2 x ≤ z) ∧ (z = 0 ∨ ∃ x, x < 8 ∧ p.testBit x = true ∧ g2 x = z)) := by
  refine md_i [(0, .ref (a 0))] rfl (Nat.le_of_ble_eq_true rfl) rfl ?_
  intro A G C hret
  have C : Cx l RX1 cX1_largest 3 (rmD 1) D cI cB A 0 0 G := C
  have loop : ∀ (n i : Nat) (mo : Int), i ≤ 8 → 8 < i + n → (0 ≤ mo ∧ mo ≤ 60) → (∀ x, x < i → p.testBit x = true → g2 x ≤ mo) → (mo = 0 ∨ ∃ x, x < 8 ∧ p.testBit x = true ∧ g2 x = mo) → G [(0, .ref (a 0)), (1, .int (iI mo)), (2, .int (iI (i : Int)))] (WD a cI cB f0 (p : Int) g2 f3 f4 g5 f6 g7 f8 g9 g10 f11 g12 f13 f14 g15) 4 [] := by
    intro n
    induction n with
    | zero => intro i mo h1 h2; exact absurd h2 (by omega)
    | succ n ih =>
      intro i mo h1 h2 h3 h4 h5
      have hgi := hg i
      refine g_iload_n C (pc := 4) 2 rfl rfl dX1_largest_4 ?_
      refine g_bipush C (pc := 5) dX1_largest_5 (by decide) ?_
      refine g_icmp_ge C (pc := 7) 41 (by omega) (by omega) (by decide) dX1_largest_7 (fun c7 => ?_) (fun c7 => ?_)
      · refine g_iload_n C (pc := 41) 1 rfl rfl dX1_largest_41 ?_
        have e8 : i = 8 := by omega
        subst e8
        exact hret _ _ _ _ dX1_largest_42 rfl ⟨rfl, h3, h4, h5⟩
      · refine g_aload_n C (pc := 10) 0 rfl rfl dX1_largest_10 ?_
        refine g_iload_n C (pc := 11) 2 rfl rfl dX1_largest_11 ?_
        refine g_calli C (pc := 12) (n := 1) [] [.int (iI (i : Int))] (met_has l D cI cB a f0 g2 f3 f4 g5 f6 g7 f8 g9 g10 f11 g12 f13 f14 g15 p hp (i : Int) (by omega)) (lw_V q89 q91 qs0 q24 q92) (by decide +kernel) (by decide) (by decide) rfl 0 0 rfl rfl rfl (Nat.le_of_ble_eq_true rfl) dX1_largest_12 (fun z u hu => ?_)
        obtain ⟨rfl, hz1⟩ := hu
        have hz := has01 hz1
        clear hz1
        have hz2 : 0 ≤ z ∧ z ≤ 1 := by rcases hz with ⟨h, _⟩ | ⟨h, _⟩ <;> omega
        refine g_if_eq C (pc := 15) 35 (by omega) (by decide) dX1_largest_15 (fun c15 => ?_) (fun c15 => ?_)
        · have hi8 : i < 8 := by omega
          have hh : hasb p (i : Int) = false := by
            rcases hz with ⟨h, _⟩ | ⟨_, h⟩
            · omega
            · exact h
          have hbit : p.testBit i = false := by rw [← hasb_nat hi8]; exact hh
          refine g_iinc C (pc := 35) [(0, .ref (a 0)), (1, .int (iI mo)), (2, .int (iI ((i : Int) + 1)))] [1, 2, 0] 2 rfl (by decide) rfl dX1_largest_35 ?_
          refine g_goto C (pc := 38) 4 (by decide) dX1_largest_38 ?_
          exact ih (i + 1) mo (by omega) (by omega) h3 (fun x hx hb => by
            by_cases e : x = i
            · subst e; rw [hbit] at hb; exact absurd hb (by decide)
            · exact h4 x (by omega) hb) h5
        · have hi8 : i < 8 := by omega
          have hh : hasb p (i : Int) = true := by
            rcases hz with ⟨_, h⟩ | ⟨h, _⟩
            · exact h
            · omega
          have hbit : p.testBit i = true := by rw [← hasb_nat hi8]; exact hh
          refine g_aload_n C (pc := 18) 0 rfl rfl dX1_largest_18 ?_
          refine dg_sizes C (pc := 19) dX1_largest_19 ?_
          refine g_iload_n C (pc := 22) 2 rfl rfl dX1_largest_22 ?_
          refine dl_sizes C (pc := 23) i (by omega) (by omega) dX1_largest_23 ?_
          refine g_iload_n C (pc := 24) 1 rfl rfl dX1_largest_24 ?_
          refine g_icmp_le C (pc := 25) 35 (by omega) (by omega) (by decide) dX1_largest_25 (fun c25 => ?_) (fun c25 => ?_)
          · refine g_iinc C (pc := 35) [(0, .ref (a 0)), (1, .int (iI mo)), (2, .int (iI ((i : Int) + 1)))] [1, 2, 0] 2 rfl (by decide) rfl dX1_largest_35 ?_
            refine g_goto C (pc := 38) 4 (by decide) dX1_largest_38 ?_
            exact ih (i + 1) mo (by omega) (by omega) h3 (fun x hx hb => by
              by_cases e : x = i
              · subst e; omega
              · exact h4 x (by omega) hb) h5
          · refine g_aload_n C (pc := 28) 0 rfl rfl dX1_largest_28 ?_
            refine dg_sizes C (pc := 29) dX1_largest_29 ?_
            refine g_iload_n C (pc := 32) 2 rfl rfl dX1_largest_32 ?_
            refine dl_sizes C (pc := 33) i (by omega) (by omega) dX1_largest_33 ?_
            refine g_istore_n C (pc := 34) [(0, .ref (a 0)), (1, .int (iI (g2 i))), (2, .int (iI (i : Int)))] [1, 0, 2] rfl (by decide) rfl dX1_largest_34 ?_
            refine g_iinc C (pc := 35) [(0, .ref (a 0)), (1, .int (iI (g2 i))), (2, .int (iI ((i : Int) + 1)))] [1, 2, 0] 2 rfl (by decide) rfl dX1_largest_35 ?_
            refine g_goto C (pc := 38) 4 (by decide) dX1_largest_38 ?_
            exact ih (i + 1) (g2 i) (by omega) (by omega) (by omega) (fun x hx hb => by
              by_cases e : x = i
              · subst e; omega
              · have h6 := h4 x (by omega) hb
                omega) (Or.inr ⟨i, by omega, hbit, rfl⟩)
  refine g_iconst C (pc := 0) dX1_largest_0 ?_
  refine g_istore_n C (pc := 1) [(0, .ref (a 0)), (1, .int (iI 0))] [1, 0] rfl (by decide) rfl dX1_largest_1 ?_
  refine g_iconst C (pc := 2) dX1_largest_2 ?_
  refine g_istore_n C (pc := 3) [(0, .ref (a 0)), (1, .int (iI 0)), (2, .int (iI 0))] [1, 2, 0] rfl (by decide) rfl dX1_largest_3 ?_
  exact loop 9 0 0 (by omega) (by omega) (by omega) (fun x hx => absurd hx (by omega)) (Or.inl rfl)
set_option maxHeartbeats 4000000 in
set_option maxRecDepth 100000 in
/-- setSize(size) -/
theorem met_setSize (l : Launch) (D : va_G) (cI cB : ClassId) (a : Nat → Nat) (f0 : Int) (g2 : Nat → Int) (f3 : Int) (f4 : Int) (g5 : Nat → Int) (f6 : Int) (g7 : Nat → Int) (f8 : Int) (g9 : Nat → Int) (g10 : Nat → Int) (f11 : Int) (g12 : Nat → Int) (f13 : Int) (f14 : Int) (g15 : Nat → Int) (p : Nat) (hp : p < 256) (hg : ∀ k, 0 ≤ g2 k ∧ g2 k ≤ 60) (s0 : Int) (hs0 : -2147483648 ≤ s0 ∧ s0 < 2147483648) : MDi l yX1_setSize cX1_setSize 2 .boolean 2 [.ref (a 0), .int (iI s0)] D cI cB (WD a cI cB f0 (p : Int) g2 f3 f4 g5 f6 g7 f8 g9 g10 f11 g12 f13 f14 g15) (fun z u => (¬ ((1 ≤ s0 ∧ s0 ≤ 60) ∧ ∀ x, x < 8 → p.testBit x = true → g2 x ≤ s0) ∧ z = 0 ∧ u = (WD a cI cB f0 (p : Int) g2 f3 f4 g5 f6 g7 f8 g9 g10 f11 g12 f13 f14 g15)) ∨ (((1 ≤ s0 ∧ s0 ≤ 60) ∧ ∀ x, x < 8 → p.testBit x = true → g2 x ≤ s0) ∧ z = 1 ∧ u = (WD a cI cB s0 (p : Int) g2 f3 f4 g5 f6 g7 f8 g9 g10 f11 g12 0 f14 g15))) := by
  refine md_i [(0, .ref (a 0)), (1, .int (iI s0))] rfl (Nat.le_of_ble_eq_true rfl) rfl ?_
  intro A G C hret
  have C : Cx l RX1 cX1_setSize 2 (rmD 2) D cI cB A 0 0 G := C
  refine g_iload_n C (pc := 0) 1 rfl rfl dX1_setSize_0 ?_
  refine g_iconst C (pc := 1) dX1_setSize_1 ?_
  refine g_icmp_lt C (pc := 2) 19 (by omega) (by omega) (by decide) dX1_setSize_2 (fun c2 => ?_) (fun c2 => ?_)
  · have hno : ¬ ((1 ≤ s0 ∧ s0 ≤ 60) ∧ ∀ x, x < 8 → p.testBit x = true → g2 x ≤ s0) := fun h => by have h1 := h.1; omega
    refine g_iconst C (pc := 19) dX1_setSize_19 ?_
    exact hret _ _ _ _ dX1_setSize_20 rfl (Or.inl ⟨hno, rfl, rfl⟩)
  · refine g_iload_n C (pc := 5) 1 rfl rfl dX1_setSize_5 ?_
    refine g_bipush C (pc := 6) dX1_setSize_6 (by decide) ?_
    refine g_icmp_gt C (pc := 8) 19 (by omega) (by omega) (by decide) dX1_setSize_8 (fun c8 => ?_) (fun c8 => ?_)
    · have hno : ¬ ((1 ≤ s0 ∧ s0 ≤ 60) ∧ ∀ x, x < 8 → p.testBit x = true → g2 x ≤ s0) := fun h => by have h1 := h.1; omega
      refine g_iconst C (pc := 19) dX1_setSize_19 ?_
      exact hret _ _ _ _ dX1_setSize_20 rfl (Or.inl ⟨hno, rfl, rfl⟩)
    · refine g_iload_n C (pc := 11) 1 rfl rfl dX1_setSize_11 ?_
      refine g_aload_n C (pc := 12) 0 rfl rfl dX1_setSize_12 ?_
      refine g_calli C (pc := 13) (n := 0) [.int (iI s0)] [] (met_largest l D cI cB a f0 g2 f3 f4 g5 f6 g7 f8 g9 g10 f11 g12 f13 f14 g15 p hp hg) (lw_V q105 q107 qs1 q24 q108) (by decide +kernel) (by decide) (by decide) rfl 0 0 rfl rfl rfl (Nat.le_of_ble_eq_true rfl) dX1_setSize_13 (fun z u hu => ?_)
      obtain ⟨rfl, hzr, hz1, hz2⟩ := hu
      refine g_icmp_ge C (pc := 16) 21 (by omega) (by omega) (by decide) dX1_setSize_16 (fun c16 => ?_) (fun c16 => ?_)
      · refine g_aload_n C (pc := 21) 0 rfl rfl dX1_setSize_21 ?_
        refine g_iload_n C (pc := 22) 1 rfl rfl dX1_setSize_22 ?_
        refine dp_binSize C (pc := 23) dX1_setSize_23 ?_
        refine g_aload_n C (pc := 26) 0 rfl rfl dX1_setSize_26 ?_
        refine g_iconst C (pc := 27) dX1_setSize_27 ?_
        refine dp_packed C (pc := 28) (by omega) dX1_setSize_28 ?_
        refine g_iconst C (pc := 31) dX1_setSize_31 ?_
        exact hret _ _ _ _ dX1_setSize_32 rfl (Or.inr ⟨⟨by omega, fun x h1 h2 => by have h3 := hz1 x h1 h2; omega⟩, rfl, rfl⟩)
      · have hno : ¬ ((1 ≤ s0 ∧ s0 ≤ 60) ∧ ∀ x, x < 8 → p.testBit x = true → g2 x ≤ s0) := fun h => by
          rcases hz2 with e | ⟨x, h1, h2, h3⟩
          · omega
          · have h4 := h.2 x h1 h2
            omega
        refine g_iconst C (pc := 19) dX1_setSize_19 ?_
        exact hret _ _ _ _ dX1_setSize_20 rfl (Or.inl ⟨hno, rfl, rfl⟩)
end
section
/-- every item in a bin of its own -/
theorem Cp_each {R : Int} {l g : Nat → Int} (o m : Nat) (hl : ∀ b, 0 ≤ l b ∧ l b ≤ R) (hz : ∀ b, o ≤ b → l b = 0) (hg : ∀ j, j < m → 0 < g j ∧ g j ≤ R) : Cp R (its m g) l (o + m) := by
  induction m generalizing o l g with
  | zero => exact fun b _ => (hl b).2
  | succ m ih =>
    rw [its_cons]
    have h0 := hg 0 (by omega)
    refine ⟨o, by omega, ?_⟩
    have h1 := ih (l := bump l o (g 0)) (g := fun j => g (j + 1)) (o + 1) (bump_rg hl (by omega) (by rw [hz o (Nat.le_refl o)]; omega)) (fun b hb => by rw [bump_ne _ _ (by omega)]; exact hz b (by omega)) (fun j hj => hg (j + 1) (by omega))
    have e : o + (m + 1) = o + 1 + m := by omega
    rw [e]; exact h1
set_option maxHeartbeats 4000000 in
set_option maxRecDepth 100000 in
/-- refill(fixed, open) -/
theorem met_refill (l : Launch) (D : va_G) (cI cB : ClassId) (a : Nat → Nat) (f0 : Int) (f1 : Int) (g2 : Nat → Int) (f3 : Int) (f4 : Int) (g5 : Nat → Int) (f6 : Int) (g7 : Nat → Int) (f8 : Int) (g9 : Nat → Int) (g10 : Nat → Int) (f11 : Int) (g12 : Nat → Int) (f13 : Int) (f14 : Int) (g15 : Nat → Int) (F o : Nat) (hF : F < 256) (hb : ∀ x, x < 8 → F.testBit x = true → 0 ≤ g15 x ∧ g15 x < 16) : MDv l yX1_refill cX1_refill 4 1 [.ref (a 0), .int (iI (F : Int)), .int (iI (o : Int))] D cI cB (WD a cI cB f0 f1 g2 f3 f4 g5 f6 g7 f8 g9 g10 f11 g12 f13 f14 g15) (fun u => u = (WD a cI cB f0 f1 g2 f0 (o : Int) (lF F g15 g2 8) 0 g7 f8 g9 g10 f11 g12 f13 f14 g15)) := by
  refine md_v [(0, .ref (a 0)), (1, .int (iI (F : Int))), (2, .int (iI (o : Int)))] rfl (Nat.le_of_ble_eq_true rfl) rfl ?_
  intro A G C hret
  have C : Cx l RX1 cX1_refill 4 (rmD 1) D cI cB A 0 0 G := C
  have loop : ∀ (n i : Nat), i ≤ 8 → 8 < i + n → G [(0, .ref (a 0)), (1, .int (iI (F : Int))), (2, .int (iI (o : Int))), (3, .int (iI (i : Int)))] (WD a cI cB f0 f1 g2 f0 (o : Int) (lF F g15 g2 i) 0 g7 f8 g9 g10 f11 g12 f13 f14 g15) 15 [] := by
    intro n
    induction n with
    | zero => intro i h1 h2; exact absurd h2 (by omega)
    | succ n ih =>
      intro i h1 h2
      refine g_iload_n C (pc := 15) 3 rfl rfl dX1_refill_15 ?_
      refine g_bipush C (pc := 16) dX1_refill_16 (by decide) ?_
      refine g_icmp_ge C (pc := 18) 55 (by omega) (by omega) (by decide) dX1_refill_18 (fun c18 => ?_) (fun c18 => ?_)
      · have e8 : i = 8 := by omega
        subst e8
        exact hret _ _ _ dX1_refill_55 rfl
      · refine g_iload_n C (pc := 21) 1 rfl rfl dX1_refill_21 ?_
        refine g_iload_n C (pc := 22) 3 rfl rfl dX1_refill_22 ?_
        have hi8 : i < 8 := by omega
        refine g_ishr C (pc := 23) ((F / 2 ^ i : Nat) : Int) (bit_shr (by omega) (by omega)) dX1_refill_23 ?_
        refine g_iconst C (pc := 24) dX1_refill_24 ?_
        have hq : F / 2 ^ i ≤ F := Nat.div_le_self _ _
        refine g_iand C (pc := 25) ((F / 2 ^ i % 2 : Nat) : Int) (bit_and1 (by omega)) dX1_refill_25 ?_
        refine g_if_eq C (pc := 26) 49 (by omega) (by decide) dX1_refill_26 (fun c26 => ?_) (fun c26 => ?_)
        · have hbit : F.testBit i = false := (tb_not F i).mpr (by omega)
          refine g_iinc C (pc := 49) [(0, .ref (a 0)), (1, .int (iI (F : Int))), (2, .int (iI (o : Int))), (3, .int (iI ((i : Int) + 1)))] [1, 2, 3, 0] 3 rfl (by decide) rfl dX1_refill_49 ?_
          refine g_goto C (pc := 52) 15 (by decide) dX1_refill_52 ?_
          rw [← lF_no (h := g15) (g := g2) hbit]
          exact ih (i + 1) (by omega) (by omega)
        · have hbit : F.testBit i = true := (tb_iff F i).mpr (by omega)
          have hbi := hb i hi8 hbit
          refine g_aload_n C (pc := 29) 0 rfl rfl dX1_refill_29 ?_
          refine dg_loads C (pc := 30) dX1_refill_30 ?_
          refine g_aload_n C (pc := 33) 0 rfl rfl dX1_refill_33 ?_
          refine dg_bins C (pc := 34) dX1_refill_34 ?_
          refine g_iload_n C (pc := 37) 3 rfl rfl dX1_refill_37 ?_
          refine dl_bins C (pc := 38) i (by omega) (by omega) dX1_refill_38 ?_
          refine g_dup2 C (pc := 39) rfl rfl dX1_refill_39 ?_
          refine dl_loads C (pc := 40) ((g15 i)).toNat (by omega) (by omega) dX1_refill_40 ?_
          refine g_aload_n C (pc := 41) 0 rfl rfl dX1_refill_41 ?_
          refine dg_sizes C (pc := 42) dX1_refill_42 ?_
          refine g_iload_n C (pc := 45) 3 rfl rfl dX1_refill_45 ?_
          refine dl_sizes C (pc := 46) i (by omega) (by omega) dX1_refill_46 ?_
          refine g_iadd C (pc := 47) dX1_refill_47 ?_
          refine ds_loads C (pc := 48) ((g15 i)).toNat (by omega) (by omega) dX1_refill_48 ?_
          refine g_iinc C (pc := 49) [(0, .ref (a 0)), (1, .int (iI (F : Int))), (2, .int (iI (o : Int))), (3, .int (iI ((i : Int) + 1)))] [1, 2, 3, 0] 3 rfl (by decide) rfl dX1_refill_49 ?_
          refine g_goto C (pc := 52) 15 (by decide) dX1_refill_52 ?_
          rw [show va_up (lF F g15 g2 i) (g15 i).toNat (lF F g15 g2 i (g15 i).toNat + g2 i) = lF F g15 g2 (i + 1) from (lF_yes hbit (by omega)).symm]
          exact ih (i + 1) (by omega) (by omega)
  refine g_aload_n C (pc := 0) 0 rfl rfl dX1_refill_0 ?_
  refine g_aload_n C (pc := 1) 0 rfl rfl dX1_refill_1 ?_
  refine dg_binSize C (pc := 2) dX1_refill_2 ?_
  refine g_callv C (pc := 5) (n := 1) [] [.int (iI f0)] (met_ask l D cI cB a f0 f1 g2 f3 f4 g5 f6 g7 f8 g9 g10 f11 g12 f13 f14 g15 f0) (lw_V q129 q131 qs3 q24 q132) (by decide +kernel) (by decide) (by decide) rfl 0 0 rfl rfl rfl (Nat.le_of_ble_eq_true rfl) dX1_refill_5 (fun u hu => ?_)
  subst hu
  refine g_aload_n C (pc := 8) 0 rfl rfl dX1_refill_8 ?_
  refine g_iload_n C (pc := 9) 2 rfl rfl dX1_refill_9 ?_
  refine dp_opened C (pc := 10) dX1_refill_10 ?_
  refine g_iconst C (pc := 13) dX1_refill_13 ?_
  refine g_istore_n C (pc := 14) [(0, .ref (a 0)), (1, .int (iI (F : Int))), (2, .int (iI (o : Int))), (3, .int (iI 0))] [1, 2, 3, 0] rfl (by decide) rfl dX1_refill_14 ?_
  exact loop 9 0 (by omega) (by omega)
set_option maxHeartbeats 4000000 in
set_option maxRecDepth 100000 in
/-- firstBin(i, fixed, open) -/
theorem met_firstBin (l : Launch) (D : va_G) (cI cB : ClassId) (a : Nat → Nat) (f0 : Int) (g2 : Nat → Int) (f3 : Int) (f4 : Int) (g5 : Nat → Int) (f6 : Int) (g7 : Nat → Int) (f8 : Int) (g9 : Nat → Int) (g10 : Nat → Int) (f11 : Int) (g12 : Nat → Int) (f13 : Int) (f14 : Int) (g15 : Nat → Int) (p i F o : Nat) (hp : p < 256) (hi : i < 8) (hF : F < 256) (ho : o ≤ 8) (hR : 1 ≤ f0 ∧ f0 ≤ 60) (hc : 0 ≤ f14 ∧ f14 ≤ 100) (hg : ∀ k, 0 ≤ g2 k ∧ g2 k ≤ 60) (hb : ∀ x, x < 8 → F.testBit x = true → 0 ≤ g15 x ∧ g15 x < 16) (hl : ∀ b, 0 ≤ (lF F g15 g2 8) b ∧ (lF F g15 g2 8) b ≤ f0) (hlz : ∀ b, o ≤ b → (lF F g15 g2 8) b = 0) (hn : o + (sel (clr (clr p F) (2 ^ i)) 8 g2).length ≤ 9) (hs : ∀ x ∈ sel (clr (clr p F) (2 ^ i)) 8 g2, 0 < x ∧ x ≤ f0) : MDi l yX1_firstBin cX1_firstBin 5 .int 4 [.ref (a 0), .int (iI (i : Int)), .int (iI (F : Int)), .int (iI (o : Int))] D cI cB (WD a cI cB f0 (p : Int) g2 f3 f4 g5 f6 g7 f8 g9 g10 f11 g12 f13 f14 g15) (fun z u => ∃ (f3' : Int) (f4' : Int) (g5' : Nat → Int) (f6' : Int) (g7' : Nat → Int) (f8' : Int) (g9' : Nat → Int) (g10' : Nat → Int) (f11' : Int) (g12' : Nat → Int), u = (WD a cI cB f0 (p : Int) g2 f3' f4' g5' f6' g7' f8' g9' g10' f11' g12' f13 f14 g15) ∧ ((∃ b : Nat, b < o ∧ z = b ∧ ((lF F g15 g2 8) b + g2 i ≤ f0 ∧ Opt f0 (sel (clr (clr p F) (2 ^ i)) 8 g2) (bump (lF F g15 g2 8) b (g2 i)) o f14) ∧ ∀ c, c < b → ¬ ((lF F g15 g2 8) c + g2 i ≤ f0 ∧ Opt f0 (sel (clr (clr p F) (2 ^ i)) 8 g2) (bump (lF F g15 g2 8) c (g2 i)) o f14)) ∨ (z = o ∧ ∀ c, c < o → ¬ ((lF F g15 g2 8) c + g2 i ≤ f0 ∧ Opt f0 (sel (clr (clr p F) (2 ^ i)) 8 g2) (bump (lF F g15 g2 8) c (g2 i)) o f14)))) := by
  refine md_i [(0, .ref (a 0)), (1, .int (iI (i : Int))), (2, .int (iI (F : Int))), (3, .int (iI (o : Int)))] rfl (Nat.le_of_ble_eq_true rfl) rfl ?_
  intro A G C hret
  have C : Cx l RX1 cX1_firstBin 5 (rmD 4) D cI cB A 0 0 G := C
  have loop : ∀ (n b : Nat) (f3 : Int) (f4 : Int) (g5 : Nat → Int) (f6 : Int) (g7 : Nat → Int) (f8 : Int) (g9 : Nat → Int) (g10 : Nat → Int) (f11 : Int) (g12 : Nat → Int), b ≤ o → o < b + n → (∀ c, c < b → ¬ ((lF F g15 g2 8) c + g2 i ≤ f0 ∧ Opt f0 (sel (clr (clr p F) (2 ^ i)) 8 g2) (bump (lF F g15 g2 8) c (g2 i)) o f14)) → G [(0, .ref (a 0)), (1, .int (iI (i : Int))), (2, .int (iI (F : Int))), (3, .int (iI (o : Int))), (4, .int (iI (b : Int)))] (WD a cI cB f0 (p : Int) g2 f3 f4 g5 f6 g7 f8 g9 g10 f11 g12 f13 f14 g15) 3 [] := by
    intro n
    induction n with
    | zero => intro b f3 f4 g5 f6 g7 f8 g9 g10 f11 g12 h1 h2; exact absurd h2 (by omega)
    | succ n ih =>
      intro b f3 f4 g5 f6 g7 f8 g9 g10 f11 g12 h1 h2 h3
      have hgi := hg i
      have hlb := hl b
      refine g_iload C (pc := 3) 4 rfl dX1_firstBin_3 ?_
      refine g_iload_n C (pc := 5) 3 rfl rfl dX1_firstBin_5 ?_
      refine g_icmp_ge C (pc := 6) 83 (by omega) (by omega) (by decide) dX1_firstBin_6 (fun c6 => ?_) (fun c6 => ?_)
      · refine g_iload_n C (pc := 83) 3 rfl rfl dX1_firstBin_83 ?_
        exact hret _ _ _ _ dX1_firstBin_84 rfl ⟨_, _, _, _, _, _, _, _, _, _, rfl, Or.inr ⟨rfl, fun c hc2 => h3 c (by omega)⟩⟩
      · refine g_aload_n C (pc := 9) 0 rfl rfl dX1_firstBin_9 ?_
        refine g_iload_n C (pc := 10) 2 rfl rfl dX1_firstBin_10 ?_
        refine g_iload_n C (pc := 11) 3 rfl rfl dX1_firstBin_11 ?_
        refine g_callv C (pc := 12) (n := 2) [] [.int (iI (F : Int)), .int (iI (o : Int))] (met_refill l D cI cB a f0 (p : Int) g2 f3 f4 g5 f6 g7 f8 g9 g10 f11 g12 f13 f14 g15 F o hF hb) (lw_V q181 q183 qs15 q24 q184) (by decide +kernel) (by decide) (by decide) rfl 0 0 rfl rfl rfl (Nat.le_of_ble_eq_true rfl) dX1_firstBin_12 (fun u hu => ?_)
        subst hu
        refine g_aload_n C (pc := 15) 0 rfl rfl dX1_firstBin_15 ?_
        refine dg_loads C (pc := 16) dX1_firstBin_16 ?_
        refine g_iload C (pc := 19) 4 rfl dX1_firstBin_19 ?_
        refine g_dup2 C (pc := 21) rfl rfl dX1_firstBin_21 ?_
        refine dl_loads C (pc := 22) b (by omega) (by omega) dX1_firstBin_22 ?_
        refine g_aload_n C (pc := 23) 0 rfl rfl dX1_firstBin_23 ?_
        refine dg_sizes C (pc := 24) dX1_firstBin_24 ?_
        refine g_iload_n C (pc := 27) 1 rfl rfl dX1_firstBin_27 ?_
        refine dl_sizes C (pc := 28) i (by omega) (by omega) dX1_firstBin_28 ?_
        refine g_iadd C (pc := 29) dX1_firstBin_29 ?_
        refine ds_loads C (pc := 30) b (by omega) (by omega) dX1_firstBin_30 ?_
        refine g_aload_n C (pc := 31) 0 rfl rfl dX1_firstBin_31 ?_
        refine dg_loads C (pc := 32) dX1_firstBin_32 ?_
        refine g_iload C (pc := 35) 4 rfl dX1_firstBin_35 ?_
        refine dl_loads C (pc := 37) b (by omega) (by omega) dX1_firstBin_37 ?_
        refine g_top C (y := ((lF F g15 g2 8) b + g2 i)) (up_same _ _ _) ?_
        refine g_aload_n C (pc := 38) 0 rfl rfl dX1_firstBin_38 ?_
        refine dg_room C (pc := 39) dX1_firstBin_39 ?_
        refine g_icmp_gt C (pc := 42) 77 (by omega) (by omega) (by decide) dX1_firstBin_42 (fun c42 => ?_) (fun c42 => ?_)
        · have hno : ¬ ((lF F g15 g2 8) b + g2 i ≤ f0 ∧ Opt f0 (sel (clr (clr p F) (2 ^ i)) 8 g2) (bump (lF F g15 g2 8) b (g2 i)) o f14) := fun h => by have h5 := h.1; omega
          refine g_iinc C (pc := 77) [(0, .ref (a 0)), (1, .int (iI (i : Int))), (2, .int (iI (F : Int))), (3, .int (iI (o : Int))), (4, .int (iI ((b : Int) + 1)))] [1, 2, 3, 4, 0] 4 rfl (by decide) rfl dX1_firstBin_77 ?_
          refine g_goto C (pc := 80) 3 (by decide) dX1_firstBin_80 ?_
          exact ih (b + 1)  _ _ _ _ _ _ _ _ _ _ (by omega) (by omega) (fun c hc2 => by
            by_cases e : c = b
            · rw [e]; exact hno
            · exact h3 c (by omega))
        · refine g_aload_n C (pc := 45) 0 rfl rfl dX1_firstBin_45 ?_
          refine g_aload_n C (pc := 46) 0 rfl rfl dX1_firstBin_46 ?_
          refine dg_present C (pc := 47) dX1_firstBin_47 ?_
          refine g_iload_n C (pc := 50) 2 rfl rfl dX1_firstBin_50 ?_
          refine g_iconst C (pc := 51) dX1_firstBin_51 ?_
          refine g_ixor C (pc := 52) (-(F : Int) - 1) (bit_not F) dX1_firstBin_52 ?_
          refine g_iand C (pc := 53) ((clr p F : Nat) : Int) (bit_clr hp hF) dX1_firstBin_53 ?_
          refine g_iconst C (pc := 54) dX1_firstBin_54 ?_
          refine g_iload_n C (pc := 55) 1 rfl rfl dX1_firstBin_55 ?_
          refine g_ishl C (pc := 56) ((2 ^ i : Nat) : Int) (bit_shl (by omega)) dX1_firstBin_56 ?_
          refine g_iconst C (pc := 57) dX1_firstBin_57 ?_
          refine g_ixor C (pc := 58) (-((2 ^ i : Nat) : Int) - 1) (bit_not (2 ^ i)) dX1_firstBin_58 ?_
          refine g_iand C (pc := 59) (((clr (clr p F) (2 ^ i)) : Nat) : Int) (bit_clr (clr_lt hp) (pow_lt hi)) dX1_firstBin_59 ?_
          refine g_callv C (pc := 60) (n := 1) [] [.int (iI (((clr (clr p F) (2 ^ i)) : Nat) : Int))] (met_wantAll l D cI cB a f0 (p : Int) g2 f0 (o : Int) (bump (lF F g15 g2 8) b (g2 i)) g7 f8 g9 g10 f11 g12 f13 f14 g15 0 (clr (clr p F) (2 ^ i)) (by omega) (clr_lt (clr_lt hp)) (fun k => by have h5 := hg k; omega) (fun j hj => absurd hj (by omega))) (lw_V q133 q135 qs4 q24 q136) (by decide +kernel) (by decide) (by decide) rfl 0 0 rfl rfl rfl (Nat.le_of_ble_eq_true rfl) dX1_firstBin_60 (fun u hu => ?_)
          obtain ⟨m1, g1, rfl, hpm⟩ := hu
          rw [its_0, List.append_nil] at hpm
          have hm1 : m1 = (sel (clr (clr p F) (2 ^ i)) 8 g2).length := by rw [← hpm.length_eq, its_len]
          refine g_aload_n C (pc := 63) 0 rfl rfl dX1_firstBin_63 ?_
          have hgb := bump_rg hl (show 0 ≤ g2 i by omega) (show (lF F g15 g2 8) b + g2 i ≤ f0 by omega)
          refine g_calli C (pc := 64) (n := 0) [] [] (met_solve l D cI cB a f0 (p : Int) g2 f0 (bump (lF F g15 g2 8) b (g2 i)) g1 f8 g9 g10 f11 g12 f13 f14 g15 o m1 (by omega) (by omega) hgb (fun c hc2 => by rw [bump_ne _ _ (by omega)]; exact hlz c hc2) (perm_bd (P := fun x => 0 < x ∧ x ≤ f0) hpm hs)) (lw_V q141 q143 qs6 q24 q144) (by decide +kernel) (by decide) (by decide) rfl 0 0 rfl rfl rfl (Nat.le_of_ble_eq_true rfl) dX1_firstBin_64 (fun z u hu => ?_)
          obtain ⟨B1, p1, q1, c1, w1, rfl, hop1⟩ := hu
          have hop := opt_perm hpm hop1
          have hzr : 0 ≤ z ∧ z ≤ 9 := by
            obtain ⟨⟨K1, e1, _, _⟩, h5⟩ := hop1
            have h6 := h5 (o + m1) (by omega) (Cp_each o m1 hgb (fun c hc2 => by rw [bump_ne _ _ (by omega)]; exact hlz c hc2) (perm_bd (P := fun x => 0 < x ∧ x ≤ f0) hpm hs))
            omega
          refine g_aload_n C (pc := 67) 0 rfl rfl dX1_firstBin_67 ?_
          refine dg_leastCount C (pc := 68) dX1_firstBin_68 ?_
          refine g_icmp_ne C (pc := 71) 77 (by omega) (by omega) (by decide) dX1_firstBin_71 (fun c71 => ?_) (fun c71 => ?_)
          · have hno : ¬ ((lF F g15 g2 8) b + g2 i ≤ f0 ∧ Opt f0 (sel (clr (clr p F) (2 ^ i)) 8 g2) (bump (lF F g15 g2 8) b (g2 i)) o f14) := fun h => c71 (opt_uniq hop h.2)
            refine g_iinc C (pc := 77) [(0, .ref (a 0)), (1, .int (iI (i : Int))), (2, .int (iI (F : Int))), (3, .int (iI (o : Int))), (4, .int (iI ((b : Int) + 1)))] [1, 2, 3, 4, 0] 4 rfl (by decide) rfl dX1_firstBin_77 ?_
            refine g_goto C (pc := 80) 3 (by decide) dX1_firstBin_80 ?_
            exact ih (b + 1)  _ _ _ _ _ _ _ _ _ _ (by omega) (by omega) (fun c hc2 => by
              by_cases e : c = b
              · rw [e]; exact hno
              · exact h3 c (by omega))
          · refine g_iload C (pc := 74) 4 rfl dX1_firstBin_74 ?_
            exact hret _ _ _ _ dX1_firstBin_76 rfl ⟨_, _, _, _, _, _, _, _, _, _, rfl, Or.inl ⟨b, by omega, rfl, ⟨by omega, by rw [← c71]; exact hop⟩, h3⟩⟩
  refine g_iconst C (pc := 0) dX1_firstBin_0 ?_
  refine g_istore C (pc := 1) [(0, .ref (a 0)), (1, .int (iI (i : Int))), (2, .int (iI (F : Int))), (3, .int (iI (o : Int))), (4, .int (iI 0))] [1, 2, 3, 4, 0] (by decide) rfl dX1_firstBin_1 ?_
  exact loop (o + 1) 0  _ _ _ _ _ _ _ _ _ _ (by omega) (by omega) (fun c hc2 => absurd hc2 (by omega))
set_option maxHeartbeats 4000000 in
set_option maxRecDepth 100000 in
/-- pack() -/
theorem met_pack (l : Launch) (D : va_G) (cI cB : ClassId) (a : Nat → Nat) (f0 : Int) (g2 : Nat → Int) (f3 : Int) (f4 : Int) (g5 : Nat → Int) (f6 : Int) (g7 : Nat → Int) (f8 : Int) (g9 : Nat → Int) (g10 : Nat → Int) (f11 : Int) (g12 : Nat → Int) (f13 : Int) (f14 : Int) (g15 : Nat → Int) (p : Nat) (hok : SzOk f0 p g2) (hpk : PkI f0 p g2 f13 f14 g15) : MDv l yX1_pack cX1_pack 5 5 [.ref (a 0)] D cI cB (WD a cI cB f0 (p : Int) g2 f3 f4 g5 f6 g7 f8 g9 g10 f11 g12 f13 f14 g15) (fun u => ∃ (f3' : Int) (f4' : Int) (g5' : Nat → Int) (f6' : Int) (g7' : Nat → Int) (f8' : Int) (g9' : Nat → Int) (g10' : Nat → Int) (f11' : Int) (g12' : Nat → Int), ∃ (c' : Int) (h' : Nat → Int), u = (WD a cI cB f0 (p : Int) g2 f3' f4' g5' f6' g7' f8' g9' g10' f11' g12' 1 c' h') ∧ PkS f0 p g2 c' h') := by
  refine md_v [(0, .ref (a 0))] rfl (Nat.le_of_ble_eq_true rfl) rfl ?_
  intro A G C hret
  have C : Cx l RX1 cX1_pack 5 (rmD 5) D cI cB A 0 0 G := C
  obtain ⟨hR, hp, hg, hsz⟩ := id hok
  have h13 : 0 ≤ f13 ∧ f13 ≤ 1 := by rcases hpk with h | ⟨h, _⟩ <;> omega
  have hs := sz_it hok
  have hits := its_sel (p := p) g2 8 (Nat.le_refl 8)
  have loop : ∀ (n i o K : Nat) (f : Nat → Nat) (h : Nat → Int) (f3 : Int) (f4 : Int) (g5 : Nat → Int) (f6 : Int) (g7 : Nat → Int) (f8 : Int) (g9 : Nat → Int) (g10 : Nat → Int) (f11 : Int) (g12 : Nat → Int), i ≤ 8 → 8 < i + n → K ≤ 8 → Opt f0 (its (rk p 8) (fun k => g2 (it p k))) (fun _ => 0) 0 (K : Int) → PKp f0 (rk p 8) (fun k => g2 (it p k)) K f (rk p i) → o = mx (rk p i) f → (∀ x, x < i → p.testBit x = true → h x = (f (rk p x) : Int)) → G [(0, .ref (a 0)), (1, .int (iI ((p % 2 ^ i : Nat) : Int))), (2, .int (iI (o : Int))), (3, .int (iI (i : Int)))] (WD a cI cB f0 (p : Int) g2 f3 f4 g5 f6 g7 f8 g9 g10 f11 g12 1 (K : Int) h) 43 [] := by
    intro n
    induction n with
    | zero => intro i o K f h f3 f4 g5 f6 g7 f8 g9 g10 f11 g12 h1 h2; exact absurd h2 (by omega)
    | succ n ih =>
      intro i o K f h f3 f4 g5 f6 g7 f8 g9 g10 f11 g12 h1 h2 hK8 hop hpkp ho hfx
      have hoK : o ≤ K := by rw [ho]; exact hpkp.2.2.1
      refine g_iload_n C (pc := 43) 3 rfl rfl dX1_pack_43 ?_
      refine g_bipush C (pc := 44) dX1_pack_44 (by decide) ?_
      refine g_icmp_ge C (pc := 46) 96 (by omega) (by omega) (by decide) dX1_pack_46 (fun c46 => ?_) (fun c46 => ?_)
      · have e8 : i = 8 := by omega
        subst e8
        exact hret _ _ _ dX1_pack_96 ⟨_, _, _, _, _, _, _, _, _, _, _, _, rfl, K, f, rfl, hK8, by rw [hits]; exact hop, hpkp, hfx⟩
      · refine g_aload_n C (pc := 49) 0 rfl rfl dX1_pack_49 ?_
        refine g_iload_n C (pc := 50) 3 rfl rfl dX1_pack_50 ?_
        refine g_calli C (pc := 51) (n := 1) [] [.int (iI (i : Int))] (met_has l D cI cB a f0 g2 f3 f4 g5 f6 g7 f8 g9 g10 f11 g12 1 (K : Int) h p hp (i : Int) (by omega)) (lw_V q89 q91 qs0 q24 q92) (by decide +kernel) (by decide) (by decide) rfl 0 0 rfl rfl rfl (Nat.le_of_ble_eq_true rfl) dX1_pack_51 (fun z u hu => ?_)
        obtain ⟨rfl, hz1⟩ := hu
        have hz := has01 hz1
        clear hz1
        have hz2 : 0 ≤ z ∧ z ≤ 1 := by rcases hz with ⟨h, _⟩ | ⟨h, _⟩ <;> omega
        refine g_if_eq C (pc := 54) 90 (by omega) (by decide) dX1_pack_54 (fun c54 => ?_) (fun c54 => ?_)
        · have hi8 : i < 8 := by omega
          have hh : hasb p (i : Int) = false := by
            rcases hz with ⟨h, _⟩ | ⟨_, h⟩
            · omega
            · exact h
          have hbit : p.testBit i = false := by rw [← hasb_nat hi8]; exact hh
          refine g_iinc C (pc := 90) [(0, .ref (a 0)), (1, .int (iI ((p % 2 ^ i : Nat) : Int))), (2, .int (iI (o : Int))), (3, .int (iI ((i : Int) + 1)))] [1, 2, 3, 0] 3 rfl (by decide) rfl dX1_pack_90 ?_
          refine g_goto C (pc := 93) 43 (by decide) dX1_pack_93 ?_
          rw [← mod_no hbit]
          refine ih (i + 1) o K f h  _ _ _ _ _ _ _ _ _ _ (by omega) (by omega) hK8 hop (by rw [rk_no hbit]; exact hpkp) (by rw [rk_no hbit]; exact ho) (fun x hx hb => ?_)
          by_cases e : x = i
          · subst e; rw [hbit] at hb; exact absurd hb (by decide)
          · exact hfx x (by omega) hb
        · have hi8 : i < 8 := by omega
          have hh : hasb p (i : Int) = true := by
            rcases hz with ⟨_, h⟩ | ⟨h, _⟩
            · exact h
            · omega
          have hbit : p.testBit i = true := by rw [← hasb_nat hi8]; exact hh
          refine g_aload_n C (pc := 57) 0 rfl rfl dX1_pack_57 ?_
          refine g_iload_n C (pc := 58) 3 rfl rfl dX1_pack_58 ?_
          refine g_iload_n C (pc := 59) 1 rfl rfl dX1_pack_59 ?_
          refine g_iload_n C (pc := 60) 2 rfl rfl dX1_pack_60 ?_
          have hki := rk_lt hi8 hbit
          have hlf := lF_ld (g := g2) (f := f) (show i ≤ 8 by omega) hfx
          obtain ⟨hld, hldz⟩ := pkp_ld (by omega) (Nat.le_of_lt hki) hs hpkp
          have hsel : sel (clr (clr p (p % 2 ^ i)) (2 ^ i)) 8 g2 = (its (rk p 8) (fun k => g2 (it p k))).drop (rk p i + 1) := by rw [sel_after (p := p) hi8 g2 (fun x _ => q_bits hp x), hits, rk_yes hbit]
          have hrk8 := rk_le p 8
          have hmi := mx_len hpkp.1
          have hii : it p (rk p i) = i := it_rk hi8 hbit
          refine g_calli C (pc := 61) (n := 3) [] [.int (iI (i : Int)), .int (iI ((p % 2 ^ i : Nat) : Int)), .int (iI (o : Int))] (met_firstBin l D cI cB a f0 g2 f3 f4 g5 f6 g7 f8 g9 g10 f11 g12 1 (K : Int) h p i (p % 2 ^ i) o hp hi8 (mod_lt hp) (by omega) hR (by omega) hg (fun x hx hb => by
              rw [tb_mod, Bool.and_eq_true, decide_eq_true_eq] at hb
              have h5 := hfx x hb.1 hb.2
              have h6 := mx_gt (j := rk p x) (k := rk p i) f (by
                have h7 := rk_yes hb.2
                have h8 := rk_mono (p := p) (show x + 1 ≤ i by omega)
                omega)
              omega) (by rw [hlf]; exact hld) (by rw [hlf, ho]; exact hldz) (by rw [hsel, List.length_drop, its_len]; omega) (by
              rw [hsel]
              intro x hx
              obtain ⟨j, h5, h6⟩ := its_of_mem (List.mem_of_mem_drop hx)
              have h7 := hs j h5
              rw [← h6]; omega)) (lw_V q177 q179 qs14 q24 q180) (by decide +kernel) (by decide) (by decide) rfl 0 0 rfl rfl rfl (Nat.le_of_ble_eq_true rfl) dX1_pack_61 (fun z u hu => ?_)
          obtain ⟨f3', f4', g5', f6', g7', f8', g9', g10', f11', g12', rfl, hfb⟩ := hu
          rw [hlf, hsel] at hfb
          have hyb : ∀ c, c < o → ((ld (rk p i) f (fun k => g2 (it p k)) c + g2 i ≤ f0 ∧ Opt f0 ((its (rk p 8) (fun k => g2 (it p k))).drop (rk p i + 1)) (bump (ld (rk p i) f (fun k => g2 (it p k))) c (g2 i)) o (K : Int)) ↔ Cp f0 ((its (rk p 8) (fun k => g2 (it p k))).drop (rk p i + 1)) (bump (ld (rk p i) f (fun k => g2 (it p k))) c (g2 i)) K) := fun c hc2 => by
            have h5 := yb_iff hki hs hop hpkp (c := c) (by omega)
            simp only [hii] at h5
            rw [ho]; exact h5
          have hfin : ∃ b : Nat, z = b ∧ b ≤ mx (rk p i) f ∧ b < K ∧ PKp f0 (rk p 8) (fun k => g2 (it p k)) K (va_up f (rk p i) b) (rk p i + 1) := by
            rcases hfb with ⟨b, hb1, hb2, hb3, hb4⟩ | ⟨hb1, hb2⟩
            · have h5 := (hyb b hb1).mp hb3
              refine ⟨b, hb2, by omega, by omega, pkp_step hki hpkp (by omega) (fun c hc2 h6 => hb4 c hc2 ((hyb c (by omega)).mpr ?_)) (by omega) ?_⟩
              · simp only [hii] at h6; exact h6
              · simp only [hii]; exact h5
            · obtain ⟨h5, h6⟩ := pkp_new hki hpkp (fun c hc2 h7 => hb2 c (by omega) ((hyb c (by omega)).mpr (by simp only [hii] at h7; exact h7)))
              rw [← ho] at h5 h6
              exact ⟨o, hb1, by omega, h5, pkp_step hki hpkp (by omega) (fun c hc2 h7 => hb2 c hc2 ((hyb c hc2).mpr (by simp only [hii] at h7; exact h7))) h5 h6⟩
          obtain ⟨b, rfl, hbo, hbK, hstep⟩ := hfin
          refine g_istore C (pc := 64) [(0, .ref (a 0)), (1, .int (iI ((p % 2 ^ i : Nat) : Int))), (2, .int (iI (o : Int))), (3, .int (iI (i : Int))), (4, .int (iI (b : Int)))] [1, 2, 3, 4, 0] (by decide) rfl dX1_pack_64 ?_
          refine g_aload_n C (pc := 66) 0 rfl rfl dX1_pack_66 ?_
          refine dg_bins C (pc := 67) dX1_pack_67 ?_
          refine g_iload_n C (pc := 70) 3 rfl rfl dX1_pack_70 ?_
          refine g_iload C (pc := 71) 4 rfl dX1_pack_71 ?_
          refine g_i2b C (pc := 73) (by omega) dX1_pack_73 ?_
          refine ds_bins C (pc := 74) i (by omega) (by omega) (by omega) dX1_pack_74 ?_
          refine g_iload_n C (pc := 75) 1 rfl rfl dX1_pack_75 ?_
          refine g_iconst C (pc := 76) dX1_pack_76 ?_
          refine g_iload_n C (pc := 77) 3 rfl rfl dX1_pack_77 ?_
          refine g_ishl C (pc := 78) ((2 ^ i : Nat) : Int) (bit_shl (by omega)) dX1_pack_78 ?_
          refine g_ior C (pc := 79) ((p % 2 ^ (i + 1) : Nat) : Int) (by rw [bit_or, mod_or hbit]) dX1_pack_79 ?_
          refine g_istore_n C (pc := 80) [(0, .ref (a 0)), (1, .int (iI ((p % 2 ^ (i + 1) : Nat) : Int))), (2, .int (iI (o : Int))), (3, .int (iI (i : Int))), (4, .int (iI (b : Int)))] [1, 0, 2, 3, 4] rfl (by decide) rfl dX1_pack_80 ?_
          refine g_iload C (pc := 81) 4 rfl dX1_pack_81 ?_
          refine g_iload_n C (pc := 83) 2 rfl rfl dX1_pack_83 ?_
          refine g_icmp_ne C (pc := 84) 90 (by omega) (by omega) (by decide) dX1_pack_84 (fun c84 => ?_) (fun c84 => ?_)
          · refine g_iinc C (pc := 90) [(0, .ref (a 0)), (1, .int (iI ((p % 2 ^ (i + 1) : Nat) : Int))), (2, .int (iI (o : Int))), (3, .int (iI ((i : Int) + 1))), (4, .int (iI (b : Int)))] [1, 2, 3, 0, 4] 3 rfl (by decide) rfl dX1_pack_90 ?_
            refine g_goto C (pc := 93) 43 (by decide) dX1_pack_93 ?_
            refine g_locals C [0, 1, 2, 3] rfl ?_
            refine ih (i + 1) o K (va_up f (rk p i) b) _  _ _ _ _ _ _ _ _ _ _ (by omega) (by omega) hK8 hop (by rw [rk_yes hbit]; exact hstep) (by rw [rk_yes hbit, pkp_mx hbo, ← ho, if_neg (by omega)]) (fun x hx hb => ?_)
            by_cases e : x = i
            · subst e; rw [up_same, up_same]
            · have e2 : rk p x < rk p i := by
                have h5 := rk_yes hb
                have h6 := rk_mono (p := p) (show x + 1 ≤ i by omega)
                omega
              rw [up_ne _ _ e, up_ne _ _ (by omega)]
              exact hfx x (by omega) hb
          · refine g_iinc C (pc := 87) [(0, .ref (a 0)), (1, .int (iI ((p % 2 ^ (i + 1) : Nat) : Int))), (2, .int (iI ((o : Int) + 1))), (3, .int (iI (i : Int))), (4, .int (iI (b : Int)))] [1, 2, 0, 3, 4] 2 rfl (by decide) rfl dX1_pack_87 ?_
            refine g_iinc C (pc := 90) [(0, .ref (a 0)), (1, .int (iI ((p % 2 ^ (i + 1) : Nat) : Int))), (2, .int (iI ((o : Int) + 1))), (3, .int (iI ((i : Int) + 1))), (4, .int (iI (b : Int)))] [1, 2, 3, 0, 4] 3 rfl (by decide) rfl dX1_pack_90 ?_
            refine g_goto C (pc := 93) 43 (by decide) dX1_pack_93 ?_
            refine g_locals C [0, 1, 2, 3] rfl ?_
            refine ih (i + 1) (o + 1) K (va_up f (rk p i) b) _  _ _ _ _ _ _ _ _ _ _ (by omega) (by omega) hK8 hop (by rw [rk_yes hbit]; exact hstep) (by rw [rk_yes hbit, pkp_mx hbo, ← ho, if_pos (by omega)]) (fun x hx hb => ?_)
            by_cases e : x = i
            · subst e; rw [up_same, up_same]
            · have e2 : rk p x < rk p i := by
                have h5 := rk_yes hb
                have h6 := rk_mono (p := p) (show x + 1 ≤ i by omega)
                omega
              rw [up_ne _ _ e, up_ne _ _ (by omega)]
              exact hfx x (by omega) hb
  refine g_aload_n C (pc := 0) 0 rfl rfl dX1_pack_0 ?_
  refine dg_packed C (pc := 1) dX1_pack_1 ?_
  refine g_if_eq C (pc := 4) 8 (by omega) (by decide) dX1_pack_4 (fun c4 => ?_) (fun c4 => ?_)
  · refine g_aload_n C (pc := 8) 0 rfl rfl dX1_pack_8 ?_
    refine g_iconst C (pc := 9) dX1_pack_9 ?_
    refine dp_packed C (pc := 10) (by omega) dX1_pack_10 ?_
    refine g_aload_n C (pc := 13) 0 rfl rfl dX1_pack_13 ?_
    refine g_aload_n C (pc := 14) 0 rfl rfl dX1_pack_14 ?_
    refine dg_binSize C (pc := 15) dX1_pack_15 ?_
    refine g_callv C (pc := 18) (n := 1) [] [.int (iI f0)] (met_ask l D cI cB a f0 (p : Int) g2 f3 f4 g5 f6 g7 f8 g9 g10 f11 g12 1 f14 g15 f0) (lw_V q129 q131 qs3 q24 q132) (by decide +kernel) (by decide) (by decide) rfl 0 0 rfl rfl rfl (Nat.le_of_ble_eq_true rfl) dX1_pack_18 (fun u hu => ?_)
    subst hu
    refine g_aload_n C (pc := 21) 0 rfl rfl dX1_pack_21 ?_
    refine g_aload_n C (pc := 22) 0 rfl rfl dX1_pack_22 ?_
    refine dg_present C (pc := 23) dX1_pack_23 ?_
    refine g_callv C (pc := 26) (n := 1) [] [.int (iI (p : Int))] (met_wantAll l D cI cB a f0 (p : Int) g2 f0 0 (fun _ => 0) g7 f8 g9 g10 f11 g12 1 f14 g15 0 p (by omega) hp (fun k => by have h5 := hg k; omega) (fun j hj => absurd hj (by omega))) (lw_V q133 q135 qs4 q24 q136) (by decide +kernel) (by decide) (by decide) rfl 0 0 rfl rfl rfl (Nat.le_of_ble_eq_true rfl) dX1_pack_26 (fun u hu => ?_)
    obtain ⟨m1, g1, rfl, hpm⟩ := hu
    rw [its_0, List.append_nil] at hpm
    have hm1 : m1 = rk p 8 := by rw [← sel_len p 8 g2, ← hpm.length_eq, its_len]
    have hrk8 := rk_le p 8
    have hsl : ∀ x ∈ sel p 8 g2, 0 < x ∧ x ≤ f0 := sel_bd (fun k h5 h6 => by have h7 := hsz k h5 h6; omega)
    refine g_aload_n C (pc := 29) 0 rfl rfl dX1_pack_29 ?_
    refine g_aload_n C (pc := 30) 0 rfl rfl dX1_pack_30 ?_
    refine g_calli C (pc := 31) (n := 0) [.ref (a 0)] [] (met_solve l D cI cB a f0 (p : Int) g2 f0 (fun _ => 0) g1 f8 g9 g10 f11 g12 1 f14 g15 0 m1 (by omega) (by omega) (fun _ => by omega) (fun _ _ => rfl) (perm_bd (P := fun x => 0 < x ∧ x ≤ f0) hpm hsl)) (lw_V q141 q143 qs6 q24 q144) (by decide +kernel) (by decide) (by decide) rfl 0 0 rfl rfl rfl (Nat.le_of_ble_eq_true rfl) dX1_pack_31 (fun z u hu => ?_)
    obtain ⟨B1, p1, q1, c1, w1, rfl, hop1⟩ := hu
    have hop := opt_perm hpm hop1
    obtain ⟨K, rfl, hK8⟩ : ∃ K : Nat, z = K ∧ K ≤ 8 := by
      obtain ⟨⟨K1, e1, _, _⟩, h5⟩ := hop1
      have h6 := h5 (0 + m1) (by omega) (Cp_each 0 m1 (fun _ => by omega) (fun _ _ => rfl) (perm_bd (P := fun x => 0 < x ∧ x ≤ f0) hpm hsl))
      exact ⟨K1, e1, by omega⟩
    refine dp_leastCount C (pc := 34) dX1_pack_34 ?_
    refine g_iconst C (pc := 37) dX1_pack_37 ?_
    refine g_istore_n C (pc := 38) [(0, .ref (a 0)), (1, .int (iI 0))] [1, 0] rfl (by decide) rfl dX1_pack_38 ?_
    refine g_iconst C (pc := 39) dX1_pack_39 ?_
    refine g_istore_n C (pc := 40) [(0, .ref (a 0)), (1, .int (iI 0)), (2, .int (iI 0))] [1, 2, 0] rfl (by decide) rfl dX1_pack_40 ?_
    refine g_iconst C (pc := 41) dX1_pack_41 ?_
    refine g_istore_n C (pc := 42) [(0, .ref (a 0)), (1, .int (iI 0)), (2, .int (iI 0)), (3, .int (iI 0))] [1, 2, 3, 0] rfl (by decide) rfl dX1_pack_42 ?_
    have hop2 := hop
    rw [hits] at hop2
    have hcK : Cp f0 (its (rk p 8) (fun k => g2 (it p k))) (fun _ => 0) K := by
      obtain ⟨K2, eK2, _, hcK2⟩ := hop2.1
      have eK3 : K2 = K := by omega
      rw [← eK3]; exact hcK2
    have e0 : ((p % 2 ^ 0 : Nat) : Int) = 0 := by rw [Nat.pow_zero, Nat.mod_one]; rfl
    have h9 := fun f3 f4 g5 f6 g7 f8 g9 g10 f11 g12 => loop 9 0 0 K (fun _ => 0) g15 f3 f4 g5 f6 g7 f8 g9 g10 f11 g12 (by omega) (by omega) hK8 hop2 (pkp_0 _ hcK) rfl (fun x hx => absurd hx (by omega))
    simp only [e0] at h9
    exact h9  _ _ _ _ _ _ _ _ _ _
  · rcases hpk with h | ⟨h, hpk⟩
    · omega
    · subst h
      exact hret _ _ _ dX1_pack_7 ⟨_, _, _, _, _, _, _, _, _, _, _, _, rfl, hpk⟩
set_option maxHeartbeats 4000000 in
set_option maxRecDepth 100000 in
/-- least() -/
theorem met_least (l : Launch) (D : va_G) (cI cB : ClassId) (a : Nat → Nat) (f0 : Int) (g2 : Nat → Int) (f3 : Int) (f4 : Int) (g5 : Nat → Int) (f6 : Int) (g7 : Nat → Int) (f8 : Int) (g9 : Nat → Int) (g10 : Nat → Int) (f11 : Int) (g12 : Nat → Int) (f13 : Int) (f14 : Int) (g15 : Nat → Int) (p : Nat) (hok : SzOk f0 p g2) (hpk : PkI f0 p g2 f13 f14 g15) : MDi l yX1_least cX1_least 1 .int 6 [.ref (a 0)] D cI cB (WD a cI cB f0 (p : Int) g2 f3 f4 g5 f6 g7 f8 g9 g10 f11 g12 f13 f14 g15) (fun z u => ∃ (f3' : Int) (f4' : Int) (g5' : Nat → Int) (f6' : Int) (g7' : Nat → Int) (f8' : Int) (g9' : Nat → Int) (g10' : Nat → Int) (f11' : Int) (g12' : Nat → Int), ∃ (h' : Nat → Int), u = (WD a cI cB f0 (p : Int) g2 f3' f4' g5' f6' g7' f8' g9' g10' f11' g12' 1 z h') ∧ PkS f0 p g2 z h') := by
  refine md_i [(0, .ref (a 0))] rfl (Nat.le_of_ble_eq_true rfl) rfl ?_
  intro A G C hret
  have C : Cx l RX1 cX1_least 1 (rmD 6) D cI cB A 0 0 G := C
  refine g_aload_n C (pc := 0) 0 rfl rfl dX1_least_0 ?_
  refine g_callv C (pc := 1) (n := 0) [] [] (met_pack l D cI cB a f0 g2 f3 f4 g5 f6 g7 f8 g9 g10 f11 g12 f13 f14 g15 p hok hpk) (lw_V q125 q127 qs2 q24 q128) (by decide +kernel) (by decide) (by decide) rfl 0 0 rfl rfl rfl (Nat.le_of_ble_eq_true rfl) dX1_least_1 (fun u hu => ?_)
  obtain ⟨f3', f4', g5', f6', g7', f8', g9', g10', f11', g12', c', h', rfl, hps⟩ := hu
  refine g_aload_n C (pc := 4) 0 rfl rfl dX1_least_4 ?_
  refine dg_leastCount C (pc := 5) dX1_least_5 ?_
  exact hret _ _ _ _ dX1_least_8 rfl ⟨_, _, _, _, _, _, _, _, _, _, _, rfl, hps⟩
set_option maxHeartbeats 4000000 in
set_option maxRecDepth 100000 in
/-- binOf(i) -/
theorem met_binOf (l : Launch) (D : va_G) (cI cB : ClassId) (a : Nat → Nat) (f0 : Int) (g2 : Nat → Int) (f3 : Int) (f4 : Int) (g5 : Nat → Int) (f6 : Int) (g7 : Nat → Int) (f8 : Int) (g9 : Nat → Int) (g10 : Nat → Int) (f11 : Int) (g12 : Nat → Int) (f13 : Int) (f14 : Int) (g15 : Nat → Int) (p : Nat) (hok : SzOk f0 p g2) (hpk : PkI f0 p g2 f13 f14 g15) (z0 : Int) (hz0 : -2147483648 ≤ z0 ∧ z0 < 2147483648) : MDi l yX1_binOf cX1_binOf 2 .int 6 [.ref (a 0), .int (iI z0)] D cI cB (WD a cI cB f0 (p : Int) g2 f3 f4 g5 f6 g7 f8 g9 g10 f11 g12 f13 f14 g15) (fun z u => (hasb p z0 = false ∧ z = -1 ∧ u = (WD a cI cB f0 (p : Int) g2 f3 f4 g5 f6 g7 f8 g9 g10 f11 g12 f13 f14 g15)) ∨ ∃ i : Nat, i < 8 ∧ z0 = i ∧ p.testBit i = true ∧ ∃ (f3' : Int) (f4' : Int) (g5' : Nat → Int) (f6' : Int) (g7' : Nat → Int) (f8' : Int) (g9' : Nat → Int) (g10' : Nat → Int) (f11' : Int) (g12' : Nat → Int), ∃ (c' : Int) (h' : Nat → Int), u = (WD a cI cB f0 (p : Int) g2 f3' f4' g5' f6' g7' f8' g9' g10' f11' g12' 1 c' h') ∧ PkS f0 p g2 c' h' ∧ z = h' i) := by
  refine md_i [(0, .ref (a 0)), (1, .int (iI z0))] rfl (Nat.le_of_ble_eq_true rfl) rfl ?_
  intro A G C hret
  have C : Cx l RX1 cX1_binOf 2 (rmD 6) D cI cB A 0 0 G := C
  have hp := hok.2.1
  refine g_aload_n C (pc := 0) 0 rfl rfl dX1_binOf_0 ?_
  refine g_iload_n C (pc := 1) 1 rfl rfl dX1_binOf_1 ?_
  refine g_calli C (pc := 2) (n := 1) [] [.int (iI z0)] (met_has l D cI cB a f0 g2 f3 f4 g5 f6 g7 f8 g9 g10 f11 g12 f13 f14 g15 p hp z0 (by omega)) (lw_V q89 q91 qs0 q24 q92) (by decide +kernel) (by decide) (by decide) rfl 0 0 rfl rfl rfl (Nat.le_of_ble_eq_true rfl) dX1_binOf_2 (fun z u hu => ?_)
  obtain ⟨rfl, hz1⟩ := hu
  have hz := has01 hz1
  clear hz1
  have hz2 : 0 ≤ z ∧ z ≤ 1 := by rcases hz with ⟨h, _⟩ | ⟨h, _⟩ <;> omega
  refine g_if_ne C (pc := 5) 10 (by omega) (by decide) dX1_binOf_5 (fun c5 => ?_) (fun c5 => ?_)
  · have hh : hasb p z0 = true := by
      rcases hz with ⟨_, h⟩ | ⟨h, _⟩
      · exact h
      · omega
    obtain ⟨i, hi8, rfl, hbit⟩ := hasb_of hh
    refine g_aload_n C (pc := 10) 0 rfl rfl dX1_binOf_10 ?_
    refine g_callv C (pc := 11) (n := 0) [] [] (met_pack l D cI cB a f0 g2 f3 f4 g5 f6 g7 f8 g9 g10 f11 g12 f13 f14 g15 p hok hpk) (lw_V q125 q127 qs2 q24 q128) (by decide +kernel) (by decide) (by decide) rfl 0 0 rfl rfl rfl (Nat.le_of_ble_eq_true rfl) dX1_binOf_11 (fun u hu => ?_)
    obtain ⟨f3', f4', g5', f6', g7', f8', g9', g10', f11', g12', c', h', rfl, hps⟩ := hu
    refine g_aload_n C (pc := 14) 0 rfl rfl dX1_binOf_14 ?_
    refine dg_bins C (pc := 15) dX1_binOf_15 ?_
    refine g_iload_n C (pc := 18) 1 rfl rfl dX1_binOf_18 ?_
    refine dl_bins C (pc := 19) i (by omega) (by omega) dX1_binOf_19 ?_
    exact hret _ _ _ _ dX1_binOf_20 rfl (Or.inr ⟨i, hi8, rfl, hbit, _, _, _, _, _, _, _, _, _, _, _, _, rfl, hps, rfl⟩)
  · have hh : hasb p z0 = false := by
      rcases hz with ⟨h, _⟩ | ⟨_, h⟩
      · omega
      · exact h
    refine g_iconst C (pc := 8) dX1_binOf_8 ?_
    exact hret _ _ _ _ dX1_binOf_9 rfl (Or.inl ⟨hh, rfl, rfl⟩)
set_option maxHeartbeats 4000000 in
set_option maxRecDepth 100000 in
/-- leastWithout(i) -/
theorem met_leastWithout (l : Launch) (D : va_G) (cI cB : ClassId) (a : Nat → Nat) (f0 : Int) (g2 : Nat → Int) (f3 : Int) (f4 : Int) (g5 : Nat → Int) (f6 : Int) (g7 : Nat → Int) (f8 : Int) (g9 : Nat → Int) (g10 : Nat → Int) (f11 : Int) (g12 : Nat → Int) (f13 : Int) (f14 : Int) (g15 : Nat → Int) (p : Nat) (hok : SzOk f0 p g2) (z0 : Int) (hz0 : -2147483648 ≤ z0 ∧ z0 < 2147483648) : MDi l yX1_leastWithout cX1_leastWithout 2 .int 4 [.ref (a 0), .int (iI z0)] D cI cB (WD a cI cB f0 (p : Int) g2 f3 f4 g5 f6 g7 f8 g9 g10 f11 g12 f13 f14 g15) (fun z u => (hasb p z0 = false ∧ z = -1 ∧ u = (WD a cI cB f0 (p : Int) g2 f3 f4 g5 f6 g7 f8 g9 g10 f11 g12 f13 f14 g15)) ∨ ∃ i : Nat, i < 8 ∧ z0 = i ∧ p.testBit i = true ∧ ∃ (f3' : Int) (f4' : Int) (g5' : Nat → Int) (f6' : Int) (g7' : Nat → Int) (f8' : Int) (g9' : Nat → Int) (g10' : Nat → Int) (f11' : Int) (g12' : Nat → Int), u = (WD a cI cB f0 (p : Int) g2 f3' f4' g5' f6' g7' f8' g9' g10' f11' g12' f13 f14 g15) ∧ Opt f0 (sel (clr p (2 ^ i)) 8 g2) (fun _ => 0) 0 z) := by
  refine md_i [(0, .ref (a 0)), (1, .int (iI z0))] rfl (Nat.le_of_ble_eq_true rfl) rfl ?_
  intro A G C hret
  have C : Cx l RX1 cX1_leastWithout 2 (rmD 4) D cI cB A 0 0 G := C
  obtain ⟨hR, hp, hg, hsz⟩ := id hok
  refine g_aload_n C (pc := 0) 0 rfl rfl dX1_leastWithout_0 ?_
  refine g_iload_n C (pc := 1) 1 rfl rfl dX1_leastWithout_1 ?_
  refine g_calli C (pc := 2) (n := 1) [] [.int (iI z0)] (met_has l D cI cB a f0 g2 f3 f4 g5 f6 g7 f8 g9 g10 f11 g12 f13 f14 g15 p hp z0 (by omega)) (lw_V q89 q91 qs0 q24 q92) (by decide +kernel) (by decide) (by decide) rfl 0 0 rfl rfl rfl (Nat.le_of_ble_eq_true rfl) dX1_leastWithout_2 (fun z u hu => ?_)
  obtain ⟨rfl, hz1⟩ := hu
  have hz := has01 hz1
  clear hz1
  have hz2 : 0 ≤ z ∧ z ≤ 1 := by rcases hz with ⟨h, _⟩ | ⟨h, _⟩ <;> omega
  refine g_if_ne C (pc := 5) 10 (by omega) (by decide) dX1_leastWithout_5 (fun c5 => ?_) (fun c5 => ?_)
  · have hh : hasb p z0 = true := by
      rcases hz with ⟨_, h⟩ | ⟨h, _⟩
      · exact h
      · omega
    obtain ⟨i, hi8, rfl, hbit⟩ := hasb_of hh
    refine g_aload_n C (pc := 10) 0 rfl rfl dX1_leastWithout_10 ?_
    refine g_aload_n C (pc := 11) 0 rfl rfl dX1_leastWithout_11 ?_
    refine dg_binSize C (pc := 12) dX1_leastWithout_12 ?_
    refine g_callv C (pc := 15) (n := 1) [] [.int (iI f0)] (met_ask l D cI cB a f0 (p : Int) g2 f3 f4 g5 f6 g7 f8 g9 g10 f11 g12 f13 f14 g15 f0) (lw_V q129 q131 qs3 q24 q132) (by decide +kernel) (by decide) (by decide) rfl 0 0 rfl rfl rfl (Nat.le_of_ble_eq_true rfl) dX1_leastWithout_15 (fun u hu => ?_)
    subst hu
    refine g_aload_n C (pc := 18) 0 rfl rfl dX1_leastWithout_18 ?_
    refine g_aload_n C (pc := 19) 0 rfl rfl dX1_leastWithout_19 ?_
    refine dg_present C (pc := 20) dX1_leastWithout_20 ?_
    refine g_iconst C (pc := 23) dX1_leastWithout_23 ?_
    refine g_iload_n C (pc := 24) 1 rfl rfl dX1_leastWithout_24 ?_
    refine g_ishl C (pc := 25) ((2 ^ i : Nat) : Int) (bit_shl (by omega)) dX1_leastWithout_25 ?_
    refine g_iconst C (pc := 26) dX1_leastWithout_26 ?_
    refine g_ixor C (pc := 27) (-((2 ^ i : Nat) : Int) - 1) (bit_not (2 ^ i)) dX1_leastWithout_27 ?_
    refine g_iand C (pc := 28) (((clr p (2 ^ i)) : Nat) : Int) (bit_clr hp (pow_lt hi8)) dX1_leastWithout_28 ?_
    refine g_callv C (pc := 29) (n := 1) [] [.int (iI (((clr p (2 ^ i)) : Nat) : Int))] (met_wantAll l D cI cB a f0 (p : Int) g2 f0 0 (fun _ => 0) g7 f8 g9 g10 f11 g12 f13 f14 g15 0 (clr p (2 ^ i)) (by omega) (clr_lt hp) (fun k => by have h5 := hg k; omega) (fun j hj => absurd hj (by omega))) (lw_V q133 q135 qs4 q24 q136) (by decide +kernel) (by decide) (by decide) rfl 0 0 rfl rfl rfl (Nat.le_of_ble_eq_true rfl) dX1_leastWithout_29 (fun u hu => ?_)
    obtain ⟨m1, g1, rfl, hpm⟩ := hu
    rw [its_0, List.append_nil] at hpm
    have hm1 : m1 = rk (clr p (2 ^ i)) 8 := by rw [← sel_len (clr p (2 ^ i)) 8 g2, ← hpm.length_eq, its_len]
    have hrk8 := rk_le (clr p (2 ^ i)) 8
    have hsl : ∀ x ∈ sel (clr p (2 ^ i)) 8 g2, 0 < x ∧ x ≤ f0 := sel_bd (fun k h5 h6 => by
      rw [tb_clr hp, Bool.and_eq_true] at h6
      have h7 := hsz k h5 h6.1
      omega)
    refine g_aload_n C (pc := 32) 0 rfl rfl dX1_leastWithout_32 ?_
    refine g_calli C (pc := 33) (n := 0) [] [] (met_solve l D cI cB a f0 (p : Int) g2 f0 (fun _ => 0) g1 f8 g9 g10 f11 g12 f13 f14 g15 0 m1 (by omega) (by omega) (fun _ => by omega) (fun _ _ => rfl) (perm_bd (P := fun x => 0 < x ∧ x ≤ f0) hpm hsl)) (lw_V q141 q143 qs6 q24 q144) (by decide +kernel) (by decide) (by decide) rfl 0 0 rfl rfl rfl (Nat.le_of_ble_eq_true rfl) dX1_leastWithout_33 (fun z u hu => ?_)
    obtain ⟨B1, p1, q1, c1, w1, rfl, hop1⟩ := hu
    have hop := opt_perm hpm hop1
    exact hret _ _ _ _ dX1_leastWithout_36 rfl (Or.inr ⟨i, hi8, rfl, hbit, _, _, _, _, _, _, _, _, _, _, rfl, hop⟩)
  · have hh : hasb p z0 = false := by
      rcases hz with ⟨h, _⟩ | ⟨_, h⟩
      · omega
      · exact h
    refine g_iconst C (pc := 8) dX1_leastWithout_8 ?_
    exact hret _ _ _ _ dX1_leastWithout_9 rfl (Or.inl ⟨hh, rfl, rfl⟩)
end
section
theorem bit_some {p : Nat} (hp : p < 256) (h : p ≠ 0) : ∃ x, x < 8 ∧ p.testBit x = true := by
  apply Classical.byContradiction
  intro hn
  apply h
  apply Nat.eq_of_testBit_eq
  intro x
  rw [Nat.zero_testBit]
  by_cases q : x < 8
  · cases hb : p.testBit x with
    | true => exact absurd ⟨x, q, hb⟩ hn
    | false => rfl
  · exact tb_big hp (by omega)
theorem sel_mem {p x : Nat} {g : Nat → Int} (hx : x < 8) (hb : p.testBit x = true) : g x ∈ sel p 8 g := List.mem_map.mpr ⟨x, List.mem_filter.mpr ⟨List.mem_range.mpr hx, hb⟩, rfl⟩
theorem sel_sum {p : Nat} {g : Nat → Int} : ∀ i, i ≤ 8 → (∀ k, g k ≤ 60) → (∀ k, 0 ≤ g k) → (sel p i g).sum ≤ 60 * i := by
  intro i
  induction i with
  | zero => intro _ _ _; exact Int.le_refl 0
  | succ i ih =>
    intro hi h1 h2
    have h3 := ih (by omega) h1 h2
    have h4 := h1 i
    cases hb : p.testBit i with
    | true => rw [sel_succ hb, List.sum_append]; simp only [List.sum_cons, List.sum_nil]; omega
    | false => rw [sel_no hb]; omega
/-- an item out of the set -/
theorem sel_take {p i : Nat} {g : Nat → Int} (hp : p < 256) (hi : i < 8) (hb : p.testBit i = true) : (sel p 8 g).Perm (g i :: sel (clr p (2 ^ i)) 8 g) := by
  have e1 : ∀ r : Nat, sel r 8 g = sel r i g ++ (((List.range (8 - i)).map (fun t => i + t)).filter (fun j => r.testBit j)).map g := fun r => by
    unfold sel
    rw [range8 (show i ≤ 8 by omega), List.filter_append, List.map_append]
  have e2 : (List.range (8 - i)).map (fun t => i + t) = i :: (List.range (8 - i - 1)).map (fun t => i + 1 + t) := by
    have h1 : 8 - i = (8 - i - 1) + 1 := by omega
    rw [h1, List.range_succ_eq_map, List.map_cons, List.map_map]
    congr 1
    refine List.map_congr_left (fun t _ => ?_)
    show i + (t + 1) = i + 1 + t
    omega
  have e3 : sel (clr p (2 ^ i)) i g = sel p i g := by
    unfold sel
    congr 1
    refine List.filter_congr (fun x hx => ?_)
    have h1 := List.mem_range.mp hx
    rw [tb_clr hp, tb_pow, decide_eq_false (show ¬ i = x by omega)]
    simp
  have e4 : ((List.range (8 - i - 1)).map (fun t => i + 1 + t)).filter (fun j => (clr p (2 ^ i)).testBit j) = ((List.range (8 - i - 1)).map (fun t => i + 1 + t)).filter (fun j => p.testBit j) := by
    refine List.filter_congr (fun x hx => ?_)
    obtain ⟨t, _, h2⟩ := List.mem_map.mp hx
    rw [tb_clr hp, tb_pow, decide_eq_false (show ¬ i = x by omega)]
    simp
  have e5 : (clr p (2 ^ i)).testBit i = false := by rw [tb_clr hp, tb_pow, decide_eq_true rfl]; simp
  rw [e1 p, e1 (clr p (2 ^ i)), e2, List.filter_cons, List.filter_cons, if_pos hb, if_neg (by rw [e5]; decide), e3, e4, List.map_cons]
  exact List.perm_middle
theorem merge_cp {R x y : Int} {k : Nat} {t : List Int} {l : Nat → Int} (h : Cp R ((x + y) :: t) l k) : Cp R (x :: y :: t) l k := by
  obtain ⟨b, hb, h⟩ := h
  refine ⟨b, hb, b, hb, Cp_ext t (fun j _ => ?_) h⟩
  by_cases e : j = b
  · subst e; rw [bump_same, bump_same, bump_same]; omega
  · rw [bump_ne _ _ e, bump_ne _ _ e, bump_ne _ _ e]
theorem merge_ge {R : Int} {p i j K Kz : Nat} {g : Nat → Int} (hp : p < 256) (hi : i < 8) (hj : j < 8) (hij : i ≠ j) (hbi : p.testBit i = true) (hbj : p.testBit j = true) (ho : Opt R (sel p 8 g) (fun _ => 0) 0 (K : Int)) (hc : Cp R ((g i + g j) :: sel (clr (clr p (2 ^ i)) (2 ^ j)) 8 g) (fun _ => 0) Kz) : K ≤ Kz := by
  have hbj2 : (clr p (2 ^ i)).testBit j = true := by rw [tb_clr hp, tb_pow, hbj, decide_eq_false hij]; rfl
  have h1 := (sel_take (g := g) hp hi hbi).trans (List.Perm.cons _ (sel_take (g := g) (clr_lt hp) hj hbj2))
  have h2 := ho.2 Kz (Nat.zero_le _) (Cp_perm h1.symm (merge_cp hc))
  omega
set_option maxHeartbeats 4000000 in
set_option maxRecDepth 100000 in
/-- spare() -/
theorem met_spare (l : Launch) (D : va_G) (cI cB : ClassId) (a : Nat → Nat) (f0 : Int) (g2 : Nat → Int) (f3 : Int) (f4 : Int) (g5 : Nat → Int) (f6 : Int) (g7 : Nat → Int) (f8 : Int) (g9 : Nat → Int) (g10 : Nat → Int) (f11 : Int) (g12 : Nat → Int) (f13 : Int) (f14 : Int) (g15 : Nat → Int) (p : Nat) (hok : SzOk f0 p g2) (hpk : PkI f0 p g2 f13 f14 g15) : MDi l yX1_spare cX1_spare 6 .int 7 [.ref (a 0)] D cI cB (WD a cI cB f0 (p : Int) g2 f3 f4 g5 f6 g7 f8 g9 g10 f11 g12 f13 f14 g15) (fun z u => ∃ (f3' : Int) (f4' : Int) (g5' : Nat → Int) (f6' : Int) (g7' : Nat → Int) (f8' : Int) (g9' : Nat → Int) (g10' : Nat → Int) (f11' : Int) (g12' : Nat → Int), ∃ (K : Nat) (h' : Nat → Int), u = (WD a cI cB f0 (p : Int) g2 f3' f4' g5' f6' g7' f8' g9' g10' f11' g12' 1 (K : Int) h') ∧ PkS f0 p g2 (K : Int) h' ∧ (0 ≤ z ∧ z ≤ f0) ∧ (z = 0 ∨ Cp f0 (z :: (sel p 8 g2)) (fun _ => 0) K) ∧ ∀ x : Int, z < x → x ≤ f0 → ¬ Cp f0 (x :: (sel p 8 g2)) (fun _ => 0) K) := by
  refine md_i [(0, .ref (a 0))] rfl (Nat.le_of_ble_eq_true rfl) rfl ?_
  intro A G C hret
  have C : Cx l RX1 cX1_spare 6 (rmD 7) D cI cB A 0 0 G := C
  obtain ⟨hR, hp, hg, hsz⟩ := id hok
  have hsl : ∀ x ∈ sel p 8 g2, 0 < x ∧ x ≤ f0 := sel_bd (fun k h5 h6 => by have h7 := hsz k h5 h6; omega)
  have hrk8 := rk_le p 8
  have loop : ∀ (t r lo hi K : Nat) (h : Nat → Int) (f3 : Int) (f4 : Int) (g5 : Nat → Int) (f6 : Int) (g7 : Nat → Int) (f8 : Int) (g9 : Nat → Int) (g10 : Nat → Int) (f11 : Int) (g12 : Nat → Int), r + t = 7 → lo ≤ hi → (hi : Int) ≤ f0 → hi - lo < 2 ^ t → K ≤ 8 → PkS f0 p g2 (K : Int) h → (lo = 0 ∨ Cp f0 ((lo : Int) :: (sel p 8 g2)) (fun _ => 0) K) → (∀ x : Int, (hi : Int) < x → x ≤ f0 → ¬ Cp f0 (x :: (sel p 8 g2)) (fun _ => 0) K) → G [(0, .ref (a 0)), (1, .int (iI (K : Int))), (2, .int (iI (lo : Int))), (3, .int (iI (hi : Int))), (4, .int (iI (r : Int)))] (WD a cI cB f0 (p : Int) g2 f3 f4 g5 f6 g7 f8 g9 g10 f11 g12 1 (K : Int) h) 15 [] := by
    intro t
    induction t with
    | zero =>
      intro r lo hi K h f3 f4 g5 f6 g7 f8 g9 g10 f11 g12 hr hlh hhR hpow hK8 hps hlo hhi
      have hpow : hi - lo < 1 := hpow
      refine g_iload C (pc := 15) 4 rfl dX1_spare_15 ?_
      refine g_bipush C (pc := 17) dX1_spare_17 (by decide) ?_
      refine g_icmp_ge C (pc := 19) 83 (by omega) (by omega) (by decide) dX1_spare_19 (fun c19 => ?_) (fun c19 => ?_)
      · have ehl : lo = hi := by omega
        subst ehl
        refine g_iload_n C (pc := 83) 2 rfl rfl dX1_spare_83 ?_
        exact hret _ _ _ _ dX1_spare_84 rfl ⟨_, _, _, _, _, _, _, _, _, _, K, h, rfl, hps, ⟨by omega, by omega⟩, by rcases hlo with e | e; exact Or.inl (by omega); exact Or.inr e, hhi⟩
      · exact absurd c19 (by omega)
    | succ t ih =>
      intro r lo hi K h f3 f4 g5 f6 g7 f8 g9 g10 f11 g12 hr hlh hhR hpow hK8 hps hlo hhi
      have hpow2 : 2 ^ (t + 1) = 2 ^ t * 2 := Nat.pow_succ 2 t
      refine g_iload C (pc := 15) 4 rfl dX1_spare_15 ?_
      refine g_bipush C (pc := 17) dX1_spare_17 (by decide) ?_
      refine g_icmp_ge C (pc := 19) 83 (by omega) (by omega) (by decide) dX1_spare_19 (fun c19 => ?_) (fun c19 => ?_)
      · exact absurd c19 (by omega)
      · refine g_iload_n C (pc := 22) 2 rfl rfl dX1_spare_22 ?_
        refine g_iload_n C (pc := 23) 3 rfl rfl dX1_spare_23 ?_
        refine g_icmp_ge C (pc := 24) 83 (by omega) (by omega) (by decide) dX1_spare_24 (fun c24 => ?_) (fun c24 => ?_)
        · have ehl : lo = hi := by omega
          subst ehl
          refine g_iload_n C (pc := 83) 2 rfl rfl dX1_spare_83 ?_
          exact hret _ _ _ _ dX1_spare_84 rfl ⟨_, _, _, _, _, _, _, _, _, _, K, h, rfl, hps, ⟨by omega, by omega⟩, by rcases hlo with e | e; exact Or.inl (by omega); exact Or.inr e, hhi⟩
        · refine g_iload_n C (pc := 27) 2 rfl rfl dX1_spare_27 ?_
          refine g_iload_n C (pc := 28) 3 rfl rfl dX1_spare_28 ?_
          refine g_iadd C (pc := 29) dX1_spare_29 ?_
          refine g_iconst C (pc := 30) dX1_spare_30 ?_
          refine g_iadd C (pc := 31) dX1_spare_31 ?_
          refine g_top C (y := ((lo + hi + 1 : Nat) : Int)) (by omega) ?_
          refine g_iconst C (pc := 32) dX1_spare_32 ?_
          obtain ⟨mid, hmid⟩ : ∃ mid : Nat, mid = (lo + hi + 1) / 2 := ⟨_, rfl⟩
          refine g_ishr C (pc := 33) (mid : Int) (by rw [hmid]; exact bit_shr1 (by omega)) dX1_spare_33 ?_
          refine g_istore C (pc := 34) [(0, .ref (a 0)), (1, .int (iI (K : Int))), (2, .int (iI (lo : Int))), (3, .int (iI (hi : Int))), (4, .int (iI (r : Int))), (5, .int (iI (mid : Int)))] [1, 2, 3, 4, 5, 0] (by decide) rfl dX1_spare_34 ?_
          refine g_aload_n C (pc := 36) 0 rfl rfl dX1_spare_36 ?_
          refine g_aload_n C (pc := 37) 0 rfl rfl dX1_spare_37 ?_
          refine dg_binSize C (pc := 38) dX1_spare_38 ?_
          refine g_callv C (pc := 41) (n := 1) [] [.int (iI f0)] (met_ask l D cI cB a f0 (p : Int) g2 f3 f4 g5 f6 g7 f8 g9 g10 f11 g12 1 (K : Int) h f0) (lw_V q129 q131 qs3 q24 q132) (by decide +kernel) (by decide) (by decide) rfl 0 0 rfl rfl rfl (Nat.le_of_ble_eq_true rfl) dX1_spare_41 (fun u hu => ?_)
          subst hu
          refine g_aload_n C (pc := 44) 0 rfl rfl dX1_spare_44 ?_
          refine g_aload_n C (pc := 45) 0 rfl rfl dX1_spare_45 ?_
          refine dg_present C (pc := 46) dX1_spare_46 ?_
          refine g_callv C (pc := 49) (n := 1) [] [.int (iI (p : Int))] (met_wantAll l D cI cB a f0 (p : Int) g2 f0 0 (fun _ => 0) g7 f8 g9 g10 f11 g12 1 (K : Int) h 0 p (by omega) hp (fun k => by have h5 := hg k; omega) (fun j hj => absurd hj (by omega))) (lw_V q133 q135 qs4 q24 q136) (by decide +kernel) (by decide) (by decide) rfl 0 0 rfl rfl rfl (Nat.le_of_ble_eq_true rfl) dX1_spare_49 (fun u hu => ?_)
          obtain ⟨m1, g1, rfl, hpm⟩ := hu
          rw [its_0, List.append_nil] at hpm
          have hm1 : m1 = rk p 8 := by rw [← sel_len p 8 g2, ← hpm.length_eq, its_len]
          refine g_aload_n C (pc := 52) 0 rfl rfl dX1_spare_52 ?_
          refine g_iload C (pc := 53) 5 rfl dX1_spare_53 ?_
          refine g_callv C (pc := 55) (n := 1) [] [.int (iI (mid : Int))] (met_want l D cI cB a f0 (p : Int) g2 f0 0 (fun _ => 0) g1 f8 g9 g10 f11 g12 1 (K : Int) h m1 (mid : Int) (by omega) (by omega) (fun j hj => by have h5 := perm_bd (P := fun x => 0 < x ∧ x ≤ f0) hpm hsl j hj; omega)) (lw_V q137 q139 qs5 q24 q140) (by decide +kernel) (by decide) (by decide) rfl 0 0 rfl rfl rfl (Nat.le_of_ble_eq_true rfl) dX1_spare_55 (fun u hu => ?_)
          obtain ⟨g3, rfl, hpm3⟩ := hu
          have hpm2 : (its (m1 + 1) g3).Perm ((mid : Int) :: sel p 8 g2) := hpm3.trans (List.Perm.cons _ hpm)
          have hsl2 : ∀ x ∈ ((mid : Int) :: sel p 8 g2), 0 < x ∧ x ≤ f0 := fun x hx => by
            rcases List.mem_cons.mp hx with e | e
            · rw [e]; omega
            · exact hsl x e
          refine g_aload_n C (pc := 58) 0 rfl rfl dX1_spare_58 ?_
          refine g_calli C (pc := 59) (n := 0) [] [] (met_solve l D cI cB a f0 (p : Int) g2 f0 (fun _ => 0) g3 f8 g9 g10 f11 g12 1 (K : Int) h 0 (m1 + 1) (by omega) (by omega) (fun _ => by omega) (fun _ _ => rfl) (perm_bd (P := fun x => 0 < x ∧ x ≤ f0) hpm2 hsl2)) (lw_V q141 q143 qs6 q24 q144) (by decide +kernel) (by decide) (by decide) rfl 0 0 rfl rfl rfl (Nat.le_of_ble_eq_true rfl) dX1_spare_59 (fun z u hu => ?_)
          obtain ⟨B1, p1, q1, c1, w1, rfl, hop1⟩ := hu
          have hop := opt_perm hpm2 hop1
          obtain ⟨Kz, rfl, hKz⟩ : ∃ K : Nat, z = K ∧ K ≤ 9 := by
            obtain ⟨⟨K1, e1, _, _⟩, h5⟩ := hop1
            have h6 := h5 (0 + (m1 + 1)) (by omega) (Cp_each 0 (m1 + 1) (fun _ => by omega) (fun _ _ => rfl) (perm_bd (P := fun x => 0 < x ∧ x ≤ f0) hpm2 hsl2))
            exact ⟨K1, e1, by omega⟩
          have hcz : Cp f0 ((mid : Int) :: (sel p 8 g2)) (fun _ => 0) Kz := by
            obtain ⟨K1, e1, _, h5⟩ := hop.1
            have e2 : K1 = Kz := by omega
            rw [← e2]; exact h5
          refine g_iload_n C (pc := 62) 1 rfl rfl dX1_spare_62 ?_
          refine g_icmp_gt C (pc := 63) 72 (by omega) (by omega) (by decide) dX1_spare_63 (fun c63 => ?_) (fun c63 => ?_)
          · refine g_iload C (pc := 72) 5 rfl dX1_spare_72 ?_
            refine g_iconst C (pc := 74) dX1_spare_74 ?_
            refine g_isub C (pc := 75) dX1_spare_75 ?_
            refine g_istore_n C (pc := 76) [(0, .ref (a 0)), (1, .int (iI (K : Int))), (2, .int (iI (lo : Int))), (3, .int (iI ((mid : Int) - 1))), (4, .int (iI (r : Int))), (5, .int (iI (mid : Int)))] [1, 2, 3, 0, 4, 5] rfl (by decide) rfl dX1_spare_76 ?_
            refine g_iinc C (pc := 77) [(0, .ref (a 0)), (1, .int (iI (K : Int))), (2, .int (iI (lo : Int))), (3, .int (iI ((mid : Int) - 1))), (4, .int (iI ((r : Int) + 1))), (5, .int (iI (mid : Int)))] [1, 2, 3, 4, 0, 5] 4 rfl (by decide) rfl dX1_spare_77 ?_
            refine g_goto C (pc := 80) 15 (by decide) dX1_spare_80 ?_
            refine g_locals C [0, 1, 2, 3, 4] rfl ?_
            have e : (mid : Int) - 1 = ((mid - 1 : Nat) : Int) := by omega
            rw [e]
            exact ih (r + 1) lo (mid - 1) K h  _ _ _ _ _ _ _ _ _ _ (by omega) (by omega) (by omega) (by omega) hK8 hps hlo (fun x hx1 hx2 hc => by
              have h5 := hop.2 K (Nat.zero_le _) (Cp_item (show (mid : Int) ≤ x by omega) hc)
              omega)
          · refine g_iload C (pc := 66) 5 rfl dX1_spare_66 ?_
            refine g_istore_n C (pc := 68) [(0, .ref (a 0)), (1, .int (iI (K : Int))), (2, .int (iI (mid : Int))), (3, .int (iI (hi : Int))), (4, .int (iI (r : Int))), (5, .int (iI (mid : Int)))] [1, 2, 0, 3, 4, 5] rfl (by decide) rfl dX1_spare_68 ?_
            refine g_goto C (pc := 69) 77 (by decide) dX1_spare_69 ?_
            refine g_iinc C (pc := 77) [(0, .ref (a 0)), (1, .int (iI (K : Int))), (2, .int (iI (mid : Int))), (3, .int (iI (hi : Int))), (4, .int (iI ((r : Int) + 1))), (5, .int (iI (mid : Int)))] [1, 2, 3, 4, 0, 5] 4 rfl (by decide) rfl dX1_spare_77 ?_
            refine g_goto C (pc := 80) 15 (by decide) dX1_spare_80 ?_
            refine g_locals C [0, 1, 2, 3, 4] rfl ?_
            exact ih (r + 1) mid hi K h  _ _ _ _ _ _ _ _ _ _ (by omega) (by omega) hhR (by omega) hK8 hps (Or.inr (Cp_mono (show Kz ≤ K by omega) _ (fun b _ _ => by show (0 : Int) ≤ f0; omega) hcz)) hhi
  refine g_aload_n C (pc := 0) 0 rfl rfl dX1_spare_0 ?_
  refine g_calli C (pc := 1) (n := 0) [] [] (met_least l D cI cB a f0 g2 f3 f4 g5 f6 g7 f8 g9 g10 f11 g12 f13 f14 g15 p hok hpk) (lw_V q197 q122 q123 q24 q124) (by decide +kernel) (by decide) (by decide) rfl 0 0 rfl rfl rfl (Nat.le_of_ble_eq_true rfl) dX1_spare_1 (fun z u hu => ?_)
  obtain ⟨f3', f4', g5', f6', g7', f8', g9', g10', f11', g12', h', rfl, hps⟩ := hu
  obtain ⟨K, f, rfl, hK8, hrest⟩ := id hps
  refine g_istore_n C (pc := 4) [(0, .ref (a 0)), (1, .int (iI (K : Int)))] [1, 0] rfl (by decide) rfl dX1_spare_4 ?_
  refine g_iconst C (pc := 5) dX1_spare_5 ?_
  refine g_istore_n C (pc := 6) [(0, .ref (a 0)), (1, .int (iI (K : Int))), (2, .int (iI 0))] [1, 2, 0] rfl (by decide) rfl dX1_spare_6 ?_
  refine g_aload_n C (pc := 7) 0 rfl rfl dX1_spare_7 ?_
  refine dg_binSize C (pc := 8) dX1_spare_8 ?_
  obtain ⟨R1, hR1⟩ : ∃ R1 : Nat, f0 = (R1 : Int) := ⟨f0.toNat, by omega⟩
  refine g_top C (y := (R1 : Int)) hR1 ?_
  refine g_istore_n C (pc := 11) [(0, .ref (a 0)), (1, .int (iI (K : Int))), (2, .int (iI 0)), (3, .int (iI (R1 : Int)))] [1, 2, 3, 0] rfl (by decide) rfl dX1_spare_11 ?_
  refine g_iconst C (pc := 12) dX1_spare_12 ?_
  refine g_istore C (pc := 13) [(0, .ref (a 0)), (1, .int (iI (K : Int))), (2, .int (iI 0)), (3, .int (iI (R1 : Int))), (4, .int (iI 0))] [1, 2, 3, 4, 0] (by decide) rfl dX1_spare_13 ?_
  exact loop 7 0 0 R1 K h'  _ _ _ _ _ _ _ _ _ _ (by omega) (by omega) (by omega) (by omega) hK8 hps (Or.inl rfl) (fun x h5 h6 => absurd h6 (by omega))
set_option maxHeartbeats 4000000 in
set_option maxRecDepth 100000 in
/-- sizeFor(n) -/
theorem met_sizeFor (l : Launch) (D : va_G) (cI cB : ClassId) (a : Nat → Nat) (f0 : Int) (g2 : Nat → Int) (f3 : Int) (f4 : Int) (g5 : Nat → Int) (f6 : Int) (g7 : Nat → Int) (f8 : Int) (g9 : Nat → Int) (g10 : Nat → Int) (f11 : Int) (g12 : Nat → Int) (f13 : Int) (f14 : Int) (g15 : Nat → Int) (p : Nat) (hok : SzOk f0 p g2) (n0 : Int) (hn0 : -2147483648 ≤ n0 ∧ n0 < 2147483648) : MDi l yX1_sizeFor cX1_sizeFor 6 .int 4 [.ref (a 0), .int (iI n0)] D cI cB (WD a cI cB f0 (p : Int) g2 f3 f4 g5 f6 g7 f8 g9 g10 f11 g12 f13 f14 g15) (fun z u => (¬ ((1 ≤ n0 ∧ n0 ≤ 8) ∧ p ≠ 0) ∧ z = -1 ∧ u = (WD a cI cB f0 (p : Int) g2 f3 f4 g5 f6 g7 f8 g9 g10 f11 g12 f13 f14 g15)) ∨ (((1 ≤ n0 ∧ n0 ≤ 8) ∧ p ≠ 0) ∧ ∃ (f3' : Int) (f4' : Int) (g5' : Nat → Int) (f6' : Int) (g7' : Nat → Int) (f8' : Int) (g9' : Nat → Int) (g10' : Nat → Int) (f11' : Int) (g12' : Nat → Int), u = (WD a cI cB f0 (p : Int) g2 f3' f4' g5' f6' g7' f8' g9' g10' f11' g12' f13 f14 g15) ∧ ∃ N : Nat, n0 = N ∧ 0 ≤ z ∧ Cp z (sel p 8 g2) (fun _ => 0) N ∧ ∀ x : Int, x < z → ¬ Cp x (sel p 8 g2) (fun _ => 0) N)) := by
  refine md_i [(0, .ref (a 0)), (1, .int (iI n0))] rfl (Nat.le_of_ble_eq_true rfl) rfl ?_
  intro A G C hret
  have C : Cx l RX1 cX1_sizeFor 6 (rmD 4) D cI cB A 0 0 G := C
  obtain ⟨hR, hp, hg, hsz⟩ := id hok
  have hrk8 := rk_le p 8
  have hsl0 : ∀ x ∈ sel p 8 g2, 0 ≤ x := sel_bd (fun k h5 h6 => by have h7 := hsz k h5 h6; omega)
  have loop : ∀ (t r lo hi N : Nat) (f3 : Int) (f4 : Int) (g5 : Nat → Int) (f6 : Int) (g7 : Nat → Int) (f8 : Int) (g9 : Nat → Int) (g10 : Nat → Int) (f11 : Int) (g12 : Nat → Int), n0 = (N : Int) → ((1 ≤ n0 ∧ n0 ≤ 8) ∧ p ≠ 0) → r + t = 10 → lo ≤ hi → hi ≤ 480 → 1 ≤ lo → hi - lo < 2 ^ t → (∀ x, x < 8 → p.testBit x = true → g2 x ≤ (lo : Int)) → Cp (hi : Int) (sel p 8 g2) (fun _ => 0) N → (∀ x : Int, x < (lo : Int) → ¬ Cp x (sel p 8 g2) (fun _ => 0) N) → G [(0, .ref (a 0)), (1, .int (iI (N : Int))), (2, .int (iI (lo : Int))), (3, .int (iI (hi : Int))), (4, .int (iI (r : Int)))] (WD a cI cB f0 (p : Int) g2 f3 f4 g5 f6 g7 f8 g9 g10 f11 g12 f13 f14 g15) 32 [] := by
    intro t
    induction t with
    | zero =>
      intro r lo hi N f3 f4 g5 f6 g7 f8 g9 g10 f11 g12 hN hokc hr hlh h480 hlo1 hpow hmx hhi hlo
      have hpow : hi - lo < 1 := hpow
      refine g_iload C (pc := 32) 4 rfl dX1_sizeFor_32 ?_
      refine g_bipush C (pc := 34) dX1_sizeFor_34 (by decide) ?_
      refine g_icmp_ge C (pc := 36) 90 (by omega) (by omega) (by decide) dX1_sizeFor_36 (fun c36 => ?_) (fun c36 => ?_)
      · have ehl : lo = hi := by omega
        subst ehl
        refine g_iload_n C (pc := 90) 2 rfl rfl dX1_sizeFor_90 ?_
        exact hret _ _ _ _ dX1_sizeFor_91 rfl (Or.inr ⟨hokc, _, _, _, _, _, _, _, _, _, _, rfl, N, hN, by omega, hhi, hlo⟩)
      · exact absurd c36 (by omega)
    | succ t ih =>
      intro r lo hi N f3 f4 g5 f6 g7 f8 g9 g10 f11 g12 hN hokc hr hlh h480 hlo1 hpow hmx hhi hlo
      have hpow2 : 2 ^ (t + 1) = 2 ^ t * 2 := Nat.pow_succ 2 t
      refine g_iload C (pc := 32) 4 rfl dX1_sizeFor_32 ?_
      refine g_bipush C (pc := 34) dX1_sizeFor_34 (by decide) ?_
      refine g_icmp_ge C (pc := 36) 90 (by omega) (by omega) (by decide) dX1_sizeFor_36 (fun c36 => ?_) (fun c36 => ?_)
      · exact absurd c36 (by omega)
      · refine g_iload_n C (pc := 39) 2 rfl rfl dX1_sizeFor_39 ?_
        refine g_iload_n C (pc := 40) 3 rfl rfl dX1_sizeFor_40 ?_
        refine g_icmp_ge C (pc := 41) 90 (by omega) (by omega) (by decide) dX1_sizeFor_41 (fun c41 => ?_) (fun c41 => ?_)
        · have ehl : lo = hi := by omega
          subst ehl
          refine g_iload_n C (pc := 90) 2 rfl rfl dX1_sizeFor_90 ?_
          exact hret _ _ _ _ dX1_sizeFor_91 rfl (Or.inr ⟨hokc, _, _, _, _, _, _, _, _, _, _, rfl, N, hN, by omega, hhi, hlo⟩)
        · refine g_iload_n C (pc := 44) 2 rfl rfl dX1_sizeFor_44 ?_
          refine g_iload_n C (pc := 45) 3 rfl rfl dX1_sizeFor_45 ?_
          refine g_iadd C (pc := 46) dX1_sizeFor_46 ?_
          refine g_top C (y := ((lo + hi : Nat) : Int)) (by omega) ?_
          refine g_iconst C (pc := 47) dX1_sizeFor_47 ?_
          obtain ⟨mid, hmid⟩ : ∃ mid : Nat, mid = (lo + hi) / 2 := ⟨_, rfl⟩
          refine g_ishr C (pc := 48) (mid : Int) (by rw [hmid]; exact bit_shr1 (by omega)) dX1_sizeFor_48 ?_
          refine g_istore C (pc := 49) [(0, .ref (a 0)), (1, .int (iI (N : Int))), (2, .int (iI (lo : Int))), (3, .int (iI (hi : Int))), (4, .int (iI (r : Int))), (5, .int (iI (mid : Int)))] [1, 2, 3, 4, 5, 0] (by decide) rfl dX1_sizeFor_49 ?_
          refine g_aload_n C (pc := 51) 0 rfl rfl dX1_sizeFor_51 ?_
          refine g_iload C (pc := 52) 5 rfl dX1_sizeFor_52 ?_
          refine g_callv C (pc := 54) (n := 1) [] [.int (iI (mid : Int))] (met_ask l D cI cB a f0 (p : Int) g2 f3 f4 g5 f6 g7 f8 g9 g10 f11 g12 f13 f14 g15 (mid : Int)) (lw_V q129 q131 qs3 q24 q132) (by decide +kernel) (by decide) (by decide) rfl 0 0 rfl rfl rfl (Nat.le_of_ble_eq_true rfl) dX1_sizeFor_54 (fun u hu => ?_)
          subst hu
          refine g_aload_n C (pc := 57) 0 rfl rfl dX1_sizeFor_57 ?_
          refine g_aload_n C (pc := 58) 0 rfl rfl dX1_sizeFor_58 ?_
          refine dg_present C (pc := 59) dX1_sizeFor_59 ?_
          refine g_callv C (pc := 62) (n := 1) [] [.int (iI (p : Int))] (met_wantAll l D cI cB a f0 (p : Int) g2 (mid : Int) 0 (fun _ => 0) g7 f8 g9 g10 f11 g12 f13 f14 g15 0 p (by omega) hp (fun k => by have h5 := hg k; omega) (fun j hj => absurd hj (by omega))) (lw_V q133 q135 qs4 q24 q136) (by decide +kernel) (by decide) (by decide) rfl 0 0 rfl rfl rfl (Nat.le_of_ble_eq_true rfl) dX1_sizeFor_62 (fun u hu => ?_)
          obtain ⟨m1, g1, rfl, hpm⟩ := hu
          rw [its_0, List.append_nil] at hpm
          have hm1 : m1 = rk p 8 := by rw [← sel_len p 8 g2, ← hpm.length_eq, its_len]
          have hsl : ∀ x ∈ sel p 8 g2, 0 < x ∧ x ≤ (mid : Int) := sel_bd (fun k h5 h6 => by
            have h7 := hsz k h5 h6
            have h8 := hmx k h5 h6
            omega)
          refine g_aload_n C (pc := 65) 0 rfl rfl dX1_sizeFor_65 ?_
          refine g_calli C (pc := 66) (n := 0) [] [] (met_solve l D cI cB a f0 (p : Int) g2 (mid : Int) (fun _ => 0) g1 f8 g9 g10 f11 g12 f13 f14 g15 0 m1 (by omega) (by omega) (fun _ => by omega) (fun _ _ => rfl) (perm_bd (P := fun x => 0 < x ∧ x ≤ (mid : Int)) hpm hsl)) (lw_V q141 q143 qs6 q24 q144) (by decide +kernel) (by decide) (by decide) rfl 0 0 rfl rfl rfl (Nat.le_of_ble_eq_true rfl) dX1_sizeFor_66 (fun z u hu => ?_)
          obtain ⟨B1, p1, q1, c1, w1, rfl, hop1⟩ := hu
          have hop := opt_perm hpm hop1
          obtain ⟨Kz, rfl, hKz⟩ : ∃ K : Nat, z = K ∧ K ≤ 9 := by
            obtain ⟨⟨K1, e1, _, _⟩, h5⟩ := hop1
            have h6 := h5 (0 + m1) (by omega) (Cp_each 0 m1 (fun _ => by omega) (fun _ _ => rfl) (perm_bd (P := fun x => 0 < x ∧ x ≤ (mid : Int)) hpm hsl))
            exact ⟨K1, e1, by omega⟩
          have hcz : Cp (mid : Int) (sel p 8 g2) (fun _ => 0) Kz := by
            obtain ⟨K1, e1, _, h5⟩ := hop.1
            have e2 : K1 = Kz := by omega
            rw [← e2]; exact h5
          refine g_iload_n C (pc := 69) 1 rfl rfl dX1_sizeFor_69 ?_
          refine g_icmp_gt C (pc := 70) 79 (by omega) (by omega) (by decide) dX1_sizeFor_70 (fun c70 => ?_) (fun c70 => ?_)
          · refine g_iload C (pc := 79) 5 rfl dX1_sizeFor_79 ?_
            refine g_iconst C (pc := 81) dX1_sizeFor_81 ?_
            refine g_iadd C (pc := 82) dX1_sizeFor_82 ?_
            refine g_istore_n C (pc := 83) [(0, .ref (a 0)), (1, .int (iI (N : Int))), (2, .int (iI ((mid : Int) + 1))), (3, .int (iI (hi : Int))), (4, .int (iI (r : Int))), (5, .int (iI (mid : Int)))] [1, 2, 0, 3, 4, 5] rfl (by decide) rfl dX1_sizeFor_83 ?_
            refine g_iinc C (pc := 84) [(0, .ref (a 0)), (1, .int (iI (N : Int))), (2, .int (iI ((mid : Int) + 1))), (3, .int (iI (hi : Int))), (4, .int (iI ((r : Int) + 1))), (5, .int (iI (mid : Int)))] [1, 2, 3, 4, 0, 5] 4 rfl (by decide) rfl dX1_sizeFor_84 ?_
            refine g_goto C (pc := 87) 32 (by decide) dX1_sizeFor_87 ?_
            refine g_locals C [0, 1, 2, 3, 4] rfl ?_
            exact ih (r + 1) (mid + 1) hi N  _ _ _ _ _ _ _ _ _ _ hN hokc (by omega) (by omega) (by omega) (by omega) (by omega) (fun x h5 h6 => by have h7 := hmx x h5 h6; omega) hhi (fun x hx hc => by
              have h5 := hop.2 N (Nat.zero_le _) (Cp_R (show x ≤ (mid : Int) by omega) _ hc)
              omega)
          · refine g_iload C (pc := 73) 5 rfl dX1_sizeFor_73 ?_
            refine g_istore_n C (pc := 75) [(0, .ref (a 0)), (1, .int (iI (N : Int))), (2, .int (iI (lo : Int))), (3, .int (iI (mid : Int))), (4, .int (iI (r : Int))), (5, .int (iI (mid : Int)))] [1, 2, 3, 0, 4, 5] rfl (by decide) rfl dX1_sizeFor_75 ?_
            refine g_goto C (pc := 76) 84 (by decide) dX1_sizeFor_76 ?_
            refine g_iinc C (pc := 84) [(0, .ref (a 0)), (1, .int (iI (N : Int))), (2, .int (iI (lo : Int))), (3, .int (iI (mid : Int))), (4, .int (iI ((r : Int) + 1))), (5, .int (iI (mid : Int)))] [1, 2, 3, 4, 0, 5] 4 rfl (by decide) rfl dX1_sizeFor_84 ?_
            refine g_goto C (pc := 87) 32 (by decide) dX1_sizeFor_87 ?_
            refine g_locals C [0, 1, 2, 3, 4] rfl ?_
            exact ih (r + 1) lo mid N  _ _ _ _ _ _ _ _ _ _ hN hokc (by omega) (by omega) (by omega) hlo1 (by omega) hmx (Cp_mono (show Kz ≤ N by omega) _ (fun b _ _ => by show (0 : Int) ≤ (mid : Int); omega) hcz) hlo
  refine g_iload_n C (pc := 0) 1 rfl rfl dX1_sizeFor_0 ?_
  refine g_iconst C (pc := 1) dX1_sizeFor_1 ?_
  refine g_icmp_lt C (pc := 2) 18 (by omega) (by omega) (by decide) dX1_sizeFor_2 (fun c2 => ?_) (fun c2 => ?_)
  · refine g_iconst C (pc := 18) dX1_sizeFor_18 ?_
    exact hret _ _ _ _ dX1_sizeFor_19 rfl (Or.inl ⟨by omega, rfl, rfl⟩)
  · refine g_iload_n C (pc := 5) 1 rfl rfl dX1_sizeFor_5 ?_
    refine g_bipush C (pc := 6) dX1_sizeFor_6 (by decide) ?_
    refine g_icmp_gt C (pc := 8) 18 (by omega) (by omega) (by decide) dX1_sizeFor_8 (fun c8 => ?_) (fun c8 => ?_)
    · refine g_iconst C (pc := 18) dX1_sizeFor_18 ?_
      exact hret _ _ _ _ dX1_sizeFor_19 rfl (Or.inl ⟨by omega, rfl, rfl⟩)
    · refine g_aload_n C (pc := 11) 0 rfl rfl dX1_sizeFor_11 ?_
      refine dg_present C (pc := 12) dX1_sizeFor_12 ?_
      refine g_if_ne C (pc := 15) 20 (by omega) (by decide) dX1_sizeFor_15 (fun c15 => ?_) (fun c15 => ?_)
      · obtain ⟨N, hN⟩ : ∃ N : Nat, n0 = (N : Int) := ⟨n0.toNat, by omega⟩
        obtain ⟨xx, hx8, hxb⟩ := bit_some hp (show p ≠ 0 by omega)
        refine g_aload_n C (pc := 20) 0 rfl rfl dX1_sizeFor_20 ?_
        refine g_calli C (pc := 21) (n := 0) [] [] (met_largest l D cI cB a f0 g2 f3 f4 g5 f6 g7 f8 g9 g10 f11 g12 f13 f14 g15 p hp hg) (lw_V q105 q107 qs1 q24 q108) (by decide +kernel) (by decide) (by decide) rfl 0 0 rfl rfl rfl (Nat.le_of_ble_eq_true rfl) dX1_sizeFor_21 (fun z u hu => ?_)
        obtain ⟨rfl, hzr, hz1, hz2⟩ := hu
        obtain ⟨lo, hlo⟩ : ∃ lo : Nat, z = (lo : Int) := ⟨z.toNat, by omega⟩
        subst hlo
        have hxs := hsz xx hx8 hxb
        have hxl := hz1 xx hx8 hxb
        refine g_istore_n C (pc := 24) [(0, .ref (a 0)), (1, .int (iI n0)), (2, .int (iI (lo : Int)))] [1, 2, 0] rfl (by decide) rfl dX1_sizeFor_24 ?_
        refine g_sipush C (pc := 25) dX1_sizeFor_25 (by decide) ?_
        refine g_istore_n C (pc := 28) [(0, .ref (a 0)), (1, .int (iI n0)), (2, .int (iI (lo : Int))), (3, .int (iI 480))] [1, 2, 3, 0] rfl (by decide) rfl dX1_sizeFor_28 ?_
        refine g_iconst C (pc := 29) dX1_sizeFor_29 ?_
        refine g_istore C (pc := 30) [(0, .ref (a 0)), (1, .int (iI n0)), (2, .int (iI (lo : Int))), (3, .int (iI 480)), (4, .int (iI 0))] [1, 2, 3, 4, 0] (by decide) rfl dX1_sizeFor_30 ?_
        subst hN
        refine loop 10 0 lo 480 N  _ _ _ _ _ _ _ _ _ _ rfl (by omega) (by omega) (by omega) (by omega) (by omega) (by omega) hz1 (Cp_one (by omega) (by omega) _ _ (fun _ _ => rfl) ?_) (fun x hx hc => ?_)
        · have h5 := sel_sum (p := p) (g := g2) 8 (Nat.le_refl 8) (fun k => (hg k).2) (fun k => (hg k).1)
          show (0 : Int) + _ ≤ _
          omega
        · rcases hz2 with e | ⟨y, h5, h6, h7⟩
          · omega
          · have h8 := Cp_all hsl0 hc (g2 y) (sel_mem h5 h6)
            omega
      · refine g_iconst C (pc := 18) dX1_sizeFor_18 ?_
        exact hret _ _ _ _ dX1_sizeFor_19 rfl (Or.inl ⟨by omega, rfl, rfl⟩)
set_option maxHeartbeats 4000000 in
set_option maxRecDepth 100000 in
/-- together(i, j) -/
theorem met_together (l : Launch) (D : va_G) (cI cB : ClassId) (a : Nat → Nat) (f0 : Int) (g2 : Nat → Int) (f3 : Int) (f4 : Int) (g5 : Nat → Int) (f6 : Int) (g7 : Nat → Int) (f8 : Int) (g9 : Nat → Int) (g10 : Nat → Int) (f11 : Int) (g12 : Nat → Int) (f13 : Int) (f14 : Int) (g15 : Nat → Int) (p : Nat) (hok : SzOk f0 p g2) (hpk : PkI f0 p g2 f13 f14 g15) (x0 y0 : Int) (hx0 : -2147483648 ≤ x0 ∧ x0 < 2147483648) (hy0 : -2147483648 ≤ y0 ∧ y0 < 2147483648) : MDi l yX1_together cX1_together 4 .boolean 7 [.ref (a 0), .int (iI x0), .int (iI y0)] D cI cB (WD a cI cB f0 (p : Int) g2 f3 f4 g5 f6 g7 f8 g9 g10 f11 g12 f13 f14 g15) (fun z u => ((hasb p x0 = false ∨ hasb p y0 = false ∨ x0 = y0 ∨ f0 < g2 x0.toNat + g2 y0.toNat) ∧ z = 0 ∧ u = (WD a cI cB f0 (p : Int) g2 f3 f4 g5 f6 g7 f8 g9 g10 f11 g12 f13 f14 g15)) ∨ ∃ i j : Nat, i < 8 ∧ j < 8 ∧ x0 = i ∧ y0 = j ∧ i ≠ j ∧ p.testBit i = true ∧ p.testBit j = true ∧ g2 i + g2 j ≤ f0 ∧ ∃ (f3' : Int) (f4' : Int) (g5' : Nat → Int) (f6' : Int) (g7' : Nat → Int) (f8' : Int) (g9' : Nat → Int) (g10' : Nat → Int) (f11' : Int) (g12' : Nat → Int), ∃ (K : Nat) (h' : Nat → Int), u = (WD a cI cB f0 (p : Int) g2 f3' f4' g5' f6' g7' f8' g9' g10' f11' g12' 1 (K : Int) h') ∧ PkS f0 p g2 (K : Int) h' ∧ ((z = 1 ∧ Cp f0 ((g2 i + g2 j) :: sel (clr (clr p (2 ^ i)) (2 ^ j)) 8 g2) (fun _ => 0) K) ∨ (z = 0 ∧ ¬ Cp f0 ((g2 i + g2 j) :: sel (clr (clr p (2 ^ i)) (2 ^ j)) 8 g2) (fun _ => 0) K))) := by
  refine md_i [(0, .ref (a 0)), (1, .int (iI x0)), (2, .int (iI y0))] rfl (Nat.le_of_ble_eq_true rfl) rfl ?_
  intro A G C hret
  have C : Cx l RX1 cX1_together 4 (rmD 7) D cI cB A 0 0 G := C
  obtain ⟨hR, hp, hg, hsz⟩ := id hok
  refine g_aload_n C (pc := 0) 0 rfl rfl dX1_together_0 ?_
  refine g_iload_n C (pc := 1) 1 rfl rfl dX1_together_1 ?_
  refine g_calli C (pc := 2) (n := 1) [] [.int (iI x0)] (met_has l D cI cB a f0 g2 f3 f4 g5 f6 g7 f8 g9 g10 f11 g12 f13 f14 g15 p hp x0 (by omega)) (lw_V q89 q91 qs0 q24 q92) (by decide +kernel) (by decide) (by decide) rfl 0 0 rfl rfl rfl (Nat.le_of_ble_eq_true rfl) dX1_together_2 (fun z u hu => ?_)
  obtain ⟨rfl, hz1⟩ := hu
  have hz := has01 hz1
  clear hz1
  have hz2 : 0 ≤ z ∧ z ≤ 1 := by rcases hz with ⟨h, _⟩ | ⟨h, _⟩ <;> omega
  refine g_if_eq C (pc := 5) 41 (by omega) (by decide) dX1_together_5 (fun c5 => ?_) (fun c5 => ?_)
  · have hh1 : hasb p x0 = false := by
      rcases hz with ⟨h, _⟩ | ⟨_, h⟩
      · omega
      · exact h
    refine g_iconst C (pc := 41) dX1_together_41 ?_
    exact hret _ _ _ _ dX1_together_42 rfl (Or.inl ⟨Or.inl hh1, rfl, rfl⟩)
  · have hh1 : hasb p x0 = true := by
      rcases hz with ⟨_, h⟩ | ⟨h, _⟩
      · exact h
      · omega
    clear hz hz2
    refine g_aload_n C (pc := 8) 0 rfl rfl dX1_together_8 ?_
    refine g_iload_n C (pc := 9) 2 rfl rfl dX1_together_9 ?_
    refine g_calli C (pc := 10) (n := 1) [] [.int (iI y0)] (met_has l D cI cB a f0 g2 f3 f4 g5 f6 g7 f8 g9 g10 f11 g12 f13 f14 g15 p hp y0 (by omega)) (lw_V q89 q91 qs0 q24 q92) (by decide +kernel) (by decide) (by decide) rfl 0 0 rfl rfl rfl (Nat.le_of_ble_eq_true rfl) dX1_together_10 (fun z u hu => ?_)
    obtain ⟨rfl, hz1⟩ := hu
    have hz := has01 hz1
    clear hz1
    have hz2 : 0 ≤ z ∧ z ≤ 1 := by rcases hz with ⟨h, _⟩ | ⟨h, _⟩ <;> omega
    refine g_if_eq C (pc := 13) 41 (by omega) (by decide) dX1_together_13 (fun c13 => ?_) (fun c13 => ?_)
    · have hh2 : hasb p y0 = false := by
        rcases hz with ⟨h, _⟩ | ⟨_, h⟩
        · omega
        · exact h
      refine g_iconst C (pc := 41) dX1_together_41 ?_
      exact hret _ _ _ _ dX1_together_42 rfl (Or.inl ⟨Or.inr (Or.inl hh2), rfl, rfl⟩)
    · have hh2 : hasb p y0 = true := by
        rcases hz with ⟨_, h⟩ | ⟨h, _⟩
        · exact h
        · omega
      clear hz hz2
      refine g_iload_n C (pc := 16) 1 rfl rfl dX1_together_16 ?_
      refine g_iload_n C (pc := 17) 2 rfl rfl dX1_together_17 ?_
      refine g_icmp_eq C (pc := 18) 41 (by omega) (by omega) (by decide) dX1_together_18 (fun c18 => ?_) (fun c18 => ?_)
      · refine g_iconst C (pc := 41) dX1_together_41 ?_
        exact hret _ _ _ _ dX1_together_42 rfl (Or.inl ⟨Or.inr (Or.inr (Or.inl c18)), rfl, rfl⟩)
      · obtain ⟨i, hi8, rfl, hbi⟩ := hasb_of hh1
        obtain ⟨j, hj8, rfl, hbj⟩ := hasb_of hh2
        have hgi := hg i
        have hgj := hg j
        refine g_aload_n C (pc := 21) 0 rfl rfl dX1_together_21 ?_
        refine dg_sizes C (pc := 22) dX1_together_22 ?_
        refine g_iload_n C (pc := 25) 1 rfl rfl dX1_together_25 ?_
        refine dl_sizes C (pc := 26) i (by omega) (by omega) dX1_together_26 ?_
        refine g_aload_n C (pc := 27) 0 rfl rfl dX1_together_27 ?_
        refine dg_sizes C (pc := 28) dX1_together_28 ?_
        refine g_iload_n C (pc := 31) 2 rfl rfl dX1_together_31 ?_
        refine dl_sizes C (pc := 32) j (by omega) (by omega) dX1_together_32 ?_
        refine g_iadd C (pc := 33) dX1_together_33 ?_
        refine g_aload_n C (pc := 34) 0 rfl rfl dX1_together_34 ?_
        refine dg_binSize C (pc := 35) dX1_together_35 ?_
        refine g_icmp_le C (pc := 38) 43 (by omega) (by omega) (by decide) dX1_together_38 (fun c38 => ?_) (fun c38 => ?_)
        · refine g_aload_n C (pc := 43) 0 rfl rfl dX1_together_43 ?_
          refine g_calli C (pc := 44) (n := 0) [] [] (met_least l D cI cB a f0 g2 f3 f4 g5 f6 g7 f8 g9 g10 f11 g12 f13 f14 g15 p hok hpk) (lw_V q197 q122 q123 q24 q124) (by decide +kernel) (by decide) (by decide) rfl 0 0 rfl rfl rfl (Nat.le_of_ble_eq_true rfl) dX1_together_44 (fun z u hu => ?_)
          obtain ⟨f3', f4', g5', f6', g7', f8', g9', g10', f11', g12', h', rfl, hps⟩ := hu
          obtain ⟨K, f, rfl, hK8, hrest⟩ := id hps
          refine g_istore_n C (pc := 47) [(0, .ref (a 0)), (1, .int (iI (i : Int))), (2, .int (iI (j : Int))), (3, .int (iI (K : Int)))] [1, 2, 3, 0] rfl (by decide) rfl dX1_together_47 ?_
          refine g_aload_n C (pc := 48) 0 rfl rfl dX1_together_48 ?_
          refine g_aload_n C (pc := 49) 0 rfl rfl dX1_together_49 ?_
          refine dg_binSize C (pc := 50) dX1_together_50 ?_
          refine g_callv C (pc := 53) (n := 1) [] [.int (iI f0)] (met_ask l D cI cB a f0 (p : Int) g2 f3' f4' g5' f6' g7' f8' g9' g10' f11' g12' 1 (K : Int) h' f0) (lw_V q129 q131 qs3 q24 q132) (by decide +kernel) (by decide) (by decide) rfl 0 0 rfl rfl rfl (Nat.le_of_ble_eq_true rfl) dX1_together_53 (fun u hu => ?_)
          subst hu
          refine g_aload_n C (pc := 56) 0 rfl rfl dX1_together_56 ?_
          refine g_aload_n C (pc := 57) 0 rfl rfl dX1_together_57 ?_
          refine dg_present C (pc := 58) dX1_together_58 ?_
          refine g_iconst C (pc := 61) dX1_together_61 ?_
          refine g_iload_n C (pc := 62) 1 rfl rfl dX1_together_62 ?_
          refine g_ishl C (pc := 63) ((2 ^ i : Nat) : Int) (bit_shl (by omega)) dX1_together_63 ?_
          refine g_iconst C (pc := 64) dX1_together_64 ?_
          refine g_ixor C (pc := 65) (-((2 ^ i : Nat) : Int) - 1) (bit_not (2 ^ i)) dX1_together_65 ?_
          refine g_iand C (pc := 66) ((clr p (2 ^ i) : Nat) : Int) (bit_clr hp (pow_lt hi8)) dX1_together_66 ?_
          refine g_iconst C (pc := 67) dX1_together_67 ?_
          refine g_iload_n C (pc := 68) 2 rfl rfl dX1_together_68 ?_
          refine g_ishl C (pc := 69) ((2 ^ j : Nat) : Int) (bit_shl (by omega)) dX1_together_69 ?_
          refine g_iconst C (pc := 70) dX1_together_70 ?_
          refine g_ixor C (pc := 71) (-((2 ^ j : Nat) : Int) - 1) (bit_not (2 ^ j)) dX1_together_71 ?_
          refine g_iand C (pc := 72) (((clr (clr p (2 ^ i)) (2 ^ j)) : Nat) : Int) (bit_clr (clr_lt hp) (pow_lt hj8)) dX1_together_72 ?_
          refine g_callv C (pc := 73) (n := 1) [] [.int (iI (((clr (clr p (2 ^ i)) (2 ^ j)) : Nat) : Int))] (met_wantAll l D cI cB a f0 (p : Int) g2 f0 0 (fun _ => 0) g7' f8' g9' g10' f11' g12' 1 (K : Int) h' 0 (clr (clr p (2 ^ i)) (2 ^ j)) (by omega) (clr_lt (clr_lt hp)) (fun k => by have h5 := hg k; omega) (fun j hj => absurd hj (by omega))) (lw_V q133 q135 qs4 q24 q136) (by decide +kernel) (by decide) (by decide) rfl 0 0 rfl rfl rfl (Nat.le_of_ble_eq_true rfl) dX1_together_73 (fun u hu => ?_)
          obtain ⟨m1, g1, rfl, hpm⟩ := hu
          rw [its_0, List.append_nil] at hpm
          have hm1 : m1 = rk (clr (clr p (2 ^ i)) (2 ^ j)) 8 := by rw [← sel_len (clr (clr p (2 ^ i)) (2 ^ j)) 8 g2, ← hpm.length_eq, its_len]
          have hrk8 := rk_le (clr (clr p (2 ^ i)) (2 ^ j)) 8
          have hsl : ∀ x ∈ sel (clr (clr p (2 ^ i)) (2 ^ j)) 8 g2, 0 < x ∧ x ≤ f0 := sel_bd (fun k h5 h6 => by
            rw [tb_clr (clr_lt hp), tb_clr hp, Bool.and_eq_true, Bool.and_eq_true] at h6
            have h7 := hsz k h5 h6.1.1
            omega)
          have hsi := hsz i hi8 hbi
          have hsj := hsz j hj8 hbj
          refine g_aload_n C (pc := 76) 0 rfl rfl dX1_together_76 ?_
          refine g_aload_n C (pc := 77) 0 rfl rfl dX1_together_77 ?_
          refine dg_sizes C (pc := 78) dX1_together_78 ?_
          refine g_iload_n C (pc := 81) 1 rfl rfl dX1_together_81 ?_
          refine dl_sizes C (pc := 82) i (by omega) (by omega) dX1_together_82 ?_
          refine g_aload_n C (pc := 83) 0 rfl rfl dX1_together_83 ?_
          refine dg_sizes C (pc := 84) dX1_together_84 ?_
          refine g_iload_n C (pc := 87) 2 rfl rfl dX1_together_87 ?_
          refine dl_sizes C (pc := 88) j (by omega) (by omega) dX1_together_88 ?_
          refine g_iadd C (pc := 89) dX1_together_89 ?_
          refine g_callv C (pc := 90) (n := 1) [] [.int (iI ((g2 i) + (g2 j)))] (met_want l D cI cB a f0 (p : Int) g2 f0 0 (fun _ => 0) g1 f8' g9' g10' f11' g12' 1 (K : Int) h' m1 (g2 i + g2 j) (by omega) (by omega) (fun k hk => by have h5 := perm_bd (P := fun x => 0 < x ∧ x ≤ f0) hpm hsl k hk; omega)) (lw_V q137 q139 qs5 q24 q140) (by decide +kernel) (by decide) (by decide) rfl 0 0 rfl rfl rfl (Nat.le_of_ble_eq_true rfl) dX1_together_90 (fun u hu => ?_)
          obtain ⟨g3, rfl, hpm3⟩ := hu
          have hpm2 : (its (m1 + 1) g3).Perm ((g2 i + g2 j) :: sel (clr (clr p (2 ^ i)) (2 ^ j)) 8 g2) := hpm3.trans (List.Perm.cons _ hpm)
          have hsl2 : ∀ x ∈ ((g2 i + g2 j) :: sel (clr (clr p (2 ^ i)) (2 ^ j)) 8 g2), 0 < x ∧ x ≤ f0 := fun x hx => by
            rcases List.mem_cons.mp hx with e | e
            · rw [e]; omega
            · exact hsl x e
          refine g_aload_n C (pc := 93) 0 rfl rfl dX1_together_93 ?_
          refine g_calli C (pc := 94) (n := 0) [] [] (met_solve l D cI cB a f0 (p : Int) g2 f0 (fun _ => 0) g3 f8' g9' g10' f11' g12' 1 (K : Int) h' 0 (m1 + 1) (by omega) (by omega) (fun _ => by omega) (fun _ _ => rfl) (perm_bd (P := fun x => 0 < x ∧ x ≤ f0) hpm2 hsl2)) (lw_V q141 q143 qs6 q24 q144) (by decide +kernel) (by decide) (by decide) rfl 0 0 rfl rfl rfl (Nat.le_of_ble_eq_true rfl) dX1_together_94 (fun z u hu => ?_)
          obtain ⟨B1, p1, q1, c1, w1, rfl, hop1⟩ := hu
          have hop := opt_perm hpm2 hop1
          obtain ⟨Kz, rfl, hKz⟩ : ∃ K : Nat, z = K ∧ K ≤ 9 := by
            obtain ⟨⟨K1, e1, _, _⟩, h5⟩ := hop1
            have h6 := h5 (0 + (m1 + 1)) (by omega) (Cp_each 0 (m1 + 1) (fun _ => by omega) (fun _ _ => rfl) (perm_bd (P := fun x => 0 < x ∧ x ≤ f0) hpm2 hsl2))
            exact ⟨K1, e1, by omega⟩
          have hcz : Cp f0 ((g2 i + g2 j) :: sel (clr (clr p (2 ^ i)) (2 ^ j)) 8 g2) (fun _ => 0) Kz := by
            obtain ⟨K1, e1, _, h5⟩ := hop.1
            have e2 : K1 = Kz := by omega
            rw [← e2]; exact h5
          have hKK : K ≤ Kz := merge_ge hp hi8 hj8 (by omega) hbi hbj hrest.1 hcz
          refine g_iload_n C (pc := 97) 3 rfl rfl dX1_together_97 ?_
          refine g_icmp_ne C (pc := 98) 105 (by omega) (by omega) (by decide) dX1_together_98 (fun c98 => ?_) (fun c98 => ?_)
          · refine g_iconst C (pc := 105) dX1_together_105 ?_
            exact hret _ _ _ _ dX1_together_106 rfl (Or.inr ⟨i, j, hi8, hj8, rfl, rfl, by omega, hbi, hbj, by omega, _, _, _, _, _, _, _, _, _, _, K, _, rfl, hps, Or.inr ⟨rfl, fun h => by have h5 := hop.2 K (Nat.zero_le _) h; omega⟩⟩)
          · have eK : Kz = K := by omega
            refine g_iconst C (pc := 101) dX1_together_101 ?_
            refine g_goto C (pc := 102) 106 (by decide) dX1_together_102 ?_
            exact hret _ _ _ _ dX1_together_106 rfl (Or.inr ⟨i, j, hi8, hj8, rfl, rfl, by omega, hbi, hbj, by omega, _, _, _, _, _, _, _, _, _, _, K, _, rfl, hps, Or.inl ⟨rfl, by rw [← eK]; exact hcz⟩⟩)
        · refine g_iconst C (pc := 41) dX1_together_41 ?_
          exact hret _ _ _ _ dX1_together_42 rfl (Or.inl ⟨Or.inr (Or.inr (Or.inr c38)), rfl, rfl⟩)
end
section
/-! the model's walk through all neat packings -/
def mz (p : Nat) (g : Nat → Int) : Nat → Int := fun k => if p.testBit k = true then g k else 0
def cf (f : Nat → Nat) : Nat → Int := fun k => (f k : Int)
theorem mz_yes {p k : Nat} {g : Nat → Int} (h : p.testBit k = true) : mz p g k = g k := if_pos h
theorem mz_no {p k : Nat} {g : Nat → Int} (h : p.testBit k = false) : mz p g k = 0 := if_neg (by rw [h]; decide)
theorem mz_add (p i : Nat) (g : Nat → Int) (s : Int) : va_up (mz p g) i s = mz (p ||| 2 ^ i) (va_up g i s) := by
  funext k
  by_cases e : k = i
  · subst e
    rw [up_same, mz_yes (by rw [Nat.testBit_or, tb_pow, decide_eq_true rfl]; simp), up_same]
  · rw [up_ne _ _ e]
    unfold mz
    rw [Nat.testBit_or, tb_pow, decide_eq_false (fun h => e h.symm), Bool.or_false, up_ne _ _ e]
theorem mz_rem {p i : Nat} (hp : p < 256) (g : Nat → Int) : va_up (mz p g) i 0 = mz (clr p (2 ^ i)) g := by
  funext k
  by_cases e : k = i
  · subst e
    rw [up_same, mz_no (by rw [tb_clr hp, tb_pow, decide_eq_true rfl]; simp)]
  · rw [up_ne _ _ e]
    unfold mz
    rw [tb_clr hp, tb_pow, decide_eq_false (fun h => e h.symm), Bool.not_false, Bool.and_true]
theorem mz_back {p i : Nat} (hp : p < 256) (h : p.testBit i = true) (g : Nat → Int) : va_up (mz (clr p (2 ^ i)) g) i (g i) = mz p g := by
  rw [← mz_rem hp, up_up]
  funext k
  by_cases e : k = i
  · subst e; rw [up_same, mz_yes h]
  · rw [up_ne _ _ e]
theorem mz_set {p i : Nat} (h : p.testBit i = true) (g : Nat → Int) (s : Int) : va_up (mz p g) i s = mz p (va_up g i s) := by
  funext k
  by_cases e : k = i
  · subst e; rw [up_same, mz_yes h, up_same]
  · rw [up_ne _ _ e]
    unfold mz
    rw [up_ne _ _ e]
theorem cf_up (f : Nat → Nat) (k x : Nat) : va_up (cf f) k (x : Int) = cf (va_up f k x) := by
  funext j
  by_cases e : j = k
  · subst e; unfold cf; rw [up_same, up_same]
  · unfold cf; rw [up_ne _ _ e, up_ne _ _ e]
theorem mz_rg {R : Int} {p : Nat} {g : Nat → Int} (h : SzOk R p g) (k : Nat) : 0 ≤ mz p g k ∧ mz p g k ≤ 60 := by
  unfold mz
  split
  · exact h.2.2.1 k
  · omega
theorem rgs_le {n j : Nat} {f : Nat → Nat} (h : Rgs n f) (hj : j < n) : f j ≤ j := by
  have h1 := h j hj
  have h2 := mx_len (n := j) (f := f) (fun i hi => h i (by omega))
  omega
theorem ld_bd {n : Nat} {f : Nat → Nat} {s : Nat → Int} (h : ∀ j, j < n → 0 ≤ s j ∧ s j ≤ 60) (b : Nat) : 0 ≤ ld n f s b ∧ ld n f s b ≤ 60 * n := by
  unfold ld
  have h1 := sg_bd (n := n) (f := fun j => if f j = b then s j else 0) (lo := 0) (hi := 60) (fun j hj => by
    have h2 := h j hj
    show 0 ≤ (if f j = b then s j else 0) ∧ (if f j = b then s j else 0) ≤ 60
    split <;> omega)
  omega
/-- more = 1: all before f are treated; more = 0: all are -/
def Enum (n : Nat) (f : Nat → Nat) (mo : Int) (c : Nat) (T : (Nat → Nat) → Prop) : Prop :=
  (mo = 1 ∧ 0 < n ∧ Rgs n f ∧ c ≤ rankf n f ∧ ∀ g, Rgs n g → lexf n g f → T g) ∨ (mo = 0 ∧ ∀ g, Rgs n g → T g)
theorem enum_0 {n : Nat} {T : (Nat → Nat) → Prop} (hn : 0 < n) : Enum n (fun _ => 0) 1 0 T := Or.inl ⟨rfl, hn, fun _ _ => Nat.zero_le _, Nat.zero_le _, fun _ _ h => absurd h (first_no (fun _ _ => rfl))⟩
theorem enum_next {n c : Nat} {f f' : Nat → Nat} {T T' : (Nat → Nat) → Prop} {z : Int} (hn : 0 < n) (hr : Rgs n f) (hc : c ≤ rankf n f) (hT : ∀ g, Rgs n g → lexf n g f → T g) (hm : ∀ g, T g → T' g) (hf : ∀ g, (∀ j, j < n → g j = f j) → T' g) (hz : (z = 1 ∧ NXT n f f') ∨ (z = 0 ∧ LAST n f)) : Enum n f' z (c + 1) T' := by
  rcases hz with ⟨hz, hx⟩ | ⟨hz, hx⟩
  · refine Or.inl ⟨hz, hn, nxt_rgs hr hx, ?_, fun g hg hl => ?_⟩
    · have h1 := rank_lt hr (nxt_lex hx)
      omega
    · rcases nxt_no hg hx hl with h | h
      · exact hf g h
      · exact hm g (hT g hg h)
  · refine Or.inr ⟨hz, fun g hg => ?_⟩
    rcases last_no hg hx with h | h
    · exact hf g h
    · exact hm g (hT g hg h)
/-- a packing fits -/
def Fits (R : Int) (n : Nat) (s : Nat → Int) (g : Nat → Nat) : Prop := ∀ b, b < mx n g → ld n g s b ≤ R
theorem fits_ext {R : Int} {n : Nat} {s : Nat → Int} {f g : Nat → Nat} (e : ∀ j, j < n → g j = f j) (h : Fits R n s g) : Fits R n s f := by
  intro b hb
  rw [← ld_ext (f := g) s e]
  exact h b (by rw [mx_ext (f := g) (g := f) e]; exact hb)
theorem mx_id (n : Nat) : mx n (fun j => j) = n := by
  induction n with
  | zero => rfl
  | succ n ih =>
    show (if mx n (fun j => j) ≤ n then n + 1 else mx n (fun j => j)) = n + 1
    rw [ih, if_pos (Nat.le_refl n)]
theorem ld_id {n b : Nat} (s : Nat → Int) (hb : b < n) : ld n (fun j => j) s b = s b := by
  induction n with
  | zero => omega
  | succ n ih =>
    rw [ld_succ]
    by_cases e : b = n
    · subst e
      rw [bump_same, ld_out s (fun j hj => by omega)]
      omega
    · rw [bump_ne _ _ e]; exact ih (by omega)
theorem rgs_id (n : Nat) : Rgs n (fun j => j) := fun j _ => by rw [mx_id]; exact Nat.le_refl j
theorem least_end {R z : Int} {n : Nat} {s : Nat → Int} (hn : n ≤ 8) (hs : ∀ j, j < n → 1 ≤ s j ∧ s j ≤ R) (h1 : ∀ g, Rgs n g → Fits R n s g → z ≤ mx n g) (h2 : z = 9 ∨ ∃ g, Rgs n g ∧ Fits R n s g ∧ z = mx n g) : Opt R (its n s) (fun _ => 0) 0 z := by
  refine opt_rgs ?_ (fun g hg hf => h1 g hg hf)
  rcases h2 with h | h
  · exfalso
    have h3 := h1 (fun j => j) (rgs_id n) (fun b hb => by rw [mx_id] at hb; rw [ld_id s hb]; exact (hs b hb).2)
    rw [mx_id] at h3
    omega
  · exact h
/-- with room that is taken already -/
theorem Cp_iffL {R : Int} {n K : Nat} {s l : Nat → Int} : Cp R (its n s) l K ↔ ∃ f : Nat → Nat, (∀ j, j < n → f j < K) ∧ ∀ b, b < K → l b + ld n f s b ≤ R := by
  have h : ∀ (t k : Nat) (f : Nat → Nat), k + t = n → (Cp R ((its n s).drop k) (fun b => l b + ld k f s b) K ↔ ∃ f' : Nat → Nat, (∀ j, j < k → f' j = f j) ∧ (∀ j, k ≤ j → j < n → f' j < K) ∧ ∀ b, b < K → l b + ld n f' s b ≤ R) := by
    intro t
    induction t with
    | zero =>
      intro k f hk
      have e : k = n := by omega
      subst e
      rw [its_dropAll]
      constructor
      · intro h
        exact ⟨f, fun _ _ => rfl, fun j h1 h2 => absurd h2 (by omega), h⟩
      · rintro ⟨f', h1, _, h3⟩ b hb
        show l b + ld k f s b ≤ R
        rw [← ld_ext (f := f') s h1]
        exact h3 b hb
    | succ t ih =>
      intro k f hk
      rw [its_drop s (by omega)]
      have e : ∀ b, bump (fun b => l b + ld k f s b) b (s k) = fun c => l c + ld (k + 1) (va_up f k b) s c := fun b => by
        funext c
        rw [ld_succ, up_same, ld_ext (f := va_up f k b) (g := f) s (fun j hj => up_ne _ _ (by omega))]
        by_cases q : c = b
        · subst q; rw [bump_same, bump_same]; omega
        · rw [bump_ne _ _ q, bump_ne _ _ q]
      constructor
      · rintro ⟨b, hb, h⟩
        rw [e b] at h
        obtain ⟨f', h1, h2, h3⟩ := (ih (k + 1) (va_up f k b) (by omega)).mp h
        refine ⟨f', fun j hj => ?_, fun j hj1 hj2 => ?_, h3⟩
        · rw [h1 j (by omega), up_ne _ _ (by omega)]
        · by_cases e2 : j = k
          · subst e2; rw [h1 j (by omega), up_same]; exact hb
          · exact h2 j (by omega) hj2
      · rintro ⟨f', h1, h2, h3⟩
        refine ⟨f' k, h2 k (Nat.le_refl k) (by omega), ?_⟩
        rw [e (f' k)]
        refine (ih (k + 1) (va_up f k (f' k)) (by omega)).mpr ⟨f', fun j hj => ?_, fun j hj1 hj2 => h2 j (by omega) hj2, h3⟩
        by_cases e2 : j = k
        · subst e2; rw [up_same]
        · rw [up_ne _ _ e2]; exact h1 j (by omega)
  have h0 := h n 0 (fun _ => 0) (by omega)
  have e0 : (fun b => l b + ld 0 (fun _ => 0) s b) = l := by funext b; show l b + 0 = l b; omega
  rw [e0] at h0
  refine h0.trans ⟨?_, ?_⟩
  · rintro ⟨f, _, h2, h3⟩; exact ⟨f, fun j hj => h2 j (Nat.zero_le _) hj, h3⟩
  · rintro ⟨f, h2, h3⟩; exact ⟨f, fun j hj => absurd hj (Nat.not_lt_zero j), fun j _ hj => h2 j hj, h3⟩
/-- by places of a set -/
def ldm (p : Nat) (h : Nat → Nat) (g : Nat → Int) (b : Nat) : Int := sg 8 (fun x => if p.testBit x = true then (if h x = b then g x else 0) else 0)
theorem ldm_rk (p : Nat) (f : Nat → Nat) (g : Nat → Int) (b : Nat) : ldm p (fun x => f (rk p x)) g b = ld (rk p 8) f (fun k => g (it p k)) b := sg_rank (p := p) (fun x k => if f k = b then g x else 0) 8 (Nat.le_refl 8)
theorem ldm_ext {p : Nat} {h h' : Nat → Nat} (g : Nat → Int) (b : Nat) (e : ∀ x, x < 8 → p.testBit x = true → h x = h' x) : ldm p h g b = ldm p h' g b := by
  refine sg_ext (fun x hx => ?_)
  by_cases q : p.testBit x = true
  · rw [if_pos q, if_pos q, e x hx q]
  · rw [if_neg q, if_neg q]
theorem sg_one {n i : Nat} {F F' : Nat → Int} (hi : i < n) (e : ∀ x, x < n → x ≠ i → F x = F' x) : sg n F = sg n F' + (F i - F' i) := by
  induction n with
  | zero => omega
  | succ n ih =>
    show sg n F + F n = sg n F' + F' n + (F i - F' i)
    by_cases q : i = n
    · subst q
      rw [sg_ext (g := F') (fun x hx => e x (by omega) (by omega))]
      omega
    · rw [ih (by omega) (fun x hx hne => e x (by omega) hne), e n (by omega) (by omega)]
      omega
theorem ldm_take {p i : Nat} (hp : p < 256) (hi : i < 8) (hb : p.testBit i = true) (h : Nat → Nat) (g : Nat → Int) (b : Nat) : ldm p h g b = ldm (clr p (2 ^ i)) h g b + (if h i = b then g i else 0) := by
  unfold ldm
  have h1 := sg_one (n := 8) (i := i) (F := fun x => if p.testBit x = true then (if h x = b then g x else 0) else 0) (F' := fun x => if (clr p (2 ^ i)).testBit x = true then (if h x = b then g x else 0) else 0) hi (fun x _ hx => by
    show (if p.testBit x = true then (if h x = b then g x else 0) else 0) = (if (clr p (2 ^ i)).testBit x = true then (if h x = b then g x else 0) else 0)
    rw [tb_clr hp, tb_pow, decide_eq_false (fun q => hx q.symm), Bool.not_false, Bool.and_true])
  rw [h1]
  show _ + ((if p.testBit i = true then (if h i = b then g i else 0) else 0) - (if (clr p (2 ^ i)).testBit i = true then (if h i = b then g i else 0) else 0)) = _
  have e5 : (clr p (2 ^ i)).testBit i = false := by rw [tb_clr hp, tb_pow, decide_eq_true rfl]; simp
  rw [e5, if_pos hb, if_neg (show ¬ false = true by decide)]
  omega
theorem Cp_mask {R : Int} {p K : Nat} {g l : Nat → Int} : Cp R (sel p 8 g) l K ↔ ∃ h : Nat → Nat, (∀ x, x < 8 → p.testBit x = true → h x < K) ∧ ∀ b, b < K → l b + ldm p h g b ≤ R := by
  rw [its_sel g 8 (Nat.le_refl 8), Cp_iffL]
  constructor
  · rintro ⟨f, h1, h2⟩
    exact ⟨fun x => f (rk p x), fun x hx hb => h1 _ (rk_lt hx hb), fun b hb => by rw [ldm_rk]; exact h2 b hb⟩
  · rintro ⟨h, h1, h2⟩
    refine ⟨fun k => h (it p k), fun j hj => ?_, fun b hb => ?_⟩
    · obtain ⟨x, q1, q2, q3, q4⟩ := it_of 8 (Nat.le_refl 8) j hj
      show h (it p j) < K
      rw [q4]; exact h1 x q1 q2
    · rw [← ldm_rk, ldm_ext (h' := h) g b (fun x hx hb => by show h (it p (rk p x)) = h x; rw [it_rk hx hb])]
      exact h2 b hb
/-- two items in one bin -/
theorem tog_iff {R : Int} {p i j K : Nat} {g : Nat → Int} (hp : p < 256) (hi : i < 8) (hj : j < 8) (hij : i ≠ j) (hbi : p.testBit i = true) (hbj : p.testBit j = true) :
    Cp R ((g i + g j) :: sel (clr (clr p (2 ^ i)) (2 ^ j)) 8 g) (fun _ => 0) K ↔ ∃ f : Nat → Nat, (∀ k, k < rk p 8 → f k < K) ∧ f (rk p i) = f (rk p j) ∧ ∀ b, b < K → ld (rk p 8) f (fun k => g (it p k)) b ≤ R := by
  have hbj2 : (clr p (2 ^ i)).testBit j = true := by rw [tb_clr hp, tb_pow, hbj, decide_eq_false hij]; rfl
  have hsum : ∀ (h : Nat → Nat) (c b : Nat), h i = c → h j = c → ldm p h g b = bump (fun _ => 0) c (g i + g j) b + ldm (clr (clr p (2 ^ i)) (2 ^ j)) h g b := fun h c b e1 e2 => by
    rw [ldm_take hp hi hbi, ldm_take (clr_lt hp) hj hbj2, e1, e2]
    by_cases q : b = c
    · subst q; rw [bump_same, if_pos rfl, if_pos rfl]; omega
    · rw [bump_ne _ _ q, if_neg (fun x => q x.symm), if_neg (fun x => q x.symm)]; omega
  constructor
  · rintro ⟨c, hc, h⟩
    obtain ⟨h', h1, h2⟩ := Cp_mask.mp h
    let hh : Nat → Nat := va_up (va_up h' i c) j c
    have hhj : hh j = c := up_same _ _ _
    have hhi : hh i = c := by show va_up (va_up h' i c) j c i = c; rw [up_ne _ _ hij, up_same]
    have hho : ∀ x, x < 8 → (clr (clr p (2 ^ i)) (2 ^ j)).testBit x = true → hh x = h' x ∧ p.testBit x = true := fun x hx hb => by
      rw [tb_clr (clr_lt hp), tb_clr hp, tb_pow, tb_pow] at hb
      have e1 : x ≠ i := fun e => by subst e; simp at hb
      have e2 : x ≠ j := fun e => by subst e; simp at hb
      refine ⟨?_, ?_⟩
      · show va_up (va_up h' i c) j c x = h' x
        rw [up_ne _ _ e2, up_ne _ _ e1]
      · simp only [Bool.and_eq_true] at hb; exact hb.1.1
    refine ⟨fun k => hh (it p k), fun k hk => ?_, ?_, fun b hb => ?_⟩
    · obtain ⟨x, q1, q2, q3, q4⟩ := it_of 8 (Nat.le_refl 8) k hk
      show hh (it p k) < K
      rw [q4]
      by_cases e1 : x = j
      · rw [e1, hhj]; exact hc
      · by_cases e2 : x = i
        · rw [e2, hhi]; exact hc
        · have hq : (clr (clr p (2 ^ i)) (2 ^ j)).testBit x = true := by
            rw [tb_clr (clr_lt hp), tb_clr hp, tb_pow, tb_pow, q2, decide_eq_false (fun h => e2 h.symm), decide_eq_false (fun h => e1 h.symm)]; rfl
          rw [(hho x q1 hq).1]; exact h1 x q1 hq
    · show hh (it p (rk p i)) = hh (it p (rk p j))
      rw [it_rk hi hbi, it_rk hj hbj, hhi, hhj]
    · rw [← ldm_rk, ldm_ext (h' := hh) g b (fun x hx hb => by show hh (it p (rk p x)) = hh x; rw [it_rk hx hb]), hsum hh c b hhi hhj, ldm_ext (h' := h') g b (fun x hx hb => (hho x hx hb).1)]
      exact h2 b hb
  · rintro ⟨f, h1, h2, h3⟩
    refine ⟨f (rk p i), h1 _ (rk_lt hi hbi), Cp_mask.mpr ⟨fun x => f (rk p x), fun x hx hb => ?_, fun b hb => ?_⟩⟩
    · rw [tb_clr (clr_lt hp), tb_clr hp] at hb
      simp only [Bool.and_eq_true] at hb
      exact h1 _ (rk_lt hx hb.1.1)
    · rw [← hsum (fun x => f (rk p x)) (f (rk p i)) b rfl h2.symm, ldm_rk]
      exact h3 b hb
/-- the room beside a packing -/
theorem spare_end {R z : Int} {n K : Nat} {s : Nat → Int} (hR : 0 ≤ R) (hs : ∀ j, j < n → 1 ≤ s j ∧ s j ≤ R) (ho : Opt R (its n s) (fun _ => 0) 0 (K : Int)) (h1 : ∀ g, Rgs n g → mx n g = K → Fits R n s g → ∀ c, c < K → R - ld n g s c ≤ z) (h2 : z = 0 ∨ ∃ g c, Rgs n g ∧ mx n g = K ∧ Fits R n s g ∧ c < K ∧ z = R - ld n g s c) (hz : 0 ≤ z) :
    (0 ≤ z ∧ z ≤ R) ∧ (z = 0 ∨ Cp R (z :: its n s) (fun _ => 0) K) ∧ ∀ x : Int, z < x → x ≤ R → ¬ Cp R (x :: its n s) (fun _ => 0) K := by
  have hpm : ∀ x : Int, (its (n + 1) (va_up s n x)).Perm (x :: its n s) := fun x => by
    rw [its_succ, up_same, its_ext (r' := s) (fun j hj => up_ne _ _ (by omega))]
    exact List.perm_append_comm
  have hld : ∀ (f : Nat → Nat) (x : Int), ld (n + 1) f (va_up s n x) = bump (ld n f s) (f n) x := fun f x => by
    rw [ld_succ, up_same]
    congr 1
    funext b
    exact sg_ext (fun j hj => by rw [up_ne _ _ (by omega)])
  have hn0 : ∀ (f : Nat → Nat) (b : Nat), 0 ≤ ld n f s b := fun f b => ld_nonneg (fun j hj => by have := hs j hj; omega) b
  refine ⟨⟨hz, ?_⟩, ?_, fun x hx hxR hc => ?_⟩
  · rcases h2 with h | ⟨g, c, _, _, _, _, h⟩
    · omega
    · have := hn0 g c; omega
  · rcases h2 with h | ⟨g, c, g1, g2, g3, g4, h⟩
    · exact Or.inl h
    · refine Or.inr (Cp_perm (hpm z) (Cp_iff.mpr ⟨va_up g n c, fun j hj => ?_, fun b hb => ?_⟩))
      · by_cases e : j = n
        · subst e; rw [up_same]; exact g4
        · rw [up_ne _ _ e]; have := mx_gt g (show j < n by omega); omega
      · rw [hld, up_same, ld_ext (g := g) s (fun j hj => up_ne _ _ (by omega))]
        by_cases e : b = c
        · subst e; rw [bump_same]; omega
        · rw [bump_ne _ _ e]; exact g3 b (by omega)
  · obtain ⟨f, f1, f2⟩ := Cp_iff.mp (Cp_perm (hpm x).symm hc)
    have f2' : ∀ b, b < K → ld n f s b ≤ R := fun b hb => by
      have h3 := f2 b hb
      rw [hld] at h3
      by_cases e : b = f n
      · subst e; rw [bump_same] at h3; omega
      · rw [bump_ne _ _ e] at h3; exact h3
    obtain ⟨g, k1, k2, k3, _, k5⟩ := neat (n := n) (fun j hj => f1 j (by omega)) f2'
    have hm := opt_neat ho (fun j hj => by have := mx_gt g hj; omega) k3 k2
    have hfn := f1 n (by omega)
    obtain ⟨c, c1, c2⟩ := k5 (f n) hfn
    have h4 := h1 g k1 hm (fun b hb => k3 b (by omega)) c c1
    have h5 := f2 (f n) hfn
    rw [hld, bump_same] at h5
    omega
/-- the least size for a count -/
theorem sizeFor_end {z : Int} {n N : Nat} {s : Nat → Int} (hN : 0 < N) (hn : 0 < n) (h1 : ∀ g, Rgs n g → mx n g ≤ N → 0 ≤ z ∧ ∃ b, b < mx n g ∧ z ≤ ld n g s b) (h2 : z = -1 ∨ ∃ g, Rgs n g ∧ mx n g ≤ N ∧ ∀ b, b < mx n g → ld n g s b ≤ z) :
    0 ≤ z ∧ Cp z (its n s) (fun _ => 0) N ∧ ∀ x : Int, x < z → ¬ Cp x (its n s) (fun _ => 0) N := by
  have hz : 0 ≤ z := (h1 (fun _ => 0) (fun _ _ => Nat.zero_le _) (by
    have h3 : mx n (fun _ => 0) ≤ 1 := mx_le (fun _ _ => by omega)
    omega)).1
  refine ⟨hz, ?_, fun x hx hc => ?_⟩
  · rcases h2 with h | ⟨g, g1, g2, g3⟩
    · omega
    · exact Cp_mono g2 _ (fun _ _ _ => hz) (Cp_iff.mpr ⟨g, fun j hj => mx_gt g hj, g3⟩)
  · obtain ⟨f, f1, f2⟩ := Cp_iff.mp hc
    obtain ⟨g, k1, k2, k3, _⟩ := neat f1 f2
    obtain ⟨_, b, b1, b2⟩ := h1 g k1 k2
    have := k3 b (by omega)
    omega
theorem rk_pos {p : Nat} (hp : p < 256) : 0 < rk p 8 ↔ p ≠ 0 := by
  constructor
  · intro h e
    subst e
    have : rk 0 8 = 0 := by decide
    omega
  · intro h
    obtain ⟨x, h1, h2⟩ := bit_some hp h
    have := rk_lt h1 h2
    omega
/-- some packing fits with the least count -/
theorem lxm_some {R : Int} {n K : Nat} {s : Nat → Int} (ho : Opt R (its n s) (fun _ => 0) 0 (K : Int)) : ∃ g, Rgs n g ∧ mx n g = K ∧ Fits R n s g := by
  obtain ⟨K', e, _, hc⟩ := ho.1
  have e : K' = K := by omega
  subst e
  obtain ⟨f, f1, f2⟩ := Cp_iff.mp hc
  obtain ⟨g, k1, k2, k3, _⟩ := neat f1 f2
  have hm := opt_neat ho (fun j hj => by have := mx_gt g hj; omega) k3 k2
  exact ⟨g, k1, hm, fun b hb => k3 b (by omega)⟩
theorem bit_and7 {n : Nat} (h : n < 8) : iI (n : Int) &&& iI 7 = iI (n : Int) := by
  rw [iI_nat]
  have h1 := pk_andN (n := n) (by omega) (m := iI 7) 3 (by decide)
  rw [h1, Nat.mod_eq_of_lt (by omega)]
end
section
/-- the greatest (mo = 1) or the least (mo = 0) of the first m -/
def EX (mo z : Int) (m : Nat) (F : Nat → Int) : Prop := (∃ c, c < m ∧ z = F c) ∧ ∀ c, c < m → (mo = 1 → F c ≤ z) ∧ (mo = 0 → z ≤ F c)
theorem ex_one {mo : Int} {F : Nat → Int} : EX mo (F 0) 1 F := ⟨⟨0, by omega, rfl⟩, fun c hc => by
  have e : c = 0 := by omega
  subst e
  exact ⟨fun _ => Int.le_refl _, fun _ => Int.le_refl _⟩⟩
theorem ex_keep {mo z : Int} {b : Nat} {F : Nat → Int} (h : EX mo z b F) (hk : (mo = 1 → F b ≤ z) ∧ (mo = 0 → z ≤ F b)) : EX mo z (b + 1) F := by
  obtain ⟨⟨c, h1, h2⟩, h3⟩ := h
  refine ⟨⟨c, by omega, h2⟩, fun d hd => ?_⟩
  by_cases e : d = b
  · subst e; exact hk
  · exact h3 d (by omega)
theorem ex_new {mo z : Int} {b : Nat} {F : Nat → Int} (h : EX mo z b F) (hk : (mo = 1 → z ≤ F b) ∧ (mo = 0 → F b ≤ z)) : EX mo (F b) (b + 1) F := by
  obtain ⟨_, h3⟩ := h
  refine ⟨⟨b, by omega, rfl⟩, fun d hd => ?_⟩
  by_cases e : d = b
  · subst e; exact ⟨fun _ => Int.le_refl _, fun _ => Int.le_refl _⟩
  · have h4 := h3 d (by omega)
    exact ⟨fun q => Int.le_trans (h4.1 q) (hk.1 q), fun q => Int.le_trans (hk.2 q) (h4.2 q)⟩
set_option maxHeartbeats 4000000 in
set_option maxRecDepth 100000 in
/-- is(i) -/
theorem mem_is (l : Launch) (D : va_G) (cI cB : ClassId) (a : Nat → Nat) (f0 : Int) (f2 : Int) (g3 : Nat → Int) (g4 : Nat → Int) (p : Nat) (g : Nat → Int) (hok : SzOk f0 p g) (z0 : Int) (hz0 : -2147483648 ≤ z0 ∧ z0 < 2147483648) : MDi l yX2_is cX2_is 2 .boolean 0 [.ref (a 0), .int (iI z0)] D cI cB (WM a cI f0 (mz p g) f2 g3 g4) (fun z u => u = (WM a cI f0 (mz p g) f2 g3 g4) ∧ ((z = 1 ∧ hasb p z0 = true) ∨ (z = 0 ∧ hasb p z0 = false))) := by
  refine md_i [(0, .ref (a 0)), (1, .int (iI z0))] rfl (Nat.le_of_ble_eq_true rfl) rfl ?_
  intro A G C hret
  have C : Cx l RX2 cX2_is 2 (rmD 0) D cI cB A 0 0 G := C
  obtain ⟨hR, hp, hg, hsz⟩ := id hok
  refine g_iload_n C (pc := 0) 1 rfl rfl dX2_is_0 ?_
  refine g_if_lt C (pc := 1) 23 (by omega) (by decide) dX2_is_1 (fun c1 => ?_) (fun c1 => ?_)
  · have hb : hasb p z0 = false := by unfold hasb; simp; omega
    refine g_iconst C (pc := 23) dX2_is_23 ?_
    exact hret _ _ _ _ dX2_is_24 rfl ⟨rfl, Or.inr ⟨rfl, hb⟩⟩
  · refine g_iload_n C (pc := 4) 1 rfl rfl dX2_is_4 ?_
    refine g_bipush C (pc := 5) dX2_is_5 (by decide) ?_
    refine g_icmp_ge C (pc := 7) 23 (by omega) (by omega) (by decide) dX2_is_7 (fun c7 => ?_) (fun c7 => ?_)
    · have hb : hasb p z0 = false := by unfold hasb; simp; omega
      refine g_iconst C (pc := 23) dX2_is_23 ?_
      exact hret _ _ _ _ dX2_is_24 rfl ⟨rfl, Or.inr ⟨rfl, hb⟩⟩
    · refine g_aload_n C (pc := 10) 0 rfl rfl dX2_is_10 ?_
      refine mg_sizes C (pc := 11) dX2_is_11 ?_
      refine g_iload_n C (pc := 14) 1 rfl rfl dX2_is_14 ?_
      obtain ⟨i, hi⟩ : ∃ i : Nat, z0 = (i : Int) := ⟨z0.toNat, by omega⟩
      subst hi
      have hi8 : i < 8 := by omega
      have hmz := mz_rg hok i
      refine ml_sizes C (pc := 15) i (by omega) (by omega) dX2_is_15 ?_
      refine g_if_le C (pc := 16) 23 (by omega) (by decide) dX2_is_16 (fun c16 => ?_) (fun c16 => ?_)
      · have hb : hasb p (i : Int) = false := by
          rw [hasb_nat hi8]
          cases hb : p.testBit i with
          | true => rw [mz_yes hb] at c16; have h5 := hsz i hi8 hb; omega
          | false => rfl
        refine g_iconst C (pc := 23) dX2_is_23 ?_
        exact hret _ _ _ _ dX2_is_24 rfl ⟨rfl, Or.inr ⟨rfl, hb⟩⟩
      · have hb : p.testBit i = true := by
          cases hb : p.testBit i with
          | true => rfl
          | false => rw [mz_no hb] at c16; exact absurd c16 (by omega)
        refine g_iconst C (pc := 19) dX2_is_19 ?_
        refine g_goto C (pc := 20) 24 (by decide) dX2_is_20 ?_
        exact hret _ _ _ _ dX2_is_24 rfl ⟨rfl, Or.inl ⟨rfl, by rw [hasb_nat hi8]; exact hb⟩⟩
set_option maxHeartbeats 4000000 in
set_option maxRecDepth 100000 in
theorem mem_size (l : Launch) (D : va_G) (cI cB : ClassId) (a : Nat → Nat) (f0 : Int) (g1 : Nat → Int) (f2 : Int) (g3 : Nat → Int) (g4 : Nat → Int) : MDi l yX2_size cX2_size 1 .int 0 [.ref (a 0)] D cI cB (WM a cI f0 g1 f2 g3 g4) (fun z u => u = (WM a cI f0 g1 f2 g3 g4) ∧ z = f0) := by
  refine md_i [(0, .ref (a 0))] rfl (Nat.le_of_ble_eq_true rfl) rfl ?_
  intro A G C hret
  have C : Cx l RX2 cX2_size 1 (rmD 0) D cI cB A 0 0 G := C
  refine g_aload_n C (pc := 0) 0 rfl rfl dX2_size_0 ?_
  refine mg_room C (pc := 1) dX2_size_1 ?_
  exact hret _ _ _ _ dX2_size_4 rfl ⟨rfl, rfl⟩
set_option maxHeartbeats 4000000 in
set_option maxRecDepth 100000 in
theorem mem_sizeOf (l : Launch) (D : va_G) (cI cB : ClassId) (a : Nat → Nat) (f0 : Int) (f2 : Int) (g3 : Nat → Int) (g4 : Nat → Int) (p : Nat) (g : Nat → Int) (hok : SzOk f0 p g) (z0 : Int) (hz0 : -2147483648 ≤ z0 ∧ z0 < 2147483648) : MDi l yX2_sizeOf cX2_sizeOf 2 .int 1 [.ref (a 0), .int (iI z0)] D cI cB (WM a cI f0 (mz p g) f2 g3 g4) (fun z u => u = (WM a cI f0 (mz p g) f2 g3 g4) ∧ ((hasb p z0 = false ∧ z = -1) ∨ ∃ i : Nat, i < 8 ∧ z0 = i ∧ p.testBit i = true ∧ z = g i)) := by
  refine md_i [(0, .ref (a 0)), (1, .int (iI z0))] rfl (Nat.le_of_ble_eq_true rfl) rfl ?_
  intro A G C hret
  have C : Cx l RX2 cX2_sizeOf 2 (rmD 1) D cI cB A 0 0 G := C
  refine g_aload_n C (pc := 0) 0 rfl rfl dX2_sizeOf_0 ?_
  refine g_iload_n C (pc := 1) 1 rfl rfl dX2_sizeOf_1 ?_
  refine g_calli C (pc := 2) (n := 1) [] [.int (iI z0)] (mem_is l D cI cB a f0 f2 g3 g4 p g hok z0 (by omega)) (lw_V q239 q241 qs16 q25 q242) (by decide +kernel) (by decide) (by decide) rfl 0 1 rfl rfl rfl (Nat.le_of_ble_eq_true rfl) dX2_sizeOf_2 (fun z u hu => ?_)
  obtain ⟨rfl, hz⟩ := hu
  have hz2 : 0 ≤ z ∧ z ≤ 1 := by rcases hz with ⟨h, _⟩ | ⟨h, _⟩ <;> omega
  refine g_if_eq C (pc := 5) 17 (by omega) (by decide) dX2_sizeOf_5 (fun c5 => ?_) (fun c5 => ?_)
  · have hh : hasb p z0 = false := by
      rcases hz with ⟨h, _⟩ | ⟨_, h⟩
      · omega
      · exact h
    refine g_iconst C (pc := 17) dX2_sizeOf_17 ?_
    exact hret _ _ _ _ dX2_sizeOf_18 rfl ⟨rfl, Or.inl ⟨hh, rfl⟩⟩
  · have hh : hasb p z0 = true := by
      rcases hz with ⟨_, h⟩ | ⟨h, _⟩
      · exact h
      · omega
    obtain ⟨i, hi8, rfl, hbit⟩ := hasb_of hh
    refine g_aload_n C (pc := 8) 0 rfl rfl dX2_sizeOf_8 ?_
    refine mg_sizes C (pc := 9) dX2_sizeOf_9 ?_
    refine g_iload_n C (pc := 12) 1 rfl rfl dX2_sizeOf_12 ?_
    refine ml_sizes C (pc := 13) i (by omega) (by omega) dX2_sizeOf_13 ?_
    refine g_goto C (pc := 14) 18 (by decide) dX2_sizeOf_14 ?_
    exact hret _ _ _ _ dX2_sizeOf_18 rfl ⟨rfl, Or.inr ⟨i, hi8, rfl, hbit, mz_yes hbit⟩⟩
set_option maxHeartbeats 4000000 in
set_option maxRecDepth 100000 in
/-- add(s) -/
theorem mem_add (l : Launch) (D : va_G) (cI cB : ClassId) (a : Nat → Nat) (f0 : Int) (f2 : Int) (g3 : Nat → Int) (g4 : Nat → Int) (p : Nat) (g : Nat → Int) (hok : SzOk f0 p g) (s0 : Int) (hs0 : -2147483648 ≤ s0 ∧ s0 < 2147483648) : MDi l yX2_add cX2_add 3 .int 0 [.ref (a 0), .int (iI s0)] D cI cB (WM a cI f0 (mz p g) f2 g3 g4) (fun z u => (¬ (1 ≤ s0 ∧ s0 ≤ f0) ∧ z = -1 ∧ u = (WM a cI f0 (mz p g) f2 g3 g4)) ∨ ((1 ≤ s0 ∧ s0 ≤ f0) ∧ ∃ i : Nat, FZ p i ∧ ((i = 8 ∧ z = -2 ∧ u = (WM a cI f0 (mz p g) f2 g3 g4)) ∨ (i < 8 ∧ z = i ∧ u = (WM a cI f0 (mz (p ||| 2 ^ i) (va_up g i s0)) f2 g3 g4))))) := by
  refine md_i [(0, .ref (a 0)), (1, .int (iI s0))] rfl (Nat.le_of_ble_eq_true rfl) rfl ?_
  intro A G C hret
  have C : Cx l RX2 cX2_add 3 (rmD 0) D cI cB A 0 0 G := C
  obtain ⟨hR, hp, hg, hsz⟩ := id hok
  have loop : ∀ (n1 i : Nat), i ≤ 8 → 8 < i + n1 → (1 ≤ s0 ∧ s0 ≤ f0) → (∀ j, j < i → p.testBit j = true) → G [(0, .ref (a 0)), (1, .int (iI s0)), (2, .int (iI (i : Int)))] (WM a cI f0 (mz p g) f2 g3 g4) 17 [] := by
    intro n1
    induction n1 with
    | zero => intro i h1 h2; exact absurd h2 (by omega)
    | succ n1 ih =>
      intro i h1 h2 h3 h4
      have hmz := mz_rg hok i
      refine g_iload_n C (pc := 17) 2 rfl rfl dX2_add_17 ?_
      refine g_bipush C (pc := 18) dX2_add_18 (by decide) ?_
      refine g_icmp_ge C (pc := 20) 47 (by omega) (by omega) (by decide) dX2_add_20 (fun c20 => ?_) (fun c20 => ?_)
      · refine g_bipush C (pc := 47) dX2_add_47 (by decide) ?_
        have e8 : i = 8 := by omega
        subst e8
        exact hret _ _ _ _ dX2_add_49 rfl (Or.inr ⟨h3, 8, ⟨by omega, h4, fun h => absurd h (by omega)⟩, Or.inl ⟨rfl, rfl, rfl⟩⟩)
      · refine g_aload_n C (pc := 23) 0 rfl rfl dX2_add_23 ?_
        refine mg_sizes C (pc := 24) dX2_add_24 ?_
        refine g_iload_n C (pc := 27) 2 rfl rfl dX2_add_27 ?_
        refine ml_sizes C (pc := 28) i (by omega) (by omega) dX2_add_28 ?_
        refine g_if_ne C (pc := 29) 41 (by omega) (by decide) dX2_add_29 (fun c29 => ?_) (fun c29 => ?_)
        · have hbit : p.testBit i = true := by
            cases hb : p.testBit i with
            | true => rfl
            | false => rw [mz_no hb] at c29; exact absurd rfl c29
          refine g_iinc C (pc := 41) [(0, .ref (a 0)), (1, .int (iI s0)), (2, .int (iI ((i : Int) + 1)))] [1, 2, 0] 2 rfl (by decide) rfl dX2_add_41 ?_
          refine g_goto C (pc := 44) 17 (by decide) dX2_add_44 ?_
          exact ih (i + 1) (by omega) (by omega) h3 (fun j hj => by
            by_cases e : j = i
            · rw [e]; exact hbit
            · exact h4 j (by omega))
        · have hbit : p.testBit i = false := by
            cases hb : p.testBit i with
            | true => rw [mz_yes hb] at c29; have h5 := hsz i (by omega) hb; omega
            | false => rfl
          refine g_aload_n C (pc := 32) 0 rfl rfl dX2_add_32 ?_
          refine mg_sizes C (pc := 33) dX2_add_33 ?_
          refine g_iload_n C (pc := 36) 2 rfl rfl dX2_add_36 ?_
          refine g_iload_n C (pc := 37) 1 rfl rfl dX2_add_37 ?_
          refine ms_sizes C (pc := 38) i (by omega) (by omega) dX2_add_38 ?_
          rw [mz_add]
          refine g_iload_n C (pc := 39) 2 rfl rfl dX2_add_39 ?_
          exact hret _ _ _ _ dX2_add_40 rfl (Or.inr ⟨h3, i, ⟨by omega, h4, fun _ => hbit⟩, Or.inr ⟨by omega, rfl, rfl⟩⟩)
  refine g_iload_n C (pc := 0) 1 rfl rfl dX2_add_0 ?_
  refine g_iconst C (pc := 1) dX2_add_1 ?_
  refine g_icmp_lt C (pc := 2) 13 (by omega) (by omega) (by decide) dX2_add_2 (fun c2 => ?_) (fun c2 => ?_)
  · refine g_iconst C (pc := 13) dX2_add_13 ?_
    exact hret _ _ _ _ dX2_add_14 rfl (Or.inl ⟨by omega, rfl, rfl⟩)
  · refine g_iload_n C (pc := 5) 1 rfl rfl dX2_add_5 ?_
    refine g_aload_n C (pc := 6) 0 rfl rfl dX2_add_6 ?_
    refine mg_room C (pc := 7) dX2_add_7 ?_
    refine g_icmp_le C (pc := 10) 15 (by omega) (by omega) (by decide) dX2_add_10 (fun c10 => ?_) (fun c10 => ?_)
    · refine g_iconst C (pc := 15) dX2_add_15 ?_
      refine g_istore_n C (pc := 16) [(0, .ref (a 0)), (1, .int (iI s0)), (2, .int (iI 0))] [1, 2, 0] rfl (by decide) rfl dX2_add_16 ?_
      exact loop 9 0 (by omega) (by omega) (by omega) (fun j hj => absurd hj (by omega))
    · refine g_iconst C (pc := 13) dX2_add_13 ?_
      exact hret _ _ _ _ dX2_add_14 rfl (Or.inl ⟨by omega, rfl, rfl⟩)
set_option maxHeartbeats 4000000 in
set_option maxRecDepth 100000 in
/-- remove(i) -/
theorem mem_remove (l : Launch) (D : va_G) (cI cB : ClassId) (a : Nat → Nat) (f0 : Int) (f2 : Int) (g3 : Nat → Int) (g4 : Nat → Int) (p : Nat) (g : Nat → Int) (hok : SzOk f0 p g) (z0 : Int) (hz0 : -2147483648 ≤ z0 ∧ z0 < 2147483648) : MDi l yX2_remove cX2_remove 2 .boolean 1 [.ref (a 0), .int (iI z0)] D cI cB (WM a cI f0 (mz p g) f2 g3 g4) (fun z u => (hasb p z0 = false ∧ z = 0 ∧ u = (WM a cI f0 (mz p g) f2 g3 g4)) ∨ ∃ i : Nat, i < 8 ∧ z0 = i ∧ p.testBit i = true ∧ z = 1 ∧ u = (WM a cI f0 (mz (clr p (2 ^ i)) g) f2 g3 g4)) := by
  refine md_i [(0, .ref (a 0)), (1, .int (iI z0))] rfl (Nat.le_of_ble_eq_true rfl) rfl ?_
  intro A G C hret
  have C : Cx l RX2 cX2_remove 2 (rmD 1) D cI cB A 0 0 G := C
  obtain ⟨hR, hp, hg, hsz⟩ := id hok
  refine g_aload_n C (pc := 0) 0 rfl rfl dX2_remove_0 ?_
  refine g_iload_n C (pc := 1) 1 rfl rfl dX2_remove_1 ?_
  refine g_calli C (pc := 2) (n := 1) [] [.int (iI z0)] (mem_is l D cI cB a f0 f2 g3 g4 p g hok z0 (by omega)) (lw_V q239 q241 qs16 q25 q242) (by decide +kernel) (by decide) (by decide) rfl 0 1 rfl rfl rfl (Nat.le_of_ble_eq_true rfl) dX2_remove_2 (fun z u hu => ?_)
  obtain ⟨rfl, hz⟩ := hu
  have hz2 : 0 ≤ z ∧ z ≤ 1 := by rcases hz with ⟨h, _⟩ | ⟨h, _⟩ <;> omega
  refine g_if_ne C (pc := 5) 10 (by omega) (by decide) dX2_remove_5 (fun c5 => ?_) (fun c5 => ?_)
  · have hh : hasb p z0 = true := by
      rcases hz with ⟨_, h⟩ | ⟨h, _⟩
      · exact h
      · omega
    obtain ⟨i, hi8, rfl, hbit⟩ := hasb_of hh
    refine g_aload_n C (pc := 10) 0 rfl rfl dX2_remove_10 ?_
    refine mg_sizes C (pc := 11) dX2_remove_11 ?_
    refine g_iload_n C (pc := 14) 1 rfl rfl dX2_remove_14 ?_
    refine g_iconst C (pc := 15) dX2_remove_15 ?_
    refine ms_sizes C (pc := 16) i (by omega) (by omega) dX2_remove_16 ?_
    rw [mz_rem hp]
    refine g_iconst C (pc := 17) dX2_remove_17 ?_
    exact hret _ _ _ _ dX2_remove_18 rfl (Or.inr ⟨i, hi8, rfl, hbit, rfl, rfl⟩)
  · have hh : hasb p z0 = false := by
      rcases hz with ⟨h, _⟩ | ⟨_, h⟩
      · omega
      · exact h
    refine g_iconst C (pc := 8) dX2_remove_8 ?_
    exact hret _ _ _ _ dX2_remove_9 rfl (Or.inl ⟨hh, rfl, rfl⟩)
set_option maxHeartbeats 4000000 in
set_option maxRecDepth 100000 in
/-- resize(i, s) -/
theorem mem_resize (l : Launch) (D : va_G) (cI cB : ClassId) (a : Nat → Nat) (f0 : Int) (f2 : Int) (g3 : Nat → Int) (g4 : Nat → Int) (p : Nat) (g : Nat → Int) (hok : SzOk f0 p g) (z0 s0 : Int) (hz0 : -2147483648 ≤ z0 ∧ z0 < 2147483648) (hs0 : -2147483648 ≤ s0 ∧ s0 < 2147483648) : MDi l yX2_resize cX2_resize 3 .boolean 1 [.ref (a 0), .int (iI z0), .int (iI s0)] D cI cB (WM a cI f0 (mz p g) f2 g3 g4) (fun z u => (¬ (hasb p z0 = true ∧ 1 ≤ s0 ∧ s0 ≤ f0) ∧ z = 0 ∧ u = (WM a cI f0 (mz p g) f2 g3 g4)) ∨ ∃ i : Nat, i < 8 ∧ z0 = i ∧ p.testBit i = true ∧ (1 ≤ s0 ∧ s0 ≤ f0) ∧ z = 1 ∧ u = (WM a cI f0 (mz p (va_up g i s0)) f2 g3 g4)) := by
  refine md_i [(0, .ref (a 0)), (1, .int (iI z0)), (2, .int (iI s0))] rfl (Nat.le_of_ble_eq_true rfl) rfl ?_
  intro A G C hret
  have C : Cx l RX2 cX2_resize 3 (rmD 1) D cI cB A 0 0 G := C
  obtain ⟨hR, hp, hg, hsz⟩ := id hok
  refine g_aload_n C (pc := 0) 0 rfl rfl dX2_resize_0 ?_
  refine g_iload_n C (pc := 1) 1 rfl rfl dX2_resize_1 ?_
  refine g_calli C (pc := 2) (n := 1) [] [.int (iI z0)] (mem_is l D cI cB a f0 f2 g3 g4 p g hok z0 (by omega)) (lw_V q239 q241 qs16 q25 q242) (by decide +kernel) (by decide) (by decide) rfl 0 1 rfl rfl rfl (Nat.le_of_ble_eq_true rfl) dX2_resize_2 (fun z u hu => ?_)
  obtain ⟨rfl, hz⟩ := hu
  have hz2 : 0 ≤ z ∧ z ≤ 1 := by rcases hz with ⟨h, _⟩ | ⟨h, _⟩ <;> omega
  refine g_if_eq C (pc := 5) 21 (by omega) (by decide) dX2_resize_5 (fun c5 => ?_) (fun c5 => ?_)
  · have hh : hasb p z0 = false := by
      rcases hz with ⟨h, _⟩ | ⟨_, h⟩
      · omega
      · exact h
    have hno : ¬ (hasb p z0 = true ∧ 1 ≤ s0 ∧ s0 ≤ f0) := fun h => by rw [hh] at h; exact absurd h.1 (by decide)
    refine g_iconst C (pc := 21) dX2_resize_21 ?_
    exact hret _ _ _ _ dX2_resize_22 rfl (Or.inl ⟨hno, rfl, rfl⟩)
  · have hh : hasb p z0 = true := by
      rcases hz with ⟨_, h⟩ | ⟨h, _⟩
      · exact h
      · omega
    refine g_iload_n C (pc := 8) 2 rfl rfl dX2_resize_8 ?_
    refine g_iconst C (pc := 9) dX2_resize_9 ?_
    refine g_icmp_lt C (pc := 10) 21 (by omega) (by omega) (by decide) dX2_resize_10 (fun c10 => ?_) (fun c10 => ?_)
    · have hno : ¬ (hasb p z0 = true ∧ 1 ≤ s0 ∧ s0 ≤ f0) := fun h => by omega
      refine g_iconst C (pc := 21) dX2_resize_21 ?_
      exact hret _ _ _ _ dX2_resize_22 rfl (Or.inl ⟨hno, rfl, rfl⟩)
    · refine g_iload_n C (pc := 13) 2 rfl rfl dX2_resize_13 ?_
      refine g_aload_n C (pc := 14) 0 rfl rfl dX2_resize_14 ?_
      refine mg_room C (pc := 15) dX2_resize_15 ?_
      refine g_icmp_le C (pc := 18) 23 (by omega) (by omega) (by decide) dX2_resize_18 (fun c18 => ?_) (fun c18 => ?_)
      · obtain ⟨i, hi8, rfl, hbit⟩ := hasb_of hh
        refine g_aload_n C (pc := 23) 0 rfl rfl dX2_resize_23 ?_
        refine mg_sizes C (pc := 24) dX2_resize_24 ?_
        refine g_iload_n C (pc := 27) 1 rfl rfl dX2_resize_27 ?_
        refine g_iload_n C (pc := 28) 2 rfl rfl dX2_resize_28 ?_
        refine ms_sizes C (pc := 29) i (by omega) (by omega) dX2_resize_29 ?_
        rw [mz_set hbit]
        refine g_iconst C (pc := 30) dX2_resize_30 ?_
        exact hret _ _ _ _ dX2_resize_31 rfl (Or.inr ⟨i, hi8, rfl, hbit, by omega, rfl, rfl⟩)
      · have hno : ¬ (hasb p z0 = true ∧ 1 ≤ s0 ∧ s0 ≤ f0) := fun h => by omega
        refine g_iconst C (pc := 21) dX2_resize_21 ?_
        exact hret _ _ _ _ dX2_resize_22 rfl (Or.inl ⟨hno, rfl, rfl⟩)
set_option maxHeartbeats 4000000 in
set_option maxRecDepth 100000 in
/-- setSize(size) -/
theorem mem_setSize (l : Launch) (D : va_G) (cI cB : ClassId) (a : Nat → Nat) (f0 : Int) (f2 : Int) (g3 : Nat → Int) (g4 : Nat → Int) (p : Nat) (g : Nat → Int) (hok : SzOk f0 p g) (s0 : Int) (hs0 : -2147483648 ≤ s0 ∧ s0 < 2147483648) : MDi l yX2_setSize cX2_setSize 3 .boolean 0 [.ref (a 0), .int (iI s0)] D cI cB (WM a cI f0 (mz p g) f2 g3 g4) (fun z u => (¬ ((1 ≤ s0 ∧ s0 ≤ 60) ∧ ∀ x, x < 8 → p.testBit x = true → g x ≤ s0) ∧ z = 0 ∧ u = (WM a cI f0 (mz p g) f2 g3 g4)) ∨ (((1 ≤ s0 ∧ s0 ≤ 60) ∧ ∀ x, x < 8 → p.testBit x = true → g x ≤ s0) ∧ z = 1 ∧ u = (WM a cI s0 (mz p g) f2 g3 g4))) := by
  refine md_i [(0, .ref (a 0)), (1, .int (iI s0))] rfl (Nat.le_of_ble_eq_true rfl) rfl ?_
  intro A G C hret
  have C : Cx l RX2 cX2_setSize 3 (rmD 0) D cI cB A 0 0 G := C
  obtain ⟨hR, hp, hg, hsz⟩ := id hok
  have loop : ∀ (n1 i : Nat), i ≤ 8 → 8 < i + n1 → (1 ≤ s0 ∧ s0 ≤ 60) → (∀ x, x < i → p.testBit x = true → g x ≤ s0) → G [(0, .ref (a 0)), (1, .int (iI s0)), (2, .int (iI (i : Int)))] (WM a cI f0 (mz p g) f2 g3 g4) 15 [] := by
    intro n1
    induction n1 with
    | zero => intro i h1 h2; exact absurd h2 (by omega)
    | succ n1 ih =>
      intro i h1 h2 h3 h4
      have hmz := mz_rg hok i
      refine g_iload_n C (pc := 15) 2 rfl rfl dX2_setSize_15 ?_
      refine g_bipush C (pc := 16) dX2_setSize_16 (by decide) ?_
      refine g_icmp_ge C (pc := 18) 39 (by omega) (by omega) (by decide) dX2_setSize_18 (fun c18 => ?_) (fun c18 => ?_)
      · refine g_aload_n C (pc := 39) 0 rfl rfl dX2_setSize_39 ?_
        refine g_iload_n C (pc := 40) 1 rfl rfl dX2_setSize_40 ?_
        refine mp_room C (pc := 41) dX2_setSize_41 ?_
        refine g_iconst C (pc := 44) dX2_setSize_44 ?_
        exact hret _ _ _ _ dX2_setSize_45 rfl (Or.inr ⟨⟨h3, fun x hx hb => h4 x (by omega) hb⟩, rfl, rfl⟩)
      · refine g_aload_n C (pc := 21) 0 rfl rfl dX2_setSize_21 ?_
        refine mg_sizes C (pc := 22) dX2_setSize_22 ?_
        refine g_iload_n C (pc := 25) 2 rfl rfl dX2_setSize_25 ?_
        refine ml_sizes C (pc := 26) i (by omega) (by omega) dX2_setSize_26 ?_
        refine g_iload_n C (pc := 27) 1 rfl rfl dX2_setSize_27 ?_
        refine g_icmp_le C (pc := 28) 33 (by omega) (by omega) (by decide) dX2_setSize_28 (fun c28 => ?_) (fun c28 => ?_)
        · refine g_iinc C (pc := 33) [(0, .ref (a 0)), (1, .int (iI s0)), (2, .int (iI ((i : Int) + 1)))] [1, 2, 0] 2 rfl (by decide) rfl dX2_setSize_33 ?_
          refine g_goto C (pc := 36) 15 (by decide) dX2_setSize_36 ?_
          exact ih (i + 1) (by omega) (by omega) h3 (fun x hx hb => by
            by_cases e : x = i
            · subst e; rw [mz_yes hb] at c28; exact c28
            · exact h4 x (by omega) hb)
        · refine g_iconst C (pc := 31) dX2_setSize_31 ?_
          refine hret _ _ _ _ dX2_setSize_32 rfl (Or.inl ⟨fun h => ?_, rfl, rfl⟩)
          cases hb : p.testBit i with
          | true => rw [mz_yes hb] at c28; have h5 := h.2 i (by omega) hb; omega
          | false => rw [mz_no hb] at c28; omega
  refine g_iload_n C (pc := 0) 1 rfl rfl dX2_setSize_0 ?_
  refine g_iconst C (pc := 1) dX2_setSize_1 ?_
  refine g_icmp_lt C (pc := 2) 11 (by omega) (by omega) (by decide) dX2_setSize_2 (fun c2 => ?_) (fun c2 => ?_)
  · refine g_iconst C (pc := 11) dX2_setSize_11 ?_
    exact hret _ _ _ _ dX2_setSize_12 rfl (Or.inl ⟨fun h => by have h5 := h.1; omega, rfl, rfl⟩)
  · refine g_iload_n C (pc := 5) 1 rfl rfl dX2_setSize_5 ?_
    refine g_bipush C (pc := 6) dX2_setSize_6 (by decide) ?_
    refine g_icmp_le C (pc := 8) 13 (by omega) (by omega) (by decide) dX2_setSize_8 (fun c8 => ?_) (fun c8 => ?_)
    · refine g_iconst C (pc := 13) dX2_setSize_13 ?_
      refine g_istore_n C (pc := 14) [(0, .ref (a 0)), (1, .int (iI s0)), (2, .int (iI 0))] [1, 2, 0] rfl (by decide) rfl dX2_setSize_14 ?_
      exact loop 9 0 (by omega) (by omega) (by omega) (fun j hj => absurd hj (by omega))
    · refine g_iconst C (pc := 11) dX2_setSize_11 ?_
      exact hret _ _ _ _ dX2_setSize_12 rfl (Or.inl ⟨fun h => by have h5 := h.1; omega, rfl, rfl⟩)
set_option maxHeartbeats 4000000 in
set_option maxRecDepth 100000 in
/-- items() -/
theorem mem_items (l : Launch) (D : va_G) (cI cB : ClassId) (a : Nat → Nat) (f0 : Int) (f2 : Int) (g3 : Nat → Int) (g4 : Nat → Int) (p : Nat) (g : Nat → Int) (hok : SzOk f0 p g) : MDi l yX2_items cX2_items 3 .int 1 [.ref (a 0)] D cI cB (WM a cI f0 (mz p g) f2 g3 g4) (fun z u => u = (WM a cI f0 (mz p g) f2 g3 g4) ∧ z = (p : Int)) := by
  refine md_i [(0, .ref (a 0))] rfl (Nat.le_of_ble_eq_true rfl) rfl ?_
  intro A G C hret
  have C : Cx l RX2 cX2_items 3 (rmD 1) D cI cB A 0 0 G := C
  obtain ⟨hR, hp, hg, hsz⟩ := id hok
  have loop : ∀ (n1 i : Nat), i ≤ 8 → 8 < i + n1 → G [(0, .ref (a 0)), (1, .int (iI ((p % 2 ^ i : Nat) : Int))), (2, .int (iI (i : Int)))] (WM a cI f0 (mz p g) f2 g3 g4) 4 [] := by
    intro n1
    induction n1 with
    | zero => intro i h1 h2; exact absurd h2 (by omega)
    | succ n1 ih =>
      intro i h1 h2
      refine g_iload_n C (pc := 4) 2 rfl rfl dX2_items_4 ?_
      refine g_bipush C (pc := 5) dX2_items_5 (by decide) ?_
      refine g_icmp_ge C (pc := 7) 34 (by omega) (by omega) (by decide) dX2_items_7 (fun c7 => ?_) (fun c7 => ?_)
      · refine g_iload_n C (pc := 34) 1 rfl rfl dX2_items_34 ?_
        have e8 : i = 8 := by omega
        subst e8
        exact hret _ _ _ _ dX2_items_35 rfl ⟨rfl, by rw [Nat.mod_eq_of_lt (show p < 2 ^ 8 from hp)]⟩
      · refine g_iload_n C (pc := 10) 1 rfl rfl dX2_items_10 ?_
        refine g_aload_n C (pc := 11) 0 rfl rfl dX2_items_11 ?_
        refine g_iload_n C (pc := 12) 2 rfl rfl dX2_items_12 ?_
        refine g_calli C (pc := 13) (n := 1) [.int (iI ((p % 2 ^ i : Nat) : Int))] [.int (iI (i : Int))] (mem_is l D cI cB a f0 f2 g3 g4 p g hok (i : Int) (by omega)) (lw_V q239 q241 qs16 q25 q242) (by decide +kernel) (by decide) (by decide) rfl 0 1 rfl rfl rfl (Nat.le_of_ble_eq_true rfl) dX2_items_13 (fun z u hu => ?_)
        obtain ⟨rfl, hz⟩ := hu
        have hz2 : 0 ≤ z ∧ z ≤ 1 := by rcases hz with ⟨h, _⟩ | ⟨h, _⟩ <;> omega
        refine g_if_eq C (pc := 16) 25 (by omega) (by decide) dX2_items_16 (fun c16 => ?_) (fun c16 => ?_)
        · have hi8 : i < 8 := by omega
          have hh : hasb p (i : Int) = false := by
            rcases hz with ⟨h, _⟩ | ⟨_, h⟩
            · omega
            · exact h
          have hbit : p.testBit i = false := by rw [← hasb_nat hi8]; exact hh
          refine g_iconst C (pc := 25) dX2_items_25 ?_
          refine g_ior C (pc := 26) ((p % 2 ^ (i + 1) : Nat) : Int) (by rw [mod_no hbit]; exact (bit_or _ 0).trans (by rw [Nat.or_zero])) dX2_items_26 ?_
          refine g_istore_n C (pc := 27) [(0, .ref (a 0)), (1, .int (iI ((p % 2 ^ (i + 1) : Nat) : Int))), (2, .int (iI (i : Int)))] [1, 0, 2] rfl (by decide) rfl dX2_items_27 ?_
          refine g_iinc C (pc := 28) [(0, .ref (a 0)), (1, .int (iI ((p % 2 ^ (i + 1) : Nat) : Int))), (2, .int (iI ((i : Int) + 1)))] [1, 2, 0] 2 rfl (by decide) rfl dX2_items_28 ?_
          refine g_goto C (pc := 31) 4 (by decide) dX2_items_31 ?_
          exact ih (i + 1) (by omega) (by omega)
        · have hi8 : i < 8 := by omega
          have hh : hasb p (i : Int) = true := by
            rcases hz with ⟨_, h⟩ | ⟨h, _⟩
            · exact h
            · omega
          have hbit : p.testBit i = true := by rw [← hasb_nat hi8]; exact hh
          refine g_iconst C (pc := 19) dX2_items_19 ?_
          refine g_iload_n C (pc := 20) 2 rfl rfl dX2_items_20 ?_
          refine g_ishl C (pc := 21) ((2 ^ i : Nat) : Int) (bit_shl (by omega)) dX2_items_21 ?_
          refine g_goto C (pc := 22) 26 (by decide) dX2_items_22 ?_
          refine g_ior C (pc := 26) ((p % 2 ^ (i + 1) : Nat) : Int) (by rw [bit_or, mod_or hbit]) dX2_items_26 ?_
          refine g_istore_n C (pc := 27) [(0, .ref (a 0)), (1, .int (iI ((p % 2 ^ (i + 1) : Nat) : Int))), (2, .int (iI (i : Int)))] [1, 0, 2] rfl (by decide) rfl dX2_items_27 ?_
          refine g_iinc C (pc := 28) [(0, .ref (a 0)), (1, .int (iI ((p % 2 ^ (i + 1) : Nat) : Int))), (2, .int (iI ((i : Int) + 1)))] [1, 2, 0] 2 rfl (by decide) rfl dX2_items_28 ?_
          refine g_goto C (pc := 31) 4 (by decide) dX2_items_31 ?_
          exact ih (i + 1) (by omega) (by omega)
  refine g_iconst C (pc := 0) dX2_items_0 ?_
  refine g_istore_n C (pc := 1) [(0, .ref (a 0)), (1, .int (iI 0))] [1, 0] rfl (by decide) rfl dX2_items_1 ?_
  refine g_iconst C (pc := 2) dX2_items_2 ?_
  refine g_istore_n C (pc := 3) [(0, .ref (a 0)), (1, .int (iI 0)), (2, .int (iI 0))] [1, 2, 0] rfl (by decide) rfl dX2_items_3 ?_
  have h9 := loop 9 0 (by omega) (by omega)
  have e0 : ((p % 2 ^ 0 : Nat) : Int) = 0 := by rw [Nat.pow_zero, Nat.mod_one]; rfl
  rw [e0] at h9
  exact h9
set_option maxHeartbeats 4000000 in
set_option maxRecDepth 100000 in
/-- first() -/
theorem mem_first (l : Launch) (D : va_G) (cI cB : ClassId) (a : Nat → Nat) (f0 : Int) (f2 : Int) (g3 : Nat → Int) (g4 : Nat → Int) (p : Nat) (g : Nat → Int) (hok : SzOk f0 p g) : MDv l yX2_first cX2_first 2 1 [.ref (a 0)] D cI cB (WM a cI f0 (mz p g) f2 g3 g4) (fun u => ∃ g3' : Nat → Int, u = (WM a cI f0 (mz p g) ((rk p 8 : Nat) : Int) g3' (cf (fun _ => 0))) ∧ ∀ k, k < rk p 8 → g3' k = (it p k : Int)) := by
  refine md_v [(0, .ref (a 0))] rfl (Nat.le_of_ble_eq_true rfl) rfl ?_
  intro A G C hret
  have C : Cx l RX2 cX2_first 2 (rmD 1) D cI cB A 0 0 G := C
  obtain ⟨hR, hp, hg, hsz⟩ := id hok
  have loop : ∀ (n1 i : Nat) (gi gb : Nat → Int), i ≤ 8 → 8 < i + n1 → (∀ k, k < rk p i → gi k = (it p k : Int)) → (∀ k, k < i → gb k = 0) → G [(0, .ref (a 0)), (1, .int (iI (i : Int)))] (WM a cI f0 (mz p g) ((rk p i : Nat) : Int) gi gb) 7 [] := by
    intro n1
    induction n1 with
    | zero => intro i gi gb h1 h2; exact absurd h2 (by omega)
    | succ n1 ih =>
      intro i gi gb h1 h2 h3 h4
      have hrl := rk_le p i
      refine g_iload_n C (pc := 7) 1 rfl rfl dX2_first_7 ?_
      refine g_bipush C (pc := 8) dX2_first_8 (by decide) ?_
      refine g_icmp_ge C (pc := 10) 54 (by omega) (by omega) (by decide) dX2_first_10 (fun c10 => ?_) (fun c10 => ?_)
      · have e8 : i = 8 := by omega
        subst e8
        refine mx_bin C (cf (fun _ => 0)) (fun j hj => h4 j hj) ?_
        exact hret _ _ _ dX2_first_54 ⟨_, rfl, h3⟩
      · refine g_aload_n C (pc := 13) 0 rfl rfl dX2_first_13 ?_
        refine mg_bin C (pc := 14) dX2_first_14 ?_
        refine g_iload_n C (pc := 17) 1 rfl rfl dX2_first_17 ?_
        refine g_iconst C (pc := 18) dX2_first_18 ?_
        refine ms_bin C (pc := 19) i (by omega) (by omega) dX2_first_19 ?_
        refine g_aload_n C (pc := 20) 0 rfl rfl dX2_first_20 ?_
        refine g_iload_n C (pc := 21) 1 rfl rfl dX2_first_21 ?_
        refine g_calli C (pc := 22) (n := 1) [] [.int (iI (i : Int))] (mem_is l D cI cB a f0 ((rk p i : Nat) : Int) gi (va_up gb i 0) p g hok (i : Int) (by omega)) (lw_V q239 q241 qs16 q25 q242) (by decide +kernel) (by decide) (by decide) rfl 0 1 rfl rfl rfl (Nat.le_of_ble_eq_true rfl) dX2_first_22 (fun z u hu => ?_)
        obtain ⟨rfl, hz⟩ := hu
        have hz2 : 0 ≤ z ∧ z ≤ 1 := by rcases hz with ⟨h, _⟩ | ⟨h, _⟩ <;> omega
        refine g_if_eq C (pc := 25) 48 (by omega) (by decide) dX2_first_25 (fun c25 => ?_) (fun c25 => ?_)
        · have hi8 : i < 8 := by omega
          have hh : hasb p (i : Int) = false := by
            rcases hz with ⟨h, _⟩ | ⟨_, h⟩
            · omega
            · exact h
          have hbit : p.testBit i = false := by rw [← hasb_nat hi8]; exact hh
          refine g_iinc C (pc := 48) [(0, .ref (a 0)), (1, .int (iI ((i : Int) + 1)))] [1, 0] 1 rfl (by decide) rfl dX2_first_48 ?_
          refine g_goto C (pc := 51) 7 (by decide) dX2_first_51 ?_
          rw [← rk_no hbit]
          exact ih (i + 1) _ _ (by omega) (by omega) (fun k hk => by rw [rk_no hbit] at hk; exact h3 k hk) (fun k hk => by
            by_cases e : k = i
            · rw [e, up_same]
            · rw [up_ne _ _ e]; exact h4 k (by omega))
        · have hi8 : i < 8 := by omega
          have hh : hasb p (i : Int) = true := by
            rcases hz with ⟨_, h⟩ | ⟨h, _⟩
            · exact h
            · omega
          have hbit : p.testBit i = true := by rw [← hasb_nat hi8]; exact hh
          refine g_aload_n C (pc := 28) 0 rfl rfl dX2_first_28 ?_
          refine mg_item C (pc := 29) dX2_first_29 ?_
          refine g_aload_n C (pc := 32) 0 rfl rfl dX2_first_32 ?_
          refine mg_n C (pc := 33) dX2_first_33 ?_
          refine g_iload_n C (pc := 36) 1 rfl rfl dX2_first_36 ?_
          refine ms_item C (pc := 37) (rk p i) (by omega) (by omega) dX2_first_37 ?_
          refine g_aload_n C (pc := 38) 0 rfl rfl dX2_first_38 ?_
          refine g_dup C (pc := 39) rfl dX2_first_39 ?_
          refine mg_n C (pc := 40) dX2_first_40 ?_
          refine g_iconst C (pc := 43) dX2_first_43 ?_
          refine g_iadd C (pc := 44) dX2_first_44 ?_
          refine mp_n C (pc := 45) dX2_first_45 ?_
          refine g_iinc C (pc := 48) [(0, .ref (a 0)), (1, .int (iI ((i : Int) + 1)))] [1, 0] 1 rfl (by decide) rfl dX2_first_48 ?_
          refine g_goto C (pc := 51) 7 (by decide) dX2_first_51 ?_
          rw [show ((rk p i : Nat) : Int) + 1 = ((rk p (i + 1) : Nat) : Int) by rw [rk_yes hbit]; omega]
          exact ih (i + 1) _ _ (by omega) (by omega) (fun k hk => by
            rw [rk_yes hbit] at hk
            by_cases e : k = rk p i
            · rw [e, up_same, it_rk hi8 hbit]
            · rw [up_ne _ _ e]; exact h3 k (by omega)) (fun k hk => by
            by_cases e : k = i
            · rw [e, up_same]
            · rw [up_ne _ _ e]; exact h4 k (by omega))
  refine g_aload_n C (pc := 0) 0 rfl rfl dX2_first_0 ?_
  refine g_iconst C (pc := 1) dX2_first_1 ?_
  refine mp_n C (pc := 2) dX2_first_2 ?_
  refine g_iconst C (pc := 5) dX2_first_5 ?_
  refine g_istore_n C (pc := 6) [(0, .ref (a 0)), (1, .int (iI 0))] [1, 0] rfl (by decide) rfl dX2_first_6 ?_
  exact loop 9 0 _ _ (by omega) (by omega) (fun k hk => absurd hk (Nat.not_lt_zero k)) (fun k hk => absurd hk (Nat.not_lt_zero k))
set_option maxHeartbeats 4000000 in
set_option maxRecDepth 100000 in
/-- greatest(k) -/
theorem mem_greatest (l : Launch) (D : va_G) (cI cB : ClassId) (a : Nat → Nat) (f0 : Int) (g1 : Nat → Int) (f2 : Int) (g3 : Nat → Int) (f : Nat → Nat) (k : Nat) (hk : k ≤ 8) (hf : ∀ j, j < k → f j ≤ 100) : MDi l yX2_greatest cX2_greatest 4 .int 0 [.ref (a 0), .int (iI (k : Int))] D cI cB (WM a cI f0 g1 f2 g3 (cf f)) (fun z u => u = (WM a cI f0 g1 f2 g3 (cf f)) ∧ z = (mx k f : Int) - 1) := by
  refine md_i [(0, .ref (a 0)), (1, .int (iI (k : Int)))] rfl (Nat.le_of_ble_eq_true rfl) rfl ?_
  intro A G C hret
  have C : Cx l RX2 cX2_greatest 4 (rmD 0) D cI cB A 0 0 G := C
  have loop : ∀ (n1 c : Nat), c ≤ k → k < c + n1 → G [(0, .ref (a 0)), (1, .int (iI (k : Int))), (2, .int (iI ((mx c f : Int) - 1))), (3, .int (iI (c : Int)))] (WM a cI f0 g1 f2 g3 (cf f)) 4 [] := by
    intro n1
    induction n1 with
    | zero => intro c h1 h2; exact absurd h2 (by omega)
    | succ n1 ih =>
      intro c h1 h2
      have hmk : mx c f ≤ 101 := mx_le (fun j hj => by have h5 := hf j (by omega); omega)
      refine g_iload_n C (pc := 4) 3 rfl rfl dX2_greatest_4 ?_
      refine g_iload_n C (pc := 5) 1 rfl rfl dX2_greatest_5 ?_
      refine g_icmp_ge C (pc := 6) 36 (by omega) (by omega) (by decide) dX2_greatest_6 (fun c6 => ?_) (fun c6 => ?_)
      · refine g_iload_n C (pc := 36) 2 rfl rfl dX2_greatest_36 ?_
        have eck : c = k := by omega
        subst eck
        exact hret _ _ _ _ dX2_greatest_37 rfl ⟨rfl, rfl⟩
      · refine g_aload_n C (pc := 9) 0 rfl rfl dX2_greatest_9 ?_
        refine mg_bin C (pc := 10) dX2_greatest_10 ?_
        refine g_iload_n C (pc := 13) 3 rfl rfl dX2_greatest_13 ?_
        refine ml_bin C (pc := 14) c (by omega) (by omega) dX2_greatest_14 ?_
        have hfc := hf c (by omega)
        refine g_top C (y := ((f c) : Int)) (rfl) ?_
        refine g_iload_n C (pc := 15) 2 rfl rfl dX2_greatest_15 ?_
        refine g_icmp_le C (pc := 16) 28 (by omega) (by omega) (by decide) dX2_greatest_16 (fun c16 => ?_) (fun c16 => ?_)
        · refine g_iload_n C (pc := 28) 2 rfl rfl dX2_greatest_28 ?_
          refine g_istore_n C (pc := 29) [(0, .ref (a 0)), (1, .int (iI (k : Int))), (2, .int (iI ((mx c f : Int) - 1))), (3, .int (iI (c : Int)))] [1, 2, 0, 3] rfl (by decide) rfl dX2_greatest_29 ?_
          refine g_iinc C (pc := 30) [(0, .ref (a 0)), (1, .int (iI (k : Int))), (2, .int (iI ((mx c f : Int) - 1))), (3, .int (iI ((c : Int) + 1)))] [1, 2, 3, 0] 3 rfl (by decide) rfl dX2_greatest_30 ?_
          refine g_goto C (pc := 33) 4 (by decide) dX2_greatest_33 ?_
          have e1 : mx (c + 1) f = mx c f := if_neg (by omega)
          rw [← e1]
          exact ih (c + 1) (by omega) (by omega)
        · refine g_aload_n C (pc := 19) 0 rfl rfl dX2_greatest_19 ?_
          refine mg_bin C (pc := 20) dX2_greatest_20 ?_
          refine g_iload_n C (pc := 23) 3 rfl rfl dX2_greatest_23 ?_
          refine ml_bin C (pc := 24) c (by omega) (by omega) dX2_greatest_24 ?_
          refine g_top C (y := ((f c) : Int)) (rfl) ?_
          refine g_goto C (pc := 25) 29 (by decide) dX2_greatest_25 ?_
          refine g_istore_n C (pc := 29) [(0, .ref (a 0)), (1, .int (iI (k : Int))), (2, .int (iI ((f c) : Int))), (3, .int (iI (c : Int)))] [1, 2, 0, 3] rfl (by decide) rfl dX2_greatest_29 ?_
          refine g_iinc C (pc := 30) [(0, .ref (a 0)), (1, .int (iI (k : Int))), (2, .int (iI ((f c) : Int))), (3, .int (iI ((c : Int) + 1)))] [1, 2, 3, 0] 3 rfl (by decide) rfl dX2_greatest_30 ?_
          refine g_goto C (pc := 33) 4 (by decide) dX2_greatest_33 ?_
          have e1 : mx (c + 1) f = f c + 1 := if_pos (by omega)
          have e2 : ((f c : Nat) : Int) = ((mx (c + 1) f : Nat) : Int) - 1 := by omega
          rw [e2]
          exact ih (c + 1) (by omega) (by omega)
  refine g_iconst C (pc := 0) dX2_greatest_0 ?_
  refine g_istore_n C (pc := 1) [(0, .ref (a 0)), (1, .int (iI (k : Int))), (2, .int (iI (-1)))] [1, 2, 0] rfl (by decide) rfl dX2_greatest_1 ?_
  refine g_iconst C (pc := 2) dX2_greatest_2 ?_
  refine g_istore_n C (pc := 3) [(0, .ref (a 0)), (1, .int (iI (k : Int))), (2, .int (iI (-1))), (3, .int (iI 0))] [1, 2, 3, 0] rfl (by decide) rfl dX2_greatest_3 ?_
  exact loop (k + 1) 0 (by omega) (by omega)
set_option maxHeartbeats 4000000 in
set_option maxRecDepth 100000 in
/-- next() -/
theorem mem_next (l : Launch) (D : va_G) (cI cB : ClassId) (a : Nat → Nat) (f0 : Int) (g1 : Nat → Int) (g3 : Nat → Int) (f : Nat → Nat) (n : Nat) (hn : 0 < n ∧ n ≤ 8) (hr : Rgs n f) : MDi l yX2_next cX2_next 3 .boolean 1 [.ref (a 0)] D cI cB (WM a cI f0 g1 (n : Int) g3 (cf f)) (fun z u => ∃ f' : Nat → Nat, u = (WM a cI f0 g1 (n : Int) g3 (cf f')) ∧ ((z = 1 ∧ NXT n f f') ∨ (z = 0 ∧ LAST n f))) := by
  refine md_i [(0, .ref (a 0))] rfl (Nat.le_of_ble_eq_true rfl) rfl ?_
  intro A G C hret
  have C : Cx l RX2 cX2_next 3 (rmD 1) D cI cB A 0 0 G := C
  have hfl : ∀ j, j < n → f j ≤ 100 := fun j hj => by have h5 := rgs_le hr hj; omega
  have zero : ∀ (n1 j k : Nat) (h : Nat → Nat), j ≤ n → n < j + n1 → 0 < k → k < j → k < n → f k < mx k f → (∀ i, k < i → i < n → ¬ f i < mx i f) → (∀ i, i < k → h i = f i) → h k = f k + 1 → (∀ i, k < i → i < j → h i = 0) → G [(0, .ref (a 0)), (1, .int (iI (k : Int))), (2, .int (iI (j : Int)))] (WM a cI f0 g1 (n : Int) g3 (cf h)) 39 [] := by
    intro n1
    induction n1 with
    | zero => intro j k h h1 h2; exact absurd h2 (by omega)
    | succ n1 ih =>
      intro j k h h1 h2 h3 h4 h5 h6 h7 h8 h9 h10
      refine g_iload_n C (pc := 39) 2 rfl rfl dX2_next_39 ?_
      refine g_aload_n C (pc := 40) 0 rfl rfl dX2_next_40 ?_
      refine mg_n C (pc := 41) dX2_next_41 ?_
      refine g_icmp_ge C (pc := 44) 60 (by omega) (by omega) (by decide) dX2_next_44 (fun c44 => ?_) (fun c44 => ?_)
      · refine g_iconst C (pc := 60) dX2_next_60 ?_
        exact hret _ _ _ _ dX2_next_61 rfl ⟨h, rfl, Or.inl ⟨rfl, k, h3, h5, h6, h7, h8, h9, fun i hi1 hi2 => h10 i hi1 (by omega)⟩⟩
      · refine g_aload_n C (pc := 47) 0 rfl rfl dX2_next_47 ?_
        refine mg_bin C (pc := 48) dX2_next_48 ?_
        refine g_iload_n C (pc := 51) 2 rfl rfl dX2_next_51 ?_
        refine g_iconst C (pc := 52) dX2_next_52 ?_
        refine ms_bin C (pc := 53) j (by omega) (by omega) dX2_next_53 ?_
        refine g_iinc C (pc := 54) [(0, .ref (a 0)), (1, .int (iI (k : Int))), (2, .int (iI ((j : Int) + 1)))] [1, 2, 0] 2 rfl (by decide) rfl dX2_next_54 ?_
        refine g_goto C (pc := 57) 39 (by decide) dX2_next_57 ?_
        rw [show va_up (cf h) j 0 = cf (va_up h j 0) from cf_up h j 0]
        exact ih (j + 1) k _ (by omega) (by omega) h3 (by omega) h5 h6 h7 (fun i hi => by rw [up_ne _ _ (by omega)]; exact h8 i hi) (by rw [up_ne _ _ (by omega)]; exact h9) (fun i hi1 hi2 => by
          by_cases e : i = j
          · rw [e, up_same]
          · rw [up_ne _ _ e]; exact h10 i hi1 (by omega))
  have loop : ∀ (n1 k : Nat), k < n1 → k < n → (∀ i, k < i → i < n → ¬ f i < mx i f) → G [(0, .ref (a 0)), (1, .int (iI (k : Int)))] (WM a cI f0 g1 (n : Int) g3 (cf f)) 7 [] := by
    intro n1
    induction n1 with
    | zero => intro k h1; exact absurd h1 (by omega)
    | succ n1 ih =>
      intro k h1 h2 h3
      have hfk := hfl k h2
      have hmk : mx k f ≤ 101 := mx_le (fun j hj => by have h5 := hfl j (by omega); omega)
      refine g_iload_n C (pc := 7) 1 rfl rfl dX2_next_7 ?_
      refine g_if_le C (pc := 8) 68 (by omega) (by decide) dX2_next_8 (fun c8 => ?_) (fun c8 => ?_)
      · refine g_iconst C (pc := 68) dX2_next_68 ?_
        exact hret _ _ _ _ dX2_next_69 rfl ⟨f, rfl, Or.inr ⟨rfl, fun i hi1 hi2 => h3 i (by omega) hi2⟩⟩
      · refine g_aload_n C (pc := 11) 0 rfl rfl dX2_next_11 ?_
        refine mg_bin C (pc := 12) dX2_next_12 ?_
        refine g_iload_n C (pc := 15) 1 rfl rfl dX2_next_15 ?_
        refine ml_bin C (pc := 16) k (by omega) (by omega) dX2_next_16 ?_
        refine g_top C (y := ((f k) : Int)) (rfl) ?_
        refine g_aload_n C (pc := 17) 0 rfl rfl dX2_next_17 ?_
        refine g_iload_n C (pc := 18) 1 rfl rfl dX2_next_18 ?_
        refine g_calli C (pc := 19) (n := 1) [.int (iI ((f k) : Int))] [.int (iI (k : Int))] (mem_greatest l D cI cB a f0 g1 (n : Int) g3 f k (by omega) (fun j hj => hfl j (by omega))) (lw_V q271 q273 qs18 q25 q274) (by decide +kernel) (by decide) (by decide) rfl 0 1 rfl rfl rfl (Nat.le_of_ble_eq_true rfl) dX2_next_19 (fun z u hu => ?_)
        obtain ⟨rfl, rfl⟩ := hu
        refine g_icmp_gt C (pc := 22) 62 (by omega) (by omega) (by decide) dX2_next_22 (fun c22 => ?_) (fun c22 => ?_)
        · have hk0 : 0 < k := by omega
          refine g_iinc C (pc := 62) [(0, .ref (a 0)), (1, .int (iI ((k : Int) + (-1))))] [1, 0] 1 rfl (by decide) rfl dX2_next_62 ?_
          refine g_goto C (pc := 65) 7 (by decide) dX2_next_65 ?_
          have e : (k : Int) + (-1) = ((k - 1 : Nat) : Int) := by omega
          rw [e]
          exact ih (k - 1) (by omega) (by omega) (fun i hi1 hi2 => by
            by_cases e : i = k
            · rw [e]; omega
            · exact h3 i (by omega) hi2)
        · refine g_aload_n C (pc := 25) 0 rfl rfl dX2_next_25 ?_
          refine mg_bin C (pc := 26) dX2_next_26 ?_
          refine g_iload_n C (pc := 29) 1 rfl rfl dX2_next_29 ?_
          refine g_dup2 C (pc := 30) rfl rfl dX2_next_30 ?_
          refine ml_bin C (pc := 31) k (by omega) (by omega) dX2_next_31 ?_
          refine g_top C (y := ((f k) : Int)) (rfl) ?_
          refine g_iconst C (pc := 32) dX2_next_32 ?_
          refine g_iadd C (pc := 33) dX2_next_33 ?_
          refine ms_bin C (pc := 34) k (by omega) (by omega) dX2_next_34 ?_
          rw [show va_up (cf f) k ((f k : Int) + 1) = cf (va_up f k (f k + 1)) from cf_up f k (f k + 1)]
          refine g_iload_n C (pc := 35) 1 rfl rfl dX2_next_35 ?_
          refine g_iconst C (pc := 36) dX2_next_36 ?_
          refine g_iadd C (pc := 37) dX2_next_37 ?_
          refine g_istore_n C (pc := 38) [(0, .ref (a 0)), (1, .int (iI (k : Int))), (2, .int (iI ((k : Int) + 1)))] [1, 2, 0] rfl (by decide) rfl dX2_next_38 ?_
          exact zero (n + 1) (k + 1) k _ (by omega) (by omega) (by omega) (by omega) h2 (by omega) h3 (fun i hi => up_ne _ _ (by omega)) (up_same _ _ _) (fun i hi1 hi2 => absurd hi2 (by omega))
  refine g_aload_n C (pc := 0) 0 rfl rfl dX2_next_0 ?_
  refine mg_n C (pc := 1) dX2_next_1 ?_
  refine g_iconst C (pc := 4) dX2_next_4 ?_
  refine g_isub C (pc := 5) dX2_next_5 ?_
  refine g_istore_n C (pc := 6) [(0, .ref (a 0)), (1, .int (iI ((n : Int) - 1)))] [1, 0] rfl (by decide) rfl dX2_next_6 ?_
  have e : (n : Int) - 1 = ((n - 1 : Nat) : Int) := by omega
  rw [e]
  exact loop n (n - 1) (by omega) (by omega) (fun i hi1 hi2 => absurd hi2 (by omega))
set_option maxHeartbeats 4000000 in
set_option maxRecDepth 100000 in
/-- load(b) -/
theorem mem_load (l : Launch) (D : va_G) (cI cB : ClassId) (a : Nat → Nat) (f0 : Int) (g3 : Nat → Int) (p : Nat) (g : Nat → Int) (hok : SzOk f0 p g) (f : Nat → Nat) (hr : Rgs (rk p 8) f) (hit : ∀ k, k < rk p 8 → g3 k = (it p k : Int)) (b : Nat) (hb : b ≤ 100) : MDi l yX2_load cX2_load 4 .int 0 [.ref (a 0), .int (iI (b : Int))] D cI cB (WM a cI f0 (mz p g) ((rk p 8 : Nat) : Int) g3 (cf f)) (fun z u => u = (WM a cI f0 (mz p g) ((rk p 8 : Nat) : Int) g3 (cf f)) ∧ z = ld (rk p 8) f (fun k => g (it p k)) b) := by
  refine md_i [(0, .ref (a 0)), (1, .int (iI (b : Int)))] rfl (Nat.le_of_ble_eq_true rfl) rfl ?_
  intro A G C hret
  have C : Cx l RX2 cX2_load 4 (rmD 0) D cI cB A 0 0 G := C
  have hrk8 := rk_le p 8
  have loop : ∀ (n1 c : Nat), c ≤ rk p 8 → rk p 8 < c + n1 → G [(0, .ref (a 0)), (1, .int (iI (b : Int))), (2, .int (iI (ld c f (fun k => g (it p k)) b))), (3, .int (iI (c : Int)))] (WM a cI f0 (mz p g) ((rk p 8 : Nat) : Int) g3 (cf f)) 4 [] := by
    intro n1
    induction n1 with
    | zero => intro c h1 h2; exact absurd h2 (by omega)
    | succ n1 ih =>
      intro c h1 h2
      refine g_iload_n C (pc := 4) 3 rfl rfl dX2_load_4 ?_
      refine g_aload_n C (pc := 5) 0 rfl rfl dX2_load_5 ?_
      refine mg_n C (pc := 6) dX2_load_6 ?_
      refine g_icmp_ge C (pc := 9) 46 (by omega) (by omega) (by decide) dX2_load_9 (fun c9 => ?_) (fun c9 => ?_)
      · refine g_iload_n C (pc := 46) 2 rfl rfl dX2_load_46 ?_
        have eck : c = rk p 8 := by omega
        subst eck
        exact hret _ _ _ _ dX2_load_47 rfl ⟨rfl, rfl⟩
      · refine g_aload_n C (pc := 12) 0 rfl rfl dX2_load_12 ?_
        refine mg_bin C (pc := 13) dX2_load_13 ?_
        refine g_iload_n C (pc := 16) 3 rfl rfl dX2_load_16 ?_
        refine ml_bin C (pc := 17) c (by omega) (by omega) dX2_load_17 ?_
        have hfc := rgs_le hr (show c < rk p 8 by omega)
        obtain ⟨x, x1, x2, x3, x4⟩ := it_of 8 (Nat.le_refl 8) c (show c < rk p 8 by omega)
        refine g_top C (y := ((f c) : Int)) (rfl) ?_
        refine g_iload_n C (pc := 18) 1 rfl rfl dX2_load_18 ?_
        refine g_icmp_ne C (pc := 19) 38 (by omega) (by omega) (by decide) dX2_load_19 (fun c19 => ?_) (fun c19 => ?_)
        · refine g_iload_n C (pc := 38) 2 rfl rfl dX2_load_38 ?_
          refine g_istore_n C (pc := 39) [(0, .ref (a 0)), (1, .int (iI (b : Int))), (2, .int (iI (ld c f (fun k => g (it p k)) b))), (3, .int (iI (c : Int)))] [1, 2, 0, 3] rfl (by decide) rfl dX2_load_39 ?_
          refine g_iinc C (pc := 40) [(0, .ref (a 0)), (1, .int (iI (b : Int))), (2, .int (iI (ld c f (fun k => g (it p k)) b))), (3, .int (iI ((c : Int) + 1)))] [1, 2, 3, 0] 3 rfl (by decide) rfl dX2_load_40 ?_
          refine g_goto C (pc := 43) 4 (by decide) dX2_load_43 ?_
          have e1 : ld c f (fun k => g (it p k)) b = ld (c + 1) f (fun k => g (it p k)) b := by
            show _ = sg c _ + (if f c = b then g (it p c) else 0)
            rw [if_neg (by omega)]
            show ld c f (fun k => g (it p k)) b = ld c f (fun k => g (it p k)) b + 0
            omega
          rw [e1]
          exact ih (c + 1) (by omega) (by omega)
        · refine g_iload_n C (pc := 22) 2 rfl rfl dX2_load_22 ?_
          refine g_aload_n C (pc := 23) 0 rfl rfl dX2_load_23 ?_
          refine mg_sizes C (pc := 24) dX2_load_24 ?_
          refine g_aload_n C (pc := 27) 0 rfl rfl dX2_load_27 ?_
          refine mg_item C (pc := 28) dX2_load_28 ?_
          refine g_iload_n C (pc := 31) 3 rfl rfl dX2_load_31 ?_
          refine ml_item C (pc := 32) c (by omega) (by omega) dX2_load_32 ?_
          refine g_top C (y := ((it p c) : Int)) (hit c (by omega)) ?_
          refine ml_sizes C (pc := 33) (it p c) (by omega) (by omega) dX2_load_33 ?_
          refine g_top C (y := (g (it p c))) (mz_yes (by rw [x4]; exact x2)) ?_
          refine g_iadd C (pc := 34) dX2_load_34 ?_
          refine g_goto C (pc := 35) 39 (by decide) dX2_load_35 ?_
          refine g_istore_n C (pc := 39) [(0, .ref (a 0)), (1, .int (iI (b : Int))), (2, .int (iI ((ld c f (fun k => g (it p k)) b) + (g (it p c))))), (3, .int (iI (c : Int)))] [1, 2, 0, 3] rfl (by decide) rfl dX2_load_39 ?_
          refine g_iinc C (pc := 40) [(0, .ref (a 0)), (1, .int (iI (b : Int))), (2, .int (iI ((ld c f (fun k => g (it p k)) b) + (g (it p c))))), (3, .int (iI ((c : Int) + 1)))] [1, 2, 3, 0] 3 rfl (by decide) rfl dX2_load_40 ?_
          refine g_goto C (pc := 43) 4 (by decide) dX2_load_43 ?_
          have e1 : ld c f (fun k => g (it p k)) b + g (it p c) = ld (c + 1) f (fun k => g (it p k)) b := by
            show _ = sg c _ + (if f c = b then g (it p c) else 0)
            rw [if_pos (by omega)]
            rfl
          rw [e1]
          exact ih (c + 1) (by omega) (by omega)
  refine g_iconst C (pc := 0) dX2_load_0 ?_
  refine g_istore_n C (pc := 1) [(0, .ref (a 0)), (1, .int (iI (b : Int))), (2, .int (iI 0))] [1, 2, 0] rfl (by decide) rfl dX2_load_1 ?_
  refine g_iconst C (pc := 2) dX2_load_2 ?_
  refine g_istore_n C (pc := 3) [(0, .ref (a 0)), (1, .int (iI (b : Int))), (2, .int (iI 0)), (3, .int (iI 0))] [1, 2, 3, 0] rfl (by decide) rfl dX2_load_3 ?_
  exact loop (rk p 8 + 1) 0 (by omega) (by omega)
set_option maxHeartbeats 4000000 in
set_option maxRecDepth 100000 in
/-- extreme(most) -/
theorem mem_extreme (l : Launch) (D : va_G) (cI cB : ClassId) (a : Nat → Nat) (f0 : Int) (g3 : Nat → Int) (p : Nat) (g : Nat → Int) (hok : SzOk f0 p g) (f : Nat → Nat) (hr : Rgs (rk p 8) f) (hit : ∀ k, k < rk p 8 → g3 k = (it p k : Int)) (hn : 0 < rk p 8) (mo : Int) (hmo : mo = 0 ∨ mo = 1) : MDi l yX2_extreme cX2_extreme 6 .int 1 [.ref (a 0), .int (iI mo)] D cI cB (WM a cI f0 (mz p g) ((rk p 8 : Nat) : Int) g3 (cf f)) (fun z u => u = (WM a cI f0 (mz p g) ((rk p 8 : Nat) : Int) g3 (cf f)) ∧ (0 ≤ z ∧ z ≤ 480) ∧ EX mo z (mx (rk p 8) f) (ld (rk p 8) f (fun k => g (it p k)))) := by
  refine md_i [(0, .ref (a 0)), (1, .int (iI mo))] rfl (Nat.le_of_ble_eq_true rfl) rfl ?_
  intro A G C hret
  have C : Cx l RX2 cX2_extreme 6 (rmD 1) D cI cB A 0 0 G := C
  have hrk8 := rk_le p 8
  have hm1 := mx_gt f hn
  have hml := mx_len hr
  have hld : ∀ b, 0 ≤ (ld (rk p 8) f (fun k => g (it p k))) b ∧ (ld (rk p 8) f (fun k => g (it p k))) b ≤ 480 := fun b => by
    have h5 := ld_bd (n := rk p 8) (f := f) (s := (fun k => g (it p k))) (fun j hj => hok.2.2.1 _) b
    omega
  have loop : ∀ (n1 b : Nat) (bs : Int), 1 ≤ b → b ≤ mx (rk p 8) f → mx (rk p 8) f < b + n1 → (0 ≤ bs ∧ bs ≤ 480) → EX mo bs b (ld (rk p 8) f (fun k => g (it p k))) → G [(0, .ref (a 0)), (1, .int (iI mo)), (2, .int (iI bs)), (3, .int (iI ((mx (rk p 8) f : Int) - 1))), (4, .int (iI (b : Int)))] (WM a cI f0 (mz p g) ((rk p 8 : Nat) : Int) g3 (cf f)) 18 [] := by
    intro n1
    induction n1 with
    | zero => intro b bs h0 h1 h2; exact absurd h2 (by omega)
    | succ n1 ih =>
      intro b bs h0 h1 h2 h3 h4
      have hlb := hld b
      refine g_iload C (pc := 18) 4 rfl dX2_extreme_18 ?_
      refine g_iload_n C (pc := 20) 3 rfl rfl dX2_extreme_20 ?_
      refine g_icmp_gt C (pc := 21) 70 (by omega) (by omega) (by decide) dX2_extreme_21 (fun c21 => ?_) (fun c21 => ?_)
      · refine g_iload_n C (pc := 70) 2 rfl rfl dX2_extreme_70 ?_
        have eb : b = mx (rk p 8) f := by omega
        rw [eb] at h4
        exact hret _ _ _ _ dX2_extreme_71 rfl ⟨rfl, h3, h4⟩
      · refine g_aload_n C (pc := 24) 0 rfl rfl dX2_extreme_24 ?_
        refine g_iload C (pc := 25) 4 rfl dX2_extreme_25 ?_
        refine g_calli C (pc := 27) (n := 1) [] [.int (iI (b : Int))] (mem_load l D cI cB a f0 g3 p g hok f hr hit b (by omega)) (lw_V q279 q281 qs20 q25 q282) (by decide +kernel) (by decide) (by decide) rfl 0 1 rfl rfl rfl (Nat.le_of_ble_eq_true rfl) dX2_extreme_27 (fun z u hu => ?_)
        obtain ⟨rfl, rfl⟩ := hu
        refine g_istore C (pc := 30) [(0, .ref (a 0)), (1, .int (iI mo)), (2, .int (iI bs)), (3, .int (iI ((mx (rk p 8) f : Int) - 1))), (4, .int (iI (b : Int))), (5, .int (iI ((ld (rk p 8) f (fun k => g (it p k))) b)))] [1, 2, 3, 4, 5, 0] (by decide) rfl dX2_extreme_30 ?_
        refine g_iload_n C (pc := 32) 1 rfl rfl dX2_extreme_32 ?_
        refine g_if_eq C (pc := 33) 51 (by omega) (by decide) dX2_extreme_33 (fun c33 => ?_) (fun c33 => ?_)
        · refine g_iload C (pc := 51) 5 rfl dX2_extreme_51 ?_
          refine g_iload_n C (pc := 53) 2 rfl rfl dX2_extreme_53 ?_
          refine g_icmp_ge C (pc := 54) 62 (by omega) (by omega) (by decide) dX2_extreme_54 (fun c54 => ?_) (fun c54 => ?_)
          · refine g_iload_n C (pc := 62) 2 rfl rfl dX2_extreme_62 ?_
            refine g_istore_n C (pc := 63) [(0, .ref (a 0)), (1, .int (iI mo)), (2, .int (iI bs)), (3, .int (iI ((mx (rk p 8) f : Int) - 1))), (4, .int (iI (b : Int))), (5, .int (iI ((ld (rk p 8) f (fun k => g (it p k))) b)))] [1, 2, 0, 3, 4, 5] rfl (by decide) rfl dX2_extreme_63 ?_
            refine g_iinc C (pc := 64) [(0, .ref (a 0)), (1, .int (iI mo)), (2, .int (iI bs)), (3, .int (iI ((mx (rk p 8) f : Int) - 1))), (4, .int (iI ((b : Int) + 1))), (5, .int (iI ((ld (rk p 8) f (fun k => g (it p k))) b)))] [1, 2, 3, 4, 0, 5] 4 rfl (by decide) rfl dX2_extreme_64 ?_
            refine g_goto C (pc := 67) 18 (by decide) dX2_extreme_67 ?_
            refine g_locals C [0, 1, 2, 3, 4] rfl ?_
            exact ih (b + 1) bs (by omega) (by omega) (by omega) h3 (ex_keep h4 (by omega))
          · refine g_iload C (pc := 57) 5 rfl dX2_extreme_57 ?_
            refine g_goto C (pc := 59) 63 (by decide) dX2_extreme_59 ?_
            refine g_istore_n C (pc := 63) [(0, .ref (a 0)), (1, .int (iI mo)), (2, .int (iI ((ld (rk p 8) f (fun k => g (it p k))) b))), (3, .int (iI ((mx (rk p 8) f : Int) - 1))), (4, .int (iI (b : Int))), (5, .int (iI ((ld (rk p 8) f (fun k => g (it p k))) b)))] [1, 2, 0, 3, 4, 5] rfl (by decide) rfl dX2_extreme_63 ?_
            refine g_iinc C (pc := 64) [(0, .ref (a 0)), (1, .int (iI mo)), (2, .int (iI ((ld (rk p 8) f (fun k => g (it p k))) b))), (3, .int (iI ((mx (rk p 8) f : Int) - 1))), (4, .int (iI ((b : Int) + 1))), (5, .int (iI ((ld (rk p 8) f (fun k => g (it p k))) b)))] [1, 2, 3, 4, 0, 5] 4 rfl (by decide) rfl dX2_extreme_64 ?_
            refine g_goto C (pc := 67) 18 (by decide) dX2_extreme_67 ?_
            refine g_locals C [0, 1, 2, 3, 4] rfl ?_
            exact ih (b + 1) _ (by omega) (by omega) (by omega) hlb (ex_new h4 (by omega))
        · refine g_iload C (pc := 36) 5 rfl dX2_extreme_36 ?_
          refine g_iload_n C (pc := 38) 2 rfl rfl dX2_extreme_38 ?_
          refine g_icmp_le C (pc := 39) 47 (by omega) (by omega) (by decide) dX2_extreme_39 (fun c39 => ?_) (fun c39 => ?_)
          · refine g_iload_n C (pc := 47) 2 rfl rfl dX2_extreme_47 ?_
            refine g_goto C (pc := 48) 63 (by decide) dX2_extreme_48 ?_
            refine g_istore_n C (pc := 63) [(0, .ref (a 0)), (1, .int (iI mo)), (2, .int (iI bs)), (3, .int (iI ((mx (rk p 8) f : Int) - 1))), (4, .int (iI (b : Int))), (5, .int (iI ((ld (rk p 8) f (fun k => g (it p k))) b)))] [1, 2, 0, 3, 4, 5] rfl (by decide) rfl dX2_extreme_63 ?_
            refine g_iinc C (pc := 64) [(0, .ref (a 0)), (1, .int (iI mo)), (2, .int (iI bs)), (3, .int (iI ((mx (rk p 8) f : Int) - 1))), (4, .int (iI ((b : Int) + 1))), (5, .int (iI ((ld (rk p 8) f (fun k => g (it p k))) b)))] [1, 2, 3, 4, 0, 5] 4 rfl (by decide) rfl dX2_extreme_64 ?_
            refine g_goto C (pc := 67) 18 (by decide) dX2_extreme_67 ?_
            refine g_locals C [0, 1, 2, 3, 4] rfl ?_
            exact ih (b + 1) bs (by omega) (by omega) (by omega) h3 (ex_keep h4 (by omega))
          · refine g_iload C (pc := 42) 5 rfl dX2_extreme_42 ?_
            refine g_goto C (pc := 44) 63 (by decide) dX2_extreme_44 ?_
            refine g_istore_n C (pc := 63) [(0, .ref (a 0)), (1, .int (iI mo)), (2, .int (iI ((ld (rk p 8) f (fun k => g (it p k))) b))), (3, .int (iI ((mx (rk p 8) f : Int) - 1))), (4, .int (iI (b : Int))), (5, .int (iI ((ld (rk p 8) f (fun k => g (it p k))) b)))] [1, 2, 0, 3, 4, 5] rfl (by decide) rfl dX2_extreme_63 ?_
            refine g_iinc C (pc := 64) [(0, .ref (a 0)), (1, .int (iI mo)), (2, .int (iI ((ld (rk p 8) f (fun k => g (it p k))) b))), (3, .int (iI ((mx (rk p 8) f : Int) - 1))), (4, .int (iI ((b : Int) + 1))), (5, .int (iI ((ld (rk p 8) f (fun k => g (it p k))) b)))] [1, 2, 3, 4, 0, 5] 4 rfl (by decide) rfl dX2_extreme_64 ?_
            refine g_goto C (pc := 67) 18 (by decide) dX2_extreme_67 ?_
            refine g_locals C [0, 1, 2, 3, 4] rfl ?_
            exact ih (b + 1) _ (by omega) (by omega) (by omega) hlb (ex_new h4 (by omega))
  refine g_aload_n C (pc := 0) 0 rfl rfl dX2_extreme_0 ?_
  refine g_iconst C (pc := 1) dX2_extreme_1 ?_
  refine g_calli C (pc := 2) (n := 1) [] [.int (iI 0)] (mem_load l D cI cB a f0 g3 p g hok f hr hit 0 (by omega)) (lw_V q279 q281 qs20 q25 q282) (by decide +kernel) (by decide) (by decide) rfl 0 1 rfl rfl rfl (Nat.le_of_ble_eq_true rfl) dX2_extreme_2 (fun z u hu => ?_)
  obtain ⟨rfl, rfl⟩ := hu
  refine g_istore_n C (pc := 5) [(0, .ref (a 0)), (1, .int (iI mo)), (2, .int (iI ((ld (rk p 8) f (fun k => g (it p k))) 0)))] [1, 2, 0] rfl (by decide) rfl dX2_extreme_5 ?_
  refine g_aload_n C (pc := 6) 0 rfl rfl dX2_extreme_6 ?_
  refine g_aload_n C (pc := 7) 0 rfl rfl dX2_extreme_7 ?_
  refine mg_n C (pc := 8) dX2_extreme_8 ?_
  refine g_calli C (pc := 11) (n := 1) [] [.int (iI ((rk p 8 : Nat) : Int))] (mem_greatest l D cI cB a f0 (mz p g) ((rk p 8 : Nat) : Int) g3 f (rk p 8) (by omega) (fun j hj => by have h5 := rgs_le hr hj; omega)) (lw_V q271 q273 qs18 q25 q274) (by decide +kernel) (by decide) (by decide) rfl 0 1 rfl rfl rfl (Nat.le_of_ble_eq_true rfl) dX2_extreme_11 (fun z u hu => ?_)
  obtain ⟨rfl, rfl⟩ := hu
  refine g_istore_n C (pc := 14) [(0, .ref (a 0)), (1, .int (iI mo)), (2, .int (iI ((ld (rk p 8) f (fun k => g (it p k))) 0))), (3, .int (iI ((mx (rk p 8) f : Int) - 1)))] [1, 2, 3, 0] rfl (by decide) rfl dX2_extreme_14 ?_
  refine g_iconst C (pc := 15) dX2_extreme_15 ?_
  refine g_istore C (pc := 16) [(0, .ref (a 0)), (1, .int (iI mo)), (2, .int (iI ((ld (rk p 8) f (fun k => g (it p k))) 0))), (3, .int (iI ((mx (rk p 8) f : Int) - 1))), (4, .int (iI 1))] [1, 2, 3, 4, 0] (by decide) rfl dX2_extreme_16 ?_
  exact loop (mx (rk p 8) f + 1) 1 _ (by omega) (by omega) (by omega) (hld 0) ex_one
set_option maxHeartbeats 4000000 in
set_option maxRecDepth 100000 in
/-- rank(i) -/
theorem mem_rank (l : Launch) (D : va_G) (cI cB : ClassId) (a : Nat → Nat) (f0 : Int) (f2 : Int) (g3 : Nat → Int) (g4 : Nat → Int) (p : Nat) (g : Nat → Int) (hok : SzOk f0 p g) (i : Nat) (hi : i < 8) : MDi l yX2_rank cX2_rank 4 .int 1 [.ref (a 0), .int (iI (i : Int))] D cI cB (WM a cI f0 (mz p g) f2 g3 g4) (fun z u => u = (WM a cI f0 (mz p g) f2 g3 g4) ∧ z = (rk p i : Int)) := by
  refine md_i [(0, .ref (a 0)), (1, .int (iI (i : Int)))] rfl (Nat.le_of_ble_eq_true rfl) rfl ?_
  intro A G C hret
  have C : Cx l RX2 cX2_rank 4 (rmD 1) D cI cB A 0 0 G := C
  have loop : ∀ (n1 c : Nat), c ≤ i → i < c + n1 → G [(0, .ref (a 0)), (1, .int (iI (i : Int))), (2, .int (iI ((rk p c) : Int))), (3, .int (iI (c : Int)))] (WM a cI f0 (mz p g) f2 g3 g4) 4 [] := by
    intro n1
    induction n1 with
    | zero => intro c h1 h2; exact absurd h2 (by omega)
    | succ n1 ih =>
      intro c h1 h2
      have hrc := rk_le p c
      refine g_iload_n C (pc := 4) 3 rfl rfl dX2_rank_4 ?_
      refine g_iload_n C (pc := 5) 1 rfl rfl dX2_rank_5 ?_
      refine g_icmp_ge C (pc := 6) 37 (by omega) (by omega) (by decide) dX2_rank_6 (fun c6 => ?_) (fun c6 => ?_)
      · have eck : c = i := by omega
        subst eck
        refine g_iload_n C (pc := 37) 2 rfl rfl dX2_rank_37 ?_
        refine g_bipush C (pc := 38) dX2_rank_38 (by decide) ?_
        refine g_iand C (pc := 40) ((rk p c) : Int) (bit_and7 (by omega)) dX2_rank_40 ?_
        exact hret _ _ _ _ dX2_rank_41 rfl ⟨rfl, rfl⟩
      · refine g_iload_n C (pc := 9) 3 rfl rfl dX2_rank_9 ?_
        refine g_bipush C (pc := 10) dX2_rank_10 (by decide) ?_
        refine g_icmp_ge C (pc := 12) 37 (by omega) (by omega) (by decide) dX2_rank_12 (fun c12 => ?_) (fun c12 => ?_)
        · exact absurd c12 (by omega)
        · refine g_iload_n C (pc := 15) 2 rfl rfl dX2_rank_15 ?_
          refine g_aload_n C (pc := 16) 0 rfl rfl dX2_rank_16 ?_
          refine g_iload_n C (pc := 17) 3 rfl rfl dX2_rank_17 ?_
          refine g_calli C (pc := 18) (n := 1) [.int (iI ((rk p c) : Int))] [.int (iI (c : Int))] (mem_is l D cI cB a f0 f2 g3 g4 p g hok (c : Int) (by omega)) (lw_V q239 q241 qs16 q25 q242) (by decide +kernel) (by decide) (by decide) rfl 0 1 rfl rfl rfl (Nat.le_of_ble_eq_true rfl) dX2_rank_18 (fun z u hu => ?_)
          obtain ⟨rfl, hz⟩ := hu
          have hz2 : 0 ≤ z ∧ z ≤ 1 := by rcases hz with ⟨h, _⟩ | ⟨h, _⟩ <;> omega
          refine g_if_eq C (pc := 21) 28 (by omega) (by decide) dX2_rank_21 (fun c21 => ?_) (fun c21 => ?_)
          · have hi8 : c < 8 := by omega
            have hh : hasb p (c : Int) = false := by
              rcases hz with ⟨h, _⟩ | ⟨_, h⟩
              · omega
              · exact h
            have hbit : p.testBit c = false := by rw [← hasb_nat hi8]; exact hh
            refine g_iconst C (pc := 28) dX2_rank_28 ?_
            refine g_iadd C (pc := 29) dX2_rank_29 ?_
            refine g_top C (y := ((rk p (c + 1)) : Int)) (by rw [rk_no hbit]; omega) ?_
            refine g_istore_n C (pc := 30) [(0, .ref (a 0)), (1, .int (iI (i : Int))), (2, .int (iI ((rk p (c + 1)) : Int))), (3, .int (iI (c : Int)))] [1, 2, 0, 3] rfl (by decide) rfl dX2_rank_30 ?_
            refine g_iinc C (pc := 31) [(0, .ref (a 0)), (1, .int (iI (i : Int))), (2, .int (iI ((rk p (c + 1)) : Int))), (3, .int (iI ((c : Int) + 1)))] [1, 2, 3, 0] 3 rfl (by decide) rfl dX2_rank_31 ?_
            refine g_goto C (pc := 34) 4 (by decide) dX2_rank_34 ?_
            exact ih (c + 1) (by omega) (by omega)
          · have hi8 : c < 8 := by omega
            have hh : hasb p (c : Int) = true := by
              rcases hz with ⟨_, h⟩ | ⟨h, _⟩
              · exact h
              · omega
            have hbit : p.testBit c = true := by rw [← hasb_nat hi8]; exact hh
            refine g_iconst C (pc := 24) dX2_rank_24 ?_
            refine g_goto C (pc := 25) 29 (by decide) dX2_rank_25 ?_
            refine g_iadd C (pc := 29) dX2_rank_29 ?_
            refine g_top C (y := ((rk p (c + 1)) : Int)) (by rw [rk_yes hbit]; omega) ?_
            refine g_istore_n C (pc := 30) [(0, .ref (a 0)), (1, .int (iI (i : Int))), (2, .int (iI ((rk p (c + 1)) : Int))), (3, .int (iI (c : Int)))] [1, 2, 0, 3] rfl (by decide) rfl dX2_rank_30 ?_
            refine g_iinc C (pc := 31) [(0, .ref (a 0)), (1, .int (iI (i : Int))), (2, .int (iI ((rk p (c + 1)) : Int))), (3, .int (iI ((c : Int) + 1)))] [1, 2, 3, 0] 3 rfl (by decide) rfl dX2_rank_31 ?_
            refine g_goto C (pc := 34) 4 (by decide) dX2_rank_34 ?_
            exact ih (c + 1) (by omega) (by omega)
  refine g_iconst C (pc := 0) dX2_rank_0 ?_
  refine g_istore_n C (pc := 1) [(0, .ref (a 0)), (1, .int (iI (i : Int))), (2, .int (iI 0))] [1, 2, 0] rfl (by decide) rfl dX2_rank_1 ?_
  refine g_iconst C (pc := 2) dX2_rank_2 ?_
  refine g_istore_n C (pc := 3) [(0, .ref (a 0)), (1, .int (iI (i : Int))), (2, .int (iI 0)), (3, .int (iI 0))] [1, 2, 3, 0] rfl (by decide) rfl dX2_rank_3 ?_
  exact loop (i + 1) 0 (by omega) (by omega)
end
section
set_option maxHeartbeats 4000000 in
set_option maxRecDepth 100000 in
/-- least() -/
theorem mem_least (l : Launch) (D : va_G) (cI cB : ClassId) (a : Nat → Nat) (f0 : Int) (f2 : Int) (g3 : Nat → Int) (g4 : Nat → Int) (p : Nat) (g : Nat → Int) (hok : SzOk f0 p g) : MDi l yX2_least cX2_least 5 .int 2 [.ref (a 0)] D cI cB (WM a cI f0 (mz p g) f2 g3 g4) (fun z u => ∃ (f2' : Int) (g3' g4' : Nat → Int), u = (WM a cI f0 (mz p g) f2' g3' g4') ∧ Opt f0 (sel p 8 g) (fun _ => 0) 0 z) := by
  refine md_i [(0, .ref (a 0))] rfl (Nat.le_of_ble_eq_true rfl) rfl ?_
  intro A G C hret
  have C : Cx l RX2 cX2_least 5 (rmD 2) D cI cB A 0 0 G := C
  obtain ⟨hR, hp, hg, hsz⟩ := id hok
  have hs := sz_it hok
  have hrk8 := rk_le p 8
  have hits := its_sel (p := p) g 8 (Nat.le_refl 8)
  have loop : ∀ (n1 c : Nat) (le mo : Int) (f : Nat → Nat) (gi : Nat → Int), c ≤ 4140 → 4140 < c + n1 → (0 ≤ le ∧ le ≤ 9) → (∀ k, k < (rk p 8) → gi k = (it p k : Int)) → Enum (rk p 8) f mo c (fun g1 => Fits f0 (rk p 8) (fun k => g (it p k)) g1 → le ≤ mx (rk p 8) g1) → (le = 9 ∨ ∃ g1, Rgs (rk p 8) g1 ∧ Fits f0 (rk p 8) (fun k => g (it p k)) g1 ∧ le = mx (rk p 8) g1) → G [(0, .ref (a 0)), (1, .int (iI le)), (2, .int (iI mo)), (3, .int (iI (c : Int)))] (WM a cI f0 (mz p g) ((rk p 8 : Nat) : Int) gi (cf f)) 33 [] := by
    intro n1
    induction n1 with
    | zero => intro c le mo f gi h1 h2; exact absurd h2 (by omega)
    | succ n1 ih =>
      intro c le mo f gi h1 h2 hle hit hE0 hach
      have hmo : 0 ≤ mo ∧ mo ≤ 1 := by rcases hE0 with ⟨h, _⟩ | ⟨h, _⟩ <;> omega
      refine g_iload_n C (pc := 33) 3 rfl rfl dX2_least_33 ?_
      refine g_sipush C (pc := 34) dX2_least_34 (by decide) ?_
      refine g_icmp_ge C (pc := 37) 88 (by omega) (by omega) (by decide) dX2_least_37 (fun c37 => ?_) (fun c37 => ?_)
      · have hall : ∀ g1, Rgs (rk p 8) g1 → (fun g1 => Fits f0 (rk p 8) (fun k => g (it p k)) g1 → le ≤ mx (rk p 8) g1) g1 := by
          rcases hE0 with ⟨h1, h2, h3, h4, _⟩ | ⟨_, h⟩
          · have h5 := rank_ok h3 (by omega)
            omega
          · exact h
        refine g_iload_n C (pc := 88) 1 rfl rfl dX2_least_88 ?_
        exact hret _ _ _ _ dX2_least_89 rfl ⟨_, _, _, rfl, by rw [hits]; exact least_end (by omega) hs hall hach⟩
      · refine g_iload_n C (pc := 40) 2 rfl rfl dX2_least_40 ?_
        refine g_if_eq C (pc := 41) 88 (by omega) (by decide) dX2_least_41 (fun c41 => ?_) (fun c41 => ?_)
        · have hall : ∀ g1, Rgs (rk p 8) g1 → (fun g1 => Fits f0 (rk p 8) (fun k => g (it p k)) g1 → le ≤ mx (rk p 8) g1) g1 := by
            rcases hE0 with ⟨h1, h2, h3, h4, _⟩ | ⟨_, h⟩
            · have h5 := rank_ok h3 (by omega)
              omega
            · exact h
          refine g_iload_n C (pc := 88) 1 rfl rfl dX2_least_88 ?_
          exact hret _ _ _ _ dX2_least_89 rfl ⟨_, _, _, rfl, by rw [hits]; exact least_end (by omega) hs hall hach⟩
        · obtain ⟨hm1, hn0, hr, hcr, hT⟩ : mo = 1 ∧ 0 < (rk p 8) ∧ Rgs (rk p 8) f ∧ c ≤ rankf (rk p 8) f ∧ _ := by
            rcases hE0 with h | ⟨h, _⟩
            · exact h
            · omega
          have hml := mx_len hr
          have hmg := mx_gt f hn0
          refine g_aload_n C (pc := 44) 0 rfl rfl dX2_least_44 ?_
          refine g_aload_n C (pc := 45) 0 rfl rfl dX2_least_45 ?_
          refine mg_n C (pc := 46) dX2_least_46 ?_
          refine g_calli C (pc := 49) (n := 1) [] [.int (iI ((rk p 8 : Nat) : Int))] (mem_greatest l D cI cB a f0 (mz p g) ((rk p 8 : Nat) : Int) gi f (rk p 8) (by omega) (fun j hj => by have h5 := rgs_le hr hj; omega)) (lw_V q271 q273 qs18 q25 q274) (by decide +kernel) (by decide) (by decide) rfl 0 1 rfl rfl rfl (Nat.le_of_ble_eq_true rfl) dX2_least_49 (fun z u hu => ?_)
          obtain ⟨rfl, rfl⟩ := hu
          refine g_iconst C (pc := 52) dX2_least_52 ?_
          refine g_iadd C (pc := 53) dX2_least_53 ?_
          refine g_top C (y := ((mx (rk p 8) f) : Int)) (by omega) ?_
          refine g_istore C (pc := 54) [(0, .ref (a 0)), (1, .int (iI le)), (2, .int (iI mo)), (3, .int (iI (c : Int))), (4, .int (iI ((mx (rk p 8) f) : Int)))] [1, 2, 3, 4, 0] (by decide) rfl dX2_least_54 ?_
          refine g_iload C (pc := 56) 4 rfl dX2_least_56 ?_
          refine g_iload_n C (pc := 58) 1 rfl rfl dX2_least_58 ?_
          refine g_icmp_ge C (pc := 59) 77 (by omega) (by omega) (by decide) dX2_least_59 (fun c59 => ?_) (fun c59 => ?_)
          · refine g_aload_n C (pc := 77) 0 rfl rfl dX2_least_77 ?_
            refine g_calli C (pc := 78) (n := 0) [] [] (mem_next l D cI cB a f0 (mz p g) gi f (rk p 8) (by omega) hr) (lw_V q283 q285 qs21 q25 q286) (by decide +kernel) (by decide) (by decide) rfl 0 1 rfl rfl rfl (Nat.le_of_ble_eq_true rfl) dX2_least_78 (fun zn u hu => ?_)
            obtain ⟨f', rfl, hx⟩ := hu
            have hz01 : 0 ≤ zn ∧ zn ≤ 1 := by rcases hx with ⟨h, _⟩ | ⟨h, _⟩ <;> omega
            refine g_istore_n C (pc := 81) [(0, .ref (a 0)), (1, .int (iI le)), (2, .int (iI zn)), (3, .int (iI (c : Int))), (4, .int (iI ((mx (rk p 8) f) : Int)))] [1, 2, 0, 3, 4] rfl (by decide) rfl dX2_least_81 ?_
            refine g_iinc C (pc := 82) [(0, .ref (a 0)), (1, .int (iI le)), (2, .int (iI zn)), (3, .int (iI ((c : Int) + 1))), (4, .int (iI ((mx (rk p 8) f) : Int)))] [1, 2, 3, 0, 4] 3 rfl (by decide) rfl dX2_least_82 ?_
            refine g_goto C (pc := 85) 33 (by decide) dX2_least_85 ?_
            refine g_locals C [0, 1, 2, 3] rfl ?_
            exact ih (c + 1) le zn f' gi (by omega) (by omega) (by omega) hit (enum_next (T' := (fun g1 => Fits f0 (rk p 8) (fun k => g (it p k)) g1 → le ≤ mx (rk p 8) g1)) hn0 hr hcr hT (fun g1 hg1 => hg1) (fun g1 e hf1 => by rw [mx_ext (f := g1) (g := f) e]; omega) hx) hach
          · refine g_aload_n C (pc := 62) 0 rfl rfl dX2_least_62 ?_
            refine g_iconst C (pc := 63) dX2_least_63 ?_
            refine g_calli C (pc := 64) (n := 1) [] [.int (iI 1)] (mem_extreme l D cI cB a f0 gi p g hok f hr hit hn0 1 (by omega)) (lw_V q275 q277 qs19 q25 q278) (by decide +kernel) (by decide) (by decide) rfl 0 1 rfl rfl rfl (Nat.le_of_ble_eq_true rfl) dX2_least_64 (fun z u hu => ?_)
            obtain ⟨rfl, hEr, hE⟩ := hu
            refine g_aload_n C (pc := 67) 0 rfl rfl dX2_least_67 ?_
            refine mg_room C (pc := 68) dX2_least_68 ?_
            refine g_icmp_gt C (pc := 71) 77 (by omega) (by omega) (by decide) dX2_least_71 (fun c71 => ?_) (fun c71 => ?_)
            · refine g_aload_n C (pc := 77) 0 rfl rfl dX2_least_77 ?_
              refine g_calli C (pc := 78) (n := 0) [] [] (mem_next l D cI cB a f0 (mz p g) gi f (rk p 8) (by omega) hr) (lw_V q283 q285 qs21 q25 q286) (by decide +kernel) (by decide) (by decide) rfl 0 1 rfl rfl rfl (Nat.le_of_ble_eq_true rfl) dX2_least_78 (fun zn u hu => ?_)
              obtain ⟨f', rfl, hx⟩ := hu
              have hz01 : 0 ≤ zn ∧ zn ≤ 1 := by rcases hx with ⟨h, _⟩ | ⟨h, _⟩ <;> omega
              refine g_istore_n C (pc := 81) [(0, .ref (a 0)), (1, .int (iI le)), (2, .int (iI zn)), (3, .int (iI (c : Int))), (4, .int (iI ((mx (rk p 8) f) : Int)))] [1, 2, 0, 3, 4] rfl (by decide) rfl dX2_least_81 ?_
              refine g_iinc C (pc := 82) [(0, .ref (a 0)), (1, .int (iI le)), (2, .int (iI zn)), (3, .int (iI ((c : Int) + 1))), (4, .int (iI ((mx (rk p 8) f) : Int)))] [1, 2, 3, 0, 4] 3 rfl (by decide) rfl dX2_least_82 ?_
              refine g_goto C (pc := 85) 33 (by decide) dX2_least_85 ?_
              refine g_locals C [0, 1, 2, 3] rfl ?_
              exact ih (c + 1) le zn f' gi (by omega) (by omega) (by omega) hit (enum_next (T' := (fun g1 => Fits f0 (rk p 8) (fun k => g (it p k)) g1 → le ≤ mx (rk p 8) g1)) hn0 hr hcr hT (fun g1 hg1 => hg1) (fun g1 e hf1 => by
                obtain ⟨⟨b, hb1, hb2⟩, _⟩ := hE
                have h5 := fits_ext e hf1 b hb1
                omega) hx) hach
            · refine g_iload C (pc := 74) 4 rfl dX2_least_74 ?_
              refine g_istore_n C (pc := 76) [(0, .ref (a 0)), (1, .int (iI ((mx (rk p 8) f) : Int))), (2, .int (iI mo)), (3, .int (iI (c : Int))), (4, .int (iI ((mx (rk p 8) f) : Int)))] [1, 0, 2, 3, 4] rfl (by decide) rfl dX2_least_76 ?_
              have hfits : Fits f0 (rk p 8) (fun k => g (it p k)) f := fun b hb => Int.le_trans ((hE.2 b hb).1 rfl) c71
              refine g_aload_n C (pc := 77) 0 rfl rfl dX2_least_77 ?_
              refine g_calli C (pc := 78) (n := 0) [] [] (mem_next l D cI cB a f0 (mz p g) gi f (rk p 8) (by omega) hr) (lw_V q283 q285 qs21 q25 q286) (by decide +kernel) (by decide) (by decide) rfl 0 1 rfl rfl rfl (Nat.le_of_ble_eq_true rfl) dX2_least_78 (fun zn u hu => ?_)
              obtain ⟨f', rfl, hx⟩ := hu
              have hz01 : 0 ≤ zn ∧ zn ≤ 1 := by rcases hx with ⟨h, _⟩ | ⟨h, _⟩ <;> omega
              refine g_istore_n C (pc := 81) [(0, .ref (a 0)), (1, .int (iI ((mx (rk p 8) f) : Int))), (2, .int (iI zn)), (3, .int (iI (c : Int))), (4, .int (iI ((mx (rk p 8) f) : Int)))] [1, 2, 0, 3, 4] rfl (by decide) rfl dX2_least_81 ?_
              refine g_iinc C (pc := 82) [(0, .ref (a 0)), (1, .int (iI ((mx (rk p 8) f) : Int))), (2, .int (iI zn)), (3, .int (iI ((c : Int) + 1))), (4, .int (iI ((mx (rk p 8) f) : Int)))] [1, 2, 3, 0, 4] 3 rfl (by decide) rfl dX2_least_82 ?_
              refine g_goto C (pc := 85) 33 (by decide) dX2_least_85 ?_
              refine g_locals C [0, 1, 2, 3] rfl ?_
              exact ih (c + 1) ((mx (rk p 8) f : Nat) : Int) zn f' gi (by omega) (by omega) (by omega) hit (enum_next (T' := (fun g1 => Fits f0 (rk p 8) (fun k => g (it p k)) g1 → ((mx (rk p 8) f : Nat) : Int) ≤ mx (rk p 8) g1)) hn0 hr hcr hT (fun g1 hg1 hf1 => by have h5 := hg1 hf1; omega) (fun g1 e hf1 => by rw [mx_ext (f := g1) (g := f) e]; exact Int.le_refl _) hx) (Or.inr ⟨f, hr, hfits, rfl⟩)
  refine g_aload_n C (pc := 0) 0 rfl rfl dX2_least_0 ?_
  refine g_callv C (pc := 1) (n := 0) [] [] (mem_first l D cI cB a f0 f2 g3 g4 p g hok) (lw_V q267 q269 qs17 q25 q270) (by decide +kernel) (by decide) (by decide) rfl 0 1 rfl rfl rfl (Nat.le_of_ble_eq_true rfl) dX2_least_1 (fun u hu => ?_)
  obtain ⟨gi, rfl, hit⟩ := hu
  refine g_aload_n C (pc := 4) 0 rfl rfl dX2_least_4 ?_
  refine mg_n C (pc := 5) dX2_least_5 ?_
  refine g_if_ne C (pc := 8) 15 (by omega) (by decide) dX2_least_8 (fun c8 => ?_) (fun c8 => ?_)
  · refine g_bipush C (pc := 15) dX2_least_15 (by decide) ?_
    refine g_istore_n C (pc := 17) [(0, .ref (a 0)), (1, .int (iI 9))] [1, 0] rfl (by decide) rfl dX2_least_17 ?_
    refine g_aload_n C (pc := 18) 0 rfl rfl dX2_least_18 ?_
    refine mg_n C (pc := 19) dX2_least_19 ?_
    refine g_if_le C (pc := 22) 29 (by omega) (by decide) dX2_least_22 (fun c22 => ?_) (fun c22 => ?_)
    · exact absurd c22 (by omega)
    · refine g_iconst C (pc := 25) dX2_least_25 ?_
      refine g_goto C (pc := 26) 30 (by decide) dX2_least_26 ?_
      refine g_istore_n C (pc := 30) [(0, .ref (a 0)), (1, .int (iI 9)), (2, .int (iI 1))] [1, 2, 0] rfl (by decide) rfl dX2_least_30 ?_
      refine g_iconst C (pc := 31) dX2_least_31 ?_
      refine g_istore_n C (pc := 32) [(0, .ref (a 0)), (1, .int (iI 9)), (2, .int (iI 1)), (3, .int (iI 0))] [1, 2, 3, 0] rfl (by decide) rfl dX2_least_32 ?_
      exact loop 4141 0 9 1 (fun _ => 0) gi (by omega) (by omega) (by omega) hit (enum_0 (by omega)) (Or.inl rfl)
  · have hn : rk p 8 = 0 := by omega
    refine g_iconst C (pc := 11) dX2_least_11 ?_
    refine g_goto C (pc := 12) 17 (by decide) dX2_least_12 ?_
    refine g_istore_n C (pc := 17) [(0, .ref (a 0)), (1, .int (iI 0))] [1, 0] rfl (by decide) rfl dX2_least_17 ?_
    refine g_aload_n C (pc := 18) 0 rfl rfl dX2_least_18 ?_
    refine mg_n C (pc := 19) dX2_least_19 ?_
    refine g_if_le C (pc := 22) 29 (by omega) (by decide) dX2_least_22 (fun c22 => ?_) (fun c22 => ?_)
    · refine g_iconst C (pc := 29) dX2_least_29 ?_
      refine g_istore_n C (pc := 30) [(0, .ref (a 0)), (1, .int (iI 0)), (2, .int (iI 0))] [1, 2, 0] rfl (by decide) rfl dX2_least_30 ?_
      refine g_iconst C (pc := 31) dX2_least_31 ?_
      refine g_istore_n C (pc := 32) [(0, .ref (a 0)), (1, .int (iI 0)), (2, .int (iI 0)), (3, .int (iI 0))] [1, 2, 3, 0] rfl (by decide) rfl dX2_least_32 ?_
      exact loop 4141 0 0 0 (fun _ => 0) gi (by omega) (by omega) (by omega) hit (Or.inr ⟨rfl, fun g1 _ _ => by omega⟩) (Or.inr ⟨fun _ => 0, fun _ _ => Nat.zero_le _, fun b hb => by rw [hn] at hb; exact absurd hb (Nat.not_lt_zero b), by rw [hn]; rfl⟩)
    · exact absurd c22 (by omega)
set_option maxHeartbeats 4000000 in
set_option maxRecDepth 100000 in
/-- binOf(i) -/
theorem mem_binOf (l : Launch) (D : va_G) (cI cB : ClassId) (a : Nat → Nat) (f0 : Int) (f2 : Int) (g3 : Nat → Int) (g4 : Nat → Int) (p : Nat) (g : Nat → Int) (hok : SzOk f0 p g) (z0 : Int) (hz0 : -2147483648 ≤ z0 ∧ z0 < 2147483648) : MDi l yX2_binOf cX2_binOf 5 .int 3 [.ref (a 0), .int (iI z0)] D cI cB (WM a cI f0 (mz p g) f2 g3 g4) (fun z u => ∃ (f2' : Int) (g3' g4' : Nat → Int), u = (WM a cI f0 (mz p g) f2' g3' g4') ∧ ((hasb p z0 = false ∧ z = -1) ∨ ∃ (i K : Nat) (f : Nat → Nat), i < 8 ∧ z0 = i ∧ p.testBit i = true ∧ Opt f0 (sel p 8 g) (fun _ => 0) 0 (K : Int) ∧ LXM f0 (rk p 8) (fun k => g (it p k)) K f ∧ z = f (rk p i))) := by
  refine md_i [(0, .ref (a 0)), (1, .int (iI z0))] rfl (Nat.le_of_ble_eq_true rfl) rfl ?_
  intro A G C hret
  have C : Cx l RX2 cX2_binOf 5 (rmD 3) D cI cB A 0 0 G := C
  obtain ⟨hR, hp, hg, hsz⟩ := id hok
  have hs := sz_it hok
  have hrk8 := rk_le p 8
  have hits := its_sel (p := p) g 8 (Nat.le_refl 8)
  have loop : ∀ (n1 c i K : Nat) (mo : Int) (f : Nat → Nat) (gi : Nat → Int), c ≤ 4140 → 4140 < c + n1 → i < 8 → z0 = (i : Int) → p.testBit i = true → K ≤ 8 → Opt f0 (sel p 8 g) (fun _ => 0) 0 (K : Int) → (∀ k, k < (rk p 8) → gi k = (it p k : Int)) → Enum (rk p 8) f mo c (fun g1 => ¬ (mx (rk p 8) g1 = K ∧ Fits f0 (rk p 8) (fun k => g (it p k)) g1)) → G [(0, .ref (a 0)), (1, .int (iI (i : Int))), (2, .int (iI (K : Int))), (3, .int (iI mo)), (4, .int (iI (c : Int)))] (WM a cI f0 (mz p g) ((rk p 8 : Nat) : Int) gi (cf f)) 18 [] := by
    intro n1
    induction n1 with
    | zero => intro c i K mo f gi h1 h2; exact absurd h2 (by omega)
    | succ n1 ih =>
      intro c i K mo f gi h1 h2 hi8 hz0 hbit hK8 hopz hit hE0
      have hmo : 0 ≤ mo ∧ mo ≤ 1 := by rcases hE0 with ⟨h, _⟩ | ⟨h, _⟩ <;> omega
      have hop : Opt f0 (its (rk p 8) (fun k => g (it p k))) (fun _ => 0) 0 (K : Int) := by rw [← hits]; exact hopz
      refine g_iload C (pc := 18) 4 rfl dX2_binOf_18 ?_
      refine g_sipush C (pc := 20) dX2_binOf_20 (by decide) ?_
      refine g_icmp_ge C (pc := 23) 78 (by omega) (by omega) (by decide) dX2_binOf_23 (fun c23 => ?_) (fun c23 => ?_)
      · have hall : ∀ g1, Rgs (rk p 8) g1 → (fun g1 => ¬ (mx (rk p 8) g1 = K ∧ Fits f0 (rk p 8) (fun k => g (it p k)) g1)) g1 := by
          rcases hE0 with ⟨h1, h2, h3, h4, _⟩ | ⟨_, h⟩
          · have h5 := rank_ok h3 (by omega)
            omega
          · exact h
        obtain ⟨g1, k1, k2, k3⟩ := lxm_some hop
        exact absurd ⟨k2, k3⟩ (hall g1 k1)
      · refine g_iload_n C (pc := 26) 3 rfl rfl dX2_binOf_26 ?_
        refine g_if_eq C (pc := 27) 78 (by omega) (by decide) dX2_binOf_27 (fun c27 => ?_) (fun c27 => ?_)
        · have hall : ∀ g1, Rgs (rk p 8) g1 → (fun g1 => ¬ (mx (rk p 8) g1 = K ∧ Fits f0 (rk p 8) (fun k => g (it p k)) g1)) g1 := by
            rcases hE0 with ⟨h1, h2, h3, h4, _⟩ | ⟨_, h⟩
            · have h5 := rank_ok h3 (by omega)
              omega
            · exact h
          obtain ⟨g1, k1, k2, k3⟩ := lxm_some hop
          exact absurd ⟨k2, k3⟩ (hall g1 k1)
        · obtain ⟨hm1, hn0, hr, hcr, hT⟩ : mo = 1 ∧ 0 < (rk p 8) ∧ Rgs (rk p 8) f ∧ c ≤ rankf (rk p 8) f ∧ _ := by
            rcases hE0 with h | ⟨h, _⟩
            · exact h
            · omega
          have hml := mx_len hr
          have hmg := mx_gt f hn0
          refine g_aload_n C (pc := 30) 0 rfl rfl dX2_binOf_30 ?_
          refine g_aload_n C (pc := 31) 0 rfl rfl dX2_binOf_31 ?_
          refine mg_n C (pc := 32) dX2_binOf_32 ?_
          refine g_calli C (pc := 35) (n := 1) [] [.int (iI ((rk p 8 : Nat) : Int))] (mem_greatest l D cI cB a f0 (mz p g) ((rk p 8 : Nat) : Int) gi f (rk p 8) (by omega) (fun j hj => by have h5 := rgs_le hr hj; omega)) (lw_V q271 q273 qs18 q25 q274) (by decide +kernel) (by decide) (by decide) rfl 0 1 rfl rfl rfl (Nat.le_of_ble_eq_true rfl) dX2_binOf_35 (fun z u hu => ?_)
          obtain ⟨rfl, rfl⟩ := hu
          refine g_iconst C (pc := 38) dX2_binOf_38 ?_
          refine g_iadd C (pc := 39) dX2_binOf_39 ?_
          refine g_top C (y := ((mx (rk p 8) f) : Int)) (by omega) ?_
          refine g_iload_n C (pc := 40) 2 rfl rfl dX2_binOf_40 ?_
          refine g_icmp_ne C (pc := 41) 67 (by omega) (by omega) (by decide) dX2_binOf_41 (fun c41 => ?_) (fun c41 => ?_)
          · refine g_aload_n C (pc := 67) 0 rfl rfl dX2_binOf_67 ?_
            refine g_calli C (pc := 68) (n := 0) [] [] (mem_next l D cI cB a f0 (mz p g) gi f (rk p 8) (by omega) hr) (lw_V q283 q285 qs21 q25 q286) (by decide +kernel) (by decide) (by decide) rfl 0 1 rfl rfl rfl (Nat.le_of_ble_eq_true rfl) dX2_binOf_68 (fun zn u hu => ?_)
            obtain ⟨f', rfl, hx⟩ := hu
            have hz01 : 0 ≤ zn ∧ zn ≤ 1 := by rcases hx with ⟨h, _⟩ | ⟨h, _⟩ <;> omega
            refine g_istore_n C (pc := 71) [(0, .ref (a 0)), (1, .int (iI (i : Int))), (2, .int (iI (K : Int))), (3, .int (iI zn)), (4, .int (iI (c : Int)))] [1, 2, 3, 0, 4] rfl (by decide) rfl dX2_binOf_71 ?_
            refine g_iinc C (pc := 72) [(0, .ref (a 0)), (1, .int (iI (i : Int))), (2, .int (iI (K : Int))), (3, .int (iI zn)), (4, .int (iI ((c : Int) + 1)))] [1, 2, 3, 4, 0] 4 rfl (by decide) rfl dX2_binOf_72 ?_
            refine g_goto C (pc := 75) 18 (by decide) dX2_binOf_75 ?_
            exact ih (c + 1) i K zn f' gi (by omega) (by omega) hi8 hz0 hbit hK8 hopz hit (enum_next (T' := (fun g1 => ¬ (mx (rk p 8) g1 = K ∧ Fits f0 (rk p 8) (fun k => g (it p k)) g1))) hn0 hr hcr hT (fun g1 hg1 => hg1) (fun g1 e hf1 => by rw [mx_ext (f := g1) (g := f) e] at hf1; have h5 := hf1.1; omega) hx)
          · refine g_aload_n C (pc := 44) 0 rfl rfl dX2_binOf_44 ?_
            refine g_iconst C (pc := 45) dX2_binOf_45 ?_
            refine g_calli C (pc := 46) (n := 1) [] [.int (iI 1)] (mem_extreme l D cI cB a f0 gi p g hok f hr hit hn0 1 (by omega)) (lw_V q275 q277 qs19 q25 q278) (by decide +kernel) (by decide) (by decide) rfl 0 1 rfl rfl rfl (Nat.le_of_ble_eq_true rfl) dX2_binOf_46 (fun z u hu => ?_)
            obtain ⟨rfl, hEr, hE⟩ := hu
            refine g_aload_n C (pc := 49) 0 rfl rfl dX2_binOf_49 ?_
            refine mg_room C (pc := 50) dX2_binOf_50 ?_
            refine g_icmp_gt C (pc := 53) 67 (by omega) (by omega) (by decide) dX2_binOf_53 (fun c53 => ?_) (fun c53 => ?_)
            · refine g_aload_n C (pc := 67) 0 rfl rfl dX2_binOf_67 ?_
              refine g_calli C (pc := 68) (n := 0) [] [] (mem_next l D cI cB a f0 (mz p g) gi f (rk p 8) (by omega) hr) (lw_V q283 q285 qs21 q25 q286) (by decide +kernel) (by decide) (by decide) rfl 0 1 rfl rfl rfl (Nat.le_of_ble_eq_true rfl) dX2_binOf_68 (fun zn u hu => ?_)
              obtain ⟨f', rfl, hx⟩ := hu
              have hz01 : 0 ≤ zn ∧ zn ≤ 1 := by rcases hx with ⟨h, _⟩ | ⟨h, _⟩ <;> omega
              refine g_istore_n C (pc := 71) [(0, .ref (a 0)), (1, .int (iI (i : Int))), (2, .int (iI (K : Int))), (3, .int (iI zn)), (4, .int (iI (c : Int)))] [1, 2, 3, 0, 4] rfl (by decide) rfl dX2_binOf_71 ?_
              refine g_iinc C (pc := 72) [(0, .ref (a 0)), (1, .int (iI (i : Int))), (2, .int (iI (K : Int))), (3, .int (iI zn)), (4, .int (iI ((c : Int) + 1)))] [1, 2, 3, 4, 0] 4 rfl (by decide) rfl dX2_binOf_72 ?_
              refine g_goto C (pc := 75) 18 (by decide) dX2_binOf_75 ?_
              exact ih (c + 1) i K zn f' gi (by omega) (by omega) hi8 hz0 hbit hK8 hopz hit (enum_next (T' := (fun g1 => ¬ (mx (rk p 8) g1 = K ∧ Fits f0 (rk p 8) (fun k => g (it p k)) g1))) hn0 hr hcr hT (fun g1 hg1 => hg1) (fun g1 e hf1 => by
                obtain ⟨⟨b, hb1, hb2⟩, _⟩ := hE
                have h5 := fits_ext e hf1.2 b hb1
                omega) hx)
            · have hfits : Fits f0 (rk p 8) (fun k => g (it p k)) f := fun b hb => Int.le_trans ((hE.2 b hb).1 rfl) c53
              have hmK : mx (rk p 8) f = K := by omega
              have hki := rk_lt hi8 hbit
              refine g_aload_n C (pc := 56) 0 rfl rfl dX2_binOf_56 ?_
              refine mg_bin C (pc := 57) dX2_binOf_57 ?_
              refine g_aload_n C (pc := 60) 0 rfl rfl dX2_binOf_60 ?_
              refine g_iload_n C (pc := 61) 1 rfl rfl dX2_binOf_61 ?_
              refine g_calli C (pc := 62) (n := 1) [.ref (a 3)] [.int (iI (i : Int))] (mem_rank l D cI cB a f0 ((rk p 8 : Nat) : Int) gi (cf f) p g hok i hi8) (lw_V q292 q294 qs22 q25 q295) (by decide +kernel) (by decide) (by decide) rfl 0 1 rfl rfl rfl (Nat.le_of_ble_eq_true rfl) dX2_binOf_62 (fun z u hu => ?_)
              obtain ⟨rfl, rfl⟩ := hu
              refine ml_bin C (pc := 65) (rk p i) (by omega) (by omega) dX2_binOf_65 ?_
              exact hret _ _ _ _ dX2_binOf_66 rfl ⟨_, _, _, rfl, Or.inr ⟨i, K, f, hi8, hz0, hbit, hopz, ⟨hr, hmK, fun b hb => hfits b (by omega), fun g1 k1 k2 k3 hl => hT g1 k1 hl ⟨k2, fun b hb => k3 b (by omega)⟩⟩, rfl⟩⟩
  refine g_aload_n C (pc := 0) 0 rfl rfl dX2_binOf_0 ?_
  refine g_calli C (pc := 1) (n := 0) [] [] (mem_least l D cI cB a f0 f2 g3 g4 p g hok) (lw_V q291 q264 q265 q25 q266) (by decide +kernel) (by decide) (by decide) rfl 0 1 rfl rfl rfl (Nat.le_of_ble_eq_true rfl) dX2_binOf_1 (fun z u hu => ?_)
  obtain ⟨f2', g3', g4', rfl, hopz⟩ := hu
  obtain ⟨K, rfl, hK0⟩ : ∃ K : Nat, z = K ∧ K ≤ 8 := by
    obtain ⟨⟨K1, e1, _, _⟩, h5⟩ := hopz
    rw [hits] at h5
    have h6 := h5 (0 + rk p 8) (Nat.zero_le _) (Cp_each 0 (rk p 8) (fun _ => by omega) (fun _ _ => rfl) (fun j hj => by have h7 := hs j hj; show 0 < g (it p j) ∧ g (it p j) ≤ f0; omega))
    exact ⟨K1, e1, by omega⟩
  have hop : Opt f0 (its (rk p 8) (fun k => g (it p k))) (fun _ => 0) 0 (K : Int) := by rw [← hits]; exact hopz
  refine g_istore_n C (pc := 4) [(0, .ref (a 0)), (1, .int (iI z0)), (2, .int (iI (K : Int)))] [1, 2, 0] rfl (by decide) rfl dX2_binOf_4 ?_
  refine g_aload_n C (pc := 5) 0 rfl rfl dX2_binOf_5 ?_
  refine g_callv C (pc := 6) (n := 0) [] [] (mem_first l D cI cB a f0 f2' g3' g4' p g hok) (lw_V q267 q269 qs17 q25 q270) (by decide +kernel) (by decide) (by decide) rfl 0 1 rfl rfl rfl (Nat.le_of_ble_eq_true rfl) dX2_binOf_6 (fun u hu => ?_)
  obtain ⟨gi, rfl, hit⟩ := hu
  refine g_aload_n C (pc := 9) 0 rfl rfl dX2_binOf_9 ?_
  refine g_iload_n C (pc := 10) 1 rfl rfl dX2_binOf_10 ?_
  refine g_calli C (pc := 11) (n := 1) [] [.int (iI z0)] (mem_is l D cI cB a f0 ((rk p 8 : Nat) : Int) gi (cf (fun _ => 0)) p g hok z0 (by omega)) (lw_V q239 q241 qs16 q25 q242) (by decide +kernel) (by decide) (by decide) rfl 0 1 rfl rfl rfl (Nat.le_of_ble_eq_true rfl) dX2_binOf_11 (fun z u hu => ?_)
  obtain ⟨rfl, hz⟩ := hu
  have hz2 : 0 ≤ z ∧ z ≤ 1 := by rcases hz with ⟨h, _⟩ | ⟨h, _⟩ <;> omega
  refine g_istore_n C (pc := 14) [(0, .ref (a 0)), (1, .int (iI z0)), (2, .int (iI (K : Int))), (3, .int (iI z))] [1, 2, 3, 0] rfl (by decide) rfl dX2_binOf_14 ?_
  refine g_iconst C (pc := 15) dX2_binOf_15 ?_
  refine g_istore C (pc := 16) [(0, .ref (a 0)), (1, .int (iI z0)), (2, .int (iI (K : Int))), (3, .int (iI z)), (4, .int (iI 0))] [1, 2, 3, 4, 0] (by decide) rfl dX2_binOf_16 ?_
  by_cases hh : hasb p z0 = true
  · obtain ⟨i, hi8, rfl, hbit⟩ := hasb_of hh
    have ez : z = 1 := by
      rcases hz with ⟨h, _⟩ | ⟨_, h⟩
      · exact h
      · rw [hh] at h; exact absurd h (by decide)
    subst ez
    have hki := rk_lt hi8 hbit
    exact loop 4141 0 i K 1 (fun _ => 0) gi (by omega) (by omega) hi8 rfl hbit hK0 hopz hit (enum_0 (by omega))
  · have ez : z = 0 := by
      rcases hz with ⟨_, h⟩ | ⟨h, _⟩
      · exact absurd h hh
      · exact h
    subst ez
    refine g_iload C (pc := 18) 4 rfl dX2_binOf_18 ?_
    refine g_sipush C (pc := 20) dX2_binOf_20 (by decide) ?_
    refine g_icmp_ge C (pc := 23) 78 (by omega) (by omega) (by decide) dX2_binOf_23 (fun c23 => ?_) (fun c23 => ?_)
    · refine g_iconst C (pc := 78) dX2_binOf_78 ?_
      exact hret _ _ _ _ dX2_binOf_79 rfl ⟨_, _, _, rfl, Or.inl ⟨by cases hb : hasb p z0 with | true => exact absurd hb hh | false => rfl, rfl⟩⟩
    · refine g_iload_n C (pc := 26) 3 rfl rfl dX2_binOf_26 ?_
      refine g_if_eq C (pc := 27) 78 (by omega) (by decide) dX2_binOf_27 (fun c27 => ?_) (fun c27 => ?_)
      · refine g_iconst C (pc := 78) dX2_binOf_78 ?_
        exact hret _ _ _ _ dX2_binOf_79 rfl ⟨_, _, _, rfl, Or.inl ⟨by cases hb : hasb p z0 with | true => exact absurd hb hh | false => rfl, rfl⟩⟩
      · exact absurd rfl c27
set_option maxHeartbeats 4000000 in
set_option maxRecDepth 100000 in
/-- leastWithout(i) -/
theorem mem_leastWithout (l : Launch) (D : va_G) (cI cB : ClassId) (a : Nat → Nat) (f0 : Int) (f2 : Int) (g3 : Nat → Int) (g4 : Nat → Int) (p : Nat) (g : Nat → Int) (hok : SzOk f0 p g) (z0 : Int) (hz0 : -2147483648 ≤ z0 ∧ z0 < 2147483648) : MDi l yX2_leastWithout cX2_leastWithout 4 .int 3 [.ref (a 0), .int (iI z0)] D cI cB (WM a cI f0 (mz p g) f2 g3 g4) (fun z u => ∃ (f2' : Int) (g3' g4' : Nat → Int), u = (WM a cI f0 (mz p g) f2' g3' g4') ∧ ((hasb p z0 = false ∧ z = -1) ∨ ∃ i : Nat, i < 8 ∧ z0 = i ∧ p.testBit i = true ∧ Opt f0 (sel (clr p (2 ^ i)) 8 g) (fun _ => 0) 0 z)) := by
  refine md_i [(0, .ref (a 0)), (1, .int (iI z0))] rfl (Nat.le_of_ble_eq_true rfl) rfl ?_
  intro A G C hret
  have C : Cx l RX2 cX2_leastWithout 4 (rmD 3) D cI cB A 0 0 G := C
  obtain ⟨hR, hp, hg, hsz⟩ := id hok
  refine g_aload_n C (pc := 0) 0 rfl rfl dX2_leastWithout_0 ?_
  refine g_iload_n C (pc := 1) 1 rfl rfl dX2_leastWithout_1 ?_
  refine g_calli C (pc := 2) (n := 1) [] [.int (iI z0)] (mem_is l D cI cB a f0 f2 g3 g4 p g hok z0 (by omega)) (lw_V q239 q241 qs16 q25 q242) (by decide +kernel) (by decide) (by decide) rfl 0 1 rfl rfl rfl (Nat.le_of_ble_eq_true rfl) dX2_leastWithout_2 (fun z u hu => ?_)
  obtain ⟨rfl, hz⟩ := hu
  have hz2 : 0 ≤ z ∧ z ≤ 1 := by rcases hz with ⟨h, _⟩ | ⟨h, _⟩ <;> omega
  refine g_if_ne C (pc := 5) 10 (by omega) (by decide) dX2_leastWithout_5 (fun c5 => ?_) (fun c5 => ?_)
  · have hh : hasb p z0 = true := by
      rcases hz with ⟨_, h⟩ | ⟨h, _⟩
      · exact h
      · omega
    obtain ⟨i, hi8, rfl, hbit⟩ := hasb_of hh
    refine g_aload_n C (pc := 10) 0 rfl rfl dX2_leastWithout_10 ?_
    refine mg_sizes C (pc := 11) dX2_leastWithout_11 ?_
    refine g_iload_n C (pc := 14) 1 rfl rfl dX2_leastWithout_14 ?_
    refine ml_sizes C (pc := 15) i (by omega) (by omega) dX2_leastWithout_15 ?_
    refine g_top C (y := (g i)) (mz_yes hbit) ?_
    refine g_istore_n C (pc := 16) [(0, .ref (a 0)), (1, .int (iI (i : Int))), (2, .int (iI (g i)))] [1, 2, 0] rfl (by decide) rfl dX2_leastWithout_16 ?_
    refine g_aload_n C (pc := 17) 0 rfl rfl dX2_leastWithout_17 ?_
    refine mg_sizes C (pc := 18) dX2_leastWithout_18 ?_
    refine g_iload_n C (pc := 21) 1 rfl rfl dX2_leastWithout_21 ?_
    refine g_iconst C (pc := 22) dX2_leastWithout_22 ?_
    refine ms_sizes C (pc := 23) i (by omega) (by omega) dX2_leastWithout_23 ?_
    rw [mz_rem hp]
    have hok2 : SzOk f0 (clr p (2 ^ i)) g := ⟨hR, clr_lt hp, hg, fun k hk hb => by
      rw [tb_clr hp, Bool.and_eq_true] at hb
      exact hsz k hk hb.1⟩
    refine g_aload_n C (pc := 24) 0 rfl rfl dX2_leastWithout_24 ?_
    refine g_calli C (pc := 25) (n := 0) [] [] (mem_least l D cI cB a f0 f2 g3 g4 (clr p (2 ^ i)) g hok2) (lw_V q291 q264 q265 q25 q266) (by decide +kernel) (by decide) (by decide) rfl 0 1 rfl rfl rfl (Nat.le_of_ble_eq_true rfl) dX2_leastWithout_25 (fun z u hu => ?_)
    obtain ⟨f2', g3', g4', rfl, hopz⟩ := hu
    refine g_istore_n C (pc := 28) [(0, .ref (a 0)), (1, .int (iI (i : Int))), (2, .int (iI (g i))), (3, .int (iI z))] [1, 2, 3, 0] rfl (by decide) rfl dX2_leastWithout_28 ?_
    refine g_aload_n C (pc := 29) 0 rfl rfl dX2_leastWithout_29 ?_
    refine mg_sizes C (pc := 30) dX2_leastWithout_30 ?_
    refine g_iload_n C (pc := 33) 1 rfl rfl dX2_leastWithout_33 ?_
    refine g_iload_n C (pc := 34) 2 rfl rfl dX2_leastWithout_34 ?_
    refine ms_sizes C (pc := 35) i (by omega) (by omega) dX2_leastWithout_35 ?_
    rw [mz_back hp hbit]
    refine g_iload_n C (pc := 36) 3 rfl rfl dX2_leastWithout_36 ?_
    exact hret _ _ _ _ dX2_leastWithout_37 rfl ⟨_, _, _, rfl, Or.inr ⟨i, hi8, rfl, hbit, hopz⟩⟩
  · refine g_iconst C (pc := 8) dX2_leastWithout_8 ?_
    have hh : hasb p z0 = false := by
      rcases hz with ⟨h, _⟩ | ⟨_, h⟩
      · omega
      · exact h
    exact hret _ _ _ _ dX2_leastWithout_9 rfl ⟨_, _, _, rfl, Or.inl ⟨hh, rfl⟩⟩
set_option maxHeartbeats 4000000 in
set_option maxRecDepth 100000 in
/-- spare() -/
theorem mem_spare (l : Launch) (D : va_G) (cI cB : ClassId) (a : Nat → Nat) (f0 : Int) (f2 : Int) (g3 : Nat → Int) (g4 : Nat → Int) (p : Nat) (g : Nat → Int) (hok : SzOk f0 p g) : MDi l yX2_spare cX2_spare 6 .int 3 [.ref (a 0)] D cI cB (WM a cI f0 (mz p g) f2 g3 g4) (fun z u => ∃ (f2' : Int) (g3' g4' : Nat → Int), u = (WM a cI f0 (mz p g) f2' g3' g4') ∧ ∃ K : Nat, Opt f0 (sel p 8 g) (fun _ => 0) 0 (K : Int) ∧ (0 ≤ z ∧ z ≤ f0) ∧ (z = 0 ∨ Cp f0 (z :: (sel p 8 g)) (fun _ => 0) K) ∧ ∀ x : Int, z < x → x ≤ f0 → ¬ Cp f0 (x :: (sel p 8 g)) (fun _ => 0) K) := by
  refine md_i [(0, .ref (a 0))] rfl (Nat.le_of_ble_eq_true rfl) rfl ?_
  intro A G C hret
  have C : Cx l RX2 cX2_spare 6 (rmD 3) D cI cB A 0 0 G := C
  obtain ⟨hR, hp, hg, hsz⟩ := id hok
  have hs := sz_it hok
  have hrk8 := rk_le p 8
  have hits := its_sel (p := p) g 8 (Nat.le_refl 8)
  have loop : ∀ (n1 c K : Nat) (sp mo : Int) (f : Nat → Nat) (gi : Nat → Int), c ≤ 4140 → 4140 < c + n1 → K ≤ 8 → (0 ≤ sp ∧ sp ≤ 60) → Opt f0 (sel p 8 g) (fun _ => 0) 0 (K : Int) → (∀ k, k < (rk p 8) → gi k = (it p k : Int)) → Enum (rk p 8) f mo c (fun g1 => mx (rk p 8) g1 = K → Fits f0 (rk p 8) (fun k => g (it p k)) g1 → ∀ c1, c1 < K → f0 - ld (rk p 8) g1 (fun k => g (it p k)) c1 ≤ sp) → (sp = 0 ∨ ∃ g1 c1, Rgs (rk p 8) g1 ∧ mx (rk p 8) g1 = K ∧ Fits f0 (rk p 8) (fun k => g (it p k)) g1 ∧ c1 < K ∧ sp = f0 - ld (rk p 8) g1 (fun k => g (it p k)) c1) → G [(0, .ref (a 0)), (1, .int (iI (K : Int))), (2, .int (iI sp)), (3, .int (iI mo)), (4, .int (iI (c : Int)))] (WM a cI f0 (mz p g) ((rk p 8 : Nat) : Int) gi (cf f)) 27 [] := by
    intro n1
    induction n1 with
    | zero => intro c K sp mo f gi h1 h2; exact absurd h2 (by omega)
    | succ n1 ih =>
      intro c K sp mo f gi h1 h2 hK8 hsp hopz hit hE0 hach
      have hmo : 0 ≤ mo ∧ mo ≤ 1 := by rcases hE0 with ⟨h, _⟩ | ⟨h, _⟩ <;> omega
      have hop : Opt f0 (its (rk p 8) (fun k => g (it p k))) (fun _ => 0) 0 (K : Int) := by rw [← hits]; exact hopz
      refine g_iload C (pc := 27) 4 rfl dX2_spare_27 ?_
      refine g_sipush C (pc := 29) dX2_spare_29 (by decide) ?_
      refine g_icmp_ge C (pc := 32) 101 (by omega) (by omega) (by decide) dX2_spare_32 (fun c32 => ?_) (fun c32 => ?_)
      · have hall : ∀ g1, Rgs (rk p 8) g1 → (fun g1 => mx (rk p 8) g1 = K → Fits f0 (rk p 8) (fun k => g (it p k)) g1 → ∀ c1, c1 < K → f0 - ld (rk p 8) g1 (fun k => g (it p k)) c1 ≤ sp) g1 := by
          rcases hE0 with ⟨h1, h2, h3, h4, _⟩ | ⟨_, h⟩
          · have h5 := rank_ok h3 (by omega)
            omega
          · exact h
        refine g_iload_n C (pc := 101) 2 rfl rfl dX2_spare_101 ?_
        exact hret _ _ _ _ dX2_spare_102 rfl ⟨_, _, _, rfl, K, hopz, by rw [hits]; exact spare_end (by omega) hs hop hall hach hsp.1⟩
      · refine g_iload_n C (pc := 35) 3 rfl rfl dX2_spare_35 ?_
        refine g_if_eq C (pc := 36) 101 (by omega) (by decide) dX2_spare_36 (fun c36 => ?_) (fun c36 => ?_)
        · have hall : ∀ g1, Rgs (rk p 8) g1 → (fun g1 => mx (rk p 8) g1 = K → Fits f0 (rk p 8) (fun k => g (it p k)) g1 → ∀ c1, c1 < K → f0 - ld (rk p 8) g1 (fun k => g (it p k)) c1 ≤ sp) g1 := by
            rcases hE0 with ⟨h1, h2, h3, h4, _⟩ | ⟨_, h⟩
            · have h5 := rank_ok h3 (by omega)
              omega
            · exact h
          refine g_iload_n C (pc := 101) 2 rfl rfl dX2_spare_101 ?_
          exact hret _ _ _ _ dX2_spare_102 rfl ⟨_, _, _, rfl, K, hopz, by rw [hits]; exact spare_end (by omega) hs hop hall hach hsp.1⟩
        · obtain ⟨hm1, hn0, hr, hcr, hT⟩ : mo = 1 ∧ 0 < (rk p 8) ∧ Rgs (rk p 8) f ∧ c ≤ rankf (rk p 8) f ∧ _ := by
            rcases hE0 with h | ⟨h, _⟩
            · exact h
            · omega
          have hml := mx_len hr
          have hmg := mx_gt f hn0
          refine g_aload_n C (pc := 39) 0 rfl rfl dX2_spare_39 ?_
          refine g_aload_n C (pc := 40) 0 rfl rfl dX2_spare_40 ?_
          refine mg_n C (pc := 41) dX2_spare_41 ?_
          refine g_calli C (pc := 44) (n := 1) [] [.int (iI ((rk p 8 : Nat) : Int))] (mem_greatest l D cI cB a f0 (mz p g) ((rk p 8 : Nat) : Int) gi f (rk p 8) (by omega) (fun j hj => by have h5 := rgs_le hr hj; omega)) (lw_V q271 q273 qs18 q25 q274) (by decide +kernel) (by decide) (by decide) rfl 0 1 rfl rfl rfl (Nat.le_of_ble_eq_true rfl) dX2_spare_44 (fun z u hu => ?_)
          obtain ⟨rfl, rfl⟩ := hu
          refine g_iconst C (pc := 47) dX2_spare_47 ?_
          refine g_iadd C (pc := 48) dX2_spare_48 ?_
          refine g_top C (y := ((mx (rk p 8) f) : Int)) (by omega) ?_
          refine g_iload_n C (pc := 49) 1 rfl rfl dX2_spare_49 ?_
          refine g_icmp_ne C (pc := 50) 90 (by omega) (by omega) (by decide) dX2_spare_50 (fun c50 => ?_) (fun c50 => ?_)
          · refine g_aload_n C (pc := 90) 0 rfl rfl dX2_spare_90 ?_
            refine g_calli C (pc := 91) (n := 0) [] [] (mem_next l D cI cB a f0 (mz p g) gi f (rk p 8) (by omega) hr) (lw_V q283 q285 qs21 q25 q286) (by decide +kernel) (by decide) (by decide) rfl 0 1 rfl rfl rfl (Nat.le_of_ble_eq_true rfl) dX2_spare_91 (fun zn u hu => ?_)
            obtain ⟨f', rfl, hx⟩ := hu
            have hz01 : 0 ≤ zn ∧ zn ≤ 1 := by rcases hx with ⟨h, _⟩ | ⟨h, _⟩ <;> omega
            refine g_istore_n C (pc := 94) [(0, .ref (a 0)), (1, .int (iI (K : Int))), (2, .int (iI sp)), (3, .int (iI zn)), (4, .int (iI (c : Int)))] [1, 2, 3, 0, 4] rfl (by decide) rfl dX2_spare_94 ?_
            refine g_iinc C (pc := 95) [(0, .ref (a 0)), (1, .int (iI (K : Int))), (2, .int (iI sp)), (3, .int (iI zn)), (4, .int (iI ((c : Int) + 1)))] [1, 2, 3, 4, 0] 4 rfl (by decide) rfl dX2_spare_95 ?_
            refine g_goto C (pc := 98) 27 (by decide) dX2_spare_98 ?_
            exact ih (c + 1) K sp zn f' gi (by omega) (by omega) hK8 (by omega) hopz hit (enum_next (T' := (fun g1 => mx (rk p 8) g1 = K → Fits f0 (rk p 8) (fun k => g (it p k)) g1 → ∀ c1, c1 < K → f0 - ld (rk p 8) g1 (fun k => g (it p k)) c1 ≤ sp)) hn0 hr hcr hT (fun g1 hg1 => hg1) (fun g1 e hm hf1 c1 hc1 => by rw [mx_ext (f := g1) (g := f) e] at hm; omega) hx) hach
          · refine g_aload_n C (pc := 53) 0 rfl rfl dX2_spare_53 ?_
            refine g_iconst C (pc := 54) dX2_spare_54 ?_
            refine g_calli C (pc := 55) (n := 1) [] [.int (iI 1)] (mem_extreme l D cI cB a f0 gi p g hok f hr hit hn0 1 (by omega)) (lw_V q275 q277 qs19 q25 q278) (by decide +kernel) (by decide) (by decide) rfl 0 1 rfl rfl rfl (Nat.le_of_ble_eq_true rfl) dX2_spare_55 (fun z u hu => ?_)
            obtain ⟨rfl, hEr, hE⟩ := hu
            refine g_aload_n C (pc := 58) 0 rfl rfl dX2_spare_58 ?_
            refine mg_room C (pc := 59) dX2_spare_59 ?_
            refine g_icmp_gt C (pc := 62) 90 (by omega) (by omega) (by decide) dX2_spare_62 (fun c62 => ?_) (fun c62 => ?_)
            · refine g_aload_n C (pc := 90) 0 rfl rfl dX2_spare_90 ?_
              refine g_calli C (pc := 91) (n := 0) [] [] (mem_next l D cI cB a f0 (mz p g) gi f (rk p 8) (by omega) hr) (lw_V q283 q285 qs21 q25 q286) (by decide +kernel) (by decide) (by decide) rfl 0 1 rfl rfl rfl (Nat.le_of_ble_eq_true rfl) dX2_spare_91 (fun zn u hu => ?_)
              obtain ⟨f', rfl, hx⟩ := hu
              have hz01 : 0 ≤ zn ∧ zn ≤ 1 := by rcases hx with ⟨h, _⟩ | ⟨h, _⟩ <;> omega
              refine g_istore_n C (pc := 94) [(0, .ref (a 0)), (1, .int (iI (K : Int))), (2, .int (iI sp)), (3, .int (iI zn)), (4, .int (iI (c : Int)))] [1, 2, 3, 0, 4] rfl (by decide) rfl dX2_spare_94 ?_
              refine g_iinc C (pc := 95) [(0, .ref (a 0)), (1, .int (iI (K : Int))), (2, .int (iI sp)), (3, .int (iI zn)), (4, .int (iI ((c : Int) + 1)))] [1, 2, 3, 4, 0] 4 rfl (by decide) rfl dX2_spare_95 ?_
              refine g_goto C (pc := 98) 27 (by decide) dX2_spare_98 ?_
              exact ih (c + 1) K sp zn f' gi (by omega) (by omega) hK8 (by omega) hopz hit (enum_next (T' := (fun g1 => mx (rk p 8) g1 = K → Fits f0 (rk p 8) (fun k => g (it p k)) g1 → ∀ c1, c1 < K → f0 - ld (rk p 8) g1 (fun k => g (it p k)) c1 ≤ sp)) hn0 hr hcr hT (fun g1 hg1 => hg1) (fun g1 e hm hf1 c1 hc1 => by
                obtain ⟨⟨b, hb1, hb2⟩, _⟩ := hE
                have h5 := fits_ext e hf1 b hb1
                omega) hx) hach
            · have hfits : Fits f0 (rk p 8) (fun k => g (it p k)) f := fun b hb => Int.le_trans ((hE.2 b hb).1 rfl) c62
              have hmK : mx (rk p 8) f = K := by omega
              refine g_aload_n C (pc := 65) 0 rfl rfl dX2_spare_65 ?_
              refine mg_room C (pc := 66) dX2_spare_66 ?_
              refine g_aload_n C (pc := 69) 0 rfl rfl dX2_spare_69 ?_
              refine g_iconst C (pc := 70) dX2_spare_70 ?_
              refine g_calli C (pc := 71) (n := 1) [.int (iI f0)] [.int (iI 0)] (mem_extreme l D cI cB a f0 gi p g hok f hr hit hn0 0 (by omega)) (lw_V q275 q277 qs19 q25 q278) (by decide +kernel) (by decide) (by decide) rfl 0 1 rfl rfl rfl (Nat.le_of_ble_eq_true rfl) dX2_spare_71 (fun y u hu => ?_)
              obtain ⟨rfl, hFr, hF⟩ := hu
              refine g_isub C (pc := 74) dX2_spare_74 ?_
              refine g_istore C (pc := 75) [(0, .ref (a 0)), (1, .int (iI (K : Int))), (2, .int (iI sp)), (3, .int (iI mo)), (4, .int (iI (c : Int))), (5, .int (iI (f0 - y)))] [1, 2, 3, 4, 5, 0] (by decide) rfl dX2_spare_75 ?_
              obtain ⟨cm, hcm1, hcm2⟩ := hF.1
              have hcm3 := hfits cm hcm1
              refine g_iload C (pc := 77) 5 rfl dX2_spare_77 ?_
              refine g_iload_n C (pc := 79) 2 rfl rfl dX2_spare_79 ?_
              refine g_icmp_le C (pc := 80) 88 (by omega) (by omega) (by decide) dX2_spare_80 (fun c80 => ?_) (fun c80 => ?_)
              · refine g_iload_n C (pc := 88) 2 rfl rfl dX2_spare_88 ?_
                refine g_istore_n C (pc := 89) [(0, .ref (a 0)), (1, .int (iI (K : Int))), (2, .int (iI sp)), (3, .int (iI mo)), (4, .int (iI (c : Int))), (5, .int (iI (f0 - y)))] [1, 2, 0, 3, 4, 5] rfl (by decide) rfl dX2_spare_89 ?_
                refine g_aload_n C (pc := 90) 0 rfl rfl dX2_spare_90 ?_
                refine g_calli C (pc := 91) (n := 0) [] [] (mem_next l D cI cB a f0 (mz p g) gi f (rk p 8) (by omega) hr) (lw_V q283 q285 qs21 q25 q286) (by decide +kernel) (by decide) (by decide) rfl 0 1 rfl rfl rfl (Nat.le_of_ble_eq_true rfl) dX2_spare_91 (fun zn u hu => ?_)
                obtain ⟨f', rfl, hx⟩ := hu
                have hz01 : 0 ≤ zn ∧ zn ≤ 1 := by rcases hx with ⟨h, _⟩ | ⟨h, _⟩ <;> omega
                refine g_istore_n C (pc := 94) [(0, .ref (a 0)), (1, .int (iI (K : Int))), (2, .int (iI sp)), (3, .int (iI zn)), (4, .int (iI (c : Int))), (5, .int (iI (f0 - y)))] [1, 2, 3, 0, 4, 5] rfl (by decide) rfl dX2_spare_94 ?_
                refine g_iinc C (pc := 95) [(0, .ref (a 0)), (1, .int (iI (K : Int))), (2, .int (iI sp)), (3, .int (iI zn)), (4, .int (iI ((c : Int) + 1))), (5, .int (iI (f0 - y)))] [1, 2, 3, 4, 0, 5] 4 rfl (by decide) rfl dX2_spare_95 ?_
                refine g_goto C (pc := 98) 27 (by decide) dX2_spare_98 ?_
                refine g_locals C [0, 1, 2, 3, 4] rfl ?_
                exact ih (c + 1) K sp zn f' gi (by omega) (by omega) hK8 (by omega) hopz hit (enum_next (T' := (fun g1 => mx (rk p 8) g1 = K → Fits f0 (rk p 8) (fun k => g (it p k)) g1 → ∀ c1, c1 < K → f0 - ld (rk p 8) g1 (fun k => g (it p k)) c1 ≤ sp)) hn0 hr hcr hT (fun g1 hg1 => hg1) (fun g1 e hm hf1 c1 hc1 => by
                  rw [ld_ext (f := g1) (g := f) _ e]
                  have h5 := (hF.2 c1 (by omega)).2 rfl
                  omega) hx) hach
              · refine g_iload C (pc := 83) 5 rfl dX2_spare_83 ?_
                refine g_goto C (pc := 85) 89 (by decide) dX2_spare_85 ?_
                refine g_istore_n C (pc := 89) [(0, .ref (a 0)), (1, .int (iI (K : Int))), (2, .int (iI (f0 - y))), (3, .int (iI mo)), (4, .int (iI (c : Int))), (5, .int (iI (f0 - y)))] [1, 2, 0, 3, 4, 5] rfl (by decide) rfl dX2_spare_89 ?_
                refine g_aload_n C (pc := 90) 0 rfl rfl dX2_spare_90 ?_
                refine g_calli C (pc := 91) (n := 0) [] [] (mem_next l D cI cB a f0 (mz p g) gi f (rk p 8) (by omega) hr) (lw_V q283 q285 qs21 q25 q286) (by decide +kernel) (by decide) (by decide) rfl 0 1 rfl rfl rfl (Nat.le_of_ble_eq_true rfl) dX2_spare_91 (fun zn u hu => ?_)
                obtain ⟨f', rfl, hx⟩ := hu
                have hz01 : 0 ≤ zn ∧ zn ≤ 1 := by rcases hx with ⟨h, _⟩ | ⟨h, _⟩ <;> omega
                refine g_istore_n C (pc := 94) [(0, .ref (a 0)), (1, .int (iI (K : Int))), (2, .int (iI (f0 - y))), (3, .int (iI zn)), (4, .int (iI (c : Int))), (5, .int (iI (f0 - y)))] [1, 2, 3, 0, 4, 5] rfl (by decide) rfl dX2_spare_94 ?_
                refine g_iinc C (pc := 95) [(0, .ref (a 0)), (1, .int (iI (K : Int))), (2, .int (iI (f0 - y))), (3, .int (iI zn)), (4, .int (iI ((c : Int) + 1))), (5, .int (iI (f0 - y)))] [1, 2, 3, 4, 0, 5] 4 rfl (by decide) rfl dX2_spare_95 ?_
                refine g_goto C (pc := 98) 27 (by decide) dX2_spare_98 ?_
                refine g_locals C [0, 1, 2, 3, 4] rfl ?_
                exact ih (c + 1) K (f0 - y) zn f' gi (by omega) (by omega) hK8 (by omega) hopz hit (enum_next (T' := (fun g1 => mx (rk p 8) g1 = K → Fits f0 (rk p 8) (fun k => g (it p k)) g1 → ∀ c1, c1 < K → f0 - ld (rk p 8) g1 (fun k => g (it p k)) c1 ≤ (f0 - y))) hn0 hr hcr hT (fun g1 hg1 hm hf1 c1 hc1 => by have h5 := hg1 hm hf1 c1 hc1; omega) (fun g1 e hm hf1 c1 hc1 => by
                  rw [ld_ext (f := g1) (g := f) _ e]
                  have h5 := (hF.2 c1 (by omega)).2 rfl
                  omega) hx) (Or.inr ⟨f, cm, hr, hmK, hfits, by omega, by rw [hcm2]⟩)
  refine g_aload_n C (pc := 0) 0 rfl rfl dX2_spare_0 ?_
  refine g_calli C (pc := 1) (n := 0) [] [] (mem_least l D cI cB a f0 f2 g3 g4 p g hok) (lw_V q291 q264 q265 q25 q266) (by decide +kernel) (by decide) (by decide) rfl 0 1 rfl rfl rfl (Nat.le_of_ble_eq_true rfl) dX2_spare_1 (fun z u hu => ?_)
  obtain ⟨f2', g3', g4', rfl, hopz⟩ := hu
  obtain ⟨K, rfl, hK0⟩ : ∃ K : Nat, z = K ∧ K ≤ 8 := by
    obtain ⟨⟨K1, e1, _, _⟩, h5⟩ := hopz
    rw [hits] at h5
    have h6 := h5 (0 + rk p 8) (Nat.zero_le _) (Cp_each 0 (rk p 8) (fun _ => by omega) (fun _ _ => rfl) (fun j hj => by have h7 := hs j hj; show 0 < g (it p j) ∧ g (it p j) ≤ f0; omega))
    exact ⟨K1, e1, by omega⟩
  have hop : Opt f0 (its (rk p 8) (fun k => g (it p k))) (fun _ => 0) 0 (K : Int) := by rw [← hits]; exact hopz
  refine g_istore_n C (pc := 4) [(0, .ref (a 0)), (1, .int (iI (K : Int)))] [1, 0] rfl (by decide) rfl dX2_spare_4 ?_
  refine g_aload_n C (pc := 5) 0 rfl rfl dX2_spare_5 ?_
  refine g_callv C (pc := 6) (n := 0) [] [] (mem_first l D cI cB a f0 f2' g3' g4' p g hok) (lw_V q267 q269 qs17 q25 q270) (by decide +kernel) (by decide) (by decide) rfl 0 1 rfl rfl rfl (Nat.le_of_ble_eq_true rfl) dX2_spare_6 (fun u hu => ?_)
  obtain ⟨gi, rfl, hit⟩ := hu
  refine g_iconst C (pc := 9) dX2_spare_9 ?_
  refine g_istore_n C (pc := 10) [(0, .ref (a 0)), (1, .int (iI (K : Int))), (2, .int (iI 0))] [1, 2, 0] rfl (by decide) rfl dX2_spare_10 ?_
  refine g_aload_n C (pc := 11) 0 rfl rfl dX2_spare_11 ?_
  refine mg_n C (pc := 12) dX2_spare_12 ?_
  refine g_if_le C (pc := 15) 22 (by omega) (by decide) dX2_spare_15 (fun c15 => ?_) (fun c15 => ?_)
  · refine g_iconst C (pc := 22) dX2_spare_22 ?_
    refine g_istore_n C (pc := 23) [(0, .ref (a 0)), (1, .int (iI (K : Int))), (2, .int (iI 0)), (3, .int (iI 0))] [1, 2, 3, 0] rfl (by decide) rfl dX2_spare_23 ?_
    refine g_iconst C (pc := 24) dX2_spare_24 ?_
    refine g_istore C (pc := 25) [(0, .ref (a 0)), (1, .int (iI (K : Int))), (2, .int (iI 0)), (3, .int (iI 0)), (4, .int (iI 0))] [1, 2, 3, 4, 0] (by decide) rfl dX2_spare_25 ?_
    have hn : rk p 8 = 0 := by omega
    have hK00 : K = 0 := by
      have h5 := hop.2 0 (Nat.le_refl 0) (by rw [hn]; exact fun b hb => absurd hb (Nat.not_lt_zero b))
      omega
    exact loop 4141 0 K 0 0 (fun _ => 0) gi (by omega) (by omega) hK0 (by omega) hopz hit (Or.inr ⟨rfl, fun g1 _ _ _ c1 hc1 => by omega⟩) (Or.inl rfl)
  · refine g_iconst C (pc := 18) dX2_spare_18 ?_
    refine g_goto C (pc := 19) 23 (by decide) dX2_spare_19 ?_
    refine g_istore_n C (pc := 23) [(0, .ref (a 0)), (1, .int (iI (K : Int))), (2, .int (iI 0)), (3, .int (iI 1))] [1, 2, 3, 0] rfl (by decide) rfl dX2_spare_23 ?_
    refine g_iconst C (pc := 24) dX2_spare_24 ?_
    refine g_istore C (pc := 25) [(0, .ref (a 0)), (1, .int (iI (K : Int))), (2, .int (iI 0)), (3, .int (iI 1)), (4, .int (iI 0))] [1, 2, 3, 4, 0] (by decide) rfl dX2_spare_25 ?_
    exact loop 4141 0 K 0 1 (fun _ => 0) gi (by omega) (by omega) hK0 (by omega) hopz hit (enum_0 (by omega)) (Or.inl rfl)
set_option maxHeartbeats 4000000 in
set_option maxRecDepth 100000 in
/-- sizeFor(count) -/
theorem mem_sizeFor (l : Launch) (D : va_G) (cI cB : ClassId) (a : Nat → Nat) (f0 : Int) (f2 : Int) (g3 : Nat → Int) (g4 : Nat → Int) (p : Nat) (g : Nat → Int) (hok : SzOk f0 p g) (n0 : Int) (hn0 : -2147483648 ≤ n0 ∧ n0 < 2147483648) : MDi l yX2_sizeFor cX2_sizeFor 6 .int 2 [.ref (a 0), .int (iI n0)] D cI cB (WM a cI f0 (mz p g) f2 g3 g4) (fun z u => ∃ (f2' : Int) (g3' g4' : Nat → Int), u = (WM a cI f0 (mz p g) f2' g3' g4') ∧ ((¬ ((1 ≤ n0 ∧ n0 ≤ 8) ∧ p ≠ 0) ∧ z = -1) ∨ (((1 ≤ n0 ∧ n0 ≤ 8) ∧ p ≠ 0) ∧ ∃ N : Nat, n0 = N ∧ 0 ≤ z ∧ Cp z (sel p 8 g) (fun _ => 0) N ∧ ∀ x : Int, x < z → ¬ Cp x (sel p 8 g) (fun _ => 0) N))) := by
  refine md_i [(0, .ref (a 0)), (1, .int (iI n0))] rfl (Nat.le_of_ble_eq_true rfl) rfl ?_
  intro A G C hret
  have C : Cx l RX2 cX2_sizeFor 6 (rmD 2) D cI cB A 0 0 G := C
  obtain ⟨hR, hp, hg, hsz⟩ := id hok
  have hs := sz_it hok
  have hrk8 := rk_le p 8
  have hits := its_sel (p := p) g 8 (Nat.le_refl 8)
  have hps := rk_pos hp
  have loop : ∀ (n1 c N : Nat) (le mo : Int) (f : Nat → Nat) (gi : Nat → Int), c ≤ 4140 → 4140 < c + n1 → n0 = (N : Int) → ((1 ≤ n0 ∧ n0 ≤ 8) ∧ p ≠ 0) → (-1 ≤ le ∧ le ≤ 480) → (∀ k, k < (rk p 8) → gi k = (it p k : Int)) → Enum (rk p 8) f mo c (fun g1 => mx (rk p 8) g1 ≤ N → 0 ≤ le ∧ ∃ b, b < mx (rk p 8) g1 ∧ le ≤ ld (rk p 8) g1 (fun k => g (it p k)) b) → (le = -1 ∨ ∃ g1, Rgs (rk p 8) g1 ∧ mx (rk p 8) g1 ≤ N ∧ ∀ b, b < mx (rk p 8) g1 → ld (rk p 8) g1 (fun k => g (it p k)) b ≤ le) → G [(0, .ref (a 0)), (1, .int (iI (N : Int))), (2, .int (iI le)), (3, .int (iI mo)), (4, .int (iI (c : Int)))] (WM a cI f0 (mz p g) ((rk p 8 : Nat) : Int) gi (cf f)) 33 [] := by
    intro n1
    induction n1 with
    | zero => intro c N le mo f gi h1 h2; exact absurd h2 (by omega)
    | succ n1 ih =>
      intro c N le mo f gi h1 h2 hN hokc hle hit hE0 hach
      have hmo : 0 ≤ mo ∧ mo ≤ 1 := by rcases hE0 with ⟨h, _⟩ | ⟨h, _⟩ <;> omega
      refine g_iload C (pc := 33) 4 rfl dX2_sizeFor_33 ?_
      refine g_sipush C (pc := 35) dX2_sizeFor_35 (by decide) ?_
      refine g_icmp_ge C (pc := 38) 94 (by omega) (by omega) (by decide) dX2_sizeFor_38 (fun c38 => ?_) (fun c38 => ?_)
      · have hall : ∀ g1, Rgs (rk p 8) g1 → (fun g1 => mx (rk p 8) g1 ≤ N → 0 ≤ le ∧ ∃ b, b < mx (rk p 8) g1 ∧ le ≤ ld (rk p 8) g1 (fun k => g (it p k)) b) g1 := by
          rcases hE0 with ⟨h1, h2, h3, h4, _⟩ | ⟨_, h⟩
          · have h5 := rank_ok h3 (by omega)
            omega
          · exact h
        refine g_iload_n C (pc := 94) 2 rfl rfl dX2_sizeFor_94 ?_
        exact hret _ _ _ _ dX2_sizeFor_95 rfl ⟨_, _, _, rfl, Or.inr ⟨hokc, N, hN, by rw [hits]; exact sizeFor_end (by omega) (hps.mpr hokc.2) hall hach⟩⟩
      · refine g_iload_n C (pc := 41) 3 rfl rfl dX2_sizeFor_41 ?_
        refine g_if_eq C (pc := 42) 94 (by omega) (by decide) dX2_sizeFor_42 (fun c42 => ?_) (fun c42 => ?_)
        · have hall : ∀ g1, Rgs (rk p 8) g1 → (fun g1 => mx (rk p 8) g1 ≤ N → 0 ≤ le ∧ ∃ b, b < mx (rk p 8) g1 ∧ le ≤ ld (rk p 8) g1 (fun k => g (it p k)) b) g1 := by
            rcases hE0 with ⟨h1, h2, h3, h4, _⟩ | ⟨_, h⟩
            · have h5 := rank_ok h3 (by omega)
              omega
            · exact h
          refine g_iload_n C (pc := 94) 2 rfl rfl dX2_sizeFor_94 ?_
          exact hret _ _ _ _ dX2_sizeFor_95 rfl ⟨_, _, _, rfl, Or.inr ⟨hokc, N, hN, by rw [hits]; exact sizeFor_end (by omega) (hps.mpr hokc.2) hall hach⟩⟩
        · obtain ⟨hm1, hn0, hr, hcr, hT⟩ : mo = 1 ∧ 0 < (rk p 8) ∧ Rgs (rk p 8) f ∧ c ≤ rankf (rk p 8) f ∧ _ := by
            rcases hE0 with h | ⟨h, _⟩
            · exact h
            · omega
          have hml := mx_len hr
          have hmg := mx_gt f hn0
          refine g_aload_n C (pc := 45) 0 rfl rfl dX2_sizeFor_45 ?_
          refine g_aload_n C (pc := 46) 0 rfl rfl dX2_sizeFor_46 ?_
          refine mg_n C (pc := 47) dX2_sizeFor_47 ?_
          refine g_calli C (pc := 50) (n := 1) [] [.int (iI ((rk p 8 : Nat) : Int))] (mem_greatest l D cI cB a f0 (mz p g) ((rk p 8 : Nat) : Int) gi f (rk p 8) (by omega) (fun j hj => by have h5 := rgs_le hr hj; omega)) (lw_V q271 q273 qs18 q25 q274) (by decide +kernel) (by decide) (by decide) rfl 0 1 rfl rfl rfl (Nat.le_of_ble_eq_true rfl) dX2_sizeFor_50 (fun z u hu => ?_)
          obtain ⟨rfl, rfl⟩ := hu
          refine g_iconst C (pc := 53) dX2_sizeFor_53 ?_
          refine g_iadd C (pc := 54) dX2_sizeFor_54 ?_
          refine g_top C (y := ((mx (rk p 8) f) : Int)) (by omega) ?_
          refine g_iload_n C (pc := 55) 1 rfl rfl dX2_sizeFor_55 ?_
          refine g_icmp_gt C (pc := 56) 83 (by omega) (by omega) (by decide) dX2_sizeFor_56 (fun c56 => ?_) (fun c56 => ?_)
          · refine g_aload_n C (pc := 83) 0 rfl rfl dX2_sizeFor_83 ?_
            refine g_calli C (pc := 84) (n := 0) [] [] (mem_next l D cI cB a f0 (mz p g) gi f (rk p 8) (by omega) hr) (lw_V q283 q285 qs21 q25 q286) (by decide +kernel) (by decide) (by decide) rfl 0 1 rfl rfl rfl (Nat.le_of_ble_eq_true rfl) dX2_sizeFor_84 (fun zn u hu => ?_)
            obtain ⟨f', rfl, hx⟩ := hu
            have hz01 : 0 ≤ zn ∧ zn ≤ 1 := by rcases hx with ⟨h, _⟩ | ⟨h, _⟩ <;> omega
            refine g_istore_n C (pc := 87) [(0, .ref (a 0)), (1, .int (iI (N : Int))), (2, .int (iI le)), (3, .int (iI zn)), (4, .int (iI (c : Int)))] [1, 2, 3, 0, 4] rfl (by decide) rfl dX2_sizeFor_87 ?_
            refine g_iinc C (pc := 88) [(0, .ref (a 0)), (1, .int (iI (N : Int))), (2, .int (iI le)), (3, .int (iI zn)), (4, .int (iI ((c : Int) + 1)))] [1, 2, 3, 4, 0] 4 rfl (by decide) rfl dX2_sizeFor_88 ?_
            refine g_goto C (pc := 91) 33 (by decide) dX2_sizeFor_91 ?_
            exact ih (c + 1) N le zn f' gi (by omega) (by omega) hN hokc (by omega) hit (enum_next (T' := (fun g1 => mx (rk p 8) g1 ≤ N → 0 ≤ le ∧ ∃ b, b < mx (rk p 8) g1 ∧ le ≤ ld (rk p 8) g1 (fun k => g (it p k)) b)) hn0 hr hcr hT (fun g1 hg1 => hg1) (fun g1 e hm => by rw [mx_ext (f := g1) (g := f) e] at hm; omega) hx) hach
          · refine g_aload_n C (pc := 59) 0 rfl rfl dX2_sizeFor_59 ?_
            refine g_iconst C (pc := 60) dX2_sizeFor_60 ?_
            refine g_calli C (pc := 61) (n := 1) [] [.int (iI 1)] (mem_extreme l D cI cB a f0 gi p g hok f hr hit hn0 1 (by omega)) (lw_V q275 q277 qs19 q25 q278) (by decide +kernel) (by decide) (by decide) rfl 0 1 rfl rfl rfl (Nat.le_of_ble_eq_true rfl) dX2_sizeFor_61 (fun z u hu => ?_)
            obtain ⟨rfl, hEr, hE⟩ := hu
            obtain ⟨cm, hcm1, hcm2⟩ := hE.1
            refine g_istore C (pc := 64) [(0, .ref (a 0)), (1, .int (iI (N : Int))), (2, .int (iI le)), (3, .int (iI mo)), (4, .int (iI (c : Int))), (5, .int (iI z))] [1, 2, 3, 4, 5, 0] (by decide) rfl dX2_sizeFor_64 ?_
            refine g_iload_n C (pc := 66) 2 rfl rfl dX2_sizeFor_66 ?_
            refine g_if_lt C (pc := 67) 76 (by omega) (by decide) dX2_sizeFor_67 (fun c67 => ?_) (fun c67 => ?_)
            · refine g_iload C (pc := 76) 5 rfl dX2_sizeFor_76 ?_
              refine g_goto C (pc := 78) 82 (by decide) dX2_sizeFor_78 ?_
              refine g_istore_n C (pc := 82) [(0, .ref (a 0)), (1, .int (iI (N : Int))), (2, .int (iI z)), (3, .int (iI mo)), (4, .int (iI (c : Int))), (5, .int (iI z))] [1, 2, 0, 3, 4, 5] rfl (by decide) rfl dX2_sizeFor_82 ?_
              refine g_aload_n C (pc := 83) 0 rfl rfl dX2_sizeFor_83 ?_
              refine g_calli C (pc := 84) (n := 0) [] [] (mem_next l D cI cB a f0 (mz p g) gi f (rk p 8) (by omega) hr) (lw_V q283 q285 qs21 q25 q286) (by decide +kernel) (by decide) (by decide) rfl 0 1 rfl rfl rfl (Nat.le_of_ble_eq_true rfl) dX2_sizeFor_84 (fun zn u hu => ?_)
              obtain ⟨f', rfl, hx⟩ := hu
              have hz01 : 0 ≤ zn ∧ zn ≤ 1 := by rcases hx with ⟨h, _⟩ | ⟨h, _⟩ <;> omega
              refine g_istore_n C (pc := 87) [(0, .ref (a 0)), (1, .int (iI (N : Int))), (2, .int (iI z)), (3, .int (iI zn)), (4, .int (iI (c : Int))), (5, .int (iI z))] [1, 2, 3, 0, 4, 5] rfl (by decide) rfl dX2_sizeFor_87 ?_
              refine g_iinc C (pc := 88) [(0, .ref (a 0)), (1, .int (iI (N : Int))), (2, .int (iI z)), (3, .int (iI zn)), (4, .int (iI ((c : Int) + 1))), (5, .int (iI z))] [1, 2, 3, 4, 0, 5] 4 rfl (by decide) rfl dX2_sizeFor_88 ?_
              refine g_goto C (pc := 91) 33 (by decide) dX2_sizeFor_91 ?_
              refine g_locals C [0, 1, 2, 3, 4] rfl ?_
              exact ih (c + 1) N z zn f' gi (by omega) (by omega) hN hokc (by omega) hit (enum_next (T' := (fun g1 => mx (rk p 8) g1 ≤ N → 0 ≤ z ∧ ∃ b, b < mx (rk p 8) g1 ∧ z ≤ ld (rk p 8) g1 (fun k => g (it p k)) b)) hn0 hr hcr hT (fun g1 hg1 hm => by
                obtain ⟨h5, b, hb1, hb2⟩ := hg1 hm
                exact ⟨by omega, b, hb1, by omega⟩) (fun g1 e hm => by
                rw [mx_ext (f := g1) (g := f) e, ld_ext (f := g1) (g := f) _ e]
                exact ⟨by omega, cm, hcm1, by omega⟩) hx) (Or.inr ⟨f, hr, by omega, fun b hb => (hE.2 b hb).1 rfl⟩)
            · refine g_iload C (pc := 70) 5 rfl dX2_sizeFor_70 ?_
              refine g_iload_n C (pc := 72) 2 rfl rfl dX2_sizeFor_72 ?_
              refine g_icmp_ge C (pc := 73) 81 (by omega) (by omega) (by decide) dX2_sizeFor_73 (fun c73 => ?_) (fun c73 => ?_)
              · refine g_iload_n C (pc := 81) 2 rfl rfl dX2_sizeFor_81 ?_
                refine g_istore_n C (pc := 82) [(0, .ref (a 0)), (1, .int (iI (N : Int))), (2, .int (iI le)), (3, .int (iI mo)), (4, .int (iI (c : Int))), (5, .int (iI z))] [1, 2, 0, 3, 4, 5] rfl (by decide) rfl dX2_sizeFor_82 ?_
                refine g_aload_n C (pc := 83) 0 rfl rfl dX2_sizeFor_83 ?_
                refine g_calli C (pc := 84) (n := 0) [] [] (mem_next l D cI cB a f0 (mz p g) gi f (rk p 8) (by omega) hr) (lw_V q283 q285 qs21 q25 q286) (by decide +kernel) (by decide) (by decide) rfl 0 1 rfl rfl rfl (Nat.le_of_ble_eq_true rfl) dX2_sizeFor_84 (fun zn u hu => ?_)
                obtain ⟨f', rfl, hx⟩ := hu
                have hz01 : 0 ≤ zn ∧ zn ≤ 1 := by rcases hx with ⟨h, _⟩ | ⟨h, _⟩ <;> omega
                refine g_istore_n C (pc := 87) [(0, .ref (a 0)), (1, .int (iI (N : Int))), (2, .int (iI le)), (3, .int (iI zn)), (4, .int (iI (c : Int))), (5, .int (iI z))] [1, 2, 3, 0, 4, 5] rfl (by decide) rfl dX2_sizeFor_87 ?_
                refine g_iinc C (pc := 88) [(0, .ref (a 0)), (1, .int (iI (N : Int))), (2, .int (iI le)), (3, .int (iI zn)), (4, .int (iI ((c : Int) + 1))), (5, .int (iI z))] [1, 2, 3, 4, 0, 5] 4 rfl (by decide) rfl dX2_sizeFor_88 ?_
                refine g_goto C (pc := 91) 33 (by decide) dX2_sizeFor_91 ?_
                refine g_locals C [0, 1, 2, 3, 4] rfl ?_
                exact ih (c + 1) N le zn f' gi (by omega) (by omega) hN hokc (by omega) hit (enum_next (T' := (fun g1 => mx (rk p 8) g1 ≤ N → 0 ≤ le ∧ ∃ b, b < mx (rk p 8) g1 ∧ le ≤ ld (rk p 8) g1 (fun k => g (it p k)) b)) hn0 hr hcr hT (fun g1 hg1 => hg1) (fun g1 e hm => by
                  rw [mx_ext (f := g1) (g := f) e, ld_ext (f := g1) (g := f) _ e]
                  exact ⟨by omega, cm, hcm1, by omega⟩) hx) hach
              · refine g_iload C (pc := 76) 5 rfl dX2_sizeFor_76 ?_
                refine g_goto C (pc := 78) 82 (by decide) dX2_sizeFor_78 ?_
                refine g_istore_n C (pc := 82) [(0, .ref (a 0)), (1, .int (iI (N : Int))), (2, .int (iI z)), (3, .int (iI mo)), (4, .int (iI (c : Int))), (5, .int (iI z))] [1, 2, 0, 3, 4, 5] rfl (by decide) rfl dX2_sizeFor_82 ?_
                refine g_aload_n C (pc := 83) 0 rfl rfl dX2_sizeFor_83 ?_
                refine g_calli C (pc := 84) (n := 0) [] [] (mem_next l D cI cB a f0 (mz p g) gi f (rk p 8) (by omega) hr) (lw_V q283 q285 qs21 q25 q286) (by decide +kernel) (by decide) (by decide) rfl 0 1 rfl rfl rfl (Nat.le_of_ble_eq_true rfl) dX2_sizeFor_84 (fun zn u hu => ?_)
                obtain ⟨f', rfl, hx⟩ := hu
                have hz01 : 0 ≤ zn ∧ zn ≤ 1 := by rcases hx with ⟨h, _⟩ | ⟨h, _⟩ <;> omega
                refine g_istore_n C (pc := 87) [(0, .ref (a 0)), (1, .int (iI (N : Int))), (2, .int (iI z)), (3, .int (iI zn)), (4, .int (iI (c : Int))), (5, .int (iI z))] [1, 2, 3, 0, 4, 5] rfl (by decide) rfl dX2_sizeFor_87 ?_
                refine g_iinc C (pc := 88) [(0, .ref (a 0)), (1, .int (iI (N : Int))), (2, .int (iI z)), (3, .int (iI zn)), (4, .int (iI ((c : Int) + 1))), (5, .int (iI z))] [1, 2, 3, 4, 0, 5] 4 rfl (by decide) rfl dX2_sizeFor_88 ?_
                refine g_goto C (pc := 91) 33 (by decide) dX2_sizeFor_91 ?_
                refine g_locals C [0, 1, 2, 3, 4] rfl ?_
                exact ih (c + 1) N z zn f' gi (by omega) (by omega) hN hokc (by omega) hit (enum_next (T' := (fun g1 => mx (rk p 8) g1 ≤ N → 0 ≤ z ∧ ∃ b, b < mx (rk p 8) g1 ∧ z ≤ ld (rk p 8) g1 (fun k => g (it p k)) b)) hn0 hr hcr hT (fun g1 hg1 hm => by
                  obtain ⟨h5, b, hb1, hb2⟩ := hg1 hm
                  exact ⟨by omega, b, hb1, by omega⟩) (fun g1 e hm => by
                  rw [mx_ext (f := g1) (g := f) e, ld_ext (f := g1) (g := f) _ e]
                  exact ⟨by omega, cm, hcm1, by omega⟩) hx) (Or.inr ⟨f, hr, by omega, fun b hb => (hE.2 b hb).1 rfl⟩)
  refine g_aload_n C (pc := 0) 0 rfl rfl dX2_sizeFor_0 ?_
  refine g_callv C (pc := 1) (n := 0) [] [] (mem_first l D cI cB a f0 f2 g3 g4 p g hok) (lw_V q267 q269 qs17 q25 q270) (by decide +kernel) (by decide) (by decide) rfl 0 1 rfl rfl rfl (Nat.le_of_ble_eq_true rfl) dX2_sizeFor_1 (fun u hu => ?_)
  obtain ⟨gi, rfl, hit⟩ := hu
  refine g_iconst C (pc := 4) dX2_sizeFor_4 ?_
  refine g_istore_n C (pc := 5) [(0, .ref (a 0)), (1, .int (iI n0)), (2, .int (iI (-1)))] [1, 2, 0] rfl (by decide) rfl dX2_sizeFor_5 ?_
  refine g_aload_n C (pc := 6) 0 rfl rfl dX2_sizeFor_6 ?_
  refine mg_n C (pc := 7) dX2_sizeFor_7 ?_
  refine g_if_le C (pc := 10) 28 (by omega) (by decide) dX2_sizeFor_10 (fun c10 => ?_) (fun c10 => ?_)
  · refine g_iconst C (pc := 28) dX2_sizeFor_28 ?_
    refine g_istore_n C (pc := 29) [(0, .ref (a 0)), (1, .int (iI n0)), (2, .int (iI (-1))), (3, .int (iI 0))] [1, 2, 3, 0] rfl (by decide) rfl dX2_sizeFor_29 ?_
    refine g_iconst C (pc := 30) dX2_sizeFor_30 ?_
    refine g_istore C (pc := 31) [(0, .ref (a 0)), (1, .int (iI n0)), (2, .int (iI (-1))), (3, .int (iI 0)), (4, .int (iI 0))] [1, 2, 3, 4, 0] (by decide) rfl dX2_sizeFor_31 ?_
    have hno : ¬ ((1 ≤ n0 ∧ n0 ≤ 8) ∧ p ≠ 0) := fun h => by
      have h5 := hps.mpr h.2
      omega
    refine g_iload C (pc := 33) 4 rfl dX2_sizeFor_33 ?_
    refine g_sipush C (pc := 35) dX2_sizeFor_35 (by decide) ?_
    refine g_icmp_ge C (pc := 38) 94 (by omega) (by omega) (by decide) dX2_sizeFor_38 (fun c38 => ?_) (fun c38 => ?_)
    · refine g_iload_n C (pc := 94) 2 rfl rfl dX2_sizeFor_94 ?_
      exact hret _ _ _ _ dX2_sizeFor_95 rfl ⟨_, _, _, rfl, Or.inl ⟨hno, rfl⟩⟩
    · refine g_iload_n C (pc := 41) 3 rfl rfl dX2_sizeFor_41 ?_
      refine g_if_eq C (pc := 42) 94 (by omega) (by decide) dX2_sizeFor_42 (fun c42 => ?_) (fun c42 => ?_)
      · refine g_iload_n C (pc := 94) 2 rfl rfl dX2_sizeFor_94 ?_
        exact hret _ _ _ _ dX2_sizeFor_95 rfl ⟨_, _, _, rfl, Or.inl ⟨hno, rfl⟩⟩
      · exact absurd rfl c42
  · refine g_iload_n C (pc := 13) 1 rfl rfl dX2_sizeFor_13 ?_
    refine g_iconst C (pc := 14) dX2_sizeFor_14 ?_
    refine g_icmp_lt C (pc := 15) 28 (by omega) (by omega) (by decide) dX2_sizeFor_15 (fun c15 => ?_) (fun c15 => ?_)
    · refine g_iconst C (pc := 28) dX2_sizeFor_28 ?_
      refine g_istore_n C (pc := 29) [(0, .ref (a 0)), (1, .int (iI n0)), (2, .int (iI (-1))), (3, .int (iI 0))] [1, 2, 3, 0] rfl (by decide) rfl dX2_sizeFor_29 ?_
      refine g_iconst C (pc := 30) dX2_sizeFor_30 ?_
      refine g_istore C (pc := 31) [(0, .ref (a 0)), (1, .int (iI n0)), (2, .int (iI (-1))), (3, .int (iI 0)), (4, .int (iI 0))] [1, 2, 3, 4, 0] (by decide) rfl dX2_sizeFor_31 ?_
      have hno : ¬ ((1 ≤ n0 ∧ n0 ≤ 8) ∧ p ≠ 0) := fun h => by
        have h5 := hps.mpr h.2
        omega
      refine g_iload C (pc := 33) 4 rfl dX2_sizeFor_33 ?_
      refine g_sipush C (pc := 35) dX2_sizeFor_35 (by decide) ?_
      refine g_icmp_ge C (pc := 38) 94 (by omega) (by omega) (by decide) dX2_sizeFor_38 (fun c38 => ?_) (fun c38 => ?_)
      · refine g_iload_n C (pc := 94) 2 rfl rfl dX2_sizeFor_94 ?_
        exact hret _ _ _ _ dX2_sizeFor_95 rfl ⟨_, _, _, rfl, Or.inl ⟨hno, rfl⟩⟩
      · refine g_iload_n C (pc := 41) 3 rfl rfl dX2_sizeFor_41 ?_
        refine g_if_eq C (pc := 42) 94 (by omega) (by decide) dX2_sizeFor_42 (fun c42 => ?_) (fun c42 => ?_)
        · refine g_iload_n C (pc := 94) 2 rfl rfl dX2_sizeFor_94 ?_
          exact hret _ _ _ _ dX2_sizeFor_95 rfl ⟨_, _, _, rfl, Or.inl ⟨hno, rfl⟩⟩
        · exact absurd rfl c42
    · refine g_iload_n C (pc := 18) 1 rfl rfl dX2_sizeFor_18 ?_
      refine g_bipush C (pc := 19) dX2_sizeFor_19 (by decide) ?_
      refine g_icmp_gt C (pc := 21) 28 (by omega) (by omega) (by decide) dX2_sizeFor_21 (fun c21 => ?_) (fun c21 => ?_)
      · refine g_iconst C (pc := 28) dX2_sizeFor_28 ?_
        refine g_istore_n C (pc := 29) [(0, .ref (a 0)), (1, .int (iI n0)), (2, .int (iI (-1))), (3, .int (iI 0))] [1, 2, 3, 0] rfl (by decide) rfl dX2_sizeFor_29 ?_
        refine g_iconst C (pc := 30) dX2_sizeFor_30 ?_
        refine g_istore C (pc := 31) [(0, .ref (a 0)), (1, .int (iI n0)), (2, .int (iI (-1))), (3, .int (iI 0)), (4, .int (iI 0))] [1, 2, 3, 4, 0] (by decide) rfl dX2_sizeFor_31 ?_
        have hno : ¬ ((1 ≤ n0 ∧ n0 ≤ 8) ∧ p ≠ 0) := fun h => by
          have h5 := hps.mpr h.2
          omega
        refine g_iload C (pc := 33) 4 rfl dX2_sizeFor_33 ?_
        refine g_sipush C (pc := 35) dX2_sizeFor_35 (by decide) ?_
        refine g_icmp_ge C (pc := 38) 94 (by omega) (by omega) (by decide) dX2_sizeFor_38 (fun c38 => ?_) (fun c38 => ?_)
        · refine g_iload_n C (pc := 94) 2 rfl rfl dX2_sizeFor_94 ?_
          exact hret _ _ _ _ dX2_sizeFor_95 rfl ⟨_, _, _, rfl, Or.inl ⟨hno, rfl⟩⟩
        · refine g_iload_n C (pc := 41) 3 rfl rfl dX2_sizeFor_41 ?_
          refine g_if_eq C (pc := 42) 94 (by omega) (by decide) dX2_sizeFor_42 (fun c42 => ?_) (fun c42 => ?_)
          · refine g_iload_n C (pc := 94) 2 rfl rfl dX2_sizeFor_94 ?_
            exact hret _ _ _ _ dX2_sizeFor_95 rfl ⟨_, _, _, rfl, Or.inl ⟨hno, rfl⟩⟩
          · exact absurd rfl c42
      · refine g_iconst C (pc := 24) dX2_sizeFor_24 ?_
        refine g_goto C (pc := 25) 29 (by decide) dX2_sizeFor_25 ?_
        refine g_istore_n C (pc := 29) [(0, .ref (a 0)), (1, .int (iI n0)), (2, .int (iI (-1))), (3, .int (iI 1))] [1, 2, 3, 0] rfl (by decide) rfl dX2_sizeFor_29 ?_
        refine g_iconst C (pc := 30) dX2_sizeFor_30 ?_
        refine g_istore C (pc := 31) [(0, .ref (a 0)), (1, .int (iI n0)), (2, .int (iI (-1))), (3, .int (iI 1)), (4, .int (iI 0))] [1, 2, 3, 4, 0] (by decide) rfl dX2_sizeFor_31 ?_
        obtain ⟨N, hN⟩ : ∃ N : Nat, n0 = (N : Int) := ⟨n0.toNat, by omega⟩
        subst hN
        exact loop 4141 0 N (-1) 1 (fun _ => 0) gi (by omega) (by omega) rfl ⟨by omega, hps.mp (by omega)⟩ (by omega) hit (enum_0 (by omega)) (Or.inl rfl)
set_option maxHeartbeats 4000000 in
set_option maxRecDepth 100000 in
/-- together(i, j) -/
theorem mem_together (l : Launch) (D : va_G) (cI cB : ClassId) (a : Nat → Nat) (f0 : Int) (f2 : Int) (g3 : Nat → Int) (g4 : Nat → Int) (p : Nat) (g : Nat → Int) (hok : SzOk f0 p g) (x0 y0 : Int) (hx0 : -2147483648 ≤ x0 ∧ x0 < 2147483648) (hy0 : -2147483648 ≤ y0 ∧ y0 < 2147483648) : MDi l yX2_together cX2_together 7 .boolean 3 [.ref (a 0), .int (iI x0), .int (iI y0)] D cI cB (WM a cI f0 (mz p g) f2 g3 g4) (fun z u => ∃ (f2' : Int) (g3' g4' : Nat → Int), u = (WM a cI f0 (mz p g) f2' g3' g4') ∧ (((hasb p x0 = false ∨ hasb p y0 = false ∨ x0 = y0) ∧ z = 0) ∨ ∃ i j K : Nat, i < 8 ∧ j < 8 ∧ x0 = i ∧ y0 = j ∧ i ≠ j ∧ p.testBit i = true ∧ p.testBit j = true ∧ Opt f0 (sel p 8 g) (fun _ => 0) 0 (K : Int) ∧ ((z = 1 ∧ Cp f0 ((g i + g j) :: sel (clr (clr p (2 ^ i)) (2 ^ j)) 8 g) (fun _ => 0) K) ∨ (z = 0 ∧ ¬ Cp f0 ((g i + g j) :: sel (clr (clr p (2 ^ i)) (2 ^ j)) 8 g) (fun _ => 0) K)))) := by
  refine md_i [(0, .ref (a 0)), (1, .int (iI x0)), (2, .int (iI y0))] rfl (Nat.le_of_ble_eq_true rfl) rfl ?_
  intro A G C hret
  have C : Cx l RX2 cX2_together 7 (rmD 3) D cI cB A 0 0 G := C
  obtain ⟨hR, hp, hg, hsz⟩ := id hok
  have hs := sz_it hok
  have hrk8 := rk_le p 8
  have hits := its_sel (p := p) g 8 (Nat.le_refl 8)
  have loop : ∀ (n1 c i j K : Nat) (fo mo : Int) (f : Nat → Nat) (gi : Nat → Int), c ≤ 4140 → 4140 < c + n1 → i < 8 → j < 8 → x0 = (i : Int) → y0 = (j : Int) → i ≠ j → p.testBit i = true → p.testBit j = true → K ≤ 8 → Opt f0 (sel p 8 g) (fun _ => 0) 0 (K : Int) → (∀ k, k < (rk p 8) → gi k = (it p k : Int)) → Enum (rk p 8) f mo c (fun g1 => (mx (rk p 8) g1 = K ∧ g1 (rk p i) = g1 (rk p j) ∧ Fits f0 (rk p 8) (fun k => g (it p k)) g1) → fo = 1) → (fo = 0 ∨ (fo = 1 ∧ ∃ g1, Rgs (rk p 8) g1 ∧ (mx (rk p 8) g1 = K ∧ g1 (rk p i) = g1 (rk p j) ∧ Fits f0 (rk p 8) (fun k => g (it p k)) g1))) → G [(0, .ref (a 0)), (1, .int (iI (i : Int))), (2, .int (iI (j : Int))), (3, .int (iI (K : Int))), (4, .int (iI fo)), (5, .int (iI mo)), (6, .int (iI (c : Int)))] (WM a cI f0 (mz p g) ((rk p 8 : Nat) : Int) gi (cf f)) 43 [] := by
    intro n1
    induction n1 with
    | zero => intro c i j K fo mo f gi h1 h2; exact absurd h2 (by omega)
    | succ n1 ih =>
      intro c i j K fo mo f gi h1 h2 hi8 hj8 hx0 hy0 hij hbi hbj hK8 hopz hit hE0 hach
      have hmo : 0 ≤ mo ∧ mo ≤ 1 := by rcases hE0 with ⟨h, _⟩ | ⟨h, _⟩ <;> omega
      have hfo : 0 ≤ fo ∧ fo ≤ 1 := by rcases hach with h | ⟨h, _⟩ <;> omega
      have hop : Opt f0 (its (rk p 8) (fun k => g (it p k))) (fun _ => 0) 0 (K : Int) := by rw [← hits]; exact hopz
      have hki := rk_lt hi8 hbi
      have hkj := rk_lt hj8 hbj
      refine g_iload C (pc := 43) 6 rfl dX2_together_43 ?_
      refine g_sipush C (pc := 45) dX2_together_45 (by decide) ?_
      refine g_icmp_ge C (pc := 48) 129 (by omega) (by omega) (by decide) dX2_together_48 (fun c48 => ?_) (fun c48 => ?_)
      · have hall : ∀ g1, Rgs (rk p 8) g1 → (fun g1 => (mx (rk p 8) g1 = K ∧ g1 (rk p i) = g1 (rk p j) ∧ Fits f0 (rk p 8) (fun k => g (it p k)) g1) → fo = 1) g1 := by
          rcases hE0 with ⟨h1, h2, h3, h4, _⟩ | ⟨_, h⟩
          · have h5 := rank_ok h3 (by omega)
            omega
          · exact h
        refine g_iload C (pc := 129) 4 rfl dX2_together_129 ?_
        have hiff := tog_iff (R := f0) (K := K) (g := g) hp hi8 hj8 hij hbi hbj
        have hnar : narrow .boolean (.int (iI fo)) = .int (iI fo) := by
          rcases hach with h | ⟨h, _⟩ <;> (rw [h]; rfl)
        refine hret _ _ _ _ dX2_together_131 hnar ⟨_, _, _, rfl, Or.inr ⟨i, j, K, hi8, hj8, hx0, hy0, hij, hbi, hbj, hopz, ?_⟩⟩
        by_cases hm : Cp f0 ((g i + g j) :: sel (clr (clr p (2 ^ i)) (2 ^ j)) 8 g) (fun _ => 0) K
        · refine Or.inl ⟨?_, hm⟩
          obtain ⟨f1, k1, k2, k3⟩ := hiff.mp hm
          obtain ⟨g1, q1, q2, q3, q4, _⟩ := neat k1 k3
          have q5 := opt_neat hop (fun j hj => by have h5 := mx_gt g1 hj; omega) q3 q2
          exact hall g1 q1 ⟨q5, q4 _ _ hki hkj k2, fun b hb => q3 b (by omega)⟩
        · refine Or.inr ⟨?_, hm⟩
          rcases hach with h | ⟨_, g1, q1, q2, q3, q4⟩
          · exact h
          · exact absurd (hiff.mpr ⟨g1, fun k hk => by have h5 := mx_gt g1 hk; omega, q3, fun b hb => q4 b (by omega)⟩) hm
      · refine g_iload C (pc := 51) 5 rfl dX2_together_51 ?_
        refine g_if_eq C (pc := 53) 129 (by omega) (by decide) dX2_together_53 (fun c53 => ?_) (fun c53 => ?_)
        · have hall : ∀ g1, Rgs (rk p 8) g1 → (fun g1 => (mx (rk p 8) g1 = K ∧ g1 (rk p i) = g1 (rk p j) ∧ Fits f0 (rk p 8) (fun k => g (it p k)) g1) → fo = 1) g1 := by
            rcases hE0 with ⟨h1, h2, h3, h4, _⟩ | ⟨_, h⟩
            · have h5 := rank_ok h3 (by omega)
              omega
            · exact h
          refine g_iload C (pc := 129) 4 rfl dX2_together_129 ?_
          have hiff := tog_iff (R := f0) (K := K) (g := g) hp hi8 hj8 hij hbi hbj
          have hnar : narrow .boolean (.int (iI fo)) = .int (iI fo) := by
            rcases hach with h | ⟨h, _⟩ <;> (rw [h]; rfl)
          refine hret _ _ _ _ dX2_together_131 hnar ⟨_, _, _, rfl, Or.inr ⟨i, j, K, hi8, hj8, hx0, hy0, hij, hbi, hbj, hopz, ?_⟩⟩
          by_cases hm : Cp f0 ((g i + g j) :: sel (clr (clr p (2 ^ i)) (2 ^ j)) 8 g) (fun _ => 0) K
          · refine Or.inl ⟨?_, hm⟩
            obtain ⟨f1, k1, k2, k3⟩ := hiff.mp hm
            obtain ⟨g1, q1, q2, q3, q4, _⟩ := neat k1 k3
            have q5 := opt_neat hop (fun j hj => by have h5 := mx_gt g1 hj; omega) q3 q2
            exact hall g1 q1 ⟨q5, q4 _ _ hki hkj k2, fun b hb => q3 b (by omega)⟩
          · refine Or.inr ⟨?_, hm⟩
            rcases hach with h | ⟨_, g1, q1, q2, q3, q4⟩
            · exact h
            · exact absurd (hiff.mpr ⟨g1, fun k hk => by have h5 := mx_gt g1 hk; omega, q3, fun b hb => q4 b (by omega)⟩) hm
        · obtain ⟨hm1, hn0, hr, hcr, hT⟩ : mo = 1 ∧ 0 < (rk p 8) ∧ Rgs (rk p 8) f ∧ c ≤ rankf (rk p 8) f ∧ _ := by
            rcases hE0 with h | ⟨h, _⟩
            · exact h
            · omega
          have hml := mx_len hr
          have hmg := mx_gt f hn0
          refine g_aload_n C (pc := 56) 0 rfl rfl dX2_together_56 ?_
          refine g_aload_n C (pc := 57) 0 rfl rfl dX2_together_57 ?_
          refine mg_n C (pc := 58) dX2_together_58 ?_
          refine g_calli C (pc := 61) (n := 1) [] [.int (iI ((rk p 8 : Nat) : Int))] (mem_greatest l D cI cB a f0 (mz p g) ((rk p 8 : Nat) : Int) gi f (rk p 8) (by omega) (fun j hj => by have h5 := rgs_le hr hj; omega)) (lw_V q271 q273 qs18 q25 q274) (by decide +kernel) (by decide) (by decide) rfl 0 1 rfl rfl rfl (Nat.le_of_ble_eq_true rfl) dX2_together_61 (fun z u hu => ?_)
          obtain ⟨rfl, rfl⟩ := hu
          refine g_iconst C (pc := 64) dX2_together_64 ?_
          refine g_iadd C (pc := 65) dX2_together_65 ?_
          refine g_top C (y := ((mx (rk p 8) f) : Int)) (by omega) ?_
          refine g_iload_n C (pc := 66) 3 rfl rfl dX2_together_66 ?_
          refine g_icmp_ne C (pc := 67) 117 (by omega) (by omega) (by decide) dX2_together_67 (fun c67 => ?_) (fun c67 => ?_)
          · refine g_aload_n C (pc := 117) 0 rfl rfl dX2_together_117 ?_
            refine g_calli C (pc := 118) (n := 0) [] [] (mem_next l D cI cB a f0 (mz p g) gi f (rk p 8) (by omega) hr) (lw_V q283 q285 qs21 q25 q286) (by decide +kernel) (by decide) (by decide) rfl 0 1 rfl rfl rfl (Nat.le_of_ble_eq_true rfl) dX2_together_118 (fun zn u hu => ?_)
            obtain ⟨f', rfl, hx⟩ := hu
            have hz01 : 0 ≤ zn ∧ zn ≤ 1 := by rcases hx with ⟨h, _⟩ | ⟨h, _⟩ <;> omega
            refine g_istore C (pc := 121) [(0, .ref (a 0)), (1, .int (iI (i : Int))), (2, .int (iI (j : Int))), (3, .int (iI (K : Int))), (4, .int (iI fo)), (5, .int (iI zn)), (6, .int (iI (c : Int)))] [1, 2, 3, 4, 5, 0, 6] (by decide) rfl dX2_together_121 ?_
            refine g_iinc C (pc := 123) [(0, .ref (a 0)), (1, .int (iI (i : Int))), (2, .int (iI (j : Int))), (3, .int (iI (K : Int))), (4, .int (iI fo)), (5, .int (iI zn)), (6, .int (iI ((c : Int) + 1)))] [1, 2, 3, 4, 5, 6, 0] 6 rfl (by decide) rfl dX2_together_123 ?_
            refine g_goto C (pc := 126) 43 (by decide) dX2_together_126 ?_
            exact ih (c + 1) i j K fo zn f' gi (by omega) (by omega) hi8 hj8 hx0 hy0 hij hbi hbj hK8 hopz hit (enum_next (T' := (fun g1 => (mx (rk p 8) g1 = K ∧ g1 (rk p i) = g1 (rk p j) ∧ Fits f0 (rk p 8) (fun k => g (it p k)) g1) → fo = 1)) hn0 hr hcr hT (fun g1 hg1 => hg1) (fun g1 e hp1 => by rw [mx_ext (f := g1) (g := f) e] at hp1; have h5 := hp1.1; omega) hx) hach
          · refine g_aload_n C (pc := 70) 0 rfl rfl dX2_together_70 ?_
            refine mg_bin C (pc := 71) dX2_together_71 ?_
            refine g_aload_n C (pc := 74) 0 rfl rfl dX2_together_74 ?_
            refine g_iload_n C (pc := 75) 1 rfl rfl dX2_together_75 ?_
            refine g_calli C (pc := 76) (n := 1) [.ref (a 3)] [.int (iI (i : Int))] (mem_rank l D cI cB a f0 ((rk p 8 : Nat) : Int) gi (cf f) p g hok i hi8) (lw_V q292 q294 qs22 q25 q295) (by decide +kernel) (by decide) (by decide) rfl 0 1 rfl rfl rfl (Nat.le_of_ble_eq_true rfl) dX2_together_76 (fun z u hu => ?_)
            obtain ⟨rfl, rfl⟩ := hu
            refine ml_bin C (pc := 79) (rk p i) (by omega) (by omega) dX2_together_79 ?_
            refine g_top C (y := ((f (rk p i)) : Int)) (rfl) ?_
            refine g_aload_n C (pc := 80) 0 rfl rfl dX2_together_80 ?_
            refine mg_bin C (pc := 81) dX2_together_81 ?_
            refine g_aload_n C (pc := 84) 0 rfl rfl dX2_together_84 ?_
            refine g_iload_n C (pc := 85) 2 rfl rfl dX2_together_85 ?_
            refine g_calli C (pc := 86) (n := 1) [.ref (a 3), .int (iI ((f (rk p i)) : Int))] [.int (iI (j : Int))] (mem_rank l D cI cB a f0 ((rk p 8 : Nat) : Int) gi (cf f) p g hok j hj8) (lw_V q292 q294 qs22 q25 q295) (by decide +kernel) (by decide) (by decide) rfl 0 1 rfl rfl rfl (Nat.le_of_ble_eq_true rfl) dX2_together_86 (fun z u hu => ?_)
            obtain ⟨rfl, rfl⟩ := hu
            refine ml_bin C (pc := 89) (rk p j) (by omega) (by omega) dX2_together_89 ?_
            refine g_top C (y := ((f (rk p j)) : Int)) (rfl) ?_
            have hfi := rgs_le hr hki
            have hfj := rgs_le hr hkj
            refine g_icmp_ne C (pc := 90) 117 (by omega) (by omega) (by decide) dX2_together_90 (fun c90 => ?_) (fun c90 => ?_)
            · refine g_aload_n C (pc := 117) 0 rfl rfl dX2_together_117 ?_
              refine g_calli C (pc := 118) (n := 0) [] [] (mem_next l D cI cB a f0 (mz p g) gi f (rk p 8) (by omega) hr) (lw_V q283 q285 qs21 q25 q286) (by decide +kernel) (by decide) (by decide) rfl 0 1 rfl rfl rfl (Nat.le_of_ble_eq_true rfl) dX2_together_118 (fun zn u hu => ?_)
              obtain ⟨f', rfl, hx⟩ := hu
              have hz01 : 0 ≤ zn ∧ zn ≤ 1 := by rcases hx with ⟨h, _⟩ | ⟨h, _⟩ <;> omega
              refine g_istore C (pc := 121) [(0, .ref (a 0)), (1, .int (iI (i : Int))), (2, .int (iI (j : Int))), (3, .int (iI (K : Int))), (4, .int (iI fo)), (5, .int (iI zn)), (6, .int (iI (c : Int)))] [1, 2, 3, 4, 5, 0, 6] (by decide) rfl dX2_together_121 ?_
              refine g_iinc C (pc := 123) [(0, .ref (a 0)), (1, .int (iI (i : Int))), (2, .int (iI (j : Int))), (3, .int (iI (K : Int))), (4, .int (iI fo)), (5, .int (iI zn)), (6, .int (iI ((c : Int) + 1)))] [1, 2, 3, 4, 5, 6, 0] 6 rfl (by decide) rfl dX2_together_123 ?_
              refine g_goto C (pc := 126) 43 (by decide) dX2_together_126 ?_
              exact ih (c + 1) i j K fo zn f' gi (by omega) (by omega) hi8 hj8 hx0 hy0 hij hbi hbj hK8 hopz hit (enum_next (T' := (fun g1 => (mx (rk p 8) g1 = K ∧ g1 (rk p i) = g1 (rk p j) ∧ Fits f0 (rk p 8) (fun k => g (it p k)) g1) → fo = 1)) hn0 hr hcr hT (fun g1 hg1 => hg1) (fun g1 e hp1 => by have h5 := hp1.2.1; rw [e _ hki, e _ hkj] at h5; omega) hx) hach
            · refine g_iload C (pc := 93) 4 rfl dX2_together_93 ?_
              refine g_if_ne C (pc := 95) 110 (by omega) (by decide) dX2_together_95 (fun c95 => ?_) (fun c95 => ?_)
              · have hfo1 : fo = 1 := by omega
                refine g_iconst C (pc := 110) dX2_together_110 ?_
                refine g_goto C (pc := 111) 115 (by decide) dX2_together_111 ?_
                refine g_istore C (pc := 115) [(0, .ref (a 0)), (1, .int (iI (i : Int))), (2, .int (iI (j : Int))), (3, .int (iI (K : Int))), (4, .int (iI 1)), (5, .int (iI mo)), (6, .int (iI (c : Int)))] [1, 2, 3, 4, 0, 5, 6] (by decide) rfl dX2_together_115 ?_
                refine g_aload_n C (pc := 117) 0 rfl rfl dX2_together_117 ?_
                refine g_calli C (pc := 118) (n := 0) [] [] (mem_next l D cI cB a f0 (mz p g) gi f (rk p 8) (by omega) hr) (lw_V q283 q285 qs21 q25 q286) (by decide +kernel) (by decide) (by decide) rfl 0 1 rfl rfl rfl (Nat.le_of_ble_eq_true rfl) dX2_together_118 (fun zn u hu => ?_)
                obtain ⟨f', rfl, hx⟩ := hu
                have hz01 : 0 ≤ zn ∧ zn ≤ 1 := by rcases hx with ⟨h, _⟩ | ⟨h, _⟩ <;> omega
                refine g_istore C (pc := 121) [(0, .ref (a 0)), (1, .int (iI (i : Int))), (2, .int (iI (j : Int))), (3, .int (iI (K : Int))), (4, .int (iI 1)), (5, .int (iI zn)), (6, .int (iI (c : Int)))] [1, 2, 3, 4, 5, 0, 6] (by decide) rfl dX2_together_121 ?_
                refine g_iinc C (pc := 123) [(0, .ref (a 0)), (1, .int (iI (i : Int))), (2, .int (iI (j : Int))), (3, .int (iI (K : Int))), (4, .int (iI 1)), (5, .int (iI zn)), (6, .int (iI ((c : Int) + 1)))] [1, 2, 3, 4, 5, 6, 0] 6 rfl (by decide) rfl dX2_together_123 ?_
                refine g_goto C (pc := 126) 43 (by decide) dX2_together_126 ?_
                exact ih (c + 1) i j K 1 zn f' gi (by omega) (by omega) hi8 hj8 hx0 hy0 hij hbi hbj hK8 hopz hit (enum_next (T' := (fun g1 => (mx (rk p 8) g1 = K ∧ g1 (rk p i) = g1 (rk p j) ∧ Fits f0 (rk p 8) (fun k => g (it p k)) g1) → 1 = 1)) hn0 hr hcr hT (fun g1 hg1 _ => rfl) (fun g1 e _ => rfl) hx) (by rw [hfo1] at hach; exact hach)
              · refine g_aload_n C (pc := 98) 0 rfl rfl dX2_together_98 ?_
                refine g_iconst C (pc := 99) dX2_together_99 ?_
                refine g_calli C (pc := 100) (n := 1) [] [.int (iI 1)] (mem_extreme l D cI cB a f0 gi p g hok f hr hit hn0 1 (by omega)) (lw_V q275 q277 qs19 q25 q278) (by decide +kernel) (by decide) (by decide) rfl 0 1 rfl rfl rfl (Nat.le_of_ble_eq_true rfl) dX2_together_100 (fun z u hu => ?_)
                obtain ⟨rfl, hEr, hE⟩ := hu
                refine g_aload_n C (pc := 103) 0 rfl rfl dX2_together_103 ?_
                refine mg_room C (pc := 104) dX2_together_104 ?_
                refine g_icmp_gt C (pc := 107) 114 (by omega) (by omega) (by decide) dX2_together_107 (fun c107 => ?_) (fun c107 => ?_)
                · have hfo0 : fo = 0 := by omega
                  refine g_iconst C (pc := 114) dX2_together_114 ?_
                  refine g_istore C (pc := 115) [(0, .ref (a 0)), (1, .int (iI (i : Int))), (2, .int (iI (j : Int))), (3, .int (iI (K : Int))), (4, .int (iI 0)), (5, .int (iI mo)), (6, .int (iI (c : Int)))] [1, 2, 3, 4, 0, 5, 6] (by decide) rfl dX2_together_115 ?_
                  refine g_aload_n C (pc := 117) 0 rfl rfl dX2_together_117 ?_
                  refine g_calli C (pc := 118) (n := 0) [] [] (mem_next l D cI cB a f0 (mz p g) gi f (rk p 8) (by omega) hr) (lw_V q283 q285 qs21 q25 q286) (by decide +kernel) (by decide) (by decide) rfl 0 1 rfl rfl rfl (Nat.le_of_ble_eq_true rfl) dX2_together_118 (fun zn u hu => ?_)
                  obtain ⟨f', rfl, hx⟩ := hu
                  have hz01 : 0 ≤ zn ∧ zn ≤ 1 := by rcases hx with ⟨h, _⟩ | ⟨h, _⟩ <;> omega
                  refine g_istore C (pc := 121) [(0, .ref (a 0)), (1, .int (iI (i : Int))), (2, .int (iI (j : Int))), (3, .int (iI (K : Int))), (4, .int (iI 0)), (5, .int (iI zn)), (6, .int (iI (c : Int)))] [1, 2, 3, 4, 5, 0, 6] (by decide) rfl dX2_together_121 ?_
                  refine g_iinc C (pc := 123) [(0, .ref (a 0)), (1, .int (iI (i : Int))), (2, .int (iI (j : Int))), (3, .int (iI (K : Int))), (4, .int (iI 0)), (5, .int (iI zn)), (6, .int (iI ((c : Int) + 1)))] [1, 2, 3, 4, 5, 6, 0] 6 rfl (by decide) rfl dX2_together_123 ?_
                  refine g_goto C (pc := 126) 43 (by decide) dX2_together_126 ?_
                  exact ih (c + 1) i j K 0 zn f' gi (by omega) (by omega) hi8 hj8 hx0 hy0 hij hbi hbj hK8 hopz hit (enum_next (T' := (fun g1 => (mx (rk p 8) g1 = K ∧ g1 (rk p i) = g1 (rk p j) ∧ Fits f0 (rk p 8) (fun k => g (it p k)) g1) → 0 = 1)) hn0 hr hcr hT (fun g1 hg1 hp1 => by have h5 := hg1 hp1; omega) (fun g1 e hp1 => by
                    obtain ⟨⟨b, hb1, hb2⟩, _⟩ := hE
                    have h5 := fits_ext e hp1.2.2 b hb1
                    omega) hx) (Or.inl rfl)
                · have hfits : Fits f0 (rk p 8) (fun k => g (it p k)) f := fun b hb => Int.le_trans ((hE.2 b hb).1 rfl) c107
                  refine g_iconst C (pc := 110) dX2_together_110 ?_
                  refine g_goto C (pc := 111) 115 (by decide) dX2_together_111 ?_
                  refine g_istore C (pc := 115) [(0, .ref (a 0)), (1, .int (iI (i : Int))), (2, .int (iI (j : Int))), (3, .int (iI (K : Int))), (4, .int (iI 1)), (5, .int (iI mo)), (6, .int (iI (c : Int)))] [1, 2, 3, 4, 0, 5, 6] (by decide) rfl dX2_together_115 ?_
                  refine g_aload_n C (pc := 117) 0 rfl rfl dX2_together_117 ?_
                  refine g_calli C (pc := 118) (n := 0) [] [] (mem_next l D cI cB a f0 (mz p g) gi f (rk p 8) (by omega) hr) (lw_V q283 q285 qs21 q25 q286) (by decide +kernel) (by decide) (by decide) rfl 0 1 rfl rfl rfl (Nat.le_of_ble_eq_true rfl) dX2_together_118 (fun zn u hu => ?_)
                  obtain ⟨f', rfl, hx⟩ := hu
                  have hz01 : 0 ≤ zn ∧ zn ≤ 1 := by rcases hx with ⟨h, _⟩ | ⟨h, _⟩ <;> omega
                  refine g_istore C (pc := 121) [(0, .ref (a 0)), (1, .int (iI (i : Int))), (2, .int (iI (j : Int))), (3, .int (iI (K : Int))), (4, .int (iI 1)), (5, .int (iI zn)), (6, .int (iI (c : Int)))] [1, 2, 3, 4, 5, 0, 6] (by decide) rfl dX2_together_121 ?_
                  refine g_iinc C (pc := 123) [(0, .ref (a 0)), (1, .int (iI (i : Int))), (2, .int (iI (j : Int))), (3, .int (iI (K : Int))), (4, .int (iI 1)), (5, .int (iI zn)), (6, .int (iI ((c : Int) + 1)))] [1, 2, 3, 4, 5, 6, 0] 6 rfl (by decide) rfl dX2_together_123 ?_
                  refine g_goto C (pc := 126) 43 (by decide) dX2_together_126 ?_
                  exact ih (c + 1) i j K 1 zn f' gi (by omega) (by omega) hi8 hj8 hx0 hy0 hij hbi hbj hK8 hopz hit (enum_next (T' := (fun g1 => (mx (rk p 8) g1 = K ∧ g1 (rk p i) = g1 (rk p j) ∧ Fits f0 (rk p 8) (fun k => g (it p k)) g1) → 1 = 1)) hn0 hr hcr hT (fun g1 hg1 _ => rfl) (fun g1 e _ => rfl) hx) (Or.inr ⟨rfl, f, hr, by omega, by omega, hfits⟩)
  refine g_aload_n C (pc := 0) 0 rfl rfl dX2_together_0 ?_
  refine g_calli C (pc := 1) (n := 0) [] [] (mem_least l D cI cB a f0 f2 g3 g4 p g hok) (lw_V q291 q264 q265 q25 q266) (by decide +kernel) (by decide) (by decide) rfl 0 1 rfl rfl rfl (Nat.le_of_ble_eq_true rfl) dX2_together_1 (fun z u hu => ?_)
  obtain ⟨f2', g3', g4', rfl, hopz⟩ := hu
  obtain ⟨K, rfl, hK0⟩ : ∃ K : Nat, z = K ∧ K ≤ 8 := by
    obtain ⟨⟨K1, e1, _, _⟩, h5⟩ := hopz
    rw [hits] at h5
    have h6 := h5 (0 + rk p 8) (Nat.zero_le _) (Cp_each 0 (rk p 8) (fun _ => by omega) (fun _ _ => rfl) (fun j hj => by have h7 := hs j hj; show 0 < g (it p j) ∧ g (it p j) ≤ f0; omega))
    exact ⟨K1, e1, by omega⟩
  have hop : Opt f0 (its (rk p 8) (fun k => g (it p k))) (fun _ => 0) 0 (K : Int) := by rw [← hits]; exact hopz
  refine g_istore_n C (pc := 4) [(0, .ref (a 0)), (1, .int (iI x0)), (2, .int (iI y0)), (3, .int (iI (K : Int)))] [1, 2, 3, 0] rfl (by decide) rfl dX2_together_4 ?_
  refine g_aload_n C (pc := 5) 0 rfl rfl dX2_together_5 ?_
  refine g_callv C (pc := 6) (n := 0) [] [] (mem_first l D cI cB a f0 f2' g3' g4' p g hok) (lw_V q267 q269 qs17 q25 q270) (by decide +kernel) (by decide) (by decide) rfl 0 1 rfl rfl rfl (Nat.le_of_ble_eq_true rfl) dX2_together_6 (fun u hu => ?_)
  obtain ⟨gi, rfl, hit⟩ := hu
  refine g_iconst C (pc := 9) dX2_together_9 ?_
  refine g_istore C (pc := 10) [(0, .ref (a 0)), (1, .int (iI x0)), (2, .int (iI y0)), (3, .int (iI (K : Int))), (4, .int (iI 0))] [1, 2, 3, 4, 0] (by decide) rfl dX2_together_10 ?_
  refine g_aload_n C (pc := 12) 0 rfl rfl dX2_together_12 ?_
  refine g_iload_n C (pc := 13) 1 rfl rfl dX2_together_13 ?_
  refine g_calli C (pc := 14) (n := 1) [] [.int (iI x0)] (mem_is l D cI cB a f0 ((rk p 8 : Nat) : Int) gi (cf (fun _ => 0)) p g hok x0 (by omega)) (lw_V q239 q241 qs16 q25 q242) (by decide +kernel) (by decide) (by decide) rfl 0 1 rfl rfl rfl (Nat.le_of_ble_eq_true rfl) dX2_together_14 (fun z1 u hu => ?_)
  obtain ⟨rfl, hz1⟩ := hu
  have hz12 : 0 ≤ z1 ∧ z1 ≤ 1 := by rcases hz1 with ⟨h, _⟩ | ⟨h, _⟩ <;> omega
  refine g_if_eq C (pc := 17) 37 (by omega) (by decide) dX2_together_17 (fun c17 => ?_) (fun c17 => ?_)
  · refine g_iconst C (pc := 37) dX2_together_37 ?_
    refine g_istore C (pc := 38) [(0, .ref (a 0)), (1, .int (iI x0)), (2, .int (iI y0)), (3, .int (iI (K : Int))), (4, .int (iI 0)), (5, .int (iI 0))] [1, 2, 3, 4, 5, 0] (by decide) rfl dX2_together_38 ?_
    refine g_iconst C (pc := 40) dX2_together_40 ?_
    refine g_istore C (pc := 41) [(0, .ref (a 0)), (1, .int (iI x0)), (2, .int (iI y0)), (3, .int (iI (K : Int))), (4, .int (iI 0)), (5, .int (iI 0)), (6, .int (iI 0))] [1, 2, 3, 4, 5, 6, 0] (by decide) rfl dX2_together_41 ?_
    have hh1 : hasb p x0 = false := by
      rcases hz1 with ⟨h, _⟩ | ⟨_, h⟩
      · omega
      · exact h
    refine g_iload C (pc := 43) 6 rfl dX2_together_43 ?_
    refine g_sipush C (pc := 45) dX2_together_45 (by decide) ?_
    refine g_icmp_ge C (pc := 48) 129 (by omega) (by omega) (by decide) dX2_together_48 (fun c48 => ?_) (fun c48 => ?_)
    · refine g_iload C (pc := 129) 4 rfl dX2_together_129 ?_
      exact hret _ _ _ _ dX2_together_131 rfl ⟨_, _, _, rfl, Or.inl ⟨Or.inl hh1, rfl⟩⟩
    · refine g_iload C (pc := 51) 5 rfl dX2_together_51 ?_
      refine g_if_eq C (pc := 53) 129 (by omega) (by decide) dX2_together_53 (fun c53 => ?_) (fun c53 => ?_)
      · refine g_iload C (pc := 129) 4 rfl dX2_together_129 ?_
        exact hret _ _ _ _ dX2_together_131 rfl ⟨_, _, _, rfl, Or.inl ⟨Or.inl hh1, rfl⟩⟩
      · exact absurd rfl c53
  · refine g_aload_n C (pc := 20) 0 rfl rfl dX2_together_20 ?_
    refine g_iload_n C (pc := 21) 2 rfl rfl dX2_together_21 ?_
    refine g_calli C (pc := 22) (n := 1) [] [.int (iI y0)] (mem_is l D cI cB a f0 ((rk p 8 : Nat) : Int) gi (cf (fun _ => 0)) p g hok y0 (by omega)) (lw_V q239 q241 qs16 q25 q242) (by decide +kernel) (by decide) (by decide) rfl 0 1 rfl rfl rfl (Nat.le_of_ble_eq_true rfl) dX2_together_22 (fun z3 u hu => ?_)
    obtain ⟨rfl, hz3⟩ := hu
    have hz32 : 0 ≤ z3 ∧ z3 ≤ 1 := by rcases hz3 with ⟨h, _⟩ | ⟨h, _⟩ <;> omega
    refine g_if_eq C (pc := 25) 37 (by omega) (by decide) dX2_together_25 (fun c25 => ?_) (fun c25 => ?_)
    · refine g_iconst C (pc := 37) dX2_together_37 ?_
      refine g_istore C (pc := 38) [(0, .ref (a 0)), (1, .int (iI x0)), (2, .int (iI y0)), (3, .int (iI (K : Int))), (4, .int (iI 0)), (5, .int (iI 0))] [1, 2, 3, 4, 5, 0] (by decide) rfl dX2_together_38 ?_
      refine g_iconst C (pc := 40) dX2_together_40 ?_
      refine g_istore C (pc := 41) [(0, .ref (a 0)), (1, .int (iI x0)), (2, .int (iI y0)), (3, .int (iI (K : Int))), (4, .int (iI 0)), (5, .int (iI 0)), (6, .int (iI 0))] [1, 2, 3, 4, 5, 6, 0] (by decide) rfl dX2_together_41 ?_
      have hh3 : hasb p y0 = false := by
        rcases hz3 with ⟨h, _⟩ | ⟨_, h⟩
        · omega
        · exact h
      refine g_iload C (pc := 43) 6 rfl dX2_together_43 ?_
      refine g_sipush C (pc := 45) dX2_together_45 (by decide) ?_
      refine g_icmp_ge C (pc := 48) 129 (by omega) (by omega) (by decide) dX2_together_48 (fun c48 => ?_) (fun c48 => ?_)
      · refine g_iload C (pc := 129) 4 rfl dX2_together_129 ?_
        exact hret _ _ _ _ dX2_together_131 rfl ⟨_, _, _, rfl, Or.inl ⟨Or.inr (Or.inl hh3), rfl⟩⟩
      · refine g_iload C (pc := 51) 5 rfl dX2_together_51 ?_
        refine g_if_eq C (pc := 53) 129 (by omega) (by decide) dX2_together_53 (fun c53 => ?_) (fun c53 => ?_)
        · refine g_iload C (pc := 129) 4 rfl dX2_together_129 ?_
          exact hret _ _ _ _ dX2_together_131 rfl ⟨_, _, _, rfl, Or.inl ⟨Or.inr (Or.inl hh3), rfl⟩⟩
        · exact absurd rfl c53
    · refine g_iload_n C (pc := 28) 1 rfl rfl dX2_together_28 ?_
      refine g_iload_n C (pc := 29) 2 rfl rfl dX2_together_29 ?_
      refine g_icmp_eq C (pc := 30) 37 (by omega) (by omega) (by decide) dX2_together_30 (fun c30 => ?_) (fun c30 => ?_)
      · refine g_iconst C (pc := 37) dX2_together_37 ?_
        refine g_istore C (pc := 38) [(0, .ref (a 0)), (1, .int (iI x0)), (2, .int (iI y0)), (3, .int (iI (K : Int))), (4, .int (iI 0)), (5, .int (iI 0))] [1, 2, 3, 4, 5, 0] (by decide) rfl dX2_together_38 ?_
        refine g_iconst C (pc := 40) dX2_together_40 ?_
        refine g_istore C (pc := 41) [(0, .ref (a 0)), (1, .int (iI x0)), (2, .int (iI y0)), (3, .int (iI (K : Int))), (4, .int (iI 0)), (5, .int (iI 0)), (6, .int (iI 0))] [1, 2, 3, 4, 5, 6, 0] (by decide) rfl dX2_together_41 ?_
        refine g_iload C (pc := 43) 6 rfl dX2_together_43 ?_
        refine g_sipush C (pc := 45) dX2_together_45 (by decide) ?_
        refine g_icmp_ge C (pc := 48) 129 (by omega) (by omega) (by decide) dX2_together_48 (fun c48 => ?_) (fun c48 => ?_)
        · refine g_iload C (pc := 129) 4 rfl dX2_together_129 ?_
          exact hret _ _ _ _ dX2_together_131 rfl ⟨_, _, _, rfl, Or.inl ⟨Or.inr (Or.inr c30), rfl⟩⟩
        · refine g_iload C (pc := 51) 5 rfl dX2_together_51 ?_
          refine g_if_eq C (pc := 53) 129 (by omega) (by decide) dX2_together_53 (fun c53 => ?_) (fun c53 => ?_)
          · refine g_iload C (pc := 129) 4 rfl dX2_together_129 ?_
            exact hret _ _ _ _ dX2_together_131 rfl ⟨_, _, _, rfl, Or.inl ⟨Or.inr (Or.inr c30), rfl⟩⟩
          · exact absurd rfl c53
      · refine g_iconst C (pc := 33) dX2_together_33 ?_
        refine g_goto C (pc := 34) 38 (by decide) dX2_together_34 ?_
        refine g_istore C (pc := 38) [(0, .ref (a 0)), (1, .int (iI x0)), (2, .int (iI y0)), (3, .int (iI (K : Int))), (4, .int (iI 0)), (5, .int (iI 1))] [1, 2, 3, 4, 5, 0] (by decide) rfl dX2_together_38 ?_
        refine g_iconst C (pc := 40) dX2_together_40 ?_
        refine g_istore C (pc := 41) [(0, .ref (a 0)), (1, .int (iI x0)), (2, .int (iI y0)), (3, .int (iI (K : Int))), (4, .int (iI 0)), (5, .int (iI 1)), (6, .int (iI 0))] [1, 2, 3, 4, 5, 6, 0] (by decide) rfl dX2_together_41 ?_
        have hh1 : hasb p x0 = true := by
          rcases hz1 with ⟨_, h⟩ | ⟨h, _⟩
          · exact h
          · omega
        have hh3 : hasb p y0 = true := by
          rcases hz3 with ⟨_, h⟩ | ⟨h, _⟩
          · exact h
          · omega
        obtain ⟨i, hi8, rfl, hbi⟩ := hasb_of hh1
        obtain ⟨j, hj8, rfl, hbj⟩ := hasb_of hh3
        have hki := rk_lt hi8 hbi
        exact loop 4141 0 i j K 0 1 (fun _ => 0) gi (by omega) (by omega) hi8 hj8 rfl rfl (by omega) hbi hbj hK0 hopz hit (enum_0 (by omega)) (Or.inl rfl)
end
section
/-- the size that a constructor takes -/
def clampR (z : Int) : Int := if z < 1 then 1 else if 60 < z then 60 else z
theorem arr_cls {D : va_G} {cl : List vw_C} {tys : List (ClassId × FieldType)} {s : State} {c1 c2 : ClassId} (h : va_K D cl tys s) (i j : Nat) (ty : FieldType) (hty : ty = .int ∨ ty = .byte) (hi : tys[i]? = some (c1, ty)) (hj : tys[j]? = some (c2, ty)) : c1 = c2 := by
  have h1 := (h.2 i _ hi).2
  have h2 := (h.2 j _ hj).2
  rcases hty with e | e
  · subst e
    exact Option.some.inj ((h1 : s.vm.findClass _ = some c1).symm.trans h2)
  · subst e
    exact Option.some.inj ((h1 : s.vm.findClass _ = some c1).symm.trans h2)
abbrev W0_desk (h0 : Nat) : va_W := [(h0, .inr (0, [.int (iI 0), .int (iI 0), .null, .int (iI 0), .int (iI 0), .null, .int (iI 0), .null, .int (iI 0), .null, .null, .int (iI 0), .null, .int (iI 0), .int (iI 0), .null]))]
set_option maxHeartbeats 4000000 in
set_option maxRecDepth 100000 in
/-- the constructor -/
theorem met_init_desk (l : Launch) (D : va_G) (cI cB : ClassId) (h0 sz : Nat) (z0 : Int) (hz : -2147483648 ≤ z0 ∧ z0 < 2147483648) : Met l yX1_init (ws_ yX1_init cX1_init 2 none) ({ frames := 1, cells := 7, slots := 112, locals := 12 } : Room) (va_Pc [.ref h0, .int (iI z0)] (fun U => U.heap.size = sz ∧ va_P D vwCl (W0_desk h0) U.heap ∧ va_K D vwCl (tyL cI cB) U ∧ va_D (fun _ => True) (W0_desk h0))) (va_Qv (fun (u : va_W) => ∃ a : Nat → Nat, a 0 = h0 ∧ u = (WD a cI cB (clampR z0) 0 (fun _ => 0) 0 0 (fun _ => 0) 0 (fun _ => 0) 0 (fun _ => 0) (fun _ => 0) 0 (fun _ => 0) 0 0 (fun _ => 0))) (fun u t => va_P D vwCl u t.heap ∧ va_K D vwCl (tyL cI cB) t ∧ va_D (va_A (W0_desk h0) sz) u) (va_A (W0_desk h0) sz)) 7 112 (va_A (W0_desk h0) sz) := by
  refine Met.ofW (cc := cX1_init) (maxL := 2) (ret := none) (by decide) rfl ?_
  intro p e s m args below meth c s₁ B hml hv
  obtain ⟨rfl, hsz, hP, hK, hD0⟩ := hv
  have hx := B.exec
  have hb := B.bytes
  have hr := B.returns
  have hts := atoms_spec (ws := ws_ yX1_init cX1_init 2 none) B.pre
  have hts : ∀ w ∈ lw_all, w.before _ s = true := fun w h => hts w (List.mem_cons_of_mem _ h)
  have hown : s.vm.findClass RX1 = some m.cls := findClass_of_methodNamed B.named
  have hlocks := B.notSynchronized
  have hin : meth.name = "<init>" := (name_of_methodNamed B.named B.method).1
  subst hsz
  have hD := hD0.self (sz := s.heap.size)
  generalize hAe : va_A (W0_desk h0) s.heap.size = A at hD ⊢
  have hA : ∀ q : Nat, s.heap.size ≤ q → A q := fun q h => by rw [← hAe]; exact Or.inr h
  have hS : va_S A s.heap s.heap [] := va_S.rf
  have hP : va_P D vwCl [(h0, .inr (0, [.int (iI 0), .int (iI 0), .null, .int (iI 0), .int (iI 0), .null, .int (iI 0), .null, .int (iI 0), .null, .null, .int (iI 0), .null, .int (iI 0), .int (iI 0), .null]))] s.heap := hP
  have hl := lv_entry ([.ref h0, .int (iI z0)]) (n := 2) (Nat.le_of_ble_eq_true rfl)
  rw [lg_entry_eq]
  generalize (lg_sl ([.ref h0, .int (iI z0)]) ++ List.replicate (2 - (lg_sl ([.ref h0, .int (iI z0)])).length) Slot.unset).toArray = ls at hl ⊢
  have hl : lv_has ls 2 [(0, .ref h0), (1, .int (iI z0))] := hl
  refine lv_aload_n hx hb dX1_init_0 rfl (lv_at hl 0 rfl) ?_
  refine W.objInit hx hb hown (hts _ q31) (hts _ q32) (hts _ q33) rfl (by rw [hml]; exact hl.1) rfl dX1_init_1 (Nat.le_of_ble_eq_true rfl) (Nat.le_of_ble_eq_true rfl) ?_
  refine W.eq (g2 := F0 m 4 ls []) rfl ?_
  refine lv_aload_n hx hb dX1_init_4 rfl (lv_at hl 0 rfl) ?_
  refine lv_bipush (v := 8) hx hb dX1_init_5 (by decide) ?_
  refine va_newa (atype := .byte) (n := 8) (N' := 8) (ty := .byte) (a0 := (8, .inl (fun k => iI ((fun _ => (0 : Int)) k)))) hx hb (hts _ q83) rfl hK hP hD hS hA (fun _ => rfl) (by decide) (by decide) (by decide) (Nat.le_of_ble_eq_true rfl) (Nat.le_of_ble_eq_true rfl) dX1_init_7 (fun q1 cA H hK hP hD hS => ?_)
  have eA : cB = cA := arr_cls hK 1 2 .byte (by decide) rfl rfl
  subst eA
  have hK : va_K D vwCl (tyL cI cB) s := hK.sub [0, 1] rfl
  have hP : va_P D vwCl [(h0, .inr (0, [.int (iI 0), .int (iI 0), .null, .int (iI 0), .int (iI 0), .null, .int (iI 0), .null, .int (iI 0), .null, .null, .int (iI 0), .null, .int (iI 0), .int (iI 0), .null])), (q1, .inl (cB, 8, .inl (fun k => iI ((fun _ => (0 : Int)) k))))] H := hP
  have hD : va_D A [(h0, .inr (0, [.int (iI 0), .int (iI 0), .null, .int (iI 0), .int (iI 0), .null, .int (iI 0), .null, .int (iI 0), .null, .null, .int (iI 0), .null, .int (iI 0), .int (iI 0), .null])), (q1, .inl (cB, 8, .inl (fun k => iI ((fun _ => (0 : Int)) k))))] := hD
  refine W.widen (k := 1) (n := 8) (Nat.le_of_ble_eq_true rfl) (Nat.le_of_ble_eq_true rfl) ?_
  refine va_putF (D := D) (ci := 0) (v := .ref q1) (ty := .array .byte) (C := RX1) (T := TX1) (N := 16) hx hb hts in_X1 tyX1 tyX1_ok nmX1 hown hK hP hD hS 0 rfl rfl 2 (by decide) (hts _ q36) (fun _ h9 => h9) rfl hin rfl (by decide +kernel) rfl rfl (Nat.le_of_ble_eq_true rfl) dX1_init_9 (fun H locs hP hD hS => ?_)
  have hP : va_P D vwCl [(h0, .inr (0, [.int (iI 0), .int (iI 0), .ref q1, .int (iI 0), .int (iI 0), .null, .int (iI 0), .null, .int (iI 0), .null, .null, .int (iI 0), .null, .int (iI 0), .int (iI 0), .null])), (q1, .inl (cB, 8, .inl (fun k => iI ((fun _ => (0 : Int)) k))))] H := hP
  have hD : va_D A [(h0, .inr (0, [.int (iI 0), .int (iI 0), .ref q1, .int (iI 0), .int (iI 0), .null, .int (iI 0), .null, .int (iI 0), .null, .null, .int (iI 0), .null, .int (iI 0), .int (iI 0), .null])), (q1, .inl (cB, 8, .inl (fun k => iI ((fun _ => (0 : Int)) k))))] := hD
  refine lv_aload_n hx hb dX1_init_12 rfl (lv_at hl 0 rfl) ?_
  refine lv_bipush (v := 16) hx hb dX1_init_13 (by decide) ?_
  refine va_newa (atype := .int) (n := 16) (N' := 16) (ty := .int) (a0 := (16, .inl (fun k => iI ((fun _ => (0 : Int)) k)))) hx hb (hts _ q84) rfl hK hP hD hS hA (fun _ => rfl) (by decide) (by decide) (by decide) (Nat.le_of_ble_eq_true rfl) (Nat.le_of_ble_eq_true rfl) dX1_init_15 (fun q2 cA H hK hP hD hS => ?_)
  have eA : cI = cA := arr_cls hK 0 2 .int (by decide) rfl rfl
  subst eA
  have hK : va_K D vwCl (tyL cI cB) s := hK.sub [0, 1] rfl
  have hP : va_P D vwCl [(h0, .inr (0, [.int (iI 0), .int (iI 0), .ref q1, .int (iI 0), .int (iI 0), .null, .int (iI 0), .null, .int (iI 0), .null, .null, .int (iI 0), .null, .int (iI 0), .int (iI 0), .null])), (q1, .inl (cB, 8, .inl (fun k => iI ((fun _ => (0 : Int)) k)))), (q2, .inl (cI, 16, .inl (fun k => iI ((fun _ => (0 : Int)) k))))] H := hP
  have hD : va_D A [(h0, .inr (0, [.int (iI 0), .int (iI 0), .ref q1, .int (iI 0), .int (iI 0), .null, .int (iI 0), .null, .int (iI 0), .null, .null, .int (iI 0), .null, .int (iI 0), .int (iI 0), .null])), (q1, .inl (cB, 8, .inl (fun k => iI ((fun _ => (0 : Int)) k)))), (q2, .inl (cI, 16, .inl (fun k => iI ((fun _ => (0 : Int)) k))))] := hD
  refine W.widen (k := 2) (n := 24) (Nat.le_of_ble_eq_true rfl) (Nat.le_of_ble_eq_true rfl) ?_
  refine va_putF (D := D) (ci := 0) (v := .ref q2) (ty := .array .int) (C := RX1) (T := TX1) (N := 16) hx hb hts in_X1 tyX1 tyX1_ok nmX1 hown hK hP hD hS 0 rfl rfl 5 (by decide) (hts _ q39) (fun _ h9 => h9) rfl hin rfl (by decide +kernel) rfl rfl (Nat.le_of_ble_eq_true rfl) dX1_init_17 (fun H locs hP hD hS => ?_)
  have hP : va_P D vwCl [(h0, .inr (0, [.int (iI 0), .int (iI 0), .ref q1, .int (iI 0), .int (iI 0), .ref q2, .int (iI 0), .null, .int (iI 0), .null, .null, .int (iI 0), .null, .int (iI 0), .int (iI 0), .null])), (q1, .inl (cB, 8, .inl (fun k => iI ((fun _ => (0 : Int)) k)))), (q2, .inl (cI, 16, .inl (fun k => iI ((fun _ => (0 : Int)) k))))] H := hP
  have hD : va_D A [(h0, .inr (0, [.int (iI 0), .int (iI 0), .ref q1, .int (iI 0), .int (iI 0), .ref q2, .int (iI 0), .null, .int (iI 0), .null, .null, .int (iI 0), .null, .int (iI 0), .int (iI 0), .null])), (q1, .inl (cB, 8, .inl (fun k => iI ((fun _ => (0 : Int)) k)))), (q2, .inl (cI, 16, .inl (fun k => iI ((fun _ => (0 : Int)) k))))] := hD
  refine lv_aload_n hx hb dX1_init_20 rfl (lv_at hl 0 rfl) ?_
  refine lv_bipush (v := 16) hx hb dX1_init_21 (by decide) ?_
  refine va_newa (atype := .int) (n := 16) (N' := 16) (ty := .int) (a0 := (16, .inl (fun k => iI ((fun _ => (0 : Int)) k)))) hx hb (hts _ q84) rfl hK hP hD hS hA (fun _ => rfl) (by decide) (by decide) (by decide) (Nat.le_of_ble_eq_true rfl) (Nat.le_of_ble_eq_true rfl) dX1_init_23 (fun q3 cA H hK hP hD hS => ?_)
  have eA : cI = cA := arr_cls hK 0 2 .int (by decide) rfl rfl
  subst eA
  have hK : va_K D vwCl (tyL cI cB) s := hK.sub [0, 1] rfl
  have hP : va_P D vwCl [(h0, .inr (0, [.int (iI 0), .int (iI 0), .ref q1, .int (iI 0), .int (iI 0), .ref q2, .int (iI 0), .null, .int (iI 0), .null, .null, .int (iI 0), .null, .int (iI 0), .int (iI 0), .null])), (q1, .inl (cB, 8, .inl (fun k => iI ((fun _ => (0 : Int)) k)))), (q2, .inl (cI, 16, .inl (fun k => iI ((fun _ => (0 : Int)) k)))), (q3, .inl (cI, 16, .inl (fun k => iI ((fun _ => (0 : Int)) k))))] H := hP
  have hD : va_D A [(h0, .inr (0, [.int (iI 0), .int (iI 0), .ref q1, .int (iI 0), .int (iI 0), .ref q2, .int (iI 0), .null, .int (iI 0), .null, .null, .int (iI 0), .null, .int (iI 0), .int (iI 0), .null])), (q1, .inl (cB, 8, .inl (fun k => iI ((fun _ => (0 : Int)) k)))), (q2, .inl (cI, 16, .inl (fun k => iI ((fun _ => (0 : Int)) k)))), (q3, .inl (cI, 16, .inl (fun k => iI ((fun _ => (0 : Int)) k))))] := hD
  refine W.widen (k := 3) (n := 40) (Nat.le_of_ble_eq_true rfl) (Nat.le_of_ble_eq_true rfl) ?_
  refine va_putF (D := D) (ci := 0) (v := .ref q3) (ty := .array .int) (C := RX1) (T := TX1) (N := 16) hx hb hts in_X1 tyX1 tyX1_ok nmX1 hown hK hP hD hS 0 rfl rfl 7 (by decide) (hts _ q41) (fun _ h9 => h9) rfl hin rfl (by decide +kernel) rfl rfl (Nat.le_of_ble_eq_true rfl) dX1_init_25 (fun H locs hP hD hS => ?_)
  have hP : va_P D vwCl [(h0, .inr (0, [.int (iI 0), .int (iI 0), .ref q1, .int (iI 0), .int (iI 0), .ref q2, .int (iI 0), .ref q3, .int (iI 0), .null, .null, .int (iI 0), .null, .int (iI 0), .int (iI 0), .null])), (q1, .inl (cB, 8, .inl (fun k => iI ((fun _ => (0 : Int)) k)))), (q2, .inl (cI, 16, .inl (fun k => iI ((fun _ => (0 : Int)) k)))), (q3, .inl (cI, 16, .inl (fun k => iI ((fun _ => (0 : Int)) k))))] H := hP
  have hD : va_D A [(h0, .inr (0, [.int (iI 0), .int (iI 0), .ref q1, .int (iI 0), .int (iI 0), .ref q2, .int (iI 0), .ref q3, .int (iI 0), .null, .null, .int (iI 0), .null, .int (iI 0), .int (iI 0), .null])), (q1, .inl (cB, 8, .inl (fun k => iI ((fun _ => (0 : Int)) k)))), (q2, .inl (cI, 16, .inl (fun k => iI ((fun _ => (0 : Int)) k)))), (q3, .inl (cI, 16, .inl (fun k => iI ((fun _ => (0 : Int)) k))))] := hD
  refine lv_aload_n hx hb dX1_init_28 rfl (lv_at hl 0 rfl) ?_
  refine lv_bipush (v := 16) hx hb dX1_init_29 (by decide) ?_
  refine va_newa (atype := .byte) (n := 16) (N' := 16) (ty := .byte) (a0 := (16, .inl (fun k => iI ((fun _ => (0 : Int)) k)))) hx hb (hts _ q83) rfl hK hP hD hS hA (fun _ => rfl) (by decide) (by decide) (by decide) (Nat.le_of_ble_eq_true rfl) (Nat.le_of_ble_eq_true rfl) dX1_init_31 (fun q4 cA H hK hP hD hS => ?_)
  have eA : cB = cA := arr_cls hK 1 2 .byte (by decide) rfl rfl
  subst eA
  have hK : va_K D vwCl (tyL cI cB) s := hK.sub [0, 1] rfl
  have hP : va_P D vwCl [(h0, .inr (0, [.int (iI 0), .int (iI 0), .ref q1, .int (iI 0), .int (iI 0), .ref q2, .int (iI 0), .ref q3, .int (iI 0), .null, .null, .int (iI 0), .null, .int (iI 0), .int (iI 0), .null])), (q1, .inl (cB, 8, .inl (fun k => iI ((fun _ => (0 : Int)) k)))), (q2, .inl (cI, 16, .inl (fun k => iI ((fun _ => (0 : Int)) k)))), (q3, .inl (cI, 16, .inl (fun k => iI ((fun _ => (0 : Int)) k)))), (q4, .inl (cB, 16, .inl (fun k => iI ((fun _ => (0 : Int)) k))))] H := hP
  have hD : va_D A [(h0, .inr (0, [.int (iI 0), .int (iI 0), .ref q1, .int (iI 0), .int (iI 0), .ref q2, .int (iI 0), .ref q3, .int (iI 0), .null, .null, .int (iI 0), .null, .int (iI 0), .int (iI 0), .null])), (q1, .inl (cB, 8, .inl (fun k => iI ((fun _ => (0 : Int)) k)))), (q2, .inl (cI, 16, .inl (fun k => iI ((fun _ => (0 : Int)) k)))), (q3, .inl (cI, 16, .inl (fun k => iI ((fun _ => (0 : Int)) k)))), (q4, .inl (cB, 16, .inl (fun k => iI ((fun _ => (0 : Int)) k))))] := hD
  refine W.widen (k := 4) (n := 56) (Nat.le_of_ble_eq_true rfl) (Nat.le_of_ble_eq_true rfl) ?_
  refine va_putF (D := D) (ci := 0) (v := .ref q4) (ty := .array .byte) (C := RX1) (T := TX1) (N := 16) hx hb hts in_X1 tyX1 tyX1_ok nmX1 hown hK hP hD hS 0 rfl rfl 9 (by decide) (hts _ q43) (fun _ h9 => h9) rfl hin rfl (by decide +kernel) rfl rfl (Nat.le_of_ble_eq_true rfl) dX1_init_33 (fun H locs hP hD hS => ?_)
  have hP : va_P D vwCl [(h0, .inr (0, [.int (iI 0), .int (iI 0), .ref q1, .int (iI 0), .int (iI 0), .ref q2, .int (iI 0), .ref q3, .int (iI 0), .ref q4, .null, .int (iI 0), .null, .int (iI 0), .int (iI 0), .null])), (q1, .inl (cB, 8, .inl (fun k => iI ((fun _ => (0 : Int)) k)))), (q2, .inl (cI, 16, .inl (fun k => iI ((fun _ => (0 : Int)) k)))), (q3, .inl (cI, 16, .inl (fun k => iI ((fun _ => (0 : Int)) k)))), (q4, .inl (cB, 16, .inl (fun k => iI ((fun _ => (0 : Int)) k))))] H := hP
  have hD : va_D A [(h0, .inr (0, [.int (iI 0), .int (iI 0), .ref q1, .int (iI 0), .int (iI 0), .ref q2, .int (iI 0), .ref q3, .int (iI 0), .ref q4, .null, .int (iI 0), .null, .int (iI 0), .int (iI 0), .null])), (q1, .inl (cB, 8, .inl (fun k => iI ((fun _ => (0 : Int)) k)))), (q2, .inl (cI, 16, .inl (fun k => iI ((fun _ => (0 : Int)) k)))), (q3, .inl (cI, 16, .inl (fun k => iI ((fun _ => (0 : Int)) k)))), (q4, .inl (cB, 16, .inl (fun k => iI ((fun _ => (0 : Int)) k))))] := hD
  refine lv_aload_n hx hb dX1_init_36 rfl (lv_at hl 0 rfl) ?_
  refine lv_bipush (v := 16) hx hb dX1_init_37 (by decide) ?_
  refine va_newa (atype := .byte) (n := 16) (N' := 16) (ty := .byte) (a0 := (16, .inl (fun k => iI ((fun _ => (0 : Int)) k)))) hx hb (hts _ q83) rfl hK hP hD hS hA (fun _ => rfl) (by decide) (by decide) (by decide) (Nat.le_of_ble_eq_true rfl) (Nat.le_of_ble_eq_true rfl) dX1_init_39 (fun q5 cA H hK hP hD hS => ?_)
  have eA : cB = cA := arr_cls hK 1 2 .byte (by decide) rfl rfl
  subst eA
  have hK : va_K D vwCl (tyL cI cB) s := hK.sub [0, 1] rfl
  have hP : va_P D vwCl [(h0, .inr (0, [.int (iI 0), .int (iI 0), .ref q1, .int (iI 0), .int (iI 0), .ref q2, .int (iI 0), .ref q3, .int (iI 0), .ref q4, .null, .int (iI 0), .null, .int (iI 0), .int (iI 0), .null])), (q1, .inl (cB, 8, .inl (fun k => iI ((fun _ => (0 : Int)) k)))), (q2, .inl (cI, 16, .inl (fun k => iI ((fun _ => (0 : Int)) k)))), (q3, .inl (cI, 16, .inl (fun k => iI ((fun _ => (0 : Int)) k)))), (q4, .inl (cB, 16, .inl (fun k => iI ((fun _ => (0 : Int)) k)))), (q5, .inl (cB, 16, .inl (fun k => iI ((fun _ => (0 : Int)) k))))] H := hP
  have hD : va_D A [(h0, .inr (0, [.int (iI 0), .int (iI 0), .ref q1, .int (iI 0), .int (iI 0), .ref q2, .int (iI 0), .ref q3, .int (iI 0), .ref q4, .null, .int (iI 0), .null, .int (iI 0), .int (iI 0), .null])), (q1, .inl (cB, 8, .inl (fun k => iI ((fun _ => (0 : Int)) k)))), (q2, .inl (cI, 16, .inl (fun k => iI ((fun _ => (0 : Int)) k)))), (q3, .inl (cI, 16, .inl (fun k => iI ((fun _ => (0 : Int)) k)))), (q4, .inl (cB, 16, .inl (fun k => iI ((fun _ => (0 : Int)) k)))), (q5, .inl (cB, 16, .inl (fun k => iI ((fun _ => (0 : Int)) k))))] := hD
  refine W.widen (k := 5) (n := 72) (Nat.le_of_ble_eq_true rfl) (Nat.le_of_ble_eq_true rfl) ?_
  refine va_putF (D := D) (ci := 0) (v := .ref q5) (ty := .array .byte) (C := RX1) (T := TX1) (N := 16) hx hb hts in_X1 tyX1 tyX1_ok nmX1 hown hK hP hD hS 0 rfl rfl 10 (by decide) (hts _ q44) (fun _ h9 => h9) rfl hin rfl (by decide +kernel) rfl rfl (Nat.le_of_ble_eq_true rfl) dX1_init_41 (fun H locs hP hD hS => ?_)
  have hP : va_P D vwCl [(h0, .inr (0, [.int (iI 0), .int (iI 0), .ref q1, .int (iI 0), .int (iI 0), .ref q2, .int (iI 0), .ref q3, .int (iI 0), .ref q4, .ref q5, .int (iI 0), .null, .int (iI 0), .int (iI 0), .null])), (q1, .inl (cB, 8, .inl (fun k => iI ((fun _ => (0 : Int)) k)))), (q2, .inl (cI, 16, .inl (fun k => iI ((fun _ => (0 : Int)) k)))), (q3, .inl (cI, 16, .inl (fun k => iI ((fun _ => (0 : Int)) k)))), (q4, .inl (cB, 16, .inl (fun k => iI ((fun _ => (0 : Int)) k)))), (q5, .inl (cB, 16, .inl (fun k => iI ((fun _ => (0 : Int)) k))))] H := hP
  have hD : va_D A [(h0, .inr (0, [.int (iI 0), .int (iI 0), .ref q1, .int (iI 0), .int (iI 0), .ref q2, .int (iI 0), .ref q3, .int (iI 0), .ref q4, .ref q5, .int (iI 0), .null, .int (iI 0), .int (iI 0), .null])), (q1, .inl (cB, 8, .inl (fun k => iI ((fun _ => (0 : Int)) k)))), (q2, .inl (cI, 16, .inl (fun k => iI ((fun _ => (0 : Int)) k)))), (q3, .inl (cI, 16, .inl (fun k => iI ((fun _ => (0 : Int)) k)))), (q4, .inl (cB, 16, .inl (fun k => iI ((fun _ => (0 : Int)) k)))), (q5, .inl (cB, 16, .inl (fun k => iI ((fun _ => (0 : Int)) k))))] := hD
  refine lv_aload_n hx hb dX1_init_44 rfl (lv_at hl 0 rfl) ?_
  refine lv_bipush (v := 32) hx hb dX1_init_45 (by decide) ?_
  refine va_newa (atype := .int) (n := 32) (N' := 32) (ty := .int) (a0 := (32, .inl (fun k => iI ((fun _ => (0 : Int)) k)))) hx hb (hts _ q84) rfl hK hP hD hS hA (fun _ => rfl) (by decide) (by decide) (by decide) (Nat.le_of_ble_eq_true rfl) (Nat.le_of_ble_eq_true rfl) dX1_init_47 (fun q6 cA H hK hP hD hS => ?_)
  have eA : cI = cA := arr_cls hK 0 2 .int (by decide) rfl rfl
  subst eA
  have hK : va_K D vwCl (tyL cI cB) s := hK.sub [0, 1] rfl
  have hP : va_P D vwCl [(h0, .inr (0, [.int (iI 0), .int (iI 0), .ref q1, .int (iI 0), .int (iI 0), .ref q2, .int (iI 0), .ref q3, .int (iI 0), .ref q4, .ref q5, .int (iI 0), .null, .int (iI 0), .int (iI 0), .null])), (q1, .inl (cB, 8, .inl (fun k => iI ((fun _ => (0 : Int)) k)))), (q2, .inl (cI, 16, .inl (fun k => iI ((fun _ => (0 : Int)) k)))), (q3, .inl (cI, 16, .inl (fun k => iI ((fun _ => (0 : Int)) k)))), (q4, .inl (cB, 16, .inl (fun k => iI ((fun _ => (0 : Int)) k)))), (q5, .inl (cB, 16, .inl (fun k => iI ((fun _ => (0 : Int)) k)))), (q6, .inl (cI, 32, .inl (fun k => iI ((fun _ => (0 : Int)) k))))] H := hP
  have hD : va_D A [(h0, .inr (0, [.int (iI 0), .int (iI 0), .ref q1, .int (iI 0), .int (iI 0), .ref q2, .int (iI 0), .ref q3, .int (iI 0), .ref q4, .ref q5, .int (iI 0), .null, .int (iI 0), .int (iI 0), .null])), (q1, .inl (cB, 8, .inl (fun k => iI ((fun _ => (0 : Int)) k)))), (q2, .inl (cI, 16, .inl (fun k => iI ((fun _ => (0 : Int)) k)))), (q3, .inl (cI, 16, .inl (fun k => iI ((fun _ => (0 : Int)) k)))), (q4, .inl (cB, 16, .inl (fun k => iI ((fun _ => (0 : Int)) k)))), (q5, .inl (cB, 16, .inl (fun k => iI ((fun _ => (0 : Int)) k)))), (q6, .inl (cI, 32, .inl (fun k => iI ((fun _ => (0 : Int)) k))))] := hD
  refine W.widen (k := 6) (n := 104) (Nat.le_of_ble_eq_true rfl) (Nat.le_of_ble_eq_true rfl) ?_
  refine va_putF (D := D) (ci := 0) (v := .ref q6) (ty := .array .int) (C := RX1) (T := TX1) (N := 16) hx hb hts in_X1 tyX1 tyX1_ok nmX1 hown hK hP hD hS 0 rfl rfl 12 (by decide) (hts _ q46) (fun _ h9 => h9) rfl hin rfl (by decide +kernel) rfl rfl (Nat.le_of_ble_eq_true rfl) dX1_init_49 (fun H locs hP hD hS => ?_)
  have hP : va_P D vwCl [(h0, .inr (0, [.int (iI 0), .int (iI 0), .ref q1, .int (iI 0), .int (iI 0), .ref q2, .int (iI 0), .ref q3, .int (iI 0), .ref q4, .ref q5, .int (iI 0), .ref q6, .int (iI 0), .int (iI 0), .null])), (q1, .inl (cB, 8, .inl (fun k => iI ((fun _ => (0 : Int)) k)))), (q2, .inl (cI, 16, .inl (fun k => iI ((fun _ => (0 : Int)) k)))), (q3, .inl (cI, 16, .inl (fun k => iI ((fun _ => (0 : Int)) k)))), (q4, .inl (cB, 16, .inl (fun k => iI ((fun _ => (0 : Int)) k)))), (q5, .inl (cB, 16, .inl (fun k => iI ((fun _ => (0 : Int)) k)))), (q6, .inl (cI, 32, .inl (fun k => iI ((fun _ => (0 : Int)) k))))] H := hP
  have hD : va_D A [(h0, .inr (0, [.int (iI 0), .int (iI 0), .ref q1, .int (iI 0), .int (iI 0), .ref q2, .int (iI 0), .ref q3, .int (iI 0), .ref q4, .ref q5, .int (iI 0), .ref q6, .int (iI 0), .int (iI 0), .null])), (q1, .inl (cB, 8, .inl (fun k => iI ((fun _ => (0 : Int)) k)))), (q2, .inl (cI, 16, .inl (fun k => iI ((fun _ => (0 : Int)) k)))), (q3, .inl (cI, 16, .inl (fun k => iI ((fun _ => (0 : Int)) k)))), (q4, .inl (cB, 16, .inl (fun k => iI ((fun _ => (0 : Int)) k)))), (q5, .inl (cB, 16, .inl (fun k => iI ((fun _ => (0 : Int)) k)))), (q6, .inl (cI, 32, .inl (fun k => iI ((fun _ => (0 : Int)) k))))] := hD
  refine lv_aload_n hx hb dX1_init_52 rfl (lv_at hl 0 rfl) ?_
  refine lv_bipush (v := 8) hx hb dX1_init_53 (by decide) ?_
  refine va_newa (atype := .byte) (n := 8) (N' := 8) (ty := .byte) (a0 := (8, .inl (fun k => iI ((fun _ => (0 : Int)) k)))) hx hb (hts _ q83) rfl hK hP hD hS hA (fun _ => rfl) (by decide) (by decide) (by decide) (Nat.le_of_ble_eq_true rfl) (Nat.le_of_ble_eq_true rfl) dX1_init_55 (fun q7 cA H hK hP hD hS => ?_)
  have eA : cB = cA := arr_cls hK 1 2 .byte (by decide) rfl rfl
  subst eA
  have hK : va_K D vwCl (tyL cI cB) s := hK.sub [0, 1] rfl
  have hP : va_P D vwCl [(h0, .inr (0, [.int (iI 0), .int (iI 0), .ref q1, .int (iI 0), .int (iI 0), .ref q2, .int (iI 0), .ref q3, .int (iI 0), .ref q4, .ref q5, .int (iI 0), .ref q6, .int (iI 0), .int (iI 0), .null])), (q1, .inl (cB, 8, .inl (fun k => iI ((fun _ => (0 : Int)) k)))), (q2, .inl (cI, 16, .inl (fun k => iI ((fun _ => (0 : Int)) k)))), (q3, .inl (cI, 16, .inl (fun k => iI ((fun _ => (0 : Int)) k)))), (q4, .inl (cB, 16, .inl (fun k => iI ((fun _ => (0 : Int)) k)))), (q5, .inl (cB, 16, .inl (fun k => iI ((fun _ => (0 : Int)) k)))), (q6, .inl (cI, 32, .inl (fun k => iI ((fun _ => (0 : Int)) k)))), (q7, .inl (cB, 8, .inl (fun k => iI ((fun _ => (0 : Int)) k))))] H := hP
  have hD : va_D A [(h0, .inr (0, [.int (iI 0), .int (iI 0), .ref q1, .int (iI 0), .int (iI 0), .ref q2, .int (iI 0), .ref q3, .int (iI 0), .ref q4, .ref q5, .int (iI 0), .ref q6, .int (iI 0), .int (iI 0), .null])), (q1, .inl (cB, 8, .inl (fun k => iI ((fun _ => (0 : Int)) k)))), (q2, .inl (cI, 16, .inl (fun k => iI ((fun _ => (0 : Int)) k)))), (q3, .inl (cI, 16, .inl (fun k => iI ((fun _ => (0 : Int)) k)))), (q4, .inl (cB, 16, .inl (fun k => iI ((fun _ => (0 : Int)) k)))), (q5, .inl (cB, 16, .inl (fun k => iI ((fun _ => (0 : Int)) k)))), (q6, .inl (cI, 32, .inl (fun k => iI ((fun _ => (0 : Int)) k)))), (q7, .inl (cB, 8, .inl (fun k => iI ((fun _ => (0 : Int)) k))))] := hD
  refine W.widen (k := 7) (n := 112) (Nat.le_of_ble_eq_true rfl) (Nat.le_of_ble_eq_true rfl) ?_
  refine va_putF (D := D) (ci := 0) (v := .ref q7) (ty := .array .byte) (C := RX1) (T := TX1) (N := 16) hx hb hts in_X1 tyX1 tyX1_ok nmX1 hown hK hP hD hS 0 rfl rfl 15 (by decide) (hts _ q49) (fun _ h9 => h9) rfl hin rfl (by decide +kernel) rfl rfl (Nat.le_of_ble_eq_true rfl) dX1_init_57 (fun H locs hP hD hS => ?_)
  have hP : va_P D vwCl [(h0, .inr (0, [.int (iI 0), .int (iI 0), .ref q1, .int (iI 0), .int (iI 0), .ref q2, .int (iI 0), .ref q3, .int (iI 0), .ref q4, .ref q5, .int (iI 0), .ref q6, .int (iI 0), .int (iI 0), .ref q7])), (q1, .inl (cB, 8, .inl (fun k => iI ((fun _ => (0 : Int)) k)))), (q2, .inl (cI, 16, .inl (fun k => iI ((fun _ => (0 : Int)) k)))), (q3, .inl (cI, 16, .inl (fun k => iI ((fun _ => (0 : Int)) k)))), (q4, .inl (cB, 16, .inl (fun k => iI ((fun _ => (0 : Int)) k)))), (q5, .inl (cB, 16, .inl (fun k => iI ((fun _ => (0 : Int)) k)))), (q6, .inl (cI, 32, .inl (fun k => iI ((fun _ => (0 : Int)) k)))), (q7, .inl (cB, 8, .inl (fun k => iI ((fun _ => (0 : Int)) k))))] H := hP
  have hD : va_D A [(h0, .inr (0, [.int (iI 0), .int (iI 0), .ref q1, .int (iI 0), .int (iI 0), .ref q2, .int (iI 0), .ref q3, .int (iI 0), .ref q4, .ref q5, .int (iI 0), .ref q6, .int (iI 0), .int (iI 0), .ref q7])), (q1, .inl (cB, 8, .inl (fun k => iI ((fun _ => (0 : Int)) k)))), (q2, .inl (cI, 16, .inl (fun k => iI ((fun _ => (0 : Int)) k)))), (q3, .inl (cI, 16, .inl (fun k => iI ((fun _ => (0 : Int)) k)))), (q4, .inl (cB, 16, .inl (fun k => iI ((fun _ => (0 : Int)) k)))), (q5, .inl (cB, 16, .inl (fun k => iI ((fun _ => (0 : Int)) k)))), (q6, .inl (cI, 32, .inl (fun k => iI ((fun _ => (0 : Int)) k)))), (q7, .inl (cB, 8, .inl (fun k => iI ((fun _ => (0 : Int)) k))))] := hD
  obtain ⟨a, ha⟩ : ∃ a : Nat → Nat, a = fun k => match k with | 0 => h0 | 1 => q1 | 2 => q2 | 3 => q3 | 4 => q4 | 5 => q5 | 6 => q6 | _ => q7 := ⟨_, rfl⟩
  have hP : va_P D vwCl (WD a cI cB 0 0 (fun _ => 0) 0 0 (fun _ => 0) 0 (fun _ => 0) 0 (fun _ => 0) (fun _ => 0) 0 (fun _ => 0) 0 0 (fun _ => 0)) H := by rw [ha]; exact hP
  have hD : va_D A (WD a cI cB 0 0 (fun _ => 0) 0 0 (fun _ => 0) 0 (fun _ => 0) 0 (fun _ => 0) (fun _ => 0) 0 (fun _ => 0) 0 0 (fun _ => 0)) := by rw [ha]; exact hD
  have ha0 : a 0 = h0 := by rw [ha]; rfl
  have hl : lv_has ls 2 [(0, .ref (a 0)), (1, .int (iI z0))] := by rw [ha0]; exact hl
  have key : ∀ (G : GT), Cx l RX1 cX1_init 2 ({ frames := 1, cells := 7, slots := 112, locals := 12 } : Room) D cI cB A 7 112 G → (∀ (lv : List (Nat × Value)) (u : va_W) (pc : Nat), decode cX1_init pc = .ok (.return_, 1) → u = (WD a cI cB (clampR z0) 0 (fun _ => 0) 0 0 (fun _ => 0) 0 (fun _ => 0) 0 (fun _ => 0) (fun _ => 0) 0 (fun _ => 0) 0 0 (fun _ => 0)) → G lv u pc []) → G [(0, .ref (a 0)), (1, .int (iI z0))] (WD a cI cB 0 0 (fun _ => 0) 0 0 (fun _ => 0) 0 (fun _ => 0) 0 (fun _ => 0) (fun _ => 0) 0 (fun _ => 0) 0 0 (fun _ => 0)) 60 [] := by
    intro G C hret
    refine g_aload_n C (pc := 60) 0 rfl rfl dX1_init_60 ?_
    refine g_iload_n C (pc := 61) 1 rfl rfl dX1_init_61 ?_
    refine g_iconst C (pc := 62) dX1_init_62 ?_
    refine g_icmp_ge C (pc := 63) 70 (by omega) (by omega) (by decide) dX1_init_63 (fun c63 => ?_) (fun c63 => ?_)
    · refine g_iload_n C (pc := 70) 1 rfl rfl dX1_init_70 ?_
      refine g_bipush C (pc := 71) dX1_init_71 (by decide) ?_
      refine g_icmp_le C (pc := 73) 81 (by omega) (by omega) (by decide) dX1_init_73 (fun c73 => ?_) (fun c73 => ?_)
      · refine g_iload_n C (pc := 81) 1 rfl rfl dX1_init_81 ?_
        refine dp_binSize C (pc := 82) dX1_init_82 ?_
        exact hret _ _ _ dX1_init_85 (by rw [show clampR z0 = z0 from (if_neg (by omega)).trans (if_neg (by omega))])
      · refine g_bipush C (pc := 76) dX1_init_76 (by decide) ?_
        refine g_goto C (pc := 78) 82 (by decide) dX1_init_78 ?_
        refine dp_binSize C (pc := 82) dX1_init_82 ?_
        exact hret _ _ _ dX1_init_85 (by rw [show clampR z0 = 60 from (if_neg (by omega)).trans (if_pos (by omega))])
    · refine g_iconst C (pc := 66) dX1_init_66 ?_
      refine g_goto C (pc := 67) 82 (by decide) dX1_init_67 ?_
      refine dp_binSize C (pc := 82) dX1_init_82 ?_
      exact hret _ _ _ dX1_init_85 (by rw [show clampR z0 = 1 from if_pos (by omega)])
  refine key _ ⟨p, e, s, m, _, below, meth, c, _, hx, hb, hml, hown, hts, hK, hA, rfl⟩ ?_ H locs ls hP hD hS hl
  intro lv u pc hd hu H locs ls hP hD hS hl
  exact W.vret hx hb hr (fun t ht hW => ⟨⟨u, rfl, ⟨a, ha0, hu⟩, by rw [ht]; exact hP, va_K.moved hW.alike hK, hD⟩, hS.F ht⟩) hS.2.2 hd
abbrev W0_model (h0 : Nat) : va_W := [(h0, .inr (1, [.int (iI 0), .null, .int (iI 0), .null, .null]))]
set_option maxHeartbeats 4000000 in
set_option maxRecDepth 100000 in
/-- the constructor -/
theorem met_init_model (l : Launch) (D : va_G) (cI cB : ClassId) (h0 sz : Nat) (z0 : Int) (hz : -2147483648 ≤ z0 ∧ z0 < 2147483648) : Met l yX2_init (ws_ yX2_init cX2_init 2 none) ({ frames := 1, cells := 3, slots := 24, locals := 12 } : Room) (va_Pc [.ref h0, .int (iI z0)] (fun U => U.heap.size = sz ∧ va_P D vwCl (W0_model h0) U.heap ∧ va_K D vwCl (tyL cI cB) U ∧ va_D (fun _ => True) (W0_model h0))) (va_Qv (fun (u : va_W) => ∃ a : Nat → Nat, a 0 = h0 ∧ u = (WM a cI (clampR z0) (fun _ => 0) 0 (fun _ => 0) (fun _ => 0))) (fun u t => va_P D vwCl u t.heap ∧ va_K D vwCl (tyL cI cB) t ∧ va_D (va_A (W0_model h0) sz) u) (va_A (W0_model h0) sz)) 3 24 (va_A (W0_model h0) sz) := by
  refine Met.ofW (cc := cX2_init) (maxL := 2) (ret := none) (by decide) rfl ?_
  intro p e s m args below meth c s₁ B hml hv
  obtain ⟨rfl, hsz, hP, hK, hD0⟩ := hv
  have hx := B.exec
  have hb := B.bytes
  have hr := B.returns
  have hts := atoms_spec (ws := ws_ yX2_init cX2_init 2 none) B.pre
  have hts : ∀ w ∈ lw_all, w.before _ s = true := fun w h => hts w (List.mem_cons_of_mem _ h)
  have hown : s.vm.findClass RX2 = some m.cls := findClass_of_methodNamed B.named
  have hlocks := B.notSynchronized
  have hin : meth.name = "<init>" := (name_of_methodNamed B.named B.method).1
  subst hsz
  have hD := hD0.self (sz := s.heap.size)
  generalize hAe : va_A (W0_model h0) s.heap.size = A at hD ⊢
  have hA : ∀ q : Nat, s.heap.size ≤ q → A q := fun q h => by rw [← hAe]; exact Or.inr h
  have hS : va_S A s.heap s.heap [] := va_S.rf
  have hP : va_P D vwCl [(h0, .inr (1, [.int (iI 0), .null, .int (iI 0), .null, .null]))] s.heap := hP
  have hl := lv_entry ([.ref h0, .int (iI z0)]) (n := 2) (Nat.le_of_ble_eq_true rfl)
  rw [lg_entry_eq]
  generalize (lg_sl ([.ref h0, .int (iI z0)]) ++ List.replicate (2 - (lg_sl ([.ref h0, .int (iI z0)])).length) Slot.unset).toArray = ls at hl ⊢
  have hl : lv_has ls 2 [(0, .ref h0), (1, .int (iI z0))] := hl
  refine lv_aload_n hx hb dX2_init_0 rfl (lv_at hl 0 rfl) ?_
  refine W.objInit hx hb hown (hts _ q214) (hts _ q32) (hts _ q33) rfl (by rw [hml]; exact hl.1) rfl dX2_init_1 (Nat.le_of_ble_eq_true rfl) (Nat.le_of_ble_eq_true rfl) ?_
  refine W.eq (g2 := F0 m 4 ls []) rfl ?_
  refine lv_aload_n hx hb dX2_init_4 rfl (lv_at hl 0 rfl) ?_
  refine lv_bipush (v := 8) hx hb dX2_init_5 (by decide) ?_
  refine va_newa (atype := .int) (n := 8) (N' := 8) (ty := .int) (a0 := (8, .inl (fun k => iI ((fun _ => (0 : Int)) k)))) hx hb (hts _ q84) rfl hK hP hD hS hA (fun _ => rfl) (by decide) (by decide) (by decide) (Nat.le_of_ble_eq_true rfl) (Nat.le_of_ble_eq_true rfl) dX2_init_7 (fun q1 cA H hK hP hD hS => ?_)
  have eA : cI = cA := arr_cls hK 0 2 .int (by decide) rfl rfl
  subst eA
  have hK : va_K D vwCl (tyL cI cB) s := hK.sub [0, 1] rfl
  have hP : va_P D vwCl [(h0, .inr (1, [.int (iI 0), .null, .int (iI 0), .null, .null])), (q1, .inl (cI, 8, .inl (fun k => iI ((fun _ => (0 : Int)) k))))] H := hP
  have hD : va_D A [(h0, .inr (1, [.int (iI 0), .null, .int (iI 0), .null, .null])), (q1, .inl (cI, 8, .inl (fun k => iI ((fun _ => (0 : Int)) k))))] := hD
  refine W.widen (k := 1) (n := 8) (Nat.le_of_ble_eq_true rfl) (Nat.le_of_ble_eq_true rfl) ?_
  refine va_put (D := D) (ci := 1) (v := .ref q1) (ty := .array .int) (C := RX2) (T := TX2) (N := 5) hx hb hts in_X2 tyX2 tyX2_ok nmX2 hown hK hP hD hS 0 rfl rfl 1 (by decide) (hts _ q216) (fun _ h9 => h9) rfl (by decide +kernel) rfl rfl (Nat.le_of_ble_eq_true rfl) dX2_init_9 (fun H locs hP hD hS => ?_)
  have hP : va_P D vwCl [(h0, .inr (1, [.int (iI 0), .ref q1, .int (iI 0), .null, .null])), (q1, .inl (cI, 8, .inl (fun k => iI ((fun _ => (0 : Int)) k))))] H := hP
  have hD : va_D A [(h0, .inr (1, [.int (iI 0), .ref q1, .int (iI 0), .null, .null])), (q1, .inl (cI, 8, .inl (fun k => iI ((fun _ => (0 : Int)) k))))] := hD
  refine lv_aload_n hx hb dX2_init_12 rfl (lv_at hl 0 rfl) ?_
  refine lv_bipush (v := 8) hx hb dX2_init_13 (by decide) ?_
  refine va_newa (atype := .int) (n := 8) (N' := 8) (ty := .int) (a0 := (8, .inl (fun k => iI ((fun _ => (0 : Int)) k)))) hx hb (hts _ q84) rfl hK hP hD hS hA (fun _ => rfl) (by decide) (by decide) (by decide) (Nat.le_of_ble_eq_true rfl) (Nat.le_of_ble_eq_true rfl) dX2_init_15 (fun q2 cA H hK hP hD hS => ?_)
  have eA : cI = cA := arr_cls hK 0 2 .int (by decide) rfl rfl
  subst eA
  have hK : va_K D vwCl (tyL cI cB) s := hK.sub [0, 1] rfl
  have hP : va_P D vwCl [(h0, .inr (1, [.int (iI 0), .ref q1, .int (iI 0), .null, .null])), (q1, .inl (cI, 8, .inl (fun k => iI ((fun _ => (0 : Int)) k)))), (q2, .inl (cI, 8, .inl (fun k => iI ((fun _ => (0 : Int)) k))))] H := hP
  have hD : va_D A [(h0, .inr (1, [.int (iI 0), .ref q1, .int (iI 0), .null, .null])), (q1, .inl (cI, 8, .inl (fun k => iI ((fun _ => (0 : Int)) k)))), (q2, .inl (cI, 8, .inl (fun k => iI ((fun _ => (0 : Int)) k))))] := hD
  refine W.widen (k := 2) (n := 16) (Nat.le_of_ble_eq_true rfl) (Nat.le_of_ble_eq_true rfl) ?_
  refine va_put (D := D) (ci := 1) (v := .ref q2) (ty := .array .int) (C := RX2) (T := TX2) (N := 5) hx hb hts in_X2 tyX2 tyX2_ok nmX2 hown hK hP hD hS 0 rfl rfl 3 (by decide) (hts _ q218) (fun _ h9 => h9) rfl (by decide +kernel) rfl rfl (Nat.le_of_ble_eq_true rfl) dX2_init_17 (fun H locs hP hD hS => ?_)
  have hP : va_P D vwCl [(h0, .inr (1, [.int (iI 0), .ref q1, .int (iI 0), .ref q2, .null])), (q1, .inl (cI, 8, .inl (fun k => iI ((fun _ => (0 : Int)) k)))), (q2, .inl (cI, 8, .inl (fun k => iI ((fun _ => (0 : Int)) k))))] H := hP
  have hD : va_D A [(h0, .inr (1, [.int (iI 0), .ref q1, .int (iI 0), .ref q2, .null])), (q1, .inl (cI, 8, .inl (fun k => iI ((fun _ => (0 : Int)) k)))), (q2, .inl (cI, 8, .inl (fun k => iI ((fun _ => (0 : Int)) k))))] := hD
  refine lv_aload_n hx hb dX2_init_20 rfl (lv_at hl 0 rfl) ?_
  refine lv_bipush (v := 8) hx hb dX2_init_21 (by decide) ?_
  refine va_newa (atype := .int) (n := 8) (N' := 8) (ty := .int) (a0 := (8, .inl (fun k => iI ((fun _ => (0 : Int)) k)))) hx hb (hts _ q84) rfl hK hP hD hS hA (fun _ => rfl) (by decide) (by decide) (by decide) (Nat.le_of_ble_eq_true rfl) (Nat.le_of_ble_eq_true rfl) dX2_init_23 (fun q3 cA H hK hP hD hS => ?_)
  have eA : cI = cA := arr_cls hK 0 2 .int (by decide) rfl rfl
  subst eA
  have hK : va_K D vwCl (tyL cI cB) s := hK.sub [0, 1] rfl
  have hP : va_P D vwCl [(h0, .inr (1, [.int (iI 0), .ref q1, .int (iI 0), .ref q2, .null])), (q1, .inl (cI, 8, .inl (fun k => iI ((fun _ => (0 : Int)) k)))), (q2, .inl (cI, 8, .inl (fun k => iI ((fun _ => (0 : Int)) k)))), (q3, .inl (cI, 8, .inl (fun k => iI ((fun _ => (0 : Int)) k))))] H := hP
  have hD : va_D A [(h0, .inr (1, [.int (iI 0), .ref q1, .int (iI 0), .ref q2, .null])), (q1, .inl (cI, 8, .inl (fun k => iI ((fun _ => (0 : Int)) k)))), (q2, .inl (cI, 8, .inl (fun k => iI ((fun _ => (0 : Int)) k)))), (q3, .inl (cI, 8, .inl (fun k => iI ((fun _ => (0 : Int)) k))))] := hD
  refine W.widen (k := 3) (n := 24) (Nat.le_of_ble_eq_true rfl) (Nat.le_of_ble_eq_true rfl) ?_
  refine va_put (D := D) (ci := 1) (v := .ref q3) (ty := .array .int) (C := RX2) (T := TX2) (N := 5) hx hb hts in_X2 tyX2 tyX2_ok nmX2 hown hK hP hD hS 0 rfl rfl 4 (by decide) (hts _ q219) (fun _ h9 => h9) rfl (by decide +kernel) rfl rfl (Nat.le_of_ble_eq_true rfl) dX2_init_25 (fun H locs hP hD hS => ?_)
  have hP : va_P D vwCl [(h0, .inr (1, [.int (iI 0), .ref q1, .int (iI 0), .ref q2, .ref q3])), (q1, .inl (cI, 8, .inl (fun k => iI ((fun _ => (0 : Int)) k)))), (q2, .inl (cI, 8, .inl (fun k => iI ((fun _ => (0 : Int)) k)))), (q3, .inl (cI, 8, .inl (fun k => iI ((fun _ => (0 : Int)) k))))] H := hP
  have hD : va_D A [(h0, .inr (1, [.int (iI 0), .ref q1, .int (iI 0), .ref q2, .ref q3])), (q1, .inl (cI, 8, .inl (fun k => iI ((fun _ => (0 : Int)) k)))), (q2, .inl (cI, 8, .inl (fun k => iI ((fun _ => (0 : Int)) k)))), (q3, .inl (cI, 8, .inl (fun k => iI ((fun _ => (0 : Int)) k))))] := hD
  obtain ⟨a, ha⟩ : ∃ a : Nat → Nat, a = fun k => match k with | 0 => h0 | 1 => q1 | 2 => q2 | _ => q3 := ⟨_, rfl⟩
  have hP : va_P D vwCl (WM a cI 0 (fun _ => 0) 0 (fun _ => 0) (fun _ => 0)) H := by rw [ha]; exact hP
  have hD : va_D A (WM a cI 0 (fun _ => 0) 0 (fun _ => 0) (fun _ => 0)) := by rw [ha]; exact hD
  have ha0 : a 0 = h0 := by rw [ha]; rfl
  have hl : lv_has ls 2 [(0, .ref (a 0)), (1, .int (iI z0))] := by rw [ha0]; exact hl
  have key : ∀ (G : GT), Cx l RX2 cX2_init 2 ({ frames := 1, cells := 3, slots := 24, locals := 12 } : Room) D cI cB A 3 24 G → (∀ (lv : List (Nat × Value)) (u : va_W) (pc : Nat), decode cX2_init pc = .ok (.return_, 1) → u = (WM a cI (clampR z0) (fun _ => 0) 0 (fun _ => 0) (fun _ => 0)) → G lv u pc []) → G [(0, .ref (a 0)), (1, .int (iI z0))] (WM a cI 0 (fun _ => 0) 0 (fun _ => 0) (fun _ => 0)) 28 [] := by
    intro G C hret
    refine g_aload_n C (pc := 28) 0 rfl rfl dX2_init_28 ?_
    refine g_iload_n C (pc := 29) 1 rfl rfl dX2_init_29 ?_
    refine g_iconst C (pc := 30) dX2_init_30 ?_
    refine g_icmp_ge C (pc := 31) 38 (by omega) (by omega) (by decide) dX2_init_31 (fun c31 => ?_) (fun c31 => ?_)
    · refine g_iload_n C (pc := 38) 1 rfl rfl dX2_init_38 ?_
      refine g_bipush C (pc := 39) dX2_init_39 (by decide) ?_
      refine g_icmp_le C (pc := 41) 49 (by omega) (by omega) (by decide) dX2_init_41 (fun c41 => ?_) (fun c41 => ?_)
      · refine g_iload_n C (pc := 49) 1 rfl rfl dX2_init_49 ?_
        refine mp_room C (pc := 50) dX2_init_50 ?_
        exact hret _ _ _ dX2_init_53 (by rw [show clampR z0 = z0 from (if_neg (by omega)).trans (if_neg (by omega))])
      · refine g_bipush C (pc := 44) dX2_init_44 (by decide) ?_
        refine g_goto C (pc := 46) 50 (by decide) dX2_init_46 ?_
        refine mp_room C (pc := 50) dX2_init_50 ?_
        exact hret _ _ _ dX2_init_53 (by rw [show clampR z0 = 60 from (if_neg (by omega)).trans (if_pos (by omega))])
    · refine g_iconst C (pc := 34) dX2_init_34 ?_
      refine g_goto C (pc := 35) 50 (by decide) dX2_init_35 ?_
      refine mp_room C (pc := 50) dX2_init_50 ?_
      exact hret _ _ _ dX2_init_53 (by rw [show clampR z0 = 1 from if_pos (by omega)])
  refine key _ ⟨p, e, s, m, _, below, meth, c, _, hx, hb, hml, hown, hts, hK, hA, rfl⟩ ?_ H locs ls hP hD hS hl
  intro lv u pc hd hu H locs ls hP hD hS hl
  exact W.vret hx hb hr (fun t ht hW => ⟨⟨u, rfl, ⟨a, ha0, hu⟩, by rw [ht]; exact hP, va_K.moved hW.alike hK, hD⟩, hS.F ht⟩) hS.2.2 hd
set_option maxHeartbeats 4000000 in
set_option maxRecDepth 100000 in
/-- cell(script, 0) -/
theorem met_cell (l : Launch) (b L : Nat) (xs : Nat → Int32) (hL : L ≤ 193) : Met l yX0_cell (ws_ yX0_cell cX0_cell 2 (some .int)) ({ frames := 0, cells := 0, slots := 0, locals := 0 } : Room) (va_Pc [.ref b, .int (iI 0)] (fun U => va_X b L xs U U.heap)) (va_Qi (fun r (_ : Unit) => r = if 0 < L then xs 0 else 0) (fun _ _ => True) (fun _ => False)) 0 0 (fun _ => False) := by
  refine Met.ofW (cc := cX0_cell) (maxL := 2) (ret := some .int) (by decide) rfl ?_
  intro p e s m args below meth c s₁ B hml hv
  obtain ⟨rfl, hX⟩ := hv
  have hx := B.exec
  have hb := B.bytes
  have hr := B.returns
  have hlocks := B.notSynchronized
  have hS : va_S (fun _ => False) s.heap s.heap [] := va_S.rf
  have hbl : b < s.heap.size := by
    obtain ⟨scr, h1, _⟩ := hX
    exact (Array.getElem?_eq_some_iff.mp h1).1
  have hl := lv_entry ([.ref b, .int (iI 0)]) (n := 2) (Nat.le_of_ble_eq_true rfl)
  rw [lg_entry_eq]
  generalize (lg_sl ([.ref b, .int (iI 0)]) ++ List.replicate (2 - (lg_sl ([.ref b, .int (iI 0)])).length) Slot.unset).toArray = ls at hl ⊢
  have hl : lv_has ls 2 [(0, .ref b), (1, .int (iI 0))] := hl
  refine lv_iload_n hx hb dX0_cell_0 rfl (lv_at hl 1 rfl) ?_
  refine lv_aload_n hx hb dX0_cell_1 rfl (lv_at hl 0 rfl) ?_
  refine va_slen hx hb hX hbl (fun h => h) hS dX0_cell_2 ?_
  have eL : Int32.ofNat L = iI (L : Int) := Int32.ofInt_eq_ofNat.symm
  rw [eL]
  refine lv_icmp_ge (tgt := 12) hx hb dX0_cell_3 (by decide) (fun c3 => ?_) (fun c3 => ?_)
  · have h0 : ¬ 0 < L := by have := (iI_le (by omega) (by omega)).mp c3; omega
    refine lv_iconst (v := iI 0) hx hb dX0_cell_12 rfl ?_
    exact W.iret (v := iI 0) hx hb hr (fun t ht hW => ⟨⟨iI 0, (), rfl, by rw [if_neg h0]; rfl, trivial⟩, hS.F ht⟩) hS.2.2 dX0_cell_13
  · have h0 : 0 < L := by
      apply Classical.byContradiction
      intro h
      exact c3 ((iI_le (by omega) (by omega)).mpr (by omega))
    refine lv_aload_n hx hb dX0_cell_6 rfl (lv_at hl 0 rfl) ?_
    refine lv_iload_n hx hb dX0_cell_7 rfl (lv_at hl 1 rfl) ?_
    refine va_sld hx hb hX hbl (fun h => h) hS (iI_in (j := 0) rfl h0 (by omega)) dX0_cell_8 ?_
    rw [show (iI 0).toNatClampNeg = 0 from iI_clamp (z := 0) (j := 0) rfl (by omega)]
    refine lv_goto (tgt := 13) hx hb dX0_cell_9 (by decide) ?_
    exact W.iret (v := xs 0) hx hb hr (fun t ht hW => ⟨⟨xs 0, (), rfl, by rw [if_pos h0], trivial⟩, hS.F ht⟩) hS.2.2 dX0_cell_13
end
section
/-! the law's two halves, plainly: desk and model at the same set p with the sizes g, the bins' size R -/
def LI (a a' : Nat → Nat) (cI cB : ClassId) (ws : va_W) : Prop := ∃ (R : Int) (p : Nat) (g : Nat → Int) (f3 : Int) (f4 : Int) (g5 : Nat → Int) (f6 : Int) (g7 : Nat → Int) (f8 : Int) (g9 : Nat → Int) (g10 : Nat → Int) (f11 : Int) (g12 : Nat → Int) (f13 : Int) (f14 : Int) (g15 : Nat → Int) (f2 : Int) (g3 g4 : Nat → Int), SzOk R p g ∧ PkI R p g f13 f14 g15 ∧ ws = WD a cI cB R (p : Int) g f3 f4 g5 f6 g7 f8 g9 g10 f11 g12 f13 f14 g15 ++ WM a' cI R (mz p g) f2 g3 g4
theorem LI.mk {a a' : Nat → Nat} {cI cB : ClassId} {R : Int} {p : Nat} {g : Nat → Int} {f3 : Int} {f4 : Int} {g5 : Nat → Int} {f6 : Int} {g7 : Nat → Int} {f8 : Int} {g9 : Nat → Int} {g10 : Nat → Int} {f11 : Int} {g12 : Nat → Int} {f13 : Int} {f14 : Int} {g15 : Nat → Int} {f2 : Int} {g3 g4 : Nat → Int} (h1 : SzOk R p g) (h2 : PkI R p g f13 f14 g15) : LI a a' cI cB (WD a cI cB R (p : Int) g f3 f4 g5 f6 g7 f8 g9 g10 f11 g12 f13 f14 g15 ++ WM a' cI R (mz p g) f2 g3 g4) := ⟨R, p, g, f3, f4, g5, f6, g7, f8, g9, g10, f11, g12, f13, f14, g15, f2, g3, g4, h1, h2, rfl⟩
theorem sz_add {R s0 : Int} {p i : Nat} {g : Nat → Int} (h : SzOk R p g) (hi : i < 8) (hs : 1 ≤ s0 ∧ s0 ≤ R) : SzOk R (p ||| 2 ^ i) (va_up g i s0) := by
  refine ⟨h.1, or_lt h.2.1 (pow_lt hi), fun k => ?_, fun k hk hb => ?_⟩
  · by_cases e : k = i
    · subst e; rw [up_same]; have := h.1; omega
    · rw [up_ne _ _ e]; exact h.2.2.1 k
  · by_cases e : k = i
    · subst e; rw [up_same]; exact hs
    · rw [up_ne _ _ e]
      refine h.2.2.2 k hk ?_
      rw [Nat.testBit_or, tb_pow, decide_eq_false (fun q => e q.symm), Bool.or_false] at hb
      exact hb
theorem sz_rem {R : Int} {p i : Nat} {g : Nat → Int} (h : SzOk R p g) : SzOk R (clr p (2 ^ i)) g := by
  refine ⟨h.1, clr_lt h.2.1, h.2.2.1, fun k hk hb => h.2.2.2 k hk ?_⟩
  rw [tb_clr h.2.1, Bool.and_eq_true] at hb
  exact hb.1
theorem sz_set {R s0 : Int} {p i : Nat} {g : Nat → Int} (h : SzOk R p g) (hs : 1 ≤ s0 ∧ s0 ≤ R) : SzOk R p (va_up g i s0) := by
  refine ⟨h.1, h.2.1, fun k => ?_, fun k hk hb => ?_⟩
  · by_cases e : k = i
    · subst e; rw [up_same]; have := h.1; omega
    · rw [up_ne _ _ e]; exact h.2.2.1 k
  · by_cases e : k = i
    · subst e; rw [up_same]; exact hs
    · rw [up_ne _ _ e]; exact h.2.2.2 k hk hb
theorem sz_size {R s0 : Int} {p : Nat} {g : Nat → Int} (h : SzOk R p g) (hs : (1 ≤ s0 ∧ s0 ≤ 60) ∧ ∀ x, x < 8 → p.testBit x = true → g x ≤ s0) : SzOk s0 p g := ⟨hs.1, h.2.1, h.2.2.1, fun k hk hb => ⟨(h.2.2.2 k hk hb).1, hs.2 k hk hb⟩⟩
theorem has_not {p i : Nat} {z : Int} (hi : i < 8) (e : z = i) (hb : p.testBit i = true) (h : hasb p z = false) : False := by
  rw [e, hasb_nat hi, hb] at h
  exact absurd h (by decide)
theorem opt_its {R z : Int} {p : Nat} {g : Nat → Int} (h : Opt R (sel p 8 g) (fun _ => 0) 0 z) : Opt R (its (rk p 8) (fun k => g (it p k))) (fun _ => 0) 0 z := by
  rw [← its_sel g 8 (Nat.le_refl 8)]
  exact h
/-- the empty desk -/
theorem sz_0 {R : Int} (h : 1 ≤ R ∧ R ≤ 60) : SzOk R 0 (fun _ => 0) := ⟨h, by decide, fun _ => ⟨Int.le_refl 0, (by decide : (0 : Int) ≤ 60)⟩, fun k _ hb => by rw [Nat.zero_testBit] at hb; exact absurd hb (by decide)⟩
theorem mz_0 : mz 0 (fun _ => 0) = fun _ => 0 := by
  funext k
  unfold mz
  split <;> rfl
set_option maxHeartbeats 1000000 in
theorem law_add {a a' : Nat → Nat} {cI cB : ClassId} {R : Int} {p : Nat} {g : Nat → Int} {f3 : Int} {f4 : Int} {g5 : Nat → Int} {f6 : Int} {g7 : Nat → Int} {f8 : Int} {g9 : Nat → Int} {g10 : Nat → Int} {f11 : Int} {g12 : Nat → Int} {f13 : Int} {f14 : Int} {g15 : Nat → Int} {f2 : Int} {g3 : Nat → Int} {g4 : Nat → Int} (hok : SzOk R p g) (hpk : PkI R p g f13 f14 g15) {s0 : Int} {z z' : Int} {u u' : va_W} (hd : (¬ (1 ≤ s0 ∧ s0 ≤ R) ∧ z = -1 ∧ u = (WD a cI cB R (p : Int) g f3 f4 g5 f6 g7 f8 g9 g10 f11 g12 f13 f14 g15)) ∨ ((1 ≤ s0 ∧ s0 ≤ R) ∧ ∃ i : Nat, FZ p i ∧ ((i = 8 ∧ z = -2 ∧ u = (WD a cI cB R (p : Int) g f3 f4 g5 f6 g7 f8 g9 g10 f11 g12 f13 f14 g15)) ∨ (i < 8 ∧ z = i ∧ u = (WD a cI cB R ((p ||| 2 ^ i : Nat) : Int) (va_up g i s0) f3 f4 g5 f6 g7 f8 g9 g10 f11 g12 0 f14 g15))))) (hm : (¬ (1 ≤ s0 ∧ s0 ≤ R) ∧ z' = -1 ∧ u' = (WM a' cI R (mz p g) f2 g3 g4)) ∨ ((1 ≤ s0 ∧ s0 ≤ R) ∧ ∃ i : Nat, FZ p i ∧ ((i = 8 ∧ z' = -2 ∧ u' = (WM a' cI R (mz p g) f2 g3 g4)) ∨ (i < 8 ∧ z' = i ∧ u' = (WM a' cI R (mz (p ||| 2 ^ i) (va_up g i s0)) f2 g3 g4))))) : z = z' ∧ LI a a' cI cB (u ++ u') := by
  rcases hd with ⟨h1, rfl, rfl⟩ | ⟨h1, i, hi, hd⟩
  · rcases hm with ⟨h2, rfl, rfl⟩ | ⟨h2, _⟩
    · exact ⟨rfl, LI.mk hok hpk⟩
    · exact absurd h2 h1
  · rcases hm with ⟨h2, _⟩ | ⟨h2, j, hj, hm⟩
    · exact absurd h1 h2
    · have e := FZ_uniq hi hj
      subst e
      rcases hd with ⟨e8, rfl, rfl⟩ | ⟨h8, rfl, rfl⟩
      · rcases hm with ⟨_, rfl, rfl⟩ | ⟨h9, _⟩
        · exact ⟨rfl, LI.mk hok hpk⟩
        · exact absurd h9 (by omega)
      · rcases hm with ⟨h9, _⟩ | ⟨_, rfl, rfl⟩
        · exact absurd h9 (by omega)
        · exact ⟨rfl, LI.mk (sz_add hok h8 h1) (Or.inl rfl)⟩
set_option maxHeartbeats 1000000 in
theorem law_remove {a a' : Nat → Nat} {cI cB : ClassId} {R : Int} {p : Nat} {g : Nat → Int} {f3 : Int} {f4 : Int} {g5 : Nat → Int} {f6 : Int} {g7 : Nat → Int} {f8 : Int} {g9 : Nat → Int} {g10 : Nat → Int} {f11 : Int} {g12 : Nat → Int} {f13 : Int} {f14 : Int} {g15 : Nat → Int} {f2 : Int} {g3 : Nat → Int} {g4 : Nat → Int} (hok : SzOk R p g) (hpk : PkI R p g f13 f14 g15) {z0 : Int} {z z' : Int} {u u' : va_W} (hd : (hasb p z0 = false ∧ z = 0 ∧ u = (WD a cI cB R (p : Int) g f3 f4 g5 f6 g7 f8 g9 g10 f11 g12 f13 f14 g15)) ∨ ∃ i : Nat, i < 8 ∧ z0 = i ∧ p.testBit i = true ∧ z = 1 ∧ u = (WD a cI cB R ((clr p (2 ^ i) : Nat) : Int) g f3 f4 g5 f6 g7 f8 g9 g10 f11 g12 0 f14 g15)) (hm : (hasb p z0 = false ∧ z' = 0 ∧ u' = (WM a' cI R (mz p g) f2 g3 g4)) ∨ ∃ i : Nat, i < 8 ∧ z0 = i ∧ p.testBit i = true ∧ z' = 1 ∧ u' = (WM a' cI R (mz (clr p (2 ^ i)) g) f2 g3 g4)) : z = z' ∧ LI a a' cI cB (u ++ u') := by
  rcases hd with ⟨h1, rfl, rfl⟩ | ⟨i, hi, ei, hb, rfl, rfl⟩
  · rcases hm with ⟨_, rfl, rfl⟩ | ⟨j, hj, ej, hb, _⟩
    · exact ⟨rfl, LI.mk hok hpk⟩
    · exact (has_not hj ej hb h1).elim
  · rcases hm with ⟨h1, _⟩ | ⟨j, hj, ej, hb', rfl, rfl⟩
    · exact (has_not hi ei hb h1).elim
    · have e : i = j := by omega
      subst e
      exact ⟨rfl, LI.mk (sz_rem hok) (Or.inl rfl)⟩
set_option maxHeartbeats 1000000 in
theorem law_resize {a a' : Nat → Nat} {cI cB : ClassId} {R : Int} {p : Nat} {g : Nat → Int} {f3 : Int} {f4 : Int} {g5 : Nat → Int} {f6 : Int} {g7 : Nat → Int} {f8 : Int} {g9 : Nat → Int} {g10 : Nat → Int} {f11 : Int} {g12 : Nat → Int} {f13 : Int} {f14 : Int} {g15 : Nat → Int} {f2 : Int} {g3 : Nat → Int} {g4 : Nat → Int} (hok : SzOk R p g) (hpk : PkI R p g f13 f14 g15) {z0 s0 : Int} {z z' : Int} {u u' : va_W} (hd : (¬ (hasb p z0 = true ∧ 1 ≤ s0 ∧ s0 ≤ R) ∧ z = 0 ∧ u = (WD a cI cB R (p : Int) g f3 f4 g5 f6 g7 f8 g9 g10 f11 g12 f13 f14 g15)) ∨ ∃ i : Nat, i < 8 ∧ z0 = i ∧ p.testBit i = true ∧ (1 ≤ s0 ∧ s0 ≤ R) ∧ z = 1 ∧ u = (WD a cI cB R (p : Int) (va_up g i s0) f3 f4 g5 f6 g7 f8 g9 g10 f11 g12 0 f14 g15)) (hm : (¬ (hasb p z0 = true ∧ 1 ≤ s0 ∧ s0 ≤ R) ∧ z' = 0 ∧ u' = (WM a' cI R (mz p g) f2 g3 g4)) ∨ ∃ i : Nat, i < 8 ∧ z0 = i ∧ p.testBit i = true ∧ (1 ≤ s0 ∧ s0 ≤ R) ∧ z' = 1 ∧ u' = (WM a' cI R (mz p (va_up g i s0)) f2 g3 g4)) : z = z' ∧ LI a a' cI cB (u ++ u') := by
  rcases hd with ⟨h1, rfl, rfl⟩ | ⟨i, hi, ei, hb, hs, rfl, rfl⟩
  · rcases hm with ⟨_, rfl, rfl⟩ | ⟨j, hj, ej, hb, hs, _⟩
    · exact ⟨rfl, LI.mk hok hpk⟩
    · exact absurd ⟨by rw [ej, hasb_nat hj]; exact hb, hs⟩ h1
  · rcases hm with ⟨h1, _⟩ | ⟨j, hj, ej, hb', hs', rfl, rfl⟩
    · exact absurd ⟨by rw [ei, hasb_nat hi]; exact hb, hs⟩ h1
    · have e : i = j := by omega
      subst e
      exact ⟨rfl, LI.mk (sz_set hok hs) (Or.inl rfl)⟩
set_option maxHeartbeats 1000000 in
theorem law_setSize {a a' : Nat → Nat} {cI cB : ClassId} {R : Int} {p : Nat} {g : Nat → Int} {f3 : Int} {f4 : Int} {g5 : Nat → Int} {f6 : Int} {g7 : Nat → Int} {f8 : Int} {g9 : Nat → Int} {g10 : Nat → Int} {f11 : Int} {g12 : Nat → Int} {f13 : Int} {f14 : Int} {g15 : Nat → Int} {f2 : Int} {g3 : Nat → Int} {g4 : Nat → Int} (hok : SzOk R p g) (hpk : PkI R p g f13 f14 g15) {s0 : Int} {z z' : Int} {u u' : va_W} (hd : (¬ ((1 ≤ s0 ∧ s0 ≤ 60) ∧ ∀ x, x < 8 → p.testBit x = true → g x ≤ s0) ∧ z = 0 ∧ u = (WD a cI cB R (p : Int) g f3 f4 g5 f6 g7 f8 g9 g10 f11 g12 f13 f14 g15)) ∨ (((1 ≤ s0 ∧ s0 ≤ 60) ∧ ∀ x, x < 8 → p.testBit x = true → g x ≤ s0) ∧ z = 1 ∧ u = (WD a cI cB s0 (p : Int) g f3 f4 g5 f6 g7 f8 g9 g10 f11 g12 0 f14 g15))) (hm : (¬ ((1 ≤ s0 ∧ s0 ≤ 60) ∧ ∀ x, x < 8 → p.testBit x = true → g x ≤ s0) ∧ z' = 0 ∧ u' = (WM a' cI R (mz p g) f2 g3 g4)) ∨ (((1 ≤ s0 ∧ s0 ≤ 60) ∧ ∀ x, x < 8 → p.testBit x = true → g x ≤ s0) ∧ z' = 1 ∧ u' = (WM a' cI s0 (mz p g) f2 g3 g4))) : z = z' ∧ LI a a' cI cB (u ++ u') := by
  rcases hd with ⟨h1, rfl, rfl⟩ | ⟨h1, rfl, rfl⟩
  · rcases hm with ⟨_, rfl, rfl⟩ | ⟨h2, _⟩
    · exact ⟨rfl, LI.mk hok hpk⟩
    · exact absurd h2 h1
  · rcases hm with ⟨h2, _⟩ | ⟨h2, rfl, rfl⟩
    · exact absurd h1 h2
    · exact ⟨rfl, LI.mk (sz_size hok h1) (Or.inl rfl)⟩
set_option maxHeartbeats 1000000 in
theorem law_size {a a' : Nat → Nat} {cI cB : ClassId} {R : Int} {p : Nat} {g : Nat → Int} {f3 : Int} {f4 : Int} {g5 : Nat → Int} {f6 : Int} {g7 : Nat → Int} {f8 : Int} {g9 : Nat → Int} {g10 : Nat → Int} {f11 : Int} {g12 : Nat → Int} {f13 : Int} {f14 : Int} {g15 : Nat → Int} {f2 : Int} {g3 : Nat → Int} {g4 : Nat → Int} (hok : SzOk R p g) (hpk : PkI R p g f13 f14 g15) {z z' : Int} {u u' : va_W} (hd : u = (WD a cI cB R (p : Int) g f3 f4 g5 f6 g7 f8 g9 g10 f11 g12 f13 f14 g15) ∧ z = R) (hm : u' = (WM a' cI R (mz p g) f2 g3 g4) ∧ z' = R) : z = z' ∧ LI a a' cI cB (u ++ u') := by
  obtain ⟨rfl, e⟩ := hd
  obtain ⟨rfl, e'⟩ := hm
  exact ⟨e.trans e'.symm, LI.mk hok hpk⟩
set_option maxHeartbeats 1000000 in
theorem law_items {a a' : Nat → Nat} {cI cB : ClassId} {R : Int} {p : Nat} {g : Nat → Int} {f3 : Int} {f4 : Int} {g5 : Nat → Int} {f6 : Int} {g7 : Nat → Int} {f8 : Int} {g9 : Nat → Int} {g10 : Nat → Int} {f11 : Int} {g12 : Nat → Int} {f13 : Int} {f14 : Int} {g15 : Nat → Int} {f2 : Int} {g3 : Nat → Int} {g4 : Nat → Int} (hok : SzOk R p g) (hpk : PkI R p g f13 f14 g15) {z z' : Int} {u u' : va_W} (hd : u = (WD a cI cB R (p : Int) g f3 f4 g5 f6 g7 f8 g9 g10 f11 g12 f13 f14 g15) ∧ z = (p : Int)) (hm : u' = (WM a' cI R (mz p g) f2 g3 g4) ∧ z' = (p : Int)) : z = z' ∧ LI a a' cI cB (u ++ u') := by
  obtain ⟨rfl, e⟩ := hd
  obtain ⟨rfl, e'⟩ := hm
  exact ⟨e.trans e'.symm, LI.mk hok hpk⟩
set_option maxHeartbeats 1000000 in
theorem law_sizeOf {a a' : Nat → Nat} {cI cB : ClassId} {R : Int} {p : Nat} {g : Nat → Int} {f3 : Int} {f4 : Int} {g5 : Nat → Int} {f6 : Int} {g7 : Nat → Int} {f8 : Int} {g9 : Nat → Int} {g10 : Nat → Int} {f11 : Int} {g12 : Nat → Int} {f13 : Int} {f14 : Int} {g15 : Nat → Int} {f2 : Int} {g3 : Nat → Int} {g4 : Nat → Int} (hok : SzOk R p g) (hpk : PkI R p g f13 f14 g15) {z0 : Int} {z z' : Int} {u u' : va_W} (hd : u = (WD a cI cB R (p : Int) g f3 f4 g5 f6 g7 f8 g9 g10 f11 g12 f13 f14 g15) ∧ ((hasb p z0 = false ∧ z = -1) ∨ ∃ i : Nat, i < 8 ∧ z0 = i ∧ p.testBit i = true ∧ z = g i)) (hm : u' = (WM a' cI R (mz p g) f2 g3 g4) ∧ ((hasb p z0 = false ∧ z' = -1) ∨ ∃ i : Nat, i < 8 ∧ z0 = i ∧ p.testBit i = true ∧ z' = g i)) : z = z' ∧ LI a a' cI cB (u ++ u') := by
  obtain ⟨rfl, hd⟩ := hd
  obtain ⟨rfl, hm⟩ := hm
  refine ⟨?_, LI.mk hok hpk⟩
  rcases hd with ⟨h1, e⟩ | ⟨i, hi, ei, hb, e⟩
  · rcases hm with ⟨_, e'⟩ | ⟨j, hj, ej, hb, _⟩
    · rw [e, e']
    · exact (has_not hj ej hb h1).elim
  · rcases hm with ⟨h1, _⟩ | ⟨j, hj, ej, _, e'⟩
    · exact (has_not hi ei hb h1).elim
    · have q : i = j := by omega
      subst q
      rw [e, e']
set_option maxHeartbeats 1000000 in
theorem law_least {a a' : Nat → Nat} {cI cB : ClassId} {R : Int} {p : Nat} {g : Nat → Int} {f13 : Int} {f14 : Int} {g15 : Nat → Int} (hok : SzOk R p g) (hpk : PkI R p g f13 f14 g15) {z z' : Int} {u u' : va_W} (hd : ∃ (f3' : Int) (f4' : Int) (g5' : Nat → Int) (f6' : Int) (g7' : Nat → Int) (f8' : Int) (g9' : Nat → Int) (g10' : Nat → Int) (f11' : Int) (g12' : Nat → Int), ∃ (h' : Nat → Int), u = (WD a cI cB R (p : Int) g f3' f4' g5' f6' g7' f8' g9' g10' f11' g12' 1 z h') ∧ PkS R p g z h') (hm : ∃ (f2' : Int) (g3' g4' : Nat → Int), u' = (WM a' cI R (mz p g) f2' g3' g4') ∧ Opt R (sel p 8 g) (fun _ => 0) 0 z') : z = z' ∧ LI a a' cI cB (u ++ u') := by
  obtain ⟨f3', f4', g5', f6', g7', f8', g9', g10', f11', g12', h', rfl, hp⟩ := hd
  obtain ⟨f2', g3', g4', rfl, hm⟩ := hm
  obtain ⟨K, f, e, _, ho, _⟩ := id hp
  refine ⟨?_, LI.mk hok (Or.inr ⟨rfl, hp⟩)⟩
  rw [e]
  exact opt_uniq ho hm
set_option maxHeartbeats 1000000 in
theorem law_binOf {a a' : Nat → Nat} {cI cB : ClassId} {R : Int} {p : Nat} {g : Nat → Int} {f3 : Int} {f4 : Int} {g5 : Nat → Int} {f6 : Int} {g7 : Nat → Int} {f8 : Int} {g9 : Nat → Int} {g10 : Nat → Int} {f11 : Int} {g12 : Nat → Int} {f13 : Int} {f14 : Int} {g15 : Nat → Int} (hok : SzOk R p g) (hpk : PkI R p g f13 f14 g15) {z0 : Int} {z z' : Int} {u u' : va_W} (hd : (hasb p z0 = false ∧ z = -1 ∧ u = (WD a cI cB R (p : Int) g f3 f4 g5 f6 g7 f8 g9 g10 f11 g12 f13 f14 g15)) ∨ ∃ i : Nat, i < 8 ∧ z0 = i ∧ p.testBit i = true ∧ ∃ (f3' : Int) (f4' : Int) (g5' : Nat → Int) (f6' : Int) (g7' : Nat → Int) (f8' : Int) (g9' : Nat → Int) (g10' : Nat → Int) (f11' : Int) (g12' : Nat → Int), ∃ (c' : Int) (h' : Nat → Int), u = (WD a cI cB R (p : Int) g f3' f4' g5' f6' g7' f8' g9' g10' f11' g12' 1 c' h') ∧ PkS R p g c' h' ∧ z = h' i) (hm : ∃ (f2' : Int) (g3' g4' : Nat → Int), u' = (WM a' cI R (mz p g) f2' g3' g4') ∧ ((hasb p z0 = false ∧ z' = -1) ∨ ∃ (i K : Nat) (f : Nat → Nat), i < 8 ∧ z0 = i ∧ p.testBit i = true ∧ Opt R (sel p 8 g) (fun _ => 0) 0 (K : Int) ∧ LXM R (rk p 8) (fun k => g (it p k)) K f ∧ z' = f (rk p i))) : z = z' ∧ LI a a' cI cB (u ++ u') := by
  obtain ⟨f2', g3', g4', rfl, hm⟩ := hm
  rcases hd with ⟨h1, rfl, rfl⟩ | ⟨i, hi, ei, hb, f3', f4', g5', f6', g7', f8', g9', g10', f11', g12', c', h', rfl, hp, rfl⟩
  · rcases hm with ⟨_, rfl⟩ | ⟨j, K, f, hj, ej, hb, _⟩
    · exact ⟨rfl, LI.mk hok hpk⟩
    · exact (has_not hj ej hb h1).elim
  · rcases hm with ⟨h1, _⟩ | ⟨j, K', f', hj, ej, _, ho', hl, rfl⟩
    · exact (has_not hi ei hb h1).elim
    · have q : i = j := by omega
      subst q
      refine ⟨?_, LI.mk hok (Or.inr ⟨rfl, hp⟩)⟩
      obtain ⟨K, f, e, _, ho, hf, hh⟩ := hp
      have eK : (K : Int) = K' := opt_uniq ho ho'
      have eK : K = K' := by omega
      subst eK
      rw [hh i hi hb, first_same (opt_its ho) hf hl _ (rk_lt hi hb)]
set_option maxHeartbeats 1000000 in
theorem law_leastWithout {a a' : Nat → Nat} {cI cB : ClassId} {R : Int} {p : Nat} {g : Nat → Int} {f3 : Int} {f4 : Int} {g5 : Nat → Int} {f6 : Int} {g7 : Nat → Int} {f8 : Int} {g9 : Nat → Int} {g10 : Nat → Int} {f11 : Int} {g12 : Nat → Int} {f13 : Int} {f14 : Int} {g15 : Nat → Int} (hok : SzOk R p g) (hpk : PkI R p g f13 f14 g15) {z0 : Int} {z z' : Int} {u u' : va_W} (hd : (hasb p z0 = false ∧ z = -1 ∧ u = (WD a cI cB R (p : Int) g f3 f4 g5 f6 g7 f8 g9 g10 f11 g12 f13 f14 g15)) ∨ ∃ i : Nat, i < 8 ∧ z0 = i ∧ p.testBit i = true ∧ ∃ (f3' : Int) (f4' : Int) (g5' : Nat → Int) (f6' : Int) (g7' : Nat → Int) (f8' : Int) (g9' : Nat → Int) (g10' : Nat → Int) (f11' : Int) (g12' : Nat → Int), u = (WD a cI cB R (p : Int) g f3' f4' g5' f6' g7' f8' g9' g10' f11' g12' f13 f14 g15) ∧ Opt R (sel (clr p (2 ^ i)) 8 g) (fun _ => 0) 0 z) (hm : ∃ (f2' : Int) (g3' g4' : Nat → Int), u' = (WM a' cI R (mz p g) f2' g3' g4') ∧ ((hasb p z0 = false ∧ z' = -1) ∨ ∃ i : Nat, i < 8 ∧ z0 = i ∧ p.testBit i = true ∧ Opt R (sel (clr p (2 ^ i)) 8 g) (fun _ => 0) 0 z')) : z = z' ∧ LI a a' cI cB (u ++ u') := by
  obtain ⟨f2', g3', g4', rfl, hm⟩ := hm
  rcases hd with ⟨h1, rfl, rfl⟩ | ⟨i, hi, ei, hb, f3', f4', g5', f6', g7', f8', g9', g10', f11', g12', rfl, ho⟩
  · rcases hm with ⟨_, rfl⟩ | ⟨j, hj, ej, hb, _⟩
    · exact ⟨rfl, LI.mk hok hpk⟩
    · exact (has_not hj ej hb h1).elim
  · rcases hm with ⟨h1, _⟩ | ⟨j, hj, ej, _, ho'⟩
    · exact (has_not hi ei hb h1).elim
    · have q : i = j := by omega
      subst q
      exact ⟨opt_uniq ho ho', LI.mk hok hpk⟩
set_option maxHeartbeats 1000000 in
theorem law_spare {a a' : Nat → Nat} {cI cB : ClassId} {R : Int} {p : Nat} {g : Nat → Int} {f13 : Int} {f14 : Int} {g15 : Nat → Int} (hok : SzOk R p g) (hpk : PkI R p g f13 f14 g15) {z z' : Int} {u u' : va_W} (hd : ∃ (f3' : Int) (f4' : Int) (g5' : Nat → Int) (f6' : Int) (g7' : Nat → Int) (f8' : Int) (g9' : Nat → Int) (g10' : Nat → Int) (f11' : Int) (g12' : Nat → Int), ∃ (K : Nat) (h' : Nat → Int), u = (WD a cI cB R (p : Int) g f3' f4' g5' f6' g7' f8' g9' g10' f11' g12' 1 (K : Int) h') ∧ PkS R p g (K : Int) h' ∧ (0 ≤ z ∧ z ≤ R) ∧ (z = 0 ∨ Cp R (z :: (sel p 8 g)) (fun _ => 0) K) ∧ ∀ x : Int, z < x → x ≤ R → ¬ Cp R (x :: (sel p 8 g)) (fun _ => 0) K) (hm : ∃ (f2' : Int) (g3' g4' : Nat → Int), u' = (WM a' cI R (mz p g) f2' g3' g4') ∧ ∃ K : Nat, Opt R (sel p 8 g) (fun _ => 0) 0 (K : Int) ∧ (0 ≤ z' ∧ z' ≤ R) ∧ (z' = 0 ∨ Cp R (z' :: (sel p 8 g)) (fun _ => 0) K) ∧ ∀ x : Int, z' < x → x ≤ R → ¬ Cp R (x :: (sel p 8 g)) (fun _ => 0) K) : z = z' ∧ LI a a' cI cB (u ++ u') := by
  obtain ⟨f3', f4', g5', f6', g7', f8', g9', g10', f11', g12', K, h', rfl, hp, hz, hc, hn⟩ := hd
  obtain ⟨f2', g3', g4', rfl, K', ho', hz', hc', hn'⟩ := hm
  refine ⟨?_, LI.mk hok (Or.inr ⟨rfl, hp⟩)⟩
  obtain ⟨K2, f, e, _, ho, _⟩ := hp
  have eK : (K2 : Int) = K' := opt_uniq ho ho'
  have eK : K = K' := by omega
  subst eK
  rcases Int.lt_trichotomy z z' with q | q | q
  · rcases hc' with h | h
    · omega
    · exact absurd h (hn z' q hz'.2)
  · exact q
  · rcases hc with h | h
    · omega
    · exact absurd h (hn' z q hz.2)
set_option maxHeartbeats 1000000 in
theorem law_sizeFor {a a' : Nat → Nat} {cI cB : ClassId} {R : Int} {p : Nat} {g : Nat → Int} {f3 : Int} {f4 : Int} {g5 : Nat → Int} {f6 : Int} {g7 : Nat → Int} {f8 : Int} {g9 : Nat → Int} {g10 : Nat → Int} {f11 : Int} {g12 : Nat → Int} {f13 : Int} {f14 : Int} {g15 : Nat → Int} (hok : SzOk R p g) (hpk : PkI R p g f13 f14 g15) {n0 : Int} {z z' : Int} {u u' : va_W} (hd : (¬ ((1 ≤ n0 ∧ n0 ≤ 8) ∧ p ≠ 0) ∧ z = -1 ∧ u = (WD a cI cB R (p : Int) g f3 f4 g5 f6 g7 f8 g9 g10 f11 g12 f13 f14 g15)) ∨ (((1 ≤ n0 ∧ n0 ≤ 8) ∧ p ≠ 0) ∧ ∃ (f3' : Int) (f4' : Int) (g5' : Nat → Int) (f6' : Int) (g7' : Nat → Int) (f8' : Int) (g9' : Nat → Int) (g10' : Nat → Int) (f11' : Int) (g12' : Nat → Int), u = (WD a cI cB R (p : Int) g f3' f4' g5' f6' g7' f8' g9' g10' f11' g12' f13 f14 g15) ∧ ∃ N : Nat, n0 = N ∧ 0 ≤ z ∧ Cp z (sel p 8 g) (fun _ => 0) N ∧ ∀ x : Int, x < z → ¬ Cp x (sel p 8 g) (fun _ => 0) N)) (hm : ∃ (f2' : Int) (g3' g4' : Nat → Int), u' = (WM a' cI R (mz p g) f2' g3' g4') ∧ ((¬ ((1 ≤ n0 ∧ n0 ≤ 8) ∧ p ≠ 0) ∧ z' = -1) ∨ (((1 ≤ n0 ∧ n0 ≤ 8) ∧ p ≠ 0) ∧ ∃ N : Nat, n0 = N ∧ 0 ≤ z' ∧ Cp z' (sel p 8 g) (fun _ => 0) N ∧ ∀ x : Int, x < z' → ¬ Cp x (sel p 8 g) (fun _ => 0) N))) : z = z' ∧ LI a a' cI cB (u ++ u') := by
  obtain ⟨f2', g3', g4', rfl, hm⟩ := hm
  rcases hd with ⟨h1, rfl, rfl⟩ | ⟨h1, f3', f4', g5', f6', g7', f8', g9', g10', f11', g12', rfl, N, eN, hz, hc, hn⟩
  · rcases hm with ⟨_, rfl⟩ | ⟨h2, _⟩
    · exact ⟨rfl, LI.mk hok hpk⟩
    · exact absurd h2 h1
  · rcases hm with ⟨h2, _⟩ | ⟨_, N', eN', hz', hc', hn'⟩
    · exact absurd h1 h2
    · have q : N = N' := by omega
      subst q
      refine ⟨?_, LI.mk hok hpk⟩
      rcases Int.lt_trichotomy z z' with q | q | q
      · exact absurd hc (hn' z q)
      · exact q
      · exact absurd hc' (hn z' q)
set_option maxHeartbeats 1000000 in
theorem law_together {a a' : Nat → Nat} {cI cB : ClassId} {R : Int} {p : Nat} {g : Nat → Int} {f3 : Int} {f4 : Int} {g5 : Nat → Int} {f6 : Int} {g7 : Nat → Int} {f8 : Int} {g9 : Nat → Int} {g10 : Nat → Int} {f11 : Int} {g12 : Nat → Int} {f13 : Int} {f14 : Int} {g15 : Nat → Int} (hok : SzOk R p g) (hpk : PkI R p g f13 f14 g15) {x0 y0 : Int} {z z' : Int} {u u' : va_W} (hd : ((hasb p x0 = false ∨ hasb p y0 = false ∨ x0 = y0 ∨ R < g x0.toNat + g y0.toNat) ∧ z = 0 ∧ u = (WD a cI cB R (p : Int) g f3 f4 g5 f6 g7 f8 g9 g10 f11 g12 f13 f14 g15)) ∨ ∃ i j : Nat, i < 8 ∧ j < 8 ∧ x0 = i ∧ y0 = j ∧ i ≠ j ∧ p.testBit i = true ∧ p.testBit j = true ∧ g i + g j ≤ R ∧ ∃ (f3' : Int) (f4' : Int) (g5' : Nat → Int) (f6' : Int) (g7' : Nat → Int) (f8' : Int) (g9' : Nat → Int) (g10' : Nat → Int) (f11' : Int) (g12' : Nat → Int), ∃ (K : Nat) (h' : Nat → Int), u = (WD a cI cB R (p : Int) g f3' f4' g5' f6' g7' f8' g9' g10' f11' g12' 1 (K : Int) h') ∧ PkS R p g (K : Int) h' ∧ ((z = 1 ∧ Cp R ((g i + g j) :: sel (clr (clr p (2 ^ i)) (2 ^ j)) 8 g) (fun _ => 0) K) ∨ (z = 0 ∧ ¬ Cp R ((g i + g j) :: sel (clr (clr p (2 ^ i)) (2 ^ j)) 8 g) (fun _ => 0) K))) (hm : ∃ (f2' : Int) (g3' g4' : Nat → Int), u' = (WM a' cI R (mz p g) f2' g3' g4') ∧ (((hasb p x0 = false ∨ hasb p y0 = false ∨ x0 = y0) ∧ z' = 0) ∨ ∃ i j K : Nat, i < 8 ∧ j < 8 ∧ x0 = i ∧ y0 = j ∧ i ≠ j ∧ p.testBit i = true ∧ p.testBit j = true ∧ Opt R (sel p 8 g) (fun _ => 0) 0 (K : Int) ∧ ((z' = 1 ∧ Cp R ((g i + g j) :: sel (clr (clr p (2 ^ i)) (2 ^ j)) 8 g) (fun _ => 0) K) ∨ (z' = 0 ∧ ¬ Cp R ((g i + g j) :: sel (clr (clr p (2 ^ i)) (2 ^ j)) 8 g) (fun _ => 0) K)))) : z = z' ∧ LI a a' cI cB (u ++ u') := by
  obtain ⟨f2', g3', g4', rfl, hm⟩ := hm
  rcases hd with ⟨h1, rfl, rfl⟩ | ⟨i, j, hi, hj, ei, ej, hij, hbi, hbj, hs, f3', f4', g5', f6', g7', f8', g9', g10', f11', g12', K, h', rfl, hp, hd⟩
  · refine ⟨?_, LI.mk hok hpk⟩
    rcases hm with ⟨_, rfl⟩ | ⟨i, j, K, hi, hj, ei, ej, hij, hbi, hbj, ho, hm⟩
    · rfl
    · rcases h1 with h1 | h1 | h1 | h1
      · exact (has_not hi ei hbi h1).elim
      · exact (has_not hj ej hbj h1).elim
      · omega
      · rcases hm with ⟨_, hc⟩ | ⟨e, _⟩
        · have h2 := Cp_all (t := (g i + g j) :: sel (clr (clr p (2 ^ i)) (2 ^ j)) 8 g) (fun x hx => by
            rcases List.mem_cons.mp hx with e | e
            · have q1 := hok.2.2.1 i
              have q2 := hok.2.2.1 j
              omega
            · exact sel_bd (P := fun x => 0 ≤ x) (fun k _ _ => (hok.2.2.1 k).1) x e) hc _ List.mem_cons_self
          rw [ei, ej, Int.toNat_natCast, Int.toNat_natCast] at h1
          omega
        · exact e.symm
  · rcases hm with ⟨h1, _⟩ | ⟨i', j', K', hi', hj', ei', ej', _, _, _, ho', hm⟩
    · exfalso
      rcases h1 with h1 | h1 | h1
      · exact has_not hi ei hbi h1
      · exact has_not hj ej hbj h1
      · omega
    · have q : i = i' := by omega
      subst q
      have q : j = j' := by omega
      subst q
      refine ⟨?_, LI.mk hok (Or.inr ⟨rfl, hp⟩)⟩
      obtain ⟨K2, f, e, _, ho, _⟩ := hp
      have eK : (K2 : Int) = K' := opt_uniq ho ho'
      have eK : K = K' := by omega
      subst eK
      rcases hd with ⟨e1, h1⟩ | ⟨e1, h1⟩
      · rcases hm with ⟨e2, _⟩ | ⟨_, h2⟩
        · rw [e1, e2]
        · exact absurd h1 h2
      · rcases hm with ⟨_, h2⟩ | ⟨e2, _⟩
        · exact absurd h2 h1
        · rw [e1, e2]
end
section
/-! THE CLAIM OUT OF ONE WALK OF THE LAW'S BODY. Your part is whole_start (and what it stands on); all else here is the same for every law, but numbers. -/
def R_law : String := "BinDeskLaw"
def lw_P (b : Addr) (xs : List Int32) (args : Array Value) (s : State) : Prop := args = #[.ref b] ∧ s.IntsAt b xs ∧ xs.length ≤ 193 ∧ (Jvm.Cond.and given_1 narrow_1).before args s = true
def lw_Q (_ : Array Value) (s : State) (o : Outcome) (t : State) : Prop := o = .returned (some (.int 1)) ∧ Framed s o t [] 600000 7290000
def lw_Z (below : List Frame) (a : Array Value) (s : State) : State → Prop := fun t => ∃ o, t.status = .running ∧ Ended t below o ∧ lw_Q a s o t
/-- the law's own end, with 1 on the stack, nothing written that was there before, its room as the claim has it -/
theorem lw_ret {p : Program} {l : Launch} {e : Env} {s : State} {m : MethodId} {below : List Frame} {meth : Method} {c : Code} {b : Nat} (hx : p.tables.exec = Jvm.exec) (hb : c.code = code) (hr : meth.sig.returnType = ret) (hlocks : meth.locks = false) {pc : Nat} {H : Heap} {ls : Array Slot} (hdg : decode code pc = .ok (.ireturn, 1)) : W p l e room_1 s m #[Value.ref b] below meth c H [] 600000 7290000 (lw_Z below #[Value.ref b] s) (F0 m pc ls [.int 1]) := by
  intro T hT X
  obtain ⟨fs, hret, hrun, hended, hW, hframe⟩ := X.leave (v := some (.int 1)) (hlocks := hlocks) (fun h => by rw [hr] at h; cases h)
  have hmeth' : T.vm.method? m = some meth := X.method'
  refine ⟨T.setFrames fs, ?_, .returned (some (.int 1)), hrun, hended, rfl, ⟨_, rfl⟩, hW, hframe⟩
  jvm_step X.here [X.here.top, hx, hb, hdg, hmeth', hr, ret, narrow_b1]
  (try refine ⟨rfl, ?_⟩); (try refine ⟨rfl, ?_⟩)
  first | (intro acts; rw [hret _ acts rfl rfl rfl]) | rw [hret _ _ rfl rfl rfl]
  exact Steps.refl _
/-- what holds at the law's entry: the machine, the code, the tables' words (any of lw_tbl by 'hts w (by decide +kernel)'), the script of L ints xs at the cell b, what the Statement gives of the start (any of its parts by flat_of_before) -/
def lw_At (p : Program) (s : State) (m : MethodId) (meth : Method) (c : Code) (b L : Nat) (xs : Nat → Int32) : Prop :=
  p.tables.exec = Jvm.exec ∧ c.code = code ∧ meth.sig.returnType = ret ∧ c.maxLocals = 4 ∧ s.vm.findClass R_law = some m.cls ∧ (∀ w ∈ lw_tbl, w.before #[Value.ref b] s = true) ∧ va_X b L xs s s.heap ∧ b < s.heap.size ∧ meth.locks = false ∧ (Jvm.Cond.and given_1 narrow_1).before #[Value.ref b] s = true
/-! the law's walk, by the same judgement: G over both pictures; 12 cells of 157 slots are made by then -/
theorem app_l {D : va_G} {cl : List vw_C} {wc wr : va_W} {H : Heap} (h : va_P D cl (wc ++ wr) H) : va_P D cl wc H := fun k q hk => h k q (by
  rw [List.getElem?_append_left (List.getElem?_eq_some_iff.mp hk).1]; exact hk)
theorem app_r {D : va_G} {cl : List vw_C} {wc wr : va_W} {H : Heap} (h : va_P D cl (wc ++ wr) H) : va_P D cl wr H := fun k q hk => h (wc.length + k) q (by
  rw [List.getElem?_append_right (by omega), Nat.add_sub_cancel_left]; exact hk)
theorem appD_l {A : Nat → Prop} {wc wr : va_W} (h : va_D A (wc ++ wr)) : va_D A wc := by
  have e : ∀ (k : Nat) (q : Nat × va_E), wc[k]? = some q → (wc ++ wr)[k]? = some q := fun k q hk => by
    rw [List.getElem?_append_left (List.getElem?_eq_some_iff.mp hk).1]; exact hk
  exact ⟨fun i j x y hx hy q => h.1 i j x y (e i x hx) (e j y hy) q, fun k q hk => h.2 k q (e k q hk)⟩
theorem appD_r {A : Nat → Prop} {wc wr : va_W} (h : va_D A (wc ++ wr)) : va_D A wr := by
  have e : ∀ (k : Nat) (q : Nat × va_E), wr[k]? = some q → (wc ++ wr)[wc.length + k]? = some q := fun k q hk => by
    rw [List.getElem?_append_right (by omega), Nat.add_sub_cancel_left]; exact hk
  refine ⟨fun i j x y hx hy q => ?_, fun k q hk => h.2 _ q (e k q hk)⟩
  have h1 := h.1 _ _ x y (e i x hx) (e j y hy) q
  omega
theorem app_ne {A : Nat → Prop} {wc wr : va_W} (h : va_D A (wc ++ wr)) {i j : Nat} {x y : Nat × va_E} (hx : wc[i]? = some x) (hy : wr[j]? = some y) : x.1 ≠ y.1 := by
  intro q
  have hl := (List.getElem?_eq_some_iff.mp hx).1
  have h1 := h.1 i (wc.length + j) x y (by rw [List.getElem?_append_left hl]; exact hx) (by rw [List.getElem?_append_right (by omega), Nat.add_sub_cancel_left]; exact hy) q
  omega
/-- behind a call: the rest as it was, then what came back -/
theorem join_app {A0 : Nat → Prop} {D : va_G} {cl : List vw_C} {wc wr w1 : va_W} {H H1 : Heap} (hP : va_P D cl (wc ++ wr) H) (hD : va_D A0 (wc ++ wr)) (hk : ∀ q : Nat, q < H.size → ¬ va_A wc H.size q → H1[q]? = H[q]?) (hF : ∀ q, va_A wc H.size q → A0 q) (hP1 : va_P D cl w1 H1) (hD1 : va_D (va_A wc H.size) w1) : va_P D cl (wr ++ w1) H1 ∧ va_D A0 (wr ++ w1) := by
  have apart : ∀ (k : Nat) (q : Nat × va_E), wr[k]? = some q → q.1 < H.size ∧ ¬ va_A wc H.size q.1 := by
    intro k q hq
    have hl := (app_r hP k q hq).lt
    refine ⟨hl, fun h => ?_⟩
    rcases h with ⟨k2, e, h⟩ | h
    · exact app_ne hD h hq rfl
    · omega
  exact ⟨va_P.app ((app_r hP).kept (fun k q hq => hk q.1 (apart k q hq).1 (apart k q hq).2)) hP1, va_D.app (appD_r hD) (hD1.weaken (fun k q _ h => hF q.1 h)) (fun i j x y hx hy hxy => (apart i x hx).2 (by rw [hxy]; exact hD1.2 j y hy))⟩
def Lx (l : Launch) (D : va_G) (cI cB : ClassId) (b L : Nat) (xs : Nat → Int32) (A : Nat → Prop) (G : GT) : Prop :=
  ∃ (p : Program) (e : Env) (s : State) (m : MethodId) (below : List Frame) (meth : Method) (c : Code),
    lw_At p s m meth c b L xs ∧ va_K D vwCl (tyL cI cB) s ∧ A = (fun q => s.heap.size ≤ q) ∧
    G = fun lv ws pc st => ∀ (H : Heap) (locs : List Loc) (ls : Array Slot), va_P D vwCl ws H → va_D A ws → va_S A s.heap H locs → lv_has ls 4 lv → W p l e room_1 s m #[Value.ref b] below meth c H locs 12 157 (lw_Z below #[Value.ref b] s) (F0 m pc ls st)
section LL
variable {l : Launch} {D : va_G} {cI cB : ClassId} {b L : Nat} {xs : Nat → Int32} {A : Nat → Prop} {G : GT} {lv : List (Nat × Value)} {ws : va_W} {pc : Nat} {st : List Value}
theorem Lx.cx (C : Lx l D cI cB b L xs A G) : Cx l R_law code 4 room_1 D cI cB A 12 157 G := by
  obtain ⟨p, e, s, m, below, meth, c, ⟨hx, hb, hr, hml, hown, hts, hX, hbl, hlocks, hgv⟩, hK, hA, rfl⟩ := C
  subst hA
  exact ⟨p, e, s, m, #[Value.ref b], below, meth, c, lw_Z below #[Value.ref b] s, hx, hb, hml, hown, fun w h => hts w (lw_all_tbl h), hK, fun _ h => h, rfl⟩
theorem l_sld (C : Lx l D cI cB b L xs A G) {z : Int} (j : Nat) (hz : z = (j : Int)) (hj : j < L) (hL : L ≤ 193) (hd : decode code pc = .ok (.iaload, 1)) (k : G lv ws (pc + 1) (.int (iI (xs j).toInt) :: st)) : G lv ws pc (.int (iI z) :: .ref b :: st) := by
  obtain ⟨p, e, s, m, below, meth, c, ⟨hx, hb, hr, hml, hown, hts, hX, hbl, hlocks, hgv⟩, hK, hA, rfl⟩ := C
  subst hA
  intro H locs ls hP hD hS hl
  have k := k H locs ls hP hD hS hl
  refine va_sld hx hb hX hbl (Nat.not_le.mpr hbl) hS (iI_in hz hj (by omega)) hd ?_
  rw [iI_self] at k
  rw [iI_clamp hz (by omega)]
  exact k
theorem l_slen (C : Lx l D cI cB b L xs A G) (hd : decode code pc = .ok (.arraylength, 1)) (k : G lv ws (pc + 1) (.int (iI (L : Int)) :: st)) : G lv ws pc (.ref b :: st) := by
  obtain ⟨p, e, s, m, below, meth, c, ⟨hx, hb, hr, hml, hown, hts, hX, hbl, hlocks, hgv⟩, hK, hA, rfl⟩ := C
  subst hA
  intro H locs ls hP hD hS hl
  refine va_slen hx hb hX hbl (Nat.not_le.mpr hbl) hS hd ?_
  have eL : Int32.ofNat L = iI (L : Int) := Int32.ofInt_eq_ofNat.symm
  rw [eL]
  exact k H locs ls hP hD hS hl
theorem l_ret (C : Lx l D cI cB b L xs A G) (hd : decode code pc = .ok (.ireturn, 1)) : G lv ws pc [.int (iI 1)] := by
  obtain ⟨p, e, s, m, below, meth, c, ⟨hx, hb, hr, hml, hown, hts, hX, hbl, hlocks, hgv⟩, hK, hA, rfl⟩ := C
  subst hA
  intro H locs ls hP hD hS hl
  refine va_forget (fun q hq => hS.2.2 q hq) ?_
  refine W.widen (k := 600000) (n := 7290000) (by omega) (by omega) ?_
  exact lw_ret hx hb hr hlocks hd
theorem l_same (C : Lx l D cI cB b L xs A G) {z off : Int} (tgt : Nat) (ht : (pc : Int) + off = (tgt : Int)) (hd : decode code pc = .ok (.if_icmp .eq off, 3)) (k : G lv ws tgt st) : G lv ws pc (.int (iI z) :: .int (iI z) :: st) := by
  obtain ⟨p, e, s, m, below, meth, c, ⟨hx, hb, hr, hml, hown, hts, hX, hbl, hlocks, hgv⟩, hK, hA, rfl⟩ := C
  subst hA
  intro H locs ls hP hD hS hl
  exact lv_icmp_eq hx hb hd ht (fun _ => k H locs ls hP hD hS hl) (fun h => absurd rfl h)
theorem l_tabIn (C : Lx l D cI cB b L xs A G) {dflt lo hi z : Int} {offs : Array Int} {len : Nat} (off : Int) (tgt : Nat) (hd : decode code pc = .ok (.tableswitch dflt lo hi offs, len)) (hz : 0 ≤ z ∧ z < 16) (h1 : ¬ z < lo) (h2 : ¬ hi < z) (ho : offs[(z - lo).toNat]? = some off) (ht : (pc : Int) + off = (tgt : Int)) (k : G lv ws tgt st) : G lv ws pc (.int (iI z) :: st) := by
  obtain ⟨p, e, s, m, below, meth, c, ⟨hx, hb, hr, hml, hown, hts, hX, hbl, hlocks, hgv⟩, hK, hA, rfl⟩ := C
  subst hA
  intro H locs ls hP hD hS hl
  have e1 : (iI z).toInt = z := iI_toInt (by omega)
  exact lv_tableIn (off := off) hx hb hd (by rw [e1]; exact h1) (by rw [e1]; exact h2) (by rw [e1]; exact ho) ht (k H locs ls hP hD hS hl)
theorem l_tabOut (C : Lx l D cI cB b L xs A G) {dflt lo hi z : Int} {offs : Array Int} {len : Nat} (tgt : Nat) (hd : decode code pc = .ok (.tableswitch dflt lo hi offs, len)) (hz : 0 ≤ z ∧ z < 16) (h : z < lo ∨ hi < z) (ht : (pc : Int) + dflt = (tgt : Int)) (k : G lv ws tgt st) : G lv ws pc (.int (iI z) :: st) := by
  obtain ⟨p, e, s, m, below, meth, c, ⟨hx, hb, hr, hml, hown, hts, hX, hbl, hlocks, hgv⟩, hK, hA, rfl⟩ := C
  subst hA
  intro H locs ls hP hD hS hl
  have e1 : (iI z).toInt = z := iI_toInt (by omega)
  exact lv_tableOut hx hb hd (by rw [e1]; exact h) ht (k H locs ls hP hD hS hl)
set_option maxHeartbeats 4000000 in
/-- a call: the callee's cells stand first, they come back behind the rest -/
theorem l_call (C : Lx l D cI cB b L xs A G) {wc wr : va_W} {post : Int → va_W → Prop} {y : MethodName} {bytes : ByteArray} {maxL d' idx n : Nat} {rt : FieldType} {h0 : Nat} {T : u_T} {N : Nat} {fs stk : List Value} (st As : List Value) (hM : MDi l y bytes maxL rt d' (.ref h0 :: As) D cI cB wc post) {Cn : String} (hw : GoodIn lw_all (wsV R_law idx Cn y (ws_ y bytes maxL (some rt)))) (hpar : y.cls = Cn ∧ y.cls ≠ "java/lang/invoke/MethodHandle" ∧ y.cls ≠ "java/lang/invoke/VarHandle" ∧ (parseMethodDescriptor y.desc).map (fun d => d.parameters.length) = some n) (hd1 : d' ≤ 7) (hm : maxL ≤ 21) (hn : As.length = n) (q0 ci : Nat) (hcl : vwCl[ci]? = some (Cn, T, N)) (hrec : wc[q0]? = some (h0, .inr (ci, fs))) (hs : stk = As.reverse ++ .ref h0 :: st) (hst : (st.map fun v => v.category).sum ≤ 8) (hdg : decode code pc = .ok (.invokevirtual idx, 3)) (k : ∀ (z : Int) (u : va_W), post z u → G lv (wr ++ u) (pc + 3) (.int (iI z) :: st)) : G lv (wc ++ wr) pc stk := by
  obtain ⟨p, e, s, m, below, meth, c, ⟨hx, hb, hr, hml, hown, hts0, hX, hbl, hlocks, hgv⟩, hK, hA, rfl⟩ := C
  subst hA
  have hts : ∀ w ∈ lw_all, w.before #[Value.ref b] s = true := fun w h => hts0 w (lw_all_tbl h)
  intro H locs ls hP hD hS hl
  have hPc := app_l hP
  have hDc := appD_l hD
  have hF := g_free (fun _ h => h) hDc hS
  refine va_calli (va_runV (As := As) (rest := st) ⟨hx, hb, hml, hown, hts⟩ (hM H.size) (cwV n hts hw rfl rfl rfl hpar ⟨by show d' + 1 ≤ 10; omega, by show 8 + (maxL + 11) + 40 * d' ≤ 370; omega⟩) ⟨(fun a U g mk q => by obtain ⟨q0, q1, qP, qK, qD⟩ := q; exact ⟨q0, q1, qP, va_K.moved (u := U) (U := U.calling g mk a) (Vm.Alike.refl U.vm) qK, qD⟩), va_recv hK hPc hcl hrec, (fun U hU hW => ⟨rfl, by rw [hU], by rw [hU]; exact hPc, va_K.moved hW.alike hK, hDc.weaken (fun _ _ _ _ => trivial)⟩)⟩ rfl hn hl.1 hs (lv_room hst) hdg ⟨Nat.le_of_ble_eq_true rfl, Nat.le_of_ble_eq_true rfl⟩) hS (fun q _ h => hF q h) hF (fun r u t H1 locs1 ht hvm hw1 hB hz1 hk1 hS1 => ?_)
  obtain ⟨z, rfl, hp⟩ := hw1
  obtain ⟨hP1, hK1, hD1⟩ := hB
  rw [ht] at hP1
  obtain ⟨hP2, hD2⟩ := join_app hP hD hk1 hF hP1 hD1
  exact k z u hp H1 locs1 ls hP2 hD2 hS1 hl
end LL
theorem and15 (x : Int32) : ∃ n : Nat, n < 16 ∧ iI x.toInt &&& iI 15 = iI (n : Int) := by
  refine ⟨(x &&& iI 15).toBitVec.toNat, ?_, ?_⟩
  · rw [Int32.toBitVec_and, BitVec.toNat_and, show (iI 15).toBitVec.toNat = 15 from by decide]
    have h := Nat.and_le_right (n := x.toBitVec.toNat) (m := 15)
    omega
  · rw [iI_self]
    apply Int32.toBitVec_inj.mp
    rw [iI_bv, BitVec.ofNat_toNat, BitVec.setWidth_eq]
theorem rg32 (x : Int32) : -2147483648 ≤ x.toInt ∧ x.toInt < 2147483648 := ⟨Int32.le_toInt x, Int32.toInt_lt x⟩
end
section
/-! the law's thirteen cases: both answers are one, and the invariant holds again -/
set_option maxHeartbeats 4000000 in
set_option maxRecDepth 100000 in
theorem case_add {l : Launch} {D : va_G} {cI cB : ClassId} {b L : Nat} {xs : Nat → Int32} {A : Nat → Prop} {G : GT} {a a' : Nat → Nat} {i : Nat} {ws : va_W} (C : Lx l D cI cB b L xs A G) (hL : L ≤ 193) (hi : i + 3 ≤ L) (hI : LI a a' cI cB ws) (hnext : ∀ ws' : va_W, LI a a' cI cB ws' → G [(0, .ref b), (1, .ref (a 0)), (2, .ref (a' 0)), (3, .int (iI (i : Int)))] ws' 387 []) : G [(0, .ref b), (1, .ref (a 0)), (2, .ref (a' 0)), (3, .int (iI (i : Int)))] ws 108 [] := by
  obtain ⟨R, p, g, f3, f4, g5, f6, g7, f8, g9, g10, f11, g12, f13, f14, g15, f2, g3, g4, hok, hpk, rfl⟩ := hI
  refine g_aload_n C.cx (pc := 108) 1 rfl rfl dL_law_108 ?_
  refine g_aload_n C.cx (pc := 109) 0 rfl rfl dL_law_109 ?_
  refine g_iload_n C.cx (pc := 110) 3 rfl rfl dL_law_110 ?_
  refine g_iconst C.cx (pc := 111) dL_law_111 ?_
  refine g_iadd C.cx (pc := 112) dL_law_112 ?_
  refine l_sld C (pc := 113) (i + 1) (by omega) (by omega) hL dL_law_113 ?_
  refine l_call C (pc := 114) (n := 1) [] [.int (iI (xs (i + 1)).toInt)] (met_add l D cI cB a R g f3 f4 g5 f6 g7 f8 g9 g10 f11 g12 f13 f14 g15 p hok.2.1 hok.1 (xs (i + 1)).toInt (rg32 (xs (i + 1)))) (lw_V q85 q86 q87 q24 q88) (by decide +kernel) (by decide) (by decide) rfl 0 0 rfl rfl rfl (Nat.le_of_ble_eq_true rfl) dL_law_114 (fun z u hd => ?_)
  refine g_aload_n C.cx (pc := 117) 2 rfl rfl dL_law_117 ?_
  refine g_aload_n C.cx (pc := 118) 0 rfl rfl dL_law_118 ?_
  refine g_iload_n C.cx (pc := 119) 3 rfl rfl dL_law_119 ?_
  refine g_iconst C.cx (pc := 120) dL_law_120 ?_
  refine g_iadd C.cx (pc := 121) dL_law_121 ?_
  refine l_sld C (pc := 122) (i + 1) (by omega) (by omega) hL dL_law_122 ?_
  refine l_call C (pc := 123) (n := 1) [.int (iI z)] [.int (iI (xs (i + 1)).toInt)] (mem_add l D cI cB a' R f2 g3 g4 p g hok (xs (i + 1)).toInt (rg32 (xs (i + 1)))) (lw_V q231 q232 q233 q25 q234) (by decide +kernel) (by decide) (by decide) rfl 0 1 rfl rfl rfl (Nat.le_of_ble_eq_true rfl) dL_law_123 (fun z' u' hm => ?_)
  obtain ⟨e, hI⟩ := law_add hok hpk hd hm
  subst e
  refine l_same C (pc := 126) 387 (by decide) dL_law_126 ?_
  exact hnext _ hI
set_option maxHeartbeats 4000000 in
set_option maxRecDepth 100000 in
theorem case_remove {l : Launch} {D : va_G} {cI cB : ClassId} {b L : Nat} {xs : Nat → Int32} {A : Nat → Prop} {G : GT} {a a' : Nat → Nat} {i : Nat} {ws : va_W} (C : Lx l D cI cB b L xs A G) (hL : L ≤ 193) (hi : i + 3 ≤ L) (hI : LI a a' cI cB ws) (hnext : ∀ ws' : va_W, LI a a' cI cB ws' → G [(0, .ref b), (1, .ref (a 0)), (2, .ref (a' 0)), (3, .int (iI (i : Int)))] ws' 387 []) : G [(0, .ref b), (1, .ref (a 0)), (2, .ref (a' 0)), (3, .int (iI (i : Int)))] ws 131 [] := by
  obtain ⟨R, p, g, f3, f4, g5, f6, g7, f8, g9, g10, f11, g12, f13, f14, g15, f2, g3, g4, hok, hpk, rfl⟩ := hI
  refine g_aload_n C.cx (pc := 131) 1 rfl rfl dL_law_131 ?_
  refine g_aload_n C.cx (pc := 132) 0 rfl rfl dL_law_132 ?_
  refine g_iload_n C.cx (pc := 133) 3 rfl rfl dL_law_133 ?_
  refine g_iconst C.cx (pc := 134) dL_law_134 ?_
  refine g_iadd C.cx (pc := 135) dL_law_135 ?_
  refine l_sld C (pc := 136) (i + 1) (by omega) (by omega) hL dL_law_136 ?_
  refine l_call C (pc := 137) (n := 1) [] [.int (iI (xs (i + 1)).toInt)] (met_remove l D cI cB a R g f3 f4 g5 f6 g7 f8 g9 g10 f11 g12 f13 f14 g15 p hok.2.1 (xs (i + 1)).toInt (rg32 (xs (i + 1)))) (lw_V q93 q94 q95 q24 q96) (by decide +kernel) (by decide) (by decide) rfl 0 0 rfl rfl rfl (Nat.le_of_ble_eq_true rfl) dL_law_137 (fun z u hd => ?_)
  refine g_aload_n C.cx (pc := 140) 2 rfl rfl dL_law_140 ?_
  refine g_aload_n C.cx (pc := 141) 0 rfl rfl dL_law_141 ?_
  refine g_iload_n C.cx (pc := 142) 3 rfl rfl dL_law_142 ?_
  refine g_iconst C.cx (pc := 143) dL_law_143 ?_
  refine g_iadd C.cx (pc := 144) dL_law_144 ?_
  refine l_sld C (pc := 145) (i + 1) (by omega) (by omega) hL dL_law_145 ?_
  refine l_call C (pc := 146) (n := 1) [.int (iI z)] [.int (iI (xs (i + 1)).toInt)] (mem_remove l D cI cB a' R f2 g3 g4 p g hok (xs (i + 1)).toInt (rg32 (xs (i + 1)))) (lw_V q235 q236 q237 q25 q238) (by decide +kernel) (by decide) (by decide) rfl 0 1 rfl rfl rfl (Nat.le_of_ble_eq_true rfl) dL_law_146 (fun z' u' hm => ?_)
  obtain ⟨e, hI⟩ := law_remove hok hpk hd hm
  subst e
  refine l_same C (pc := 149) 387 (by decide) dL_law_149 ?_
  exact hnext _ hI
set_option maxHeartbeats 4000000 in
set_option maxRecDepth 100000 in
theorem case_resize {l : Launch} {D : va_G} {cI cB : ClassId} {b L : Nat} {xs : Nat → Int32} {A : Nat → Prop} {G : GT} {a a' : Nat → Nat} {i : Nat} {ws : va_W} (C : Lx l D cI cB b L xs A G) (hL : L ≤ 193) (hi : i + 3 ≤ L) (hI : LI a a' cI cB ws) (hnext : ∀ ws' : va_W, LI a a' cI cB ws' → G [(0, .ref b), (1, .ref (a 0)), (2, .ref (a' 0)), (3, .int (iI (i : Int)))] ws' 387 []) : G [(0, .ref b), (1, .ref (a 0)), (2, .ref (a' 0)), (3, .int (iI (i : Int)))] ws 154 [] := by
  obtain ⟨R, p, g, f3, f4, g5, f6, g7, f8, g9, g10, f11, g12, f13, f14, g15, f2, g3, g4, hok, hpk, rfl⟩ := hI
  refine g_aload_n C.cx (pc := 154) 1 rfl rfl dL_law_154 ?_
  refine g_aload_n C.cx (pc := 155) 0 rfl rfl dL_law_155 ?_
  refine g_iload_n C.cx (pc := 156) 3 rfl rfl dL_law_156 ?_
  refine g_iconst C.cx (pc := 157) dL_law_157 ?_
  refine g_iadd C.cx (pc := 158) dL_law_158 ?_
  refine l_sld C (pc := 159) (i + 1) (by omega) (by omega) hL dL_law_159 ?_
  refine g_aload_n C.cx (pc := 160) 0 rfl rfl dL_law_160 ?_
  refine g_iload_n C.cx (pc := 161) 3 rfl rfl dL_law_161 ?_
  refine g_iconst C.cx (pc := 162) dL_law_162 ?_
  refine g_iadd C.cx (pc := 163) dL_law_163 ?_
  refine l_sld C (pc := 164) (i + 2) (by omega) (by omega) hL dL_law_164 ?_
  refine l_call C (pc := 165) (n := 2) [] [.int (iI (xs (i + 1)).toInt), .int (iI (xs (i + 2)).toInt)] (met_resize l D cI cB a R g f3 f4 g5 f6 g7 f8 g9 g10 f11 g12 f13 f14 g15 p hok.2.1 hok.1 (xs (i + 1)).toInt (xs (i + 2)).toInt (rg32 (xs (i + 1))) (rg32 (xs (i + 2)))) (lw_V q97 q98 q99 q24 q100) (by decide +kernel) (by decide) (by decide) rfl 0 0 rfl rfl rfl (Nat.le_of_ble_eq_true rfl) dL_law_165 (fun z u hd => ?_)
  refine g_aload_n C.cx (pc := 168) 2 rfl rfl dL_law_168 ?_
  refine g_aload_n C.cx (pc := 169) 0 rfl rfl dL_law_169 ?_
  refine g_iload_n C.cx (pc := 170) 3 rfl rfl dL_law_170 ?_
  refine g_iconst C.cx (pc := 171) dL_law_171 ?_
  refine g_iadd C.cx (pc := 172) dL_law_172 ?_
  refine l_sld C (pc := 173) (i + 1) (by omega) (by omega) hL dL_law_173 ?_
  refine g_aload_n C.cx (pc := 174) 0 rfl rfl dL_law_174 ?_
  refine g_iload_n C.cx (pc := 175) 3 rfl rfl dL_law_175 ?_
  refine g_iconst C.cx (pc := 176) dL_law_176 ?_
  refine g_iadd C.cx (pc := 177) dL_law_177 ?_
  refine l_sld C (pc := 178) (i + 2) (by omega) (by omega) hL dL_law_178 ?_
  refine l_call C (pc := 179) (n := 2) [.int (iI z)] [.int (iI (xs (i + 1)).toInt), .int (iI (xs (i + 2)).toInt)] (mem_resize l D cI cB a' R f2 g3 g4 p g hok (xs (i + 1)).toInt (xs (i + 2)).toInt (rg32 (xs (i + 1))) (rg32 (xs (i + 2)))) (lw_V q243 q244 q245 q25 q246) (by decide +kernel) (by decide) (by decide) rfl 0 1 rfl rfl rfl (Nat.le_of_ble_eq_true rfl) dL_law_179 (fun z' u' hm => ?_)
  obtain ⟨e, hI⟩ := law_resize hok hpk hd hm
  subst e
  refine l_same C (pc := 182) 387 (by decide) dL_law_182 ?_
  exact hnext _ hI
set_option maxHeartbeats 4000000 in
set_option maxRecDepth 100000 in
theorem case_setSize {l : Launch} {D : va_G} {cI cB : ClassId} {b L : Nat} {xs : Nat → Int32} {A : Nat → Prop} {G : GT} {a a' : Nat → Nat} {i : Nat} {ws : va_W} (C : Lx l D cI cB b L xs A G) (hL : L ≤ 193) (hi : i + 3 ≤ L) (hI : LI a a' cI cB ws) (hnext : ∀ ws' : va_W, LI a a' cI cB ws' → G [(0, .ref b), (1, .ref (a 0)), (2, .ref (a' 0)), (3, .int (iI (i : Int)))] ws' 387 []) : G [(0, .ref b), (1, .ref (a 0)), (2, .ref (a' 0)), (3, .int (iI (i : Int)))] ws 187 [] := by
  obtain ⟨R, p, g, f3, f4, g5, f6, g7, f8, g9, g10, f11, g12, f13, f14, g15, f2, g3, g4, hok, hpk, rfl⟩ := hI
  refine g_aload_n C.cx (pc := 187) 1 rfl rfl dL_law_187 ?_
  refine g_aload_n C.cx (pc := 188) 0 rfl rfl dL_law_188 ?_
  refine g_iload_n C.cx (pc := 189) 3 rfl rfl dL_law_189 ?_
  refine g_iconst C.cx (pc := 190) dL_law_190 ?_
  refine g_iadd C.cx (pc := 191) dL_law_191 ?_
  refine l_sld C (pc := 192) (i + 1) (by omega) (by omega) hL dL_law_192 ?_
  refine l_call C (pc := 193) (n := 1) [] [.int (iI (xs (i + 1)).toInt)] (met_setSize l D cI cB a R g f3 f4 g5 f6 g7 f8 g9 g10 f11 g12 f13 f14 g15 p hok.2.1 hok.2.2.1 (xs (i + 1)).toInt (rg32 (xs (i + 1)))) (lw_V q101 q102 q103 q24 q104) (by decide +kernel) (by decide) (by decide) rfl 0 0 rfl rfl rfl (Nat.le_of_ble_eq_true rfl) dL_law_193 (fun z u hd => ?_)
  refine g_aload_n C.cx (pc := 196) 2 rfl rfl dL_law_196 ?_
  refine g_aload_n C.cx (pc := 197) 0 rfl rfl dL_law_197 ?_
  refine g_iload_n C.cx (pc := 198) 3 rfl rfl dL_law_198 ?_
  refine g_iconst C.cx (pc := 199) dL_law_199 ?_
  refine g_iadd C.cx (pc := 200) dL_law_200 ?_
  refine l_sld C (pc := 201) (i + 1) (by omega) (by omega) hL dL_law_201 ?_
  refine l_call C (pc := 202) (n := 1) [.int (iI z)] [.int (iI (xs (i + 1)).toInt)] (mem_setSize l D cI cB a' R f2 g3 g4 p g hok (xs (i + 1)).toInt (rg32 (xs (i + 1)))) (lw_V q247 q248 q249 q25 q250) (by decide +kernel) (by decide) (by decide) rfl 0 1 rfl rfl rfl (Nat.le_of_ble_eq_true rfl) dL_law_202 (fun z' u' hm => ?_)
  obtain ⟨e, hI⟩ := law_setSize hok hpk hd hm
  subst e
  refine l_same C (pc := 205) 387 (by decide) dL_law_205 ?_
  exact hnext _ hI
set_option maxHeartbeats 4000000 in
set_option maxRecDepth 100000 in
theorem case_size {l : Launch} {D : va_G} {cI cB : ClassId} {b L : Nat} {xs : Nat → Int32} {A : Nat → Prop} {G : GT} {a a' : Nat → Nat} {i : Nat} {ws : va_W} (C : Lx l D cI cB b L xs A G) (hL : L ≤ 193) (hi : i + 3 ≤ L) (hI : LI a a' cI cB ws) (hnext : ∀ ws' : va_W, LI a a' cI cB ws' → G [(0, .ref b), (1, .ref (a 0)), (2, .ref (a' 0)), (3, .int (iI (i : Int)))] ws' 387 []) : G [(0, .ref b), (1, .ref (a 0)), (2, .ref (a' 0)), (3, .int (iI (i : Int)))] ws 210 [] := by
  obtain ⟨R, p, g, f3, f4, g5, f6, g7, f8, g9, g10, f11, g12, f13, f14, g15, f2, g3, g4, hok, hpk, rfl⟩ := hI
  refine g_aload_n C.cx (pc := 210) 1 rfl rfl dL_law_210 ?_
  refine l_call C (pc := 211) (n := 0) [] [] (met_size l D cI cB a R (p : Int) g f3 f4 g5 f6 g7 f8 g9 g10 f11 g12 f13 f14 g15) (lw_V q109 q110 q111 q24 q112) (by decide +kernel) (by decide) (by decide) rfl 0 0 rfl rfl rfl (Nat.le_of_ble_eq_true rfl) dL_law_211 (fun z u hd => ?_)
  refine g_aload_n C.cx (pc := 214) 2 rfl rfl dL_law_214 ?_
  refine l_call C (pc := 215) (n := 0) [.int (iI z)] [] (mem_size l D cI cB a' R (mz p g) f2 g3 g4) (lw_V q251 q252 q253 q25 q254) (by decide +kernel) (by decide) (by decide) rfl 0 1 rfl rfl rfl (Nat.le_of_ble_eq_true rfl) dL_law_215 (fun z' u' hm => ?_)
  obtain ⟨e, hI⟩ := law_size hok hpk hd hm
  subst e
  refine l_same C (pc := 218) 387 (by decide) dL_law_218 ?_
  exact hnext _ hI
set_option maxHeartbeats 4000000 in
set_option maxRecDepth 100000 in
theorem case_items {l : Launch} {D : va_G} {cI cB : ClassId} {b L : Nat} {xs : Nat → Int32} {A : Nat → Prop} {G : GT} {a a' : Nat → Nat} {i : Nat} {ws : va_W} (C : Lx l D cI cB b L xs A G) (hL : L ≤ 193) (hi : i + 3 ≤ L) (hI : LI a a' cI cB ws) (hnext : ∀ ws' : va_W, LI a a' cI cB ws' → G [(0, .ref b), (1, .ref (a 0)), (2, .ref (a' 0)), (3, .int (iI (i : Int)))] ws' 387 []) : G [(0, .ref b), (1, .ref (a 0)), (2, .ref (a' 0)), (3, .int (iI (i : Int)))] ws 223 [] := by
  obtain ⟨R, p, g, f3, f4, g5, f6, g7, f8, g9, g10, f11, g12, f13, f14, g15, f2, g3, g4, hok, hpk, rfl⟩ := hI
  refine g_aload_n C.cx (pc := 223) 1 rfl rfl dL_law_223 ?_
  refine l_call C (pc := 224) (n := 0) [] [] (met_items l D cI cB a R (p : Int) g f3 f4 g5 f6 g7 f8 g9 g10 f11 g12 f13 f14 g15) (lw_V q113 q114 q115 q24 q116) (by decide +kernel) (by decide) (by decide) rfl 0 0 rfl rfl rfl (Nat.le_of_ble_eq_true rfl) dL_law_224 (fun z u hd => ?_)
  refine g_aload_n C.cx (pc := 227) 2 rfl rfl dL_law_227 ?_
  refine l_call C (pc := 228) (n := 0) [.int (iI z)] [] (mem_items l D cI cB a' R f2 g3 g4 p g hok) (lw_V q255 q256 q257 q25 q258) (by decide +kernel) (by decide) (by decide) rfl 0 1 rfl rfl rfl (Nat.le_of_ble_eq_true rfl) dL_law_228 (fun z' u' hm => ?_)
  obtain ⟨e, hI⟩ := law_items hok hpk hd hm
  subst e
  refine l_same C (pc := 231) 387 (by decide) dL_law_231 ?_
  exact hnext _ hI
set_option maxHeartbeats 4000000 in
set_option maxRecDepth 100000 in
theorem case_sizeOf {l : Launch} {D : va_G} {cI cB : ClassId} {b L : Nat} {xs : Nat → Int32} {A : Nat → Prop} {G : GT} {a a' : Nat → Nat} {i : Nat} {ws : va_W} (C : Lx l D cI cB b L xs A G) (hL : L ≤ 193) (hi : i + 3 ≤ L) (hI : LI a a' cI cB ws) (hnext : ∀ ws' : va_W, LI a a' cI cB ws' → G [(0, .ref b), (1, .ref (a 0)), (2, .ref (a' 0)), (3, .int (iI (i : Int)))] ws' 387 []) : G [(0, .ref b), (1, .ref (a 0)), (2, .ref (a' 0)), (3, .int (iI (i : Int)))] ws 236 [] := by
  obtain ⟨R, p, g, f3, f4, g5, f6, g7, f8, g9, g10, f11, g12, f13, f14, g15, f2, g3, g4, hok, hpk, rfl⟩ := hI
  refine g_aload_n C.cx (pc := 236) 1 rfl rfl dL_law_236 ?_
  refine g_aload_n C.cx (pc := 237) 0 rfl rfl dL_law_237 ?_
  refine g_iload_n C.cx (pc := 238) 3 rfl rfl dL_law_238 ?_
  refine g_iconst C.cx (pc := 239) dL_law_239 ?_
  refine g_iadd C.cx (pc := 240) dL_law_240 ?_
  refine l_sld C (pc := 241) (i + 1) (by omega) (by omega) hL dL_law_241 ?_
  refine l_call C (pc := 242) (n := 1) [] [.int (iI (xs (i + 1)).toInt)] (met_sizeOf l D cI cB a R g f3 f4 g5 f6 g7 f8 g9 g10 f11 g12 f13 f14 g15 p hok.2.1 (xs (i + 1)).toInt (rg32 (xs (i + 1)))) (lw_V q117 q118 q119 q24 q120) (by decide +kernel) (by decide) (by decide) rfl 0 0 rfl rfl rfl (Nat.le_of_ble_eq_true rfl) dL_law_242 (fun z u hd => ?_)
  refine g_aload_n C.cx (pc := 245) 2 rfl rfl dL_law_245 ?_
  refine g_aload_n C.cx (pc := 246) 0 rfl rfl dL_law_246 ?_
  refine g_iload_n C.cx (pc := 247) 3 rfl rfl dL_law_247 ?_
  refine g_iconst C.cx (pc := 248) dL_law_248 ?_
  refine g_iadd C.cx (pc := 249) dL_law_249 ?_
  refine l_sld C (pc := 250) (i + 1) (by omega) (by omega) hL dL_law_250 ?_
  refine l_call C (pc := 251) (n := 1) [.int (iI z)] [.int (iI (xs (i + 1)).toInt)] (mem_sizeOf l D cI cB a' R f2 g3 g4 p g hok (xs (i + 1)).toInt (rg32 (xs (i + 1)))) (lw_V q259 q260 q261 q25 q262) (by decide +kernel) (by decide) (by decide) rfl 0 1 rfl rfl rfl (Nat.le_of_ble_eq_true rfl) dL_law_251 (fun z' u' hm => ?_)
  obtain ⟨e, hI⟩ := law_sizeOf hok hpk hd hm
  subst e
  refine l_same C (pc := 254) 387 (by decide) dL_law_254 ?_
  exact hnext _ hI
set_option maxHeartbeats 4000000 in
set_option maxRecDepth 100000 in
theorem case_least {l : Launch} {D : va_G} {cI cB : ClassId} {b L : Nat} {xs : Nat → Int32} {A : Nat → Prop} {G : GT} {a a' : Nat → Nat} {i : Nat} {ws : va_W} (C : Lx l D cI cB b L xs A G) (hL : L ≤ 193) (hi : i + 3 ≤ L) (hI : LI a a' cI cB ws) (hnext : ∀ ws' : va_W, LI a a' cI cB ws' → G [(0, .ref b), (1, .ref (a 0)), (2, .ref (a' 0)), (3, .int (iI (i : Int)))] ws' 387 []) : G [(0, .ref b), (1, .ref (a 0)), (2, .ref (a' 0)), (3, .int (iI (i : Int)))] ws 259 [] := by
  obtain ⟨R, p, g, f3, f4, g5, f6, g7, f8, g9, g10, f11, g12, f13, f14, g15, f2, g3, g4, hok, hpk, rfl⟩ := hI
  refine g_aload_n C.cx (pc := 259) 1 rfl rfl dL_law_259 ?_
  refine l_call C (pc := 260) (n := 0) [] [] (met_least l D cI cB a R g f3 f4 g5 f6 g7 f8 g9 g10 f11 g12 f13 f14 g15 p hok hpk) (lw_V q121 q122 q123 q24 q124) (by decide +kernel) (by decide) (by decide) rfl 0 0 rfl rfl rfl (Nat.le_of_ble_eq_true rfl) dL_law_260 (fun z u hd => ?_)
  refine g_aload_n C.cx (pc := 263) 2 rfl rfl dL_law_263 ?_
  refine l_call C (pc := 264) (n := 0) [.int (iI z)] [] (mem_least l D cI cB a' R f2 g3 g4 p g hok) (lw_V q263 q264 q265 q25 q266) (by decide +kernel) (by decide) (by decide) rfl 0 1 rfl rfl rfl (Nat.le_of_ble_eq_true rfl) dL_law_264 (fun z' u' hm => ?_)
  obtain ⟨e, hI⟩ := law_least hok hpk hd hm
  subst e
  refine l_same C (pc := 267) 387 (by decide) dL_law_267 ?_
  exact hnext _ hI
set_option maxHeartbeats 4000000 in
set_option maxRecDepth 100000 in
theorem case_binOf {l : Launch} {D : va_G} {cI cB : ClassId} {b L : Nat} {xs : Nat → Int32} {A : Nat → Prop} {G : GT} {a a' : Nat → Nat} {i : Nat} {ws : va_W} (C : Lx l D cI cB b L xs A G) (hL : L ≤ 193) (hi : i + 3 ≤ L) (hI : LI a a' cI cB ws) (hnext : ∀ ws' : va_W, LI a a' cI cB ws' → G [(0, .ref b), (1, .ref (a 0)), (2, .ref (a' 0)), (3, .int (iI (i : Int)))] ws' 387 []) : G [(0, .ref b), (1, .ref (a 0)), (2, .ref (a' 0)), (3, .int (iI (i : Int)))] ws 272 [] := by
  obtain ⟨R, p, g, f3, f4, g5, f6, g7, f8, g9, g10, f11, g12, f13, f14, g15, f2, g3, g4, hok, hpk, rfl⟩ := hI
  refine g_aload_n C.cx (pc := 272) 1 rfl rfl dL_law_272 ?_
  refine g_aload_n C.cx (pc := 273) 0 rfl rfl dL_law_273 ?_
  refine g_iload_n C.cx (pc := 274) 3 rfl rfl dL_law_274 ?_
  refine g_iconst C.cx (pc := 275) dL_law_275 ?_
  refine g_iadd C.cx (pc := 276) dL_law_276 ?_
  refine l_sld C (pc := 277) (i + 1) (by omega) (by omega) hL dL_law_277 ?_
  refine l_call C (pc := 278) (n := 1) [] [.int (iI (xs (i + 1)).toInt)] (met_binOf l D cI cB a R g f3 f4 g5 f6 g7 f8 g9 g10 f11 g12 f13 f14 g15 p hok hpk (xs (i + 1)).toInt (rg32 (xs (i + 1)))) (lw_V q185 q186 q187 q24 q188) (by decide +kernel) (by decide) (by decide) rfl 0 0 rfl rfl rfl (Nat.le_of_ble_eq_true rfl) dL_law_278 (fun z u hd => ?_)
  refine g_aload_n C.cx (pc := 281) 2 rfl rfl dL_law_281 ?_
  refine g_aload_n C.cx (pc := 282) 0 rfl rfl dL_law_282 ?_
  refine g_iload_n C.cx (pc := 283) 3 rfl rfl dL_law_283 ?_
  refine g_iconst C.cx (pc := 284) dL_law_284 ?_
  refine g_iadd C.cx (pc := 285) dL_law_285 ?_
  refine l_sld C (pc := 286) (i + 1) (by omega) (by omega) hL dL_law_286 ?_
  refine l_call C (pc := 287) (n := 1) [.int (iI z)] [.int (iI (xs (i + 1)).toInt)] (mem_binOf l D cI cB a' R f2 g3 g4 p g hok (xs (i + 1)).toInt (rg32 (xs (i + 1)))) (lw_V q287 q288 q289 q25 q290) (by decide +kernel) (by decide) (by decide) rfl 0 1 rfl rfl rfl (Nat.le_of_ble_eq_true rfl) dL_law_287 (fun z' u' hm => ?_)
  obtain ⟨e, hI⟩ := law_binOf hok hpk hd hm
  subst e
  refine l_same C (pc := 290) 387 (by decide) dL_law_290 ?_
  exact hnext _ hI
set_option maxHeartbeats 4000000 in
set_option maxRecDepth 100000 in
theorem case_leastWithout {l : Launch} {D : va_G} {cI cB : ClassId} {b L : Nat} {xs : Nat → Int32} {A : Nat → Prop} {G : GT} {a a' : Nat → Nat} {i : Nat} {ws : va_W} (C : Lx l D cI cB b L xs A G) (hL : L ≤ 193) (hi : i + 3 ≤ L) (hI : LI a a' cI cB ws) (hnext : ∀ ws' : va_W, LI a a' cI cB ws' → G [(0, .ref b), (1, .ref (a 0)), (2, .ref (a' 0)), (3, .int (iI (i : Int)))] ws' 387 []) : G [(0, .ref b), (1, .ref (a 0)), (2, .ref (a' 0)), (3, .int (iI (i : Int)))] ws 295 [] := by
  obtain ⟨R, p, g, f3, f4, g5, f6, g7, f8, g9, g10, f11, g12, f13, f14, g15, f2, g3, g4, hok, hpk, rfl⟩ := hI
  refine g_aload_n C.cx (pc := 295) 1 rfl rfl dL_law_295 ?_
  refine g_aload_n C.cx (pc := 296) 0 rfl rfl dL_law_296 ?_
  refine g_iload_n C.cx (pc := 297) 3 rfl rfl dL_law_297 ?_
  refine g_iconst C.cx (pc := 298) dL_law_298 ?_
  refine g_iadd C.cx (pc := 299) dL_law_299 ?_
  refine l_sld C (pc := 300) (i + 1) (by omega) (by omega) hL dL_law_300 ?_
  refine l_call C (pc := 301) (n := 1) [] [.int (iI (xs (i + 1)).toInt)] (met_leastWithout l D cI cB a R g f3 f4 g5 f6 g7 f8 g9 g10 f11 g12 f13 f14 g15 p hok (xs (i + 1)).toInt (rg32 (xs (i + 1)))) (lw_V q189 q190 q191 q24 q192) (by decide +kernel) (by decide) (by decide) rfl 0 0 rfl rfl rfl (Nat.le_of_ble_eq_true rfl) dL_law_301 (fun z u hd => ?_)
  refine g_aload_n C.cx (pc := 304) 2 rfl rfl dL_law_304 ?_
  refine g_aload_n C.cx (pc := 305) 0 rfl rfl dL_law_305 ?_
  refine g_iload_n C.cx (pc := 306) 3 rfl rfl dL_law_306 ?_
  refine g_iconst C.cx (pc := 307) dL_law_307 ?_
  refine g_iadd C.cx (pc := 308) dL_law_308 ?_
  refine l_sld C (pc := 309) (i + 1) (by omega) (by omega) hL dL_law_309 ?_
  refine l_call C (pc := 310) (n := 1) [.int (iI z)] [.int (iI (xs (i + 1)).toInt)] (mem_leastWithout l D cI cB a' R f2 g3 g4 p g hok (xs (i + 1)).toInt (rg32 (xs (i + 1)))) (lw_V q296 q297 q298 q25 q299) (by decide +kernel) (by decide) (by decide) rfl 0 1 rfl rfl rfl (Nat.le_of_ble_eq_true rfl) dL_law_310 (fun z' u' hm => ?_)
  obtain ⟨e, hI⟩ := law_leastWithout hok hpk hd hm
  subst e
  refine l_same C (pc := 313) 387 (by decide) dL_law_313 ?_
  exact hnext _ hI
set_option maxHeartbeats 4000000 in
set_option maxRecDepth 100000 in
theorem case_spare {l : Launch} {D : va_G} {cI cB : ClassId} {b L : Nat} {xs : Nat → Int32} {A : Nat → Prop} {G : GT} {a a' : Nat → Nat} {i : Nat} {ws : va_W} (C : Lx l D cI cB b L xs A G) (hL : L ≤ 193) (hi : i + 3 ≤ L) (hI : LI a a' cI cB ws) (hnext : ∀ ws' : va_W, LI a a' cI cB ws' → G [(0, .ref b), (1, .ref (a 0)), (2, .ref (a' 0)), (3, .int (iI (i : Int)))] ws' 387 []) : G [(0, .ref b), (1, .ref (a 0)), (2, .ref (a' 0)), (3, .int (iI (i : Int)))] ws 318 [] := by
  obtain ⟨R, p, g, f3, f4, g5, f6, g7, f8, g9, g10, f11, g12, f13, f14, g15, f2, g3, g4, hok, hpk, rfl⟩ := hI
  refine g_aload_n C.cx (pc := 318) 1 rfl rfl dL_law_318 ?_
  refine l_call C (pc := 319) (n := 0) [] [] (met_spare l D cI cB a R g f3 f4 g5 f6 g7 f8 g9 g10 f11 g12 f13 f14 g15 p hok hpk) (lw_V q193 q194 q195 q24 q196) (by decide +kernel) (by decide) (by decide) rfl 0 0 rfl rfl rfl (Nat.le_of_ble_eq_true rfl) dL_law_319 (fun z u hd => ?_)
  refine g_aload_n C.cx (pc := 322) 2 rfl rfl dL_law_322 ?_
  refine l_call C (pc := 323) (n := 0) [.int (iI z)] [] (mem_spare l D cI cB a' R f2 g3 g4 p g hok) (lw_V q300 q301 q302 q25 q303) (by decide +kernel) (by decide) (by decide) rfl 0 1 rfl rfl rfl (Nat.le_of_ble_eq_true rfl) dL_law_323 (fun z' u' hm => ?_)
  obtain ⟨e, hI⟩ := law_spare hok hpk hd hm
  subst e
  refine l_same C (pc := 326) 387 (by decide) dL_law_326 ?_
  exact hnext _ hI
set_option maxHeartbeats 4000000 in
set_option maxRecDepth 100000 in
theorem case_sizeFor {l : Launch} {D : va_G} {cI cB : ClassId} {b L : Nat} {xs : Nat → Int32} {A : Nat → Prop} {G : GT} {a a' : Nat → Nat} {i : Nat} {ws : va_W} (C : Lx l D cI cB b L xs A G) (hL : L ≤ 193) (hi : i + 3 ≤ L) (hI : LI a a' cI cB ws) (hnext : ∀ ws' : va_W, LI a a' cI cB ws' → G [(0, .ref b), (1, .ref (a 0)), (2, .ref (a' 0)), (3, .int (iI (i : Int)))] ws' 387 []) : G [(0, .ref b), (1, .ref (a 0)), (2, .ref (a' 0)), (3, .int (iI (i : Int)))] ws 331 [] := by
  obtain ⟨R, p, g, f3, f4, g5, f6, g7, f8, g9, g10, f11, g12, f13, f14, g15, f2, g3, g4, hok, hpk, rfl⟩ := hI
  refine g_aload_n C.cx (pc := 331) 1 rfl rfl dL_law_331 ?_
  refine g_aload_n C.cx (pc := 332) 0 rfl rfl dL_law_332 ?_
  refine g_iload_n C.cx (pc := 333) 3 rfl rfl dL_law_333 ?_
  refine g_iconst C.cx (pc := 334) dL_law_334 ?_
  refine g_iadd C.cx (pc := 335) dL_law_335 ?_
  refine l_sld C (pc := 336) (i + 1) (by omega) (by omega) hL dL_law_336 ?_
  refine l_call C (pc := 337) (n := 1) [] [.int (iI (xs (i + 1)).toInt)] (met_sizeFor l D cI cB a R g f3 f4 g5 f6 g7 f8 g9 g10 f11 g12 f13 f14 g15 p hok (xs (i + 1)).toInt (rg32 (xs (i + 1)))) (lw_V q198 q199 q200 q24 q201) (by decide +kernel) (by decide) (by decide) rfl 0 0 rfl rfl rfl (Nat.le_of_ble_eq_true rfl) dL_law_337 (fun z u hd => ?_)
  refine g_aload_n C.cx (pc := 340) 2 rfl rfl dL_law_340 ?_
  refine g_aload_n C.cx (pc := 341) 0 rfl rfl dL_law_341 ?_
  refine g_iload_n C.cx (pc := 342) 3 rfl rfl dL_law_342 ?_
  refine g_iconst C.cx (pc := 343) dL_law_343 ?_
  refine g_iadd C.cx (pc := 344) dL_law_344 ?_
  refine l_sld C (pc := 345) (i + 1) (by omega) (by omega) hL dL_law_345 ?_
  refine l_call C (pc := 346) (n := 1) [.int (iI z)] [.int (iI (xs (i + 1)).toInt)] (mem_sizeFor l D cI cB a' R f2 g3 g4 p g hok (xs (i + 1)).toInt (rg32 (xs (i + 1)))) (lw_V q304 q305 q306 q25 q307) (by decide +kernel) (by decide) (by decide) rfl 0 1 rfl rfl rfl (Nat.le_of_ble_eq_true rfl) dL_law_346 (fun z' u' hm => ?_)
  obtain ⟨e, hI⟩ := law_sizeFor hok hpk hd hm
  subst e
  refine l_same C (pc := 349) 387 (by decide) dL_law_349 ?_
  exact hnext _ hI
set_option maxHeartbeats 4000000 in
set_option maxRecDepth 100000 in
theorem case_together {l : Launch} {D : va_G} {cI cB : ClassId} {b L : Nat} {xs : Nat → Int32} {A : Nat → Prop} {G : GT} {a a' : Nat → Nat} {i : Nat} {ws : va_W} (C : Lx l D cI cB b L xs A G) (hL : L ≤ 193) (hi : i + 3 ≤ L) (hI : LI a a' cI cB ws) (hnext : ∀ ws' : va_W, LI a a' cI cB ws' → G [(0, .ref b), (1, .ref (a 0)), (2, .ref (a' 0)), (3, .int (iI (i : Int)))] ws' 387 []) : G [(0, .ref b), (1, .ref (a 0)), (2, .ref (a' 0)), (3, .int (iI (i : Int)))] ws 354 [] := by
  obtain ⟨R, p, g, f3, f4, g5, f6, g7, f8, g9, g10, f11, g12, f13, f14, g15, f2, g3, g4, hok, hpk, rfl⟩ := hI
  refine g_aload_n C.cx (pc := 354) 1 rfl rfl dL_law_354 ?_
  refine g_aload_n C.cx (pc := 355) 0 rfl rfl dL_law_355 ?_
  refine g_iload_n C.cx (pc := 356) 3 rfl rfl dL_law_356 ?_
  refine g_iconst C.cx (pc := 357) dL_law_357 ?_
  refine g_iadd C.cx (pc := 358) dL_law_358 ?_
  refine l_sld C (pc := 359) (i + 1) (by omega) (by omega) hL dL_law_359 ?_
  refine g_aload_n C.cx (pc := 360) 0 rfl rfl dL_law_360 ?_
  refine g_iload_n C.cx (pc := 361) 3 rfl rfl dL_law_361 ?_
  refine g_iconst C.cx (pc := 362) dL_law_362 ?_
  refine g_iadd C.cx (pc := 363) dL_law_363 ?_
  refine l_sld C (pc := 364) (i + 2) (by omega) (by omega) hL dL_law_364 ?_
  refine l_call C (pc := 365) (n := 2) [] [.int (iI (xs (i + 1)).toInt), .int (iI (xs (i + 2)).toInt)] (met_together l D cI cB a R g f3 f4 g5 f6 g7 f8 g9 g10 f11 g12 f13 f14 g15 p hok hpk (xs (i + 1)).toInt (xs (i + 2)).toInt (rg32 (xs (i + 1))) (rg32 (xs (i + 2)))) (lw_V q202 q203 q204 q24 q205) (by decide +kernel) (by decide) (by decide) rfl 0 0 rfl rfl rfl (Nat.le_of_ble_eq_true rfl) dL_law_365 (fun z u hd => ?_)
  refine g_aload_n C.cx (pc := 368) 2 rfl rfl dL_law_368 ?_
  refine g_aload_n C.cx (pc := 369) 0 rfl rfl dL_law_369 ?_
  refine g_iload_n C.cx (pc := 370) 3 rfl rfl dL_law_370 ?_
  refine g_iconst C.cx (pc := 371) dL_law_371 ?_
  refine g_iadd C.cx (pc := 372) dL_law_372 ?_
  refine l_sld C (pc := 373) (i + 1) (by omega) (by omega) hL dL_law_373 ?_
  refine g_aload_n C.cx (pc := 374) 0 rfl rfl dL_law_374 ?_
  refine g_iload_n C.cx (pc := 375) 3 rfl rfl dL_law_375 ?_
  refine g_iconst C.cx (pc := 376) dL_law_376 ?_
  refine g_iadd C.cx (pc := 377) dL_law_377 ?_
  refine l_sld C (pc := 378) (i + 2) (by omega) (by omega) hL dL_law_378 ?_
  refine l_call C (pc := 379) (n := 2) [.int (iI z)] [.int (iI (xs (i + 1)).toInt), .int (iI (xs (i + 2)).toInt)] (mem_together l D cI cB a' R f2 g3 g4 p g hok (xs (i + 1)).toInt (xs (i + 2)).toInt (rg32 (xs (i + 1))) (rg32 (xs (i + 2)))) (lw_V q308 q309 q310 q25 q311) (by decide +kernel) (by decide) (by decide) rfl 0 1 rfl rfl rfl (Nat.le_of_ble_eq_true rfl) dL_law_379 (fun z' u' hm => ?_)
  obtain ⟨e, hI⟩ := law_together hok hpk hd hm
  subst e
  refine l_same C (pc := 382) 387 (by decide) dL_law_382 ?_
  exact hnext _ hI
end
section
set_option maxHeartbeats 4000000 in
set_option maxRecDepth 100000 in
/-- the law's loop, at its head -/
theorem law_loop {l : Launch} {D : va_G} {cI cB : ClassId} {b L : Nat} {xs : Nat → Int32} {A : Nat → Prop} {G : GT} {a a' : Nat → Nat} (C : Lx l D cI cB b L xs A G) (hL : L ≤ 193) : ∀ (n i : Nat) (ws : va_W), i ≤ L + 3 → L + 4 ≤ i + n → LI a a' cI cB ws → G [(0, .ref b), (1, .ref (a 0)), (2, .ref (a' 0)), (3, .int (iI (i : Int)))] ws 28 [] := by
  intro n
  induction n with
  | zero => intro i ws h1 h2; exact absurd h2 (by omega)
  | succ n ih =>
    intro i ws h1 h2 hI
    refine g_iload_n C.cx (pc := 28) 3 rfl rfl dL_law_28 ?_
    refine g_aload_n C.cx (pc := 29) 0 rfl rfl dL_law_29 ?_
    refine l_slen C (pc := 30) dL_law_30 ?_
    refine g_iconst C.cx (pc := 31) dL_law_31 ?_
    refine g_isub C.cx (pc := 32) dL_law_32 ?_
    refine g_icmp_gt C.cx (pc := 33) 393 (by omega) (by omega) (by decide) dL_law_33 (fun c33 => ?_) (fun c33 => ?_)
    · refine g_iconst C.cx (pc := 393) dL_law_393 ?_
      exact l_ret C dL_law_394
    · have hi : i + 3 ≤ L := by omega
      have hnext : ∀ ws' : va_W, LI a a' cI cB ws' → G [(0, .ref b), (1, .ref (a 0)), (2, .ref (a' 0)), (3, .int (iI (i : Int)))] ws' 387 [] := by
        intro ws' hI'
        refine g_iinc C.cx (pc := 387) [(0, .ref b), (1, .ref (a 0)), (2, .ref (a' 0)), (3, .int (iI ((i : Int) + 3)))] [1, 2, 3, 0] 3 rfl (by decide) rfl dL_law_387 ?_
        refine g_goto C.cx (pc := 390) 28 (by decide) dL_law_390 ?_
        exact ih (i + 3) ws' (by omega) (by omega) hI'
      refine g_aload_n C.cx (pc := 36) 0 rfl rfl dL_law_36 ?_
      refine g_iload_n C.cx (pc := 37) 3 rfl rfl dL_law_37 ?_
      refine l_sld C (pc := 38) i rfl (by omega) hL dL_law_38 ?_
      refine g_bipush C.cx (pc := 39) dL_law_39 (by decide) ?_
      obtain ⟨k, hk, ek⟩ := and15 (xs i)
      refine g_iand C.cx (pc := 41) (k : Int) ek dL_law_41 ?_
      clear ek
      rcases (show k = 0 ∨ k = 1 ∨ k = 2 ∨ k = 3 ∨ k = 4 ∨ k = 5 ∨ k = 6 ∨ k = 7 ∨ k = 8 ∨ k = 9 ∨ k = 10 ∨ k = 11 ∨ k = 12 ∨ 13 ≤ k by omega) with rfl | rfl | rfl | rfl | rfl | rfl | rfl | rfl | rfl | rfl | rfl | rfl | rfl | hk13
      · refine l_tabIn C (pc := 42) 66 108 dL_law_42 (by omega) (by decide) (by decide) rfl (by decide) ?_
        exact case_add C hL hi hI hnext
      · refine l_tabIn C (pc := 42) 89 131 dL_law_42 (by omega) (by decide) (by decide) rfl (by decide) ?_
        exact case_remove C hL hi hI hnext
      · refine l_tabIn C (pc := 42) 112 154 dL_law_42 (by omega) (by decide) (by decide) rfl (by decide) ?_
        exact case_resize C hL hi hI hnext
      · refine l_tabIn C (pc := 42) 145 187 dL_law_42 (by omega) (by decide) (by decide) rfl (by decide) ?_
        exact case_setSize C hL hi hI hnext
      · refine l_tabIn C (pc := 42) 168 210 dL_law_42 (by omega) (by decide) (by decide) rfl (by decide) ?_
        exact case_size C hL hi hI hnext
      · refine l_tabIn C (pc := 42) 181 223 dL_law_42 (by omega) (by decide) (by decide) rfl (by decide) ?_
        exact case_items C hL hi hI hnext
      · refine l_tabIn C (pc := 42) 194 236 dL_law_42 (by omega) (by decide) (by decide) rfl (by decide) ?_
        exact case_sizeOf C hL hi hI hnext
      · refine l_tabIn C (pc := 42) 217 259 dL_law_42 (by omega) (by decide) (by decide) rfl (by decide) ?_
        exact case_least C hL hi hI hnext
      · refine l_tabIn C (pc := 42) 230 272 dL_law_42 (by omega) (by decide) (by decide) rfl (by decide) ?_
        exact case_binOf C hL hi hI hnext
      · refine l_tabIn C (pc := 42) 253 295 dL_law_42 (by omega) (by decide) (by decide) rfl (by decide) ?_
        exact case_leastWithout C hL hi hI hnext
      · refine l_tabIn C (pc := 42) 276 318 dL_law_42 (by omega) (by decide) (by decide) rfl (by decide) ?_
        exact case_spare C hL hi hI hnext
      · refine l_tabIn C (pc := 42) 289 331 dL_law_42 (by omega) (by decide) (by decide) rfl (by decide) ?_
        exact case_sizeFor C hL hi hI hnext
      · refine l_tabIn C (pc := 42) 312 354 dL_law_42 (by omega) (by decide) (by decide) rfl (by decide) ?_
        exact case_together C hL hi hI hnext
      · refine l_tabOut C (pc := 42) 387 dL_law_42 (by omega) (Or.inr (by omega)) (by decide) ?_
        exact hnext _ hI
theorem clamp_rg (z : Int) : 1 ≤ clampR z ∧ clampR z ≤ 60 := by
  unfold clampR
  split
  · omega
  · split <;> omega
set_option maxHeartbeats 4000000 in
set_option maxRecDepth 100000 in
/-- THE LAW, from its entry -/
theorem whole_start {p : Program} {e : Env} {s : State} {m : MethodId} {below : List Frame} {meth : Method} {c : Code} (l : Launch) {b L : Nat} {xs : Nat → Int32} (hL : L ≤ 193) (C0 : lw_At p s m meth c b L xs) : W p l e room_1 s m #[Value.ref b] below meth c s.heap [] 0 0 (lw_Z below #[Value.ref b] s) (entryFrame m ([Value.ref b] : List Value).toArray 4) := by
  obtain ⟨hx, hb, hr, hml, hown, hts0, hX, hbl, hlocks, hgv⟩ := id C0
  have hts : ∀ w ∈ lw_all, w.before #[Value.ref b] s = true := fun w h => hts0 w (lw_all_tbl h)
  have hA : ∀ q : Nat, s.heap.size ≤ q → (fun q : Nat => s.heap.size ≤ q) q := fun _ h => h
  have hbA : ¬ (fun q : Nat => s.heap.size ≤ q) b := Nat.not_le.mpr hbl
  obtain ⟨c0_, iS0, hKn0⟩ := u_known (C := RX1) (T := TX1) (N := 16) (n := 16) hts in_X1 (hts _ q27)
  obtain ⟨c1_, iS1, hKn1⟩ := u_known (C := RX2) (T := TX2) (N := 5) (n := 5) hts in_X2 (hts _ q210)
  obtain ⟨D, hKc⟩ : ∃ D : va_G, ∀ (k : Nat) (q : vw_C), vwCl[k]? = some q → u_Kn s q.1 q.2.1 q.2.2 (D.1 k) (D.2 k) := by
    refine ⟨(fun k => if k = 0 then c0_ else c1_, fun k => if k = 0 then iS0 else iS1), ?_⟩
    intro k q hq
    match k, hq with
    | 0, hq => cases hq; exact hKn0
    | 1, hq => cases hq; exact hKn1
    | k + 2, hq => simp [vwCl] at hq
  obtain ⟨cI, kI, compI, i1, i2, i3⟩ := Cond.arrayClass_spec (hts _ q84)
  obtain ⟨cB, kB, compB, b1, b2, b3⟩ := Cond.arrayClass_spec (hts _ q83)
  have hK : va_K D vwCl (tyL cI cB) s := by
    refine ⟨hKc, ?_⟩
    intro k q hq
    match k, hq with
    | 0, hq => cases hq; exact ⟨fun N z => ⟨(fun k h => by cases h), kI, i2, compI, i3⟩, i1⟩
    | 1, hq => cases hq; exact ⟨fun N z => ⟨(fun k h => by cases h), kB, b2, compB, b3⟩, b1⟩
    | k + 2, hq => simp [tyL] at hq
  have hS : va_S (fun q : Nat => s.heap.size ≤ q) s.heap s.heap [] := va_S.rf
  have hP : va_P D vwCl [] s.heap := fun k q h => by simp at h
  have hD : va_D (fun q : Nat => s.heap.size ≤ q) [] := ⟨fun i j p q h => by simp at h, fun k q h => by simp at h⟩
  have hl := lv_entry ([.ref b]) (n := 4) (Nat.le_of_ble_eq_true rfl)
  rw [lg_entry_eq]
  generalize (lg_sl ([.ref b]) ++ List.replicate (4 - (lg_sl ([.ref b])).length) Slot.unset).toArray = ls at hl ⊢
  have hl : lv_has ls 4 [(0, .ref b)] := hl
  refine va_new (ci := 0) (fs := [.int (iI 0), .int (iI 0), .null, .int (iI 0), .int (iI 0), .null, .int (iI 0), .null, .int (iI 0), .null, .null, .int (iI 0), .null, .int (iI 0), .int (iI 0), .null]) (C := RX1) (T := TX1) (N := 16) hx hb hts in_X1 tyX1 tyX1_ok hown (hts _ q26) (hts _ q27) (hts _ q24) hK hP hD hS hA rfl (fun j hj => by rcases (show j = 0 ∨ j = 1 ∨ j = 2 ∨ j = 3 ∨ j = 4 ∨ j = 5 ∨ j = 6 ∨ j = 7 ∨ j = 8 ∨ j = 9 ∨ j = 10 ∨ j = 11 ∨ j = 12 ∨ j = 13 ∨ j = 14 ∨ j = 15 by omega) with rfl | rfl | rfl | rfl | rfl | rfl | rfl | rfl | rfl | rfl | rfl | rfl | rfl | rfl | rfl | rfl <;> rfl) (Nat.le_of_ble_eq_true rfl) (Nat.le_of_ble_eq_true rfl) dL_law_0 (fun h0 H hP hD hS => ?_)
  have hP : va_P D vwCl (W0_desk h0) H := hP
  have hD : va_D (fun q : Nat => s.heap.size ≤ q) (W0_desk h0) := hD
  refine W.widen (k := 1) (n := 16) (Nat.le_of_ble_eq_true rfl) (Nat.le_of_ble_eq_true rfl) ?_
  refine lv_dup hx hb dL_law_3 rfl ?_
  refine lv_aload_n hx hb dL_law_4 rfl (lv_at hl 0 rfl) ?_
  refine lv_iconst (v := iI 0) hx hb dL_law_5 rfl ?_
  have hXH : va_X b L xs s H := hX.kept (hS.2.1 b hbl hbA)
  refine va_calli (va_runS (As := [.ref b, .int (iI 0)]) (rest := [.ref h0, .ref h0]) ⟨hx, hb, hml, hown, hts⟩ (met_cell l b L xs hL) (va_cwS 2 hts (lw_S q206 q207 q23 q208) rfl rfl rfl (by decide +kernel) ⟨(Nat.le_of_ble_eq_true rfl), (Nat.le_of_ble_eq_true rfl)⟩) ⟨fun a U g mk q => ⟨q.1, va_X.moved (u := U) (U := U.calling g mk a) (Vm.Alike.refl U.vm) q.2⟩, fun U hU hW => ⟨rfl, by show va_X b L xs U U.heap; rw [hU]; exact hXH.moved hW.alike⟩⟩ rfl rfl hl.1 rfl (lv_room (Nat.le_of_ble_eq_true rfl)) dL_law_6 ⟨(Nat.le_of_ble_eq_true rfl), (Nat.le_of_ble_eq_true rfl)⟩) hS (fun q _ h => False.elim h) (fun q h => False.elim h) (fun r u t H1 locs ht hvm hw1 hB hz1 hk1 hS => ?_)
  have hP : va_P D vwCl (W0_desk h0) H1 := hP.kept (fun k q hk => hk1 q.1 (hP k q hk).lt (fun h => h))
  clear ht hB hz1 hk1 hXH
  obtain ⟨z0, hz0, rfl⟩ := iI_of r
  have hF := va_free (wc := W0_desk h0) hD hS hA [0] rfl
  refine va_callv (va_runI (As := [.int (iI z0)]) (rest := [.ref h0]) ⟨hx, hb, hml, hown, hts⟩ (met_init_desk l D cI cB h0 H1.size z0 hz0) (cwI 1 hts (lw_meth q30) rfl rfl rfl (hts _ q24) (hts _ q28) (hts _ q29) rfl (by decide +kernel) ⟨(Nat.le_of_ble_eq_true rfl), (Nat.le_of_ble_eq_true rfl)⟩) ⟨fun a U g mk q => by obtain ⟨q0, q1, qP, qK, qD⟩ := q; exact ⟨q0, q1, qP, va_K.moved (u := U) (U := U.calling g mk a) (Vm.Alike.refl U.vm) qK, qD⟩, fun U hU hW => ⟨rfl, by rw [hU], by rw [hU]; exact hP, va_K.moved hW.alike hK, hD.weaken (fun _ _ _ _ => trivial)⟩⟩ rfl rfl hl.1 rfl (lv_room (Nat.le_of_ble_eq_true rfl)) dL_law_9 ⟨(Nat.le_of_ble_eq_true rfl), (Nat.le_of_ble_eq_true rfl)⟩) hS (fun q _ h => hF q h) hF (fun u t H2 locs ht hvm hw2 hB hz1 hk1 hS => ?_)
  obtain ⟨a, ha, rfl⟩ := hw2
  obtain ⟨hP1, hK1, hD1⟩ := hB
  rw [ht] at hP1
  have hD : va_D (fun q : Nat => s.heap.size ≤ q) (WD a cI cB (clampR z0) 0 (fun _ => 0) 0 0 (fun _ => 0) 0 (fun _ => 0) 0 (fun _ => 0) (fun _ => 0) 0 (fun _ => 0) 0 0 (fun _ => 0)) := hD1.weaken (fun _ q _ h => hF q.1 h)
  have hP : va_P D vwCl (WD a cI cB (clampR z0) 0 (fun _ => 0) 0 0 (fun _ => 0) 0 (fun _ => 0) 0 (fun _ => 0) (fun _ => 0) 0 (fun _ => 0) 0 0 (fun _ => 0)) H2 := hP1
  clear hP1 hK1 hD1 ht hz1 hk1 hF
  refine W.widen (k := 8) (n := 128) (Nat.le_of_ble_eq_true rfl) (Nat.le_of_ble_eq_true rfl) ?_
  refine lv_astore_n (lv' := [(1, .ref h0), (0, .ref b)]) hx hb dL_law_12 rfl hl (by decide) rfl (fun ls hl => ?_)
  refine va_new (ci := 1) (fs := [.int (iI 0), .null, .int (iI 0), .null, .null]) (C := RX2) (T := TX2) (N := 5) hx hb hts in_X2 tyX2 tyX2_ok hown (hts _ q209) (hts _ q210) (hts _ q25) hK hP hD hS hA rfl (fun j hj => by rcases (show j = 0 ∨ j = 1 ∨ j = 2 ∨ j = 3 ∨ j = 4 by omega) with rfl | rfl | rfl | rfl | rfl <;> rfl) (Nat.le_of_ble_eq_true rfl) (Nat.le_of_ble_eq_true rfl) dL_law_13 (fun h1 H hP hD hS => ?_)
  have hP : va_P D vwCl ((WD a cI cB (clampR z0) 0 (fun _ => 0) 0 0 (fun _ => 0) 0 (fun _ => 0) 0 (fun _ => 0) (fun _ => 0) 0 (fun _ => 0) 0 0 (fun _ => 0)) ++ W0_model h1) H := hP
  have hD : va_D (fun q : Nat => s.heap.size ≤ q) ((WD a cI cB (clampR z0) 0 (fun _ => 0) 0 0 (fun _ => 0) 0 (fun _ => 0) 0 (fun _ => 0) (fun _ => 0) 0 (fun _ => 0) 0 0 (fun _ => 0)) ++ W0_model h1) := hD
  refine W.widen (k := 9) (n := 133) (Nat.le_of_ble_eq_true rfl) (Nat.le_of_ble_eq_true rfl) ?_
  refine lv_dup hx hb dL_law_16 rfl ?_
  refine lv_aload_n hx hb dL_law_17 rfl (lv_at hl 1 rfl) ?_
  refine lv_iconst (v := iI 0) hx hb dL_law_18 rfl ?_
  have hXH : va_X b L xs s H := hX.kept (hS.2.1 b hbl hbA)
  refine va_calli (va_runS (As := [.ref b, .int (iI 0)]) (rest := [.ref h1, .ref h1]) ⟨hx, hb, hml, hown, hts⟩ (met_cell l b L xs hL) (va_cwS 2 hts (lw_S q206 q207 q23 q208) rfl rfl rfl (by decide +kernel) ⟨(Nat.le_of_ble_eq_true rfl), (Nat.le_of_ble_eq_true rfl)⟩) ⟨fun a U g mk q => ⟨q.1, va_X.moved (u := U) (U := U.calling g mk a) (Vm.Alike.refl U.vm) q.2⟩, fun U hU hW => ⟨rfl, by show va_X b L xs U U.heap; rw [hU]; exact hXH.moved hW.alike⟩⟩ rfl rfl hl.1 rfl (lv_room (Nat.le_of_ble_eq_true rfl)) dL_law_19 ⟨(Nat.le_of_ble_eq_true rfl), (Nat.le_of_ble_eq_true rfl)⟩) hS (fun q _ h => False.elim h) (fun q h => False.elim h) (fun r u t H1 locs ht hvm hw2 hB hz1 hk1 hS => ?_)
  have hP : va_P D vwCl ((WD a cI cB (clampR z0) 0 (fun _ => 0) 0 0 (fun _ => 0) 0 (fun _ => 0) 0 (fun _ => 0) (fun _ => 0) 0 (fun _ => 0) 0 0 (fun _ => 0)) ++ W0_model h1) H1 := hP.kept (fun k q hk => hk1 q.1 (hP k q hk).lt (fun h => h))
  clear ht hB hz1 hk1 hXH
  have er : r = iI z0 := hw2.trans hw1.symm
  subst er
  have hPc := hP.sub (ws' := W0_model h1) [8] rfl
  have hDc := hD.sub (ws' := W0_model h1) [8] (by decide) rfl
  have hF := va_free (wc := W0_model h1) hD hS hA [8] rfl
  refine va_callv (va_runI (As := [.int (iI z0)]) (rest := [.ref h1]) ⟨hx, hb, hml, hown, hts⟩ (met_init_model l D cI cB h1 H1.size z0 hz0) (cwI 1 hts (lw_meth q213) rfl rfl rfl (hts _ q25) (hts _ q211) (hts _ q212) rfl (by decide +kernel) ⟨(Nat.le_of_ble_eq_true rfl), (Nat.le_of_ble_eq_true rfl)⟩) ⟨fun a U g mk q => by obtain ⟨q0, q1, qP, qK, qD⟩ := q; exact ⟨q0, q1, qP, va_K.moved (u := U) (U := U.calling g mk a) (Vm.Alike.refl U.vm) qK, qD⟩, fun U hU hW => ⟨rfl, by rw [hU], by rw [hU]; exact hPc, va_K.moved hW.alike hK, hDc.weaken (fun _ _ _ _ => trivial)⟩⟩ rfl rfl hl.1 rfl (lv_room (Nat.le_of_ble_eq_true rfl)) dL_law_22 ⟨(Nat.le_of_ble_eq_true rfl), (Nat.le_of_ble_eq_true rfl)⟩) hS (fun q _ h => hF q h) hF (fun u t H2 locs ht hvm hw3 hB hz1 hk1 hS => ?_)
  obtain ⟨a', ha', rfl⟩ := hw3
  obtain ⟨hP1, hK1, hD1⟩ := hB
  rw [ht] at hP1
  obtain ⟨hP, hD⟩ := va_join (wc := W0_model h1) (wr := (WD a cI cB (clampR z0) 0 (fun _ => 0) 0 0 (fun _ => 0) 0 (fun _ => 0) 0 (fun _ => 0) (fun _ => 0) 0 (fun _ => 0) 0 0 (fun _ => 0))) (w1 := (WM a' cI (clampR z0) (fun _ => 0) 0 (fun _ => 0) (fun _ => 0))) hP hD [8] [0, 1, 2, 3, 4, 5, 6, 7] rfl rfl (by decide) (by decide) hk1 hF hP1 hD1
  clear hP1 hK1 hD1 ht hz1 hk1 hF hPc hDc
  refine W.widen (k := 12) (n := 157) (Nat.le_of_ble_eq_true rfl) (Nat.le_of_ble_eq_true rfl) ?_
  refine lv_astore_n (lv' := [(2, .ref h1), (1, .ref h0), (0, .ref b)]) hx hb dL_law_25 rfl hl (by decide) rfl (fun ls hl => ?_)
  refine lv_iconst (v := iI 1) hx hb dL_law_26 rfl ?_
  refine lv_istore_n (lv' := [(3, .int (iI 1)), (2, .ref h1), (1, .ref h0), (0, .ref b)]) hx hb dL_law_27 rfl hl (by decide) rfl (fun ls hl => ?_)
  have hl : lv_has ls 4 [(0, .ref b), (1, .ref (a 0)), (2, .ref (a' 0)), (3, .int (iI ((1 : Nat) : Int)))] := by
    rw [ha, ha']
    exact lv_sub hl [3, 2, 1, 0] rfl
  have hI : LI a a' cI cB ((WD a cI cB (clampR z0) 0 (fun _ => 0) 0 0 (fun _ => 0) 0 (fun _ => 0) 0 (fun _ => 0) (fun _ => 0) 0 (fun _ => 0) 0 0 (fun _ => 0)) ++ (WM a' cI (clampR z0) (fun _ => 0) 0 (fun _ => 0) (fun _ => 0))) := by
    have h := LI.mk (a := a) (a' := a') (cI := cI) (cB := cB) (R := clampR z0) (p := 0) (g := (fun _ => 0)) (f3 := 0) (f4 := 0) (g5 := (fun _ => 0)) (f6 := 0) (g7 := (fun _ => 0)) (f8 := 0) (g9 := (fun _ => 0)) (g10 := (fun _ => 0)) (f11 := 0) (g12 := (fun _ => 0)) (f13 := 0) (f14 := 0) (g15 := (fun _ => 0)) (f2 := 0) (g3 := (fun _ => 0)) (g4 := (fun _ => 0)) (sz_0 (clamp_rg z0)) (Or.inl rfl)
    rw [mz_0] at h
    exact h
  have K : Lx l D cI cB b L xs (fun q : Nat => s.heap.size ≤ q) (fun lv ws pc st => ∀ (H : Heap) (locs : List Loc) (ls : Array Slot), va_P D vwCl ws H → va_D (fun q : Nat => s.heap.size ≤ q) ws → va_S (fun q : Nat => s.heap.size ≤ q) s.heap H locs → lv_has ls 4 lv → W p l e room_1 s m #[Value.ref b] below meth c H locs 12 157 (lw_Z below #[Value.ref b] s) (F0 m pc ls st)) := ⟨p, e, s, m, below, meth, c, C0, hK, rfl, rfl⟩
  exact law_loop K hL (L + 4) 1 _ (by omega) (by omega) hI H2 locs ls hP hD hS hl
end
section
set_option maxHeartbeats 4000000 in
theorem lw_walk (l : Launch) (b : Addr) (xs : List Int32) : MetFree l x (headSpec (Jvm.Cond.code x code maxLocals ret :: tables_1) room_1) (lw_P b xs) (fun _ _ _ _ _ => True) lw_Q := by
  refine MetFree.of_bodyS (code := code) (maxLocals := maxLocals) (ret := ret) (by decide) ?_ ?_
  · intro args s m h hn
    obtain ⟨meth, c, h1, h2, h3, h4, h5, h6, -, -⟩ := Cond.code_spec hn (atoms_spec (ws := Jvm.Cond.code x code maxLocals ret :: tables_1) h _ List.mem_cons_self)
    exact ⟨meth, c, h1, h2, h3, h4, h5, h6⟩
  · intro p e s m args below meth c s₁ B hml0 hP _
    obtain ⟨rfl, hx, hbd, hgv⟩ := hP
    obtain ⟨scr, harrAt, hlist, hof, hsmall⟩ := hx
    obtain ⟨hcb, hkn, -, -⟩ := State.arrayAt?_spec harrAt
    have hown : s.vm.findClass R_law = some m.cls := findClass_of_methodNamed B.named
    have hts0 : ∀ c ∈ (Jvm.Cond.code x code maxLocals ret :: tables_1), c.before #[Value.ref b] s = true := atoms_spec (ws := Jvm.Cond.code x code maxLocals ret :: tables_1) B.pre
    have hts : ∀ w ∈ lw_tbl, w.before #[Value.ref b] s = true := k2_hts_sels lw_privs (fun w hw => hts0 w (List.mem_cons_of_mem _ hw)) lw_privs_ok
    have hml : c.maxLocals = 4 := B.maxLocals_eq (hts0 _ List.mem_cons_self)
    have X₀ : Stand p l e room_1 s m #[Value.ref b] below meth c s₁ [] 0 0 := Stand.of_body B
    have hh0 : s₁.heap = s.heap := by rw [B.state]; rfl
    have hsz : scr.slots.size = xs.length := by rw [← Array.length_toList, hlist, List.length_map]
    have hval : ∀ j : Nat, j < xs.length → scr.slots[j]? = some (.int (xs.getD j 0)) := fun j hj => by
      rw [← Array.getElem?_toList, hlist]
      simp [hj]
    have hbl : b < s.heap.size := (Array.getElem?_eq_some_iff.mp hcb).1
    have hX : va_X b xs.length (fun j => xs.getD j 0) s s.heap := ⟨scr, hcb, hof, hkn, hsz, hval⟩
    have K : W p l e room_1 s m #[Value.ref b] below meth c s₁.heap [] 0 0 (lw_Z below #[Value.ref b] s) (entryFrame m ([Value.ref b] : List Value).toArray 4) := by
      rw [hh0]
      exact whole_start l hbd ⟨B.exec, B.bytes, B.returns, hml, hown, hts, hX, hbl, B.notSynchronized, hgv⟩
    obtain ⟨t, a1, o, b1, b2, b3⟩ := K s₁ rfl X₀
    exact ⟨t, o, a1, b1, b2, b3⟩
theorem lw_pre_spec {args : Array Value} {s : State} (h : (Jvm.Cond.and given_1 narrow_1).before args s = true) (hr : rest_1_c.before args s = true) : ∃ (b : Addr) (xs : List Int32), lw_P b xs args s := by
  have hs := flat_of_before _ h
  have hq := flat_of_before _ hr
  have hc : (Cond.count 1).before args s = true := hs _ (by decide +kernel)
  have harr : (Cond.arrayOf (.arg 0) .int).before args s = true := hs _ (by decide +kernel)
  have hle : (Cond.le (.length (.arg 0)) (.int 193)).before args s = true := hs _ (by decide +kernel)
  have hlen : (Cond.isInt (.length (.arg 0))).before args s = true := hq _ (by decide +kernel)
  have hall : (Cond.all (.arg 0) (.isInt (.elem (.arg 0) (.index 0)))).before args s = true := hq _ (by decide +kernel)
  obtain ⟨b, xs, hb, hx⟩ := State.ints_of_pre rfl harr hlen hall
  have hsm : xs.length < 2 ^ 31 := hx.choose_spec.2.2.2
  have hev : (Term.length (.arg 0)).eval args s none [] s = some (.int xs.length.toInt32) := hx.length_eval hb
  have hv := Cond.le_ints hev (show (Term.int 193).eval args s none [] s = some (.int 193) from rfl)
  have hd : xs.length.toInt32 ≤ 193 := by
    simpa [Cond.before, Cond.holds, hv] using hle
  have hN : xs.length ≤ 193 := (Int32.ofNat_le_ofNat hsm (by decide)).mp (show Int32.ofNat xs.length ≤ Int32.ofNat 193 from hd)
  exact ⟨b, xs, Cond.one_arg hc (show args[0]? = some (.ref b) from hb), hx, hN, h⟩
theorem lw_comes (l : Launch) : Comes l x (Jvm.Cond.code x code maxLocals ret :: tables_1) room_1 (fun tb e args s => Calls_1 tb e args s ∧ rest_1 tb e args s ∧ Pre_1 tb e args s)
    (fun _ _ args s o t => lw_Q args s o t) := by
  intro p e ha hc hk s m args below hf hfit hheap happ hpre
  obtain ⟨b, xs, hP⟩ := lw_pre_spec hpre.2.2 hpre.2.1
  obtain ⟨k, o, h1, h2, h3, hQ⟩ := lw_walk l b xs p e ha hc hk s m args below hf ((Spec.applies_iff_loose hf).mp happ).1 hP trivial
  exact ⟨k, o, h1, h2, h3, hQ⟩
theorem lw_frame {s t : State} {o : Outcome} {args : Array Value} (h : Framed s o t [] 600000 7290000) :
    Framed s o t (fieldLocs frame_1_writes args s ++ arrayLocs frame_1_arrays args s ++ staticLocs frame_1_statics s) 600000 7290000 := h
theorem lw_limb (L : Cond) (hL : ∀ (args : Array Value) (s t : State), L.after args s (.returned (some (.int 1))) t = true) :
    ArmFor flags0 classFile x code maxLocals ret World_1 tables_1 room_1 Calls_1 rest_1 Pre_1
      (fun tb e a s o t => postC L tb e a s o t ∧ Framed s o t (fieldLocs frame_1_writes a s ++ arrayLocs frame_1_arrays a s ++ staticLocs frame_1_statics s) 600000 7290000) := by
  intro l _ _ _ p e ha hc hk s m args below hf hfit hheap happ hpre
  obtain ⟨k, o, h1, h2, h3, rfl, hF⟩ := lw_comes l p e ha hc hk s m args below hf hfit hheap happ hpre
  exact ⟨k, _, h1, h2, h3, hL args s _, lw_frame hF⟩
theorem i_vc : Claimed_1_1 ∧ Claimed_1_2 := ⟨lw_limb limb_1_1 (fun args s t => by simp [limb_1_1, Cond.after, Cond.holds, Cond.value]), lw_limb limb_1_2 (fun args s t => Cond.after_iff.mpr (by
  first | (rw [show limb_1_2 = Cond.eq .result (.int 1) from rfl, Cond.eq_ints (x := 1) (y := 1) rfl rfl]; simp; done) | (simp [limb_1_2, Cond.value, Term.eval]; done)))⟩
end
